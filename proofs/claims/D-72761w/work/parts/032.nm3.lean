/-! java/util/TreeMap$NavigableSubMap$SubMapKeyIterator -/
set_option maxRecDepth 100000
def RJ35 : String := "java/util/TreeMap$NavigableSubMap$SubMapKeyIterator"
def TJ35 : u_T := fun k => match k with
  | 0 => ("java/util/TreeMap$NavigableSubMap$SubMapIterator", "lastReturned", "Ljava/util/TreeMap$Entry;", false)
  | 1 => ("java/util/TreeMap$NavigableSubMap$SubMapIterator", "next", "Ljava/util/TreeMap$Entry;", false)
  | 2 => ("java/util/TreeMap$NavigableSubMap$SubMapIterator", "fenceKey", "Ljava/lang/Object;", true)
  | 3 => ("java/util/TreeMap$NavigableSubMap$SubMapIterator", "expectedModCount", "I", false)
  | 4 => ("java/util/TreeMap$NavigableSubMap$SubMapIterator", "this$0", "Ljava/util/TreeMap$NavigableSubMap;", true)
  | _ => ("java/util/TreeMap$NavigableSubMap$SubMapKeyIterator", "this$0", "Ljava/util/TreeMap$NavigableSubMap;", true)
def tyJ35 : Nat → FieldType := fun k => match k with
  | 0 => .object "java/util/TreeMap$Entry"
  | 1 => .object "java/util/TreeMap$Entry"
  | 2 => .object "java/lang/Object"
  | 3 => .int
  | 4 => .object "java/util/TreeMap$NavigableSubMap"
  | _ => .object "java/util/TreeMap$NavigableSubMap"
abbrev wsJ350 : List Cond := u_ws RJ35 TJ35 6
-- two fields of one name: no nmJ35
theorem tyJ35_ok : ∀ k, k < 6 → parseFieldDescriptor (TJ35 k).2.2.1 = some (tyJ35 k) := by decide +kernel
abbrev cJ35_next : ByteArray := prog_80_method_2_code
def yJ35_next : MethodName := ⟨RJ35, "next", "()Ljava/lang/Object;"⟩
def dkwJ35_next_0 : List UInt8 := [42, 182, 0, 13, 180, 0, 17, 176]
abbrev dktJ35_next_0 : List UInt8 := dkwJ35_next_0 ++ []
theorem dksJ35_next_0 : cJ35_next.data.toList.drop 0 = dktJ35_next_0 := by decide +kernel
theorem dJ35_next_0 : decode cJ35_next 0 = .ok (.aload_n 0, 1) := dk_42 (dk_at dksJ35_next_0 0 rfl rfl)
theorem dJ35_next_1 : decode cJ35_next 1 = .ok (.invokevirtual 13, 3) := dk_182 0 13 (dk_at dksJ35_next_0 1 rfl rfl)
theorem dJ35_next_4 : decode cJ35_next 4 = .ok (.getfield 17, 3) := dk_180 0 17 (dk_at dksJ35_next_0 4 rfl rfl)
theorem dJ35_next_7 : decode cJ35_next 7 = .ok (.areturn, 1) := dk_176 (dk_at dksJ35_next_0 7 rfl rfl)
abbrev cJ35_init : ByteArray := prog_80_method_1_code
def yJ35_init : MethodName := ⟨RJ35, "<init>", "(Ljava/util/TreeMap$NavigableSubMap;Ljava/util/TreeMap$Entry;Ljava/util/TreeMap$Entry;)V"⟩
def dkwJ35_init_0 : List UInt8 := [42, 43, 181, 0, 1, 42, 43, 44, 45, 183, 0, 7, 177]
abbrev dktJ35_init_0 : List UInt8 := dkwJ35_init_0 ++ []
theorem dksJ35_init_0 : cJ35_init.data.toList.drop 0 = dktJ35_init_0 := by decide +kernel
theorem dJ35_init_0 : decode cJ35_init 0 = .ok (.aload_n 0, 1) := dk_42 (dk_at dksJ35_init_0 0 rfl rfl)
theorem dJ35_init_1 : decode cJ35_init 1 = .ok (.aload_n 1, 1) := dk_43 (dk_at dksJ35_init_0 1 rfl rfl)
theorem dJ35_init_2 : decode cJ35_init 2 = .ok (.putfield 1, 3) := dk_181 0 1 (dk_at dksJ35_init_0 2 rfl rfl)
theorem dJ35_init_5 : decode cJ35_init 5 = .ok (.aload_n 0, 1) := dk_42 (dk_at dksJ35_init_0 5 rfl rfl)
theorem dJ35_init_6 : decode cJ35_init 6 = .ok (.aload_n 1, 1) := dk_43 (dk_at dksJ35_init_0 6 rfl rfl)
theorem dJ35_init_7 : decode cJ35_init 7 = .ok (.aload_n 2, 1) := dk_44 (dk_at dksJ35_init_0 7 rfl rfl)
theorem dJ35_init_8 : decode cJ35_init 8 = .ok (.aload_n 3, 1) := dk_45 (dk_at dksJ35_init_0 8 rfl rfl)
theorem dJ35_init_9 : decode cJ35_init 9 = .ok (.invokespecial 7, 3) := dk_183 0 7 (dk_at dksJ35_init_0 9 rfl rfl)
theorem dJ35_init_12 : decode cJ35_init 12 = .ok (.return_, 1) := dk_177 (dk_at dksJ35_init_0 12 rfl rfl)
theorem q148 : (Jvm.Cond.initialized "java/util/TreeMap$NavigableSubMap$SubMapKeyIterator") ∈ lw_all := lw_g (lw_at lw_m1 55 rfl) rfl
theorem q654 : (Jvm.Cond.fieldLink "java/util/TreeMap$NavigableSubMap$SubMapKeyIterator" (17 : Nat) "java/util/TreeMap$Entry" "key" "Ljava/lang/Object;") ∈ lw_all := lw_g (lw_at lw_m3 81 rfl) rfl
theorem q882 : (Jvm.Cond.castable "java/util/TreeMap$NavigableSubMap$SubMapKeyIterator" "java/util/Iterator") ∈ lw_tbl := lw_at lw_m4 69 rfl
theorem q883 : (Jvm.Cond.selects "java/util/TreeMap$NavigableSubMap$SubMapKeyIterator" ({ cls := "java/util/Iterator", name := "hasNext", desc := "()Z" } : Jvm.MethodName) ({ cls := "java/util/TreeMap$NavigableSubMap$SubMapIterator", name := "hasNext", desc := "()Z" } : Jvm.MethodName)) ∈ lw_all := lw_g (lw_at lw_m4 70 rfl) rfl
theorem q884 : (Jvm.Cond.unhidden "java/util/TreeMap$NavigableSubMap$SubMapKeyIterator" "hasNext" "()Z") ∈ lw_tbl := lw_at lw_m4 71 rfl
theorem q950 : (Jvm.Cond.selects "java/util/TreeMap$NavigableSubMap$SubMapKeyIterator" ({ cls := "java/util/Iterator", name := "next", desc := "()Ljava/lang/Object;" } : Jvm.MethodName) ({ cls := "java/util/TreeMap$NavigableSubMap$SubMapKeyIterator", name := "next", desc := "()Ljava/lang/Object;" } : Jvm.MethodName)) ∈ lw_all := lw_g (lw_at lw_m4 137 rfl) rfl
theorem q951 : (Jvm.Cond.unhidden "java/util/TreeMap$NavigableSubMap$SubMapKeyIterator" "next" "()Ljava/lang/Object;") ∈ lw_tbl := lw_at lw_m4 138 rfl
theorem q952 : (Jvm.Cond.instanceMethod ({ cls := "java/util/TreeMap$NavigableSubMap$SubMapKeyIterator", name := "next", desc := "()Ljava/lang/Object;" } : Jvm.MethodName)) ∈ lw_all := lw_g (lw_at lw_m4 139 rfl) rfl
theorem q953 : (Jvm.Cond.publicMethod ({ cls := "java/util/TreeMap$NavigableSubMap$SubMapKeyIterator", name := "next", desc := "()Ljava/lang/Object;" } : Jvm.MethodName)) ∈ lw_tbl := lw_at lw_m4 140 rfl
theorem q954 : (Jvm.Cond.code ({ cls := "java/util/TreeMap$NavigableSubMap$SubMapKeyIterator", name := "next", desc := "()Ljava/lang/Object;" } : Jvm.MethodName) prog_80_method_2_code (1 : Nat) (Option.some (Jvm.ClassFile.FieldType.object "java/lang/Object"))) ∈ lw_all := lw_g (lw_at lw_m4 141 rfl) rfl
theorem q955 : (Jvm.Cond.methodLink "java/util/TreeMap$NavigableSubMap$SubMapKeyIterator" (13 : Nat) ({ cls := "java/util/TreeMap$NavigableSubMap$SubMapKeyIterator", name := "nextEntry", desc := "()Ljava/util/TreeMap$Entry;" } : Jvm.MethodName)) ∈ lw_all := lw_g (lw_at lw_m4 142 rfl) rfl
theorem q956 : (Jvm.Cond.sameMethod "java/util/TreeMap$NavigableSubMap$SubMapKeyIterator" "java/util/TreeMap$NavigableSubMap$SubMapIterator" "nextEntry" "()Ljava/util/TreeMap$Entry;") ∈ lw_all := lw_g (lw_at lw_m4 143 rfl) rfl
theorem q957 : (Jvm.Cond.selects "java/util/TreeMap$NavigableSubMap$SubMapKeyIterator" ({ cls := "java/util/TreeMap$NavigableSubMap$SubMapKeyIterator", name := "nextEntry", desc := "()Ljava/util/TreeMap$Entry;" } : Jvm.MethodName) ({ cls := "java/util/TreeMap$NavigableSubMap$SubMapIterator", name := "nextEntry", desc := "()Ljava/util/TreeMap$Entry;" } : Jvm.MethodName)) ∈ lw_all := lw_g (lw_at lw_m4 144 rfl) rfl
theorem q1456 : (Jvm.Cond.selects "java/util/TreeMap$NavigableSubMap$SubMapKeyIterator" ({ cls := "java/lang/Object", name := "getClass", desc := "()Ljava/lang/Class;" } : Jvm.MethodName) ({ cls := "java/lang/Object", name := "getClass", desc := "()Ljava/lang/Class;" } : Jvm.MethodName)) ∈ lw_all := lw_g (lw_at lw_m6 163 rfl) rfl
theorem q1882 : (Jvm.Cond.instantiable "java/util/TreeMap$NavigableSubMap$SubMapKeyIterator" (6 : Nat)) ∈ lw_all := lw_g (lw_at lw_m8 109 rfl) rfl
theorem q1885 : (Jvm.Cond.instanceMethod ({ cls := "java/util/TreeMap$NavigableSubMap$SubMapKeyIterator", name := "<init>", desc := "(Ljava/util/TreeMap$NavigableSubMap;Ljava/util/TreeMap$Entry;Ljava/util/TreeMap$Entry;)V" } : Jvm.MethodName)) ∈ lw_all := lw_g (lw_at lw_m8 112 rfl) rfl
theorem q1886 : (Jvm.Cond.code ({ cls := "java/util/TreeMap$NavigableSubMap$SubMapKeyIterator", name := "<init>", desc := "(Ljava/util/TreeMap$NavigableSubMap;Ljava/util/TreeMap$Entry;Ljava/util/TreeMap$Entry;)V" } : Jvm.MethodName) prog_80_method_1_code (4 : Nat) (Option.none : Option Jvm.ClassFile.FieldType)) ∈ lw_all := lw_g (lw_at lw_m8 113 rfl) rfl
theorem q1887 : (Jvm.Cond.methodLink "java/util/TreeMap$NavigableSubMap$SubMapKeyIterator" (7 : Nat) ({ cls := "java/util/TreeMap$NavigableSubMap$SubMapIterator", name := "<init>", desc := "(Ljava/util/TreeMap$NavigableSubMap;Ljava/util/TreeMap$Entry;Ljava/util/TreeMap$Entry;)V" } : Jvm.MethodName)) ∈ lw_all := lw_g (lw_at lw_m8 114 rfl) rfl
theorem q1888 : (Jvm.Cond.fieldLink "java/util/TreeMap$NavigableSubMap$SubMapKeyIterator" (1 : Nat) "java/util/TreeMap$NavigableSubMap$SubMapKeyIterator" "this$0" "Ljava/util/TreeMap$NavigableSubMap;") ∈ lw_all := lw_g (lw_at lw_m8 115 rfl) rfl
theorem q1889 : (Jvm.Cond.laysFinal "java/util/TreeMap$NavigableSubMap$SubMapKeyIterator" "java/util/TreeMap$NavigableSubMap$SubMapKeyIterator" "this$0" "Ljava/util/TreeMap$NavigableSubMap;") ∈ lw_all := lw_g (lw_at lw_m8 116 rfl) rfl
theorem q1890 : (Jvm.Cond.soleField "java/util/TreeMap$NavigableSubMap$SubMapKeyIterator" "this$0") ∈ lw_all := lw_g (lw_at lw_m8 117 rfl) rfl
theorem q1891 : (Jvm.Cond.lays "java/util/TreeMap$NavigableSubMap$SubMapKeyIterator" "java/util/TreeMap$NavigableSubMap$SubMapIterator" "lastReturned" "Ljava/util/TreeMap$Entry;") ∈ lw_all := lw_g (lw_at lw_m8 118 rfl) rfl
theorem q1892 : (Jvm.Cond.lays "java/util/TreeMap$NavigableSubMap$SubMapKeyIterator" "java/util/TreeMap$NavigableSubMap$SubMapIterator" "next" "Ljava/util/TreeMap$Entry;") ∈ lw_all := lw_g (lw_at lw_m8 119 rfl) rfl
theorem q1893 : (Jvm.Cond.laysFinal "java/util/TreeMap$NavigableSubMap$SubMapKeyIterator" "java/util/TreeMap$NavigableSubMap$SubMapIterator" "fenceKey" "Ljava/lang/Object;") ∈ lw_all := lw_g (lw_at lw_m8 120 rfl) rfl
theorem q1894 : (Jvm.Cond.lays "java/util/TreeMap$NavigableSubMap$SubMapKeyIterator" "java/util/TreeMap$NavigableSubMap$SubMapIterator" "expectedModCount" "I") ∈ lw_all := lw_g (lw_at lw_m8 121 rfl) rfl
theorem q1895 : (Jvm.Cond.laysFinal "java/util/TreeMap$NavigableSubMap$SubMapKeyIterator" "java/util/TreeMap$NavigableSubMap$SubMapIterator" "this$0" "Ljava/util/TreeMap$NavigableSubMap;") ∈ lw_all := lw_g (lw_at lw_m8 122 rfl) rfl
theorem q1896 : (Jvm.Cond.superclass "java/util/TreeMap$NavigableSubMap$SubMapKeyIterator" "java/util/TreeMap$NavigableSubMap$SubMapIterator") ∈ lw_all := lw_g (lw_at lw_m8 123 rfl) rfl
theorem q3140 : (Jvm.Cond.castable "java/util/TreeMap$NavigableSubMap$SubMapKeyIterator" "java/lang/Object") ∈ lw_tbl := lw_at lw_m13 167 rfl
theorem in_J35 : ∀ w ∈ wsJ350, w ∈ lw_all := lw_in wsJ350 [1891, 1892, 1893, 1894, 1895, 1889] (by decide +kernel) (by decide +kernel)

/-! java/util/AbstractQueue -/
set_option maxRecDepth 100000
def RJ38 : String := "java/util/AbstractQueue"
abbrev cJ38_init : ByteArray := prog_44_method_1_code
def yJ38_init : MethodName := ⟨RJ38, "<init>", "()V"⟩
theorem dJ38_init_0 : decode cJ38_init 0 = .ok (.aload_n 0, 1) := by decide +kernel
theorem dJ38_init_1 : decode cJ38_init 1 = .ok (.invokespecial 1, 3) := by decide +kernel
theorem dJ38_init_4 : decode cJ38_init 4 = .ok (.return_, 1) := by decide +kernel
theorem q152 : (Jvm.Cond.initialized "java/util/AbstractQueue") ∈ lw_all := lw_g (lw_at lw_m1 59 rfl) rfl
theorem q2262 : (Jvm.Cond.instanceMethod ({ cls := "java/util/AbstractQueue", name := "<init>", desc := "()V" } : Jvm.MethodName)) ∈ lw_all := lw_g (lw_at lw_m10 9 rfl) rfl
theorem q2263 : (Jvm.Cond.code ({ cls := "java/util/AbstractQueue", name := "<init>", desc := "()V" } : Jvm.MethodName) prog_44_method_1_code (1 : Nat) (Option.none : Option Jvm.ClassFile.FieldType)) ∈ lw_all := lw_g (lw_at lw_m10 10 rfl) rfl
theorem q2264 : (Jvm.Cond.methodLink "java/util/AbstractQueue" (1 : Nat) ({ cls := "java/util/AbstractCollection", name := "<init>", desc := "()V" } : Jvm.MethodName)) ∈ lw_all := lw_g (lw_at lw_m10 11 rfl) rfl

/-! java/util/PriorityQueue -/
set_option maxRecDepth 100000
def RJ39 : String := "java/util/PriorityQueue"
def TJ39 : u_T := fun k => match k with
  | 0 => ("java/util/PriorityQueue", "queue", "[Ljava/lang/Object;", false)
  | 1 => ("java/util/PriorityQueue", "size", "I", false)
  | 2 => ("java/util/PriorityQueue", "comparator", "Ljava/util/Comparator;", true)
  | _ => ("java/util/PriorityQueue", "modCount", "I", false)
def tyJ39 : Nat → FieldType := fun k => match k with
  | 0 => .array (.object "java/lang/Object")
  | 1 => .int
  | 2 => .object "java/util/Comparator"
  | _ => .int
abbrev wsJ390 : List Cond := u_ws RJ39 TJ39 4
theorem nmJ39 : ∀ a, a < 4 → ∀ b, b < 4 → a ≠ b → (TJ39 a).2.1 ≠ (TJ39 b).2.1 := by decide +kernel
theorem tyJ39_ok : ∀ k, k < 4 → parseFieldDescriptor (TJ39 k).2.2.1 = some (tyJ39 k) := by decide +kernel
abbrev cJ39_iterator : ByteArray := prog_59_method_22_code
def yJ39_iterator : MethodName := ⟨RJ39, "iterator", "()Ljava/util/Iterator;"⟩
def dkwJ39_iterator_0 : List UInt8 := [187, 0, 121, 89, 42, 183, 0, 123, 176]
abbrev dktJ39_iterator_0 : List UInt8 := dkwJ39_iterator_0 ++ []
theorem dksJ39_iterator_0 : cJ39_iterator.data.toList.drop 0 = dktJ39_iterator_0 := by decide +kernel
theorem dJ39_iterator_0 : decode cJ39_iterator 0 = .ok (.new 121, 3) := dk_187 0 121 (dk_at dksJ39_iterator_0 0 rfl rfl)
theorem dJ39_iterator_3 : decode cJ39_iterator 3 = .ok (.dup, 1) := dk_89 (dk_at dksJ39_iterator_0 3 rfl rfl)
theorem dJ39_iterator_4 : decode cJ39_iterator 4 = .ok (.aload_n 0, 1) := dk_42 (dk_at dksJ39_iterator_0 4 rfl rfl)
theorem dJ39_iterator_5 : decode cJ39_iterator 5 = .ok (.invokespecial 123, 3) := dk_183 0 123 (dk_at dksJ39_iterator_0 5 rfl rfl)
theorem dJ39_iterator_8 : decode cJ39_iterator 8 = .ok (.areturn, 1) := dk_176 (dk_at dksJ39_iterator_0 8 rfl rfl)
abbrev cJ39_toArray : ByteArray := prog_59_method_20_code
def yJ39_toArray : MethodName := ⟨RJ39, "toArray", "()[Ljava/lang/Object;"⟩
def dkwJ39_toArray_0 : List UInt8 := [42, 180, 0, 17, 42, 180, 0, 58, 184, 0, 86, 176]
abbrev dktJ39_toArray_0 : List UInt8 := dkwJ39_toArray_0 ++ []
theorem dksJ39_toArray_0 : cJ39_toArray.data.toList.drop 0 = dktJ39_toArray_0 := by decide +kernel
theorem dJ39_toArray_0 : decode cJ39_toArray 0 = .ok (.aload_n 0, 1) := dk_42 (dk_at dksJ39_toArray_0 0 rfl rfl)
theorem dJ39_toArray_1 : decode cJ39_toArray 1 = .ok (.getfield 17, 3) := dk_180 0 17 (dk_at dksJ39_toArray_0 1 rfl rfl)
theorem dJ39_toArray_4 : decode cJ39_toArray 4 = .ok (.aload_n 0, 1) := dk_42 (dk_at dksJ39_toArray_0 4 rfl rfl)
theorem dJ39_toArray_5 : decode cJ39_toArray 5 = .ok (.getfield 58, 3) := dk_180 0 58 (dk_at dksJ39_toArray_0 5 rfl rfl)
theorem dJ39_toArray_8 : decode cJ39_toArray 8 = .ok (.invokestatic 86, 3) := dk_184 0 86 (dk_at dksJ39_toArray_0 8 rfl rfl)
theorem dJ39_toArray_11 : decode cJ39_toArray 11 = .ok (.areturn, 1) := dk_176 (dk_at dksJ39_toArray_0 11 rfl rfl)
abbrev cJ39_size : ByteArray := prog_59_method_23_code
def yJ39_size : MethodName := ⟨RJ39, "size", "()I"⟩
theorem dJ39_size_0 : decode cJ39_size 0 = .ok (.aload_n 0, 1) := by decide +kernel
theorem dJ39_size_1 : decode cJ39_size 1 = .ok (.getfield 58, 3) := by decide +kernel
theorem dJ39_size_4 : decode cJ39_size 4 = .ok (.ireturn, 1) := by decide +kernel
abbrev cJ39_init : ByteArray := prog_59_method_1_code
def yJ39_init : MethodName := ⟨RJ39, "<init>", "()V"⟩
def dkwJ39_init_0 : List UInt8 := [42, 16, 11, 1, 183, 0, 3, 177]
abbrev dktJ39_init_0 : List UInt8 := dkwJ39_init_0 ++ []
theorem dksJ39_init_0 : cJ39_init.data.toList.drop 0 = dktJ39_init_0 := by decide +kernel
theorem dJ39_init_0 : decode cJ39_init 0 = .ok (.aload_n 0, 1) := dk_42 (dk_at dksJ39_init_0 0 rfl rfl)
theorem dJ39_init_1 : decode cJ39_init 1 = .ok (.bipush 11, 2) := dk_16 11 (dk_at dksJ39_init_0 1 rfl rfl)
theorem dJ39_init_3 : decode cJ39_init 3 = .ok (.aconst_null, 1) := dk_1 (dk_at dksJ39_init_0 3 rfl rfl)
theorem dJ39_init_4 : decode cJ39_init 4 = .ok (.invokespecial 3, 3) := dk_183 0 3 (dk_at dksJ39_init_0 4 rfl rfl)
theorem dJ39_init_7 : decode cJ39_init 7 = .ok (.return_, 1) := dk_177 (dk_at dksJ39_init_0 7 rfl rfl)
abbrev cJ39_init_2 : ByteArray := prog_59_method_4_code
def yJ39_init_2 : MethodName := ⟨RJ39, "<init>", "(ILjava/util/Comparator;)V"⟩
def dkwJ39_init_2_1 : List UInt8 := [181, 0, 17, 42, 44, 181, 0, 21, 177]
abbrev dktJ39_init_2_1 : List UInt8 := dkwJ39_init_2_1 ++ []
def dkwJ39_init_2_0 : List UInt8 := [42, 183, 0, 7, 27, 4, 162, 0, 11, 187, 0, 12, 89, 183, 0, 14, 191, 42, 27, 189, 0, 15]
abbrev dktJ39_init_2_0 : List UInt8 := dkwJ39_init_2_0 ++ dktJ39_init_2_1
theorem dksJ39_init_2_0 : cJ39_init_2.data.toList.drop 0 = dktJ39_init_2_0 := by decide +kernel
theorem dksJ39_init_2_1 : cJ39_init_2.data.toList.drop 22 = dktJ39_init_2_1 := dk_seg dksJ39_init_2_0 22 rfl rfl
theorem dJ39_init_2_0 : decode cJ39_init_2 0 = .ok (.aload_n 0, 1) := dk_42 (dk_at dksJ39_init_2_0 0 rfl rfl)
theorem dJ39_init_2_1 : decode cJ39_init_2 1 = .ok (.invokespecial 7, 3) := dk_183 0 7 (dk_at dksJ39_init_2_0 1 rfl rfl)
theorem dJ39_init_2_4 : decode cJ39_init_2 4 = .ok (.iload_n 1, 1) := dk_27 (dk_at dksJ39_init_2_0 4 rfl rfl)
theorem dJ39_init_2_5 : decode cJ39_init_2 5 = .ok (.iconst 1, 1) := dk_4 (dk_at dksJ39_init_2_0 5 rfl rfl)
theorem dJ39_init_2_6 : decode cJ39_init_2 6 = .ok (.if_icmp .ge 11, 3) := dk_162 0 11 (dk_at dksJ39_init_2_0 6 rfl rfl)
theorem dJ39_init_2_9 : decode cJ39_init_2 9 = .ok (.new 12, 3) := dk_187 0 12 (dk_at dksJ39_init_2_0 9 rfl rfl)
theorem dJ39_init_2_12 : decode cJ39_init_2 12 = .ok (.dup, 1) := dk_89 (dk_at dksJ39_init_2_0 12 rfl rfl)
theorem dJ39_init_2_13 : decode cJ39_init_2 13 = .ok (.invokespecial 14, 3) := dk_183 0 14 (dk_at dksJ39_init_2_0 13 rfl rfl)
theorem dJ39_init_2_16 : decode cJ39_init_2 16 = .ok (.athrow, 1) := dk_191 (dk_at dksJ39_init_2_0 16 rfl rfl)
theorem dJ39_init_2_17 : decode cJ39_init_2 17 = .ok (.aload_n 0, 1) := dk_42 (dk_at dksJ39_init_2_0 17 rfl rfl)
theorem dJ39_init_2_18 : decode cJ39_init_2 18 = .ok (.iload_n 1, 1) := dk_27 (dk_at dksJ39_init_2_0 18 rfl rfl)
theorem dJ39_init_2_19 : decode cJ39_init_2 19 = .ok (.anewarray 15, 3) := dk_189 0 15 (dk_at dksJ39_init_2_0 19 rfl rfl)
theorem dJ39_init_2_22 : decode cJ39_init_2 22 = .ok (.putfield 17, 3) := dk_181 0 17 (dk_at dksJ39_init_2_1 0 rfl rfl)
theorem dJ39_init_2_25 : decode cJ39_init_2 25 = .ok (.aload_n 0, 1) := dk_42 (dk_at dksJ39_init_2_1 3 rfl rfl)
theorem dJ39_init_2_26 : decode cJ39_init_2 26 = .ok (.aload_n 2, 1) := dk_44 (dk_at dksJ39_init_2_1 4 rfl rfl)
theorem dJ39_init_2_27 : decode cJ39_init_2 27 = .ok (.putfield 21, 3) := dk_181 0 21 (dk_at dksJ39_init_2_1 5 rfl rfl)
theorem dJ39_init_2_30 : decode cJ39_init_2 30 = .ok (.return_, 1) := dk_177 (dk_at dksJ39_init_2_1 8 rfl rfl)
abbrev cJ39_add : ByteArray := prog_59_method_13_code
def yJ39_add : MethodName := ⟨RJ39, "add", "(Ljava/lang/Object;)Z"⟩
def dkwJ39_add_0 : List UInt8 := [42, 43, 182, 0, 89, 172]
abbrev dktJ39_add_0 : List UInt8 := dkwJ39_add_0 ++ []
theorem dksJ39_add_0 : cJ39_add.data.toList.drop 0 = dktJ39_add_0 := by decide +kernel
theorem dJ39_add_0 : decode cJ39_add 0 = .ok (.aload_n 0, 1) := dk_42 (dk_at dksJ39_add_0 0 rfl rfl)
theorem dJ39_add_1 : decode cJ39_add 1 = .ok (.aload_n 1, 1) := dk_43 (dk_at dksJ39_add_0 1 rfl rfl)
theorem dJ39_add_2 : decode cJ39_add 2 = .ok (.invokevirtual 89, 3) := dk_182 0 89 (dk_at dksJ39_add_0 2 rfl rfl)
theorem dJ39_add_5 : decode cJ39_add 5 = .ok (.ireturn, 1) := dk_172 (dk_at dksJ39_add_0 5 rfl rfl)
abbrev cJ39_offer : ByteArray := prog_59_method_14_code
def yJ39_offer : MethodName := ⟨RJ39, "offer", "(Ljava/lang/Object;)Z"⟩
def dkwJ39_offer_2 : List UInt8 := [182, 0, 100, 42, 28, 4, 96, 181, 0, 58, 4, 172]
abbrev dktJ39_offer_2 : List UInt8 := dkwJ39_offer_2 ++ []
def dkwJ39_offer_1 : List UInt8 := [180, 0, 58, 61, 28, 42, 180, 0, 17, 190, 161, 0, 10, 42, 28, 4, 96, 182, 0, 96, 42, 28, 43]
abbrev dktJ39_offer_1 : List UInt8 := dkwJ39_offer_1 ++ dktJ39_offer_2
def dkwJ39_offer_0 : List UInt8 := [43, 199, 0, 11, 187, 0, 74, 89, 183, 0, 76, 191, 42, 89, 180, 0, 93, 4, 96, 181, 0, 93, 42]
abbrev dktJ39_offer_0 : List UInt8 := dkwJ39_offer_0 ++ dktJ39_offer_1
theorem dksJ39_offer_0 : cJ39_offer.data.toList.drop 0 = dktJ39_offer_0 := by decide +kernel
theorem dksJ39_offer_1 : cJ39_offer.data.toList.drop 23 = dktJ39_offer_1 := dk_seg dksJ39_offer_0 23 rfl rfl
theorem dksJ39_offer_2 : cJ39_offer.data.toList.drop 46 = dktJ39_offer_2 := dk_seg dksJ39_offer_1 23 rfl rfl
theorem dJ39_offer_0 : decode cJ39_offer 0 = .ok (.aload_n 1, 1) := dk_43 (dk_at dksJ39_offer_0 0 rfl rfl)
theorem dJ39_offer_1 : decode cJ39_offer 1 = .ok (.ifnonnull 11, 3) := dk_199 0 11 (dk_at dksJ39_offer_0 1 rfl rfl)
theorem dJ39_offer_4 : decode cJ39_offer 4 = .ok (.new 74, 3) := dk_187 0 74 (dk_at dksJ39_offer_0 4 rfl rfl)
theorem dJ39_offer_7 : decode cJ39_offer 7 = .ok (.dup, 1) := dk_89 (dk_at dksJ39_offer_0 7 rfl rfl)
theorem dJ39_offer_8 : decode cJ39_offer 8 = .ok (.invokespecial 76, 3) := dk_183 0 76 (dk_at dksJ39_offer_0 8 rfl rfl)
theorem dJ39_offer_11 : decode cJ39_offer 11 = .ok (.athrow, 1) := dk_191 (dk_at dksJ39_offer_0 11 rfl rfl)
theorem dJ39_offer_12 : decode cJ39_offer 12 = .ok (.aload_n 0, 1) := dk_42 (dk_at dksJ39_offer_0 12 rfl rfl)
theorem dJ39_offer_13 : decode cJ39_offer 13 = .ok (.dup, 1) := dk_89 (dk_at dksJ39_offer_0 13 rfl rfl)
theorem dJ39_offer_14 : decode cJ39_offer 14 = .ok (.getfield 93, 3) := dk_180 0 93 (dk_at dksJ39_offer_0 14 rfl rfl)
theorem dJ39_offer_17 : decode cJ39_offer 17 = .ok (.iconst 1, 1) := dk_4 (dk_at dksJ39_offer_0 17 rfl rfl)
theorem dJ39_offer_18 : decode cJ39_offer 18 = .ok (.iadd, 1) := dk_96 (dk_at dksJ39_offer_0 18 rfl rfl)
theorem dJ39_offer_19 : decode cJ39_offer 19 = .ok (.putfield 93, 3) := dk_181 0 93 (dk_at dksJ39_offer_0 19 rfl rfl)
theorem dJ39_offer_22 : decode cJ39_offer 22 = .ok (.aload_n 0, 1) := dk_42 (dk_at dksJ39_offer_0 22 rfl rfl)
theorem dJ39_offer_23 : decode cJ39_offer 23 = .ok (.getfield 58, 3) := dk_180 0 58 (dk_at dksJ39_offer_1 0 rfl rfl)
theorem dJ39_offer_26 : decode cJ39_offer 26 = .ok (.istore_n 2, 1) := dk_61 (dk_at dksJ39_offer_1 3 rfl rfl)
theorem dJ39_offer_27 : decode cJ39_offer 27 = .ok (.iload_n 2, 1) := dk_28 (dk_at dksJ39_offer_1 4 rfl rfl)
theorem dJ39_offer_28 : decode cJ39_offer 28 = .ok (.aload_n 0, 1) := dk_42 (dk_at dksJ39_offer_1 5 rfl rfl)
theorem dJ39_offer_29 : decode cJ39_offer 29 = .ok (.getfield 17, 3) := dk_180 0 17 (dk_at dksJ39_offer_1 6 rfl rfl)
theorem dJ39_offer_32 : decode cJ39_offer 32 = .ok (.arraylength, 1) := dk_190 (dk_at dksJ39_offer_1 9 rfl rfl)
theorem dJ39_offer_33 : decode cJ39_offer 33 = .ok (.if_icmp .lt 10, 3) := dk_161 0 10 (dk_at dksJ39_offer_1 10 rfl rfl)
theorem dJ39_offer_36 : decode cJ39_offer 36 = .ok (.aload_n 0, 1) := dk_42 (dk_at dksJ39_offer_1 13 rfl rfl)
theorem dJ39_offer_37 : decode cJ39_offer 37 = .ok (.iload_n 2, 1) := dk_28 (dk_at dksJ39_offer_1 14 rfl rfl)
theorem dJ39_offer_38 : decode cJ39_offer 38 = .ok (.iconst 1, 1) := dk_4 (dk_at dksJ39_offer_1 15 rfl rfl)
theorem dJ39_offer_39 : decode cJ39_offer 39 = .ok (.iadd, 1) := dk_96 (dk_at dksJ39_offer_1 16 rfl rfl)
theorem dJ39_offer_40 : decode cJ39_offer 40 = .ok (.invokevirtual 96, 3) := dk_182 0 96 (dk_at dksJ39_offer_1 17 rfl rfl)
theorem dJ39_offer_43 : decode cJ39_offer 43 = .ok (.aload_n 0, 1) := dk_42 (dk_at dksJ39_offer_1 20 rfl rfl)
theorem dJ39_offer_44 : decode cJ39_offer 44 = .ok (.iload_n 2, 1) := dk_28 (dk_at dksJ39_offer_1 21 rfl rfl)
theorem dJ39_offer_45 : decode cJ39_offer 45 = .ok (.aload_n 1, 1) := dk_43 (dk_at dksJ39_offer_1 22 rfl rfl)
theorem dJ39_offer_46 : decode cJ39_offer 46 = .ok (.invokevirtual 100, 3) := dk_182 0 100 (dk_at dksJ39_offer_2 0 rfl rfl)
theorem dJ39_offer_49 : decode cJ39_offer 49 = .ok (.aload_n 0, 1) := dk_42 (dk_at dksJ39_offer_2 3 rfl rfl)
theorem dJ39_offer_50 : decode cJ39_offer 50 = .ok (.iload_n 2, 1) := dk_28 (dk_at dksJ39_offer_2 4 rfl rfl)
theorem dJ39_offer_51 : decode cJ39_offer 51 = .ok (.iconst 1, 1) := dk_4 (dk_at dksJ39_offer_2 5 rfl rfl)
theorem dJ39_offer_52 : decode cJ39_offer 52 = .ok (.iadd, 1) := dk_96 (dk_at dksJ39_offer_2 6 rfl rfl)
theorem dJ39_offer_53 : decode cJ39_offer 53 = .ok (.putfield 58, 3) := dk_181 0 58 (dk_at dksJ39_offer_2 7 rfl rfl)
theorem dJ39_offer_56 : decode cJ39_offer 56 = .ok (.iconst 1, 1) := dk_4 (dk_at dksJ39_offer_2 10 rfl rfl)
theorem dJ39_offer_57 : decode cJ39_offer 57 = .ok (.ireturn, 1) := dk_172 (dk_at dksJ39_offer_2 11 rfl rfl)
abbrev cJ39_grow : ByteArray := prog_59_method_12_code
def yJ39_grow : MethodName := ⟨RJ39, "grow", "(I)V"⟩
def dkwJ39_grow_1 : List UInt8 := [122, 184, 0, 80, 62, 42, 42, 180, 0, 17, 29, 184, 0, 86, 181, 0, 17, 177]
abbrev dktJ39_grow_1 : List UInt8 := dkwJ39_grow_1 ++ []
def dkwJ39_grow_0 : List UInt8 := [42, 180, 0, 17, 190, 61, 28, 27, 28, 100, 28, 16, 64, 162, 0, 9, 28, 5, 96, 167, 0, 6, 28, 4]
abbrev dktJ39_grow_0 : List UInt8 := dkwJ39_grow_0 ++ dktJ39_grow_1
theorem dksJ39_grow_0 : cJ39_grow.data.toList.drop 0 = dktJ39_grow_0 := by decide +kernel
theorem dksJ39_grow_1 : cJ39_grow.data.toList.drop 24 = dktJ39_grow_1 := dk_seg dksJ39_grow_0 24 rfl rfl
theorem dJ39_grow_0 : decode cJ39_grow 0 = .ok (.aload_n 0, 1) := dk_42 (dk_at dksJ39_grow_0 0 rfl rfl)
theorem dJ39_grow_1 : decode cJ39_grow 1 = .ok (.getfield 17, 3) := dk_180 0 17 (dk_at dksJ39_grow_0 1 rfl rfl)
theorem dJ39_grow_4 : decode cJ39_grow 4 = .ok (.arraylength, 1) := dk_190 (dk_at dksJ39_grow_0 4 rfl rfl)
theorem dJ39_grow_5 : decode cJ39_grow 5 = .ok (.istore_n 2, 1) := dk_61 (dk_at dksJ39_grow_0 5 rfl rfl)
theorem dJ39_grow_6 : decode cJ39_grow 6 = .ok (.iload_n 2, 1) := dk_28 (dk_at dksJ39_grow_0 6 rfl rfl)
theorem dJ39_grow_7 : decode cJ39_grow 7 = .ok (.iload_n 1, 1) := dk_27 (dk_at dksJ39_grow_0 7 rfl rfl)
theorem dJ39_grow_8 : decode cJ39_grow 8 = .ok (.iload_n 2, 1) := dk_28 (dk_at dksJ39_grow_0 8 rfl rfl)
theorem dJ39_grow_9 : decode cJ39_grow 9 = .ok (.isub, 1) := dk_100 (dk_at dksJ39_grow_0 9 rfl rfl)
theorem dJ39_grow_10 : decode cJ39_grow 10 = .ok (.iload_n 2, 1) := dk_28 (dk_at dksJ39_grow_0 10 rfl rfl)
theorem dJ39_grow_11 : decode cJ39_grow 11 = .ok (.bipush 64, 2) := dk_16 64 (dk_at dksJ39_grow_0 11 rfl rfl)
theorem dJ39_grow_13 : decode cJ39_grow 13 = .ok (.if_icmp .ge 9, 3) := dk_162 0 9 (dk_at dksJ39_grow_0 13 rfl rfl)
theorem dJ39_grow_16 : decode cJ39_grow 16 = .ok (.iload_n 2, 1) := dk_28 (dk_at dksJ39_grow_0 16 rfl rfl)
theorem dJ39_grow_17 : decode cJ39_grow 17 = .ok (.iconst 2, 1) := dk_5 (dk_at dksJ39_grow_0 17 rfl rfl)
theorem dJ39_grow_18 : decode cJ39_grow 18 = .ok (.iadd, 1) := dk_96 (dk_at dksJ39_grow_0 18 rfl rfl)
theorem dJ39_grow_19 : decode cJ39_grow 19 = .ok (.goto 6, 3) := dk_167 0 6 (dk_at dksJ39_grow_0 19 rfl rfl)
theorem dJ39_grow_22 : decode cJ39_grow 22 = .ok (.iload_n 2, 1) := dk_28 (dk_at dksJ39_grow_0 22 rfl rfl)
theorem dJ39_grow_23 : decode cJ39_grow 23 = .ok (.iconst 1, 1) := dk_4 (dk_at dksJ39_grow_0 23 rfl rfl)
theorem dJ39_grow_24 : decode cJ39_grow 24 = .ok (.ishr, 1) := dk_122 (dk_at dksJ39_grow_1 0 rfl rfl)
theorem dJ39_grow_25 : decode cJ39_grow 25 = .ok (.invokestatic 80, 3) := dk_184 0 80 (dk_at dksJ39_grow_1 1 rfl rfl)
theorem dJ39_grow_28 : decode cJ39_grow 28 = .ok (.istore_n 3, 1) := dk_62 (dk_at dksJ39_grow_1 4 rfl rfl)
theorem dJ39_grow_29 : decode cJ39_grow 29 = .ok (.aload_n 0, 1) := dk_42 (dk_at dksJ39_grow_1 5 rfl rfl)
theorem dJ39_grow_30 : decode cJ39_grow 30 = .ok (.aload_n 0, 1) := dk_42 (dk_at dksJ39_grow_1 6 rfl rfl)
theorem dJ39_grow_31 : decode cJ39_grow 31 = .ok (.getfield 17, 3) := dk_180 0 17 (dk_at dksJ39_grow_1 7 rfl rfl)
theorem dJ39_grow_34 : decode cJ39_grow 34 = .ok (.iload_n 3, 1) := dk_29 (dk_at dksJ39_grow_1 10 rfl rfl)
theorem dJ39_grow_35 : decode cJ39_grow 35 = .ok (.invokestatic 86, 3) := dk_184 0 86 (dk_at dksJ39_grow_1 11 rfl rfl)
theorem dJ39_grow_38 : decode cJ39_grow 38 = .ok (.putfield 17, 3) := dk_181 0 17 (dk_at dksJ39_grow_1 14 rfl rfl)
theorem dJ39_grow_41 : decode cJ39_grow 41 = .ok (.return_, 1) := dk_177 (dk_at dksJ39_grow_1 17 rfl rfl)
abbrev cJ39_siftUp : ByteArray := prog_59_method_27_code
def yJ39_siftUp : MethodName := ⟨RJ39, "siftUp", "(ILjava/lang/Object;)V"⟩
def dkwJ39_siftUp_1 : List UInt8 := [44, 42, 180, 0, 17, 184, 0, 140, 177]
abbrev dktJ39_siftUp_1 : List UInt8 := dkwJ39_siftUp_1 ++ []
def dkwJ39_siftUp_0 : List UInt8 := [42, 180, 0, 21, 198, 0, 19, 27, 44, 42, 180, 0, 17, 42, 180, 0, 21, 184, 0, 136, 167, 0, 12, 27]
abbrev dktJ39_siftUp_0 : List UInt8 := dkwJ39_siftUp_0 ++ dktJ39_siftUp_1
theorem dksJ39_siftUp_0 : cJ39_siftUp.data.toList.drop 0 = dktJ39_siftUp_0 := by decide +kernel
theorem dksJ39_siftUp_1 : cJ39_siftUp.data.toList.drop 24 = dktJ39_siftUp_1 := dk_seg dksJ39_siftUp_0 24 rfl rfl
theorem dJ39_siftUp_0 : decode cJ39_siftUp 0 = .ok (.aload_n 0, 1) := dk_42 (dk_at dksJ39_siftUp_0 0 rfl rfl)
theorem dJ39_siftUp_1 : decode cJ39_siftUp 1 = .ok (.getfield 21, 3) := dk_180 0 21 (dk_at dksJ39_siftUp_0 1 rfl rfl)
theorem dJ39_siftUp_4 : decode cJ39_siftUp 4 = .ok (.ifnull 19, 3) := dk_198 0 19 (dk_at dksJ39_siftUp_0 4 rfl rfl)
theorem dJ39_siftUp_7 : decode cJ39_siftUp 7 = .ok (.iload_n 1, 1) := dk_27 (dk_at dksJ39_siftUp_0 7 rfl rfl)
theorem dJ39_siftUp_8 : decode cJ39_siftUp 8 = .ok (.aload_n 2, 1) := dk_44 (dk_at dksJ39_siftUp_0 8 rfl rfl)
theorem dJ39_siftUp_9 : decode cJ39_siftUp 9 = .ok (.aload_n 0, 1) := dk_42 (dk_at dksJ39_siftUp_0 9 rfl rfl)
theorem dJ39_siftUp_10 : decode cJ39_siftUp 10 = .ok (.getfield 17, 3) := dk_180 0 17 (dk_at dksJ39_siftUp_0 10 rfl rfl)
theorem dJ39_siftUp_13 : decode cJ39_siftUp 13 = .ok (.aload_n 0, 1) := dk_42 (dk_at dksJ39_siftUp_0 13 rfl rfl)
theorem dJ39_siftUp_14 : decode cJ39_siftUp 14 = .ok (.getfield 21, 3) := dk_180 0 21 (dk_at dksJ39_siftUp_0 14 rfl rfl)
theorem dJ39_siftUp_17 : decode cJ39_siftUp 17 = .ok (.invokestatic 136, 3) := dk_184 0 136 (dk_at dksJ39_siftUp_0 17 rfl rfl)
theorem dJ39_siftUp_20 : decode cJ39_siftUp 20 = .ok (.goto 12, 3) := dk_167 0 12 (dk_at dksJ39_siftUp_0 20 rfl rfl)
theorem dJ39_siftUp_23 : decode cJ39_siftUp 23 = .ok (.iload_n 1, 1) := dk_27 (dk_at dksJ39_siftUp_0 23 rfl rfl)
theorem dJ39_siftUp_24 : decode cJ39_siftUp 24 = .ok (.aload_n 2, 1) := dk_44 (dk_at dksJ39_siftUp_1 0 rfl rfl)
theorem dJ39_siftUp_25 : decode cJ39_siftUp 25 = .ok (.aload_n 0, 1) := dk_42 (dk_at dksJ39_siftUp_1 1 rfl rfl)
theorem dJ39_siftUp_26 : decode cJ39_siftUp 26 = .ok (.getfield 17, 3) := dk_180 0 17 (dk_at dksJ39_siftUp_1 2 rfl rfl)
theorem dJ39_siftUp_29 : decode cJ39_siftUp 29 = .ok (.invokestatic 140, 3) := dk_184 0 140 (dk_at dksJ39_siftUp_1 5 rfl rfl)
theorem dJ39_siftUp_32 : decode cJ39_siftUp 32 = .ok (.return_, 1) := dk_177 (dk_at dksJ39_siftUp_1 8 rfl rfl)
abbrev cJ39_siftUpUsingComparator : ByteArray := prog_59_method_29_code
def yJ39_siftUpUsingComparator : MethodName := ⟨RJ39, "siftUpUsingComparator", "(ILjava/lang/Object;[Ljava/lang/Object;Ljava/util/Comparator;)V"⟩
def dkwJ39_siftUpUsingComparator_2 : List UInt8 := [43, 83, 177]
abbrev dktJ39_siftUpUsingComparator_2 : List UInt8 := dkwJ39_siftUpUsingComparator_2 ++ []
def dkwJ39_siftUpUsingComparator_1 : List UInt8 := [185, 0, 149, 3, 0, 155, 0, 6, 167, 0, 14, 44, 26, 25, 5, 83, 21, 4, 59, 167, 255, 216, 44, 26]
abbrev dktJ39_siftUpUsingComparator_1 : List UInt8 := dkwJ39_siftUpUsingComparator_1 ++ dktJ39_siftUpUsingComparator_2
def dkwJ39_siftUpUsingComparator_0 : List UInt8 := [26, 158, 0, 42, 26, 4, 100, 4, 124, 54, 4, 44, 21, 4, 50, 58, 5, 45, 43, 25, 5]
abbrev dktJ39_siftUpUsingComparator_0 : List UInt8 := dkwJ39_siftUpUsingComparator_0 ++ dktJ39_siftUpUsingComparator_1
theorem dksJ39_siftUpUsingComparator_0 : cJ39_siftUpUsingComparator.data.toList.drop 0 = dktJ39_siftUpUsingComparator_0 := by decide +kernel
theorem dksJ39_siftUpUsingComparator_1 : cJ39_siftUpUsingComparator.data.toList.drop 21 = dktJ39_siftUpUsingComparator_1 := dk_seg dksJ39_siftUpUsingComparator_0 21 rfl rfl
theorem dksJ39_siftUpUsingComparator_2 : cJ39_siftUpUsingComparator.data.toList.drop 45 = dktJ39_siftUpUsingComparator_2 := dk_seg dksJ39_siftUpUsingComparator_1 24 rfl rfl
theorem dJ39_siftUpUsingComparator_0 : decode cJ39_siftUpUsingComparator 0 = .ok (.iload_n 0, 1) := dk_26 (dk_at dksJ39_siftUpUsingComparator_0 0 rfl rfl)
theorem dJ39_siftUpUsingComparator_1 : decode cJ39_siftUpUsingComparator 1 = .ok (.ifCond .le 42, 3) := dk_158 0 42 (dk_at dksJ39_siftUpUsingComparator_0 1 rfl rfl)
theorem dJ39_siftUpUsingComparator_4 : decode cJ39_siftUpUsingComparator 4 = .ok (.iload_n 0, 1) := dk_26 (dk_at dksJ39_siftUpUsingComparator_0 4 rfl rfl)
theorem dJ39_siftUpUsingComparator_5 : decode cJ39_siftUpUsingComparator 5 = .ok (.iconst 1, 1) := dk_4 (dk_at dksJ39_siftUpUsingComparator_0 5 rfl rfl)
theorem dJ39_siftUpUsingComparator_6 : decode cJ39_siftUpUsingComparator 6 = .ok (.isub, 1) := dk_100 (dk_at dksJ39_siftUpUsingComparator_0 6 rfl rfl)
theorem dJ39_siftUpUsingComparator_7 : decode cJ39_siftUpUsingComparator 7 = .ok (.iconst 1, 1) := dk_4 (dk_at dksJ39_siftUpUsingComparator_0 7 rfl rfl)
theorem dJ39_siftUpUsingComparator_8 : decode cJ39_siftUpUsingComparator 8 = .ok (.iushr, 1) := dk_124 (dk_at dksJ39_siftUpUsingComparator_0 8 rfl rfl)
theorem dJ39_siftUpUsingComparator_9 : decode cJ39_siftUpUsingComparator 9 = .ok (.istore 4, 2) := dk_54 4 (dk_at dksJ39_siftUpUsingComparator_0 9 rfl rfl)
theorem dJ39_siftUpUsingComparator_11 : decode cJ39_siftUpUsingComparator 11 = .ok (.aload_n 2, 1) := dk_44 (dk_at dksJ39_siftUpUsingComparator_0 11 rfl rfl)
theorem dJ39_siftUpUsingComparator_12 : decode cJ39_siftUpUsingComparator 12 = .ok (.iload 4, 2) := dk_21 4 (dk_at dksJ39_siftUpUsingComparator_0 12 rfl rfl)
theorem dJ39_siftUpUsingComparator_14 : decode cJ39_siftUpUsingComparator 14 = .ok (.aaload, 1) := dk_50 (dk_at dksJ39_siftUpUsingComparator_0 14 rfl rfl)
theorem dJ39_siftUpUsingComparator_15 : decode cJ39_siftUpUsingComparator 15 = .ok (.astore 5, 2) := dk_58 5 (dk_at dksJ39_siftUpUsingComparator_0 15 rfl rfl)
theorem dJ39_siftUpUsingComparator_17 : decode cJ39_siftUpUsingComparator 17 = .ok (.aload_n 3, 1) := dk_45 (dk_at dksJ39_siftUpUsingComparator_0 17 rfl rfl)
theorem dJ39_siftUpUsingComparator_18 : decode cJ39_siftUpUsingComparator 18 = .ok (.aload_n 1, 1) := dk_43 (dk_at dksJ39_siftUpUsingComparator_0 18 rfl rfl)
theorem dJ39_siftUpUsingComparator_19 : decode cJ39_siftUpUsingComparator 19 = .ok (.aload 5, 2) := dk_25 5 (dk_at dksJ39_siftUpUsingComparator_0 19 rfl rfl)
theorem dJ39_siftUpUsingComparator_21 : decode cJ39_siftUpUsingComparator 21 = .ok (.invokeinterface 149 3, 5) := by decide +kernel
theorem dJ39_siftUpUsingComparator_26 : decode cJ39_siftUpUsingComparator 26 = .ok (.ifCond .lt 6, 3) := dk_155 0 6 (dk_at dksJ39_siftUpUsingComparator_1 5 rfl rfl)
theorem dJ39_siftUpUsingComparator_29 : decode cJ39_siftUpUsingComparator 29 = .ok (.goto 14, 3) := dk_167 0 14 (dk_at dksJ39_siftUpUsingComparator_1 8 rfl rfl)
theorem dJ39_siftUpUsingComparator_32 : decode cJ39_siftUpUsingComparator 32 = .ok (.aload_n 2, 1) := dk_44 (dk_at dksJ39_siftUpUsingComparator_1 11 rfl rfl)
theorem dJ39_siftUpUsingComparator_33 : decode cJ39_siftUpUsingComparator 33 = .ok (.iload_n 0, 1) := dk_26 (dk_at dksJ39_siftUpUsingComparator_1 12 rfl rfl)
theorem dJ39_siftUpUsingComparator_34 : decode cJ39_siftUpUsingComparator 34 = .ok (.aload 5, 2) := dk_25 5 (dk_at dksJ39_siftUpUsingComparator_1 13 rfl rfl)
theorem dJ39_siftUpUsingComparator_36 : decode cJ39_siftUpUsingComparator 36 = .ok (.aastore, 1) := dk_83 (dk_at dksJ39_siftUpUsingComparator_1 15 rfl rfl)
theorem dJ39_siftUpUsingComparator_37 : decode cJ39_siftUpUsingComparator 37 = .ok (.iload 4, 2) := dk_21 4 (dk_at dksJ39_siftUpUsingComparator_1 16 rfl rfl)
theorem dJ39_siftUpUsingComparator_39 : decode cJ39_siftUpUsingComparator 39 = .ok (.istore_n 0, 1) := dk_59 (dk_at dksJ39_siftUpUsingComparator_1 18 rfl rfl)
theorem dJ39_siftUpUsingComparator_40 : decode cJ39_siftUpUsingComparator 40 = .ok (.goto (-40), 3) := dk_167 255 216 (dk_at dksJ39_siftUpUsingComparator_1 19 rfl rfl)
theorem dJ39_siftUpUsingComparator_43 : decode cJ39_siftUpUsingComparator 43 = .ok (.aload_n 2, 1) := dk_44 (dk_at dksJ39_siftUpUsingComparator_1 22 rfl rfl)
theorem dJ39_siftUpUsingComparator_44 : decode cJ39_siftUpUsingComparator 44 = .ok (.iload_n 0, 1) := dk_26 (dk_at dksJ39_siftUpUsingComparator_1 23 rfl rfl)
theorem dJ39_siftUpUsingComparator_45 : decode cJ39_siftUpUsingComparator 45 = .ok (.aload_n 1, 1) := dk_43 (dk_at dksJ39_siftUpUsingComparator_2 0 rfl rfl)
theorem dJ39_siftUpUsingComparator_46 : decode cJ39_siftUpUsingComparator 46 = .ok (.aastore, 1) := dk_83 (dk_at dksJ39_siftUpUsingComparator_2 1 rfl rfl)
theorem dJ39_siftUpUsingComparator_47 : decode cJ39_siftUpUsingComparator 47 = .ok (.return_, 1) := dk_177 (dk_at dksJ39_siftUpUsingComparator_2 2 rfl rfl)
abbrev cJ39_siftUpComparable : ByteArray := prog_59_method_28_code
def yJ39_siftUpComparable : MethodName := ⟨RJ39, "siftUpComparable", "(ILjava/lang/Object;[Ljava/lang/Object;)V"⟩
def dkwJ39_siftUpComparable_2 : List UInt8 := [44, 26, 45, 83, 177]
abbrev dktJ39_siftUpComparable_2 : List UInt8 := dkwJ39_siftUpComparable_2 ++ []
def dkwJ39_siftUpComparable_1 : List UInt8 := [25, 5, 185, 0, 146, 2, 0, 155, 0, 6, 167, 0, 14, 44, 26, 25, 5, 83, 21, 4, 59, 167, 255, 217]
abbrev dktJ39_siftUpComparable_1 : List UInt8 := dkwJ39_siftUpComparable_1 ++ dktJ39_siftUpComparable_2
def dkwJ39_siftUpComparable_0 : List UInt8 := [43, 192, 0, 144, 78, 26, 158, 0, 41, 26, 4, 100, 4, 124, 54, 4, 44, 21, 4, 50, 58, 5, 45]
abbrev dktJ39_siftUpComparable_0 : List UInt8 := dkwJ39_siftUpComparable_0 ++ dktJ39_siftUpComparable_1
theorem dksJ39_siftUpComparable_0 : cJ39_siftUpComparable.data.toList.drop 0 = dktJ39_siftUpComparable_0 := by decide +kernel
theorem dksJ39_siftUpComparable_1 : cJ39_siftUpComparable.data.toList.drop 23 = dktJ39_siftUpComparable_1 := dk_seg dksJ39_siftUpComparable_0 23 rfl rfl
theorem dksJ39_siftUpComparable_2 : cJ39_siftUpComparable.data.toList.drop 47 = dktJ39_siftUpComparable_2 := dk_seg dksJ39_siftUpComparable_1 24 rfl rfl
theorem dJ39_siftUpComparable_0 : decode cJ39_siftUpComparable 0 = .ok (.aload_n 1, 1) := dk_43 (dk_at dksJ39_siftUpComparable_0 0 rfl rfl)
theorem dJ39_siftUpComparable_1 : decode cJ39_siftUpComparable 1 = .ok (.checkcast 144, 3) := dk_192 0 144 (dk_at dksJ39_siftUpComparable_0 1 rfl rfl)
theorem dJ39_siftUpComparable_4 : decode cJ39_siftUpComparable 4 = .ok (.astore_n 3, 1) := dk_78 (dk_at dksJ39_siftUpComparable_0 4 rfl rfl)
theorem dJ39_siftUpComparable_5 : decode cJ39_siftUpComparable 5 = .ok (.iload_n 0, 1) := dk_26 (dk_at dksJ39_siftUpComparable_0 5 rfl rfl)
theorem dJ39_siftUpComparable_6 : decode cJ39_siftUpComparable 6 = .ok (.ifCond .le 41, 3) := dk_158 0 41 (dk_at dksJ39_siftUpComparable_0 6 rfl rfl)
theorem dJ39_siftUpComparable_9 : decode cJ39_siftUpComparable 9 = .ok (.iload_n 0, 1) := dk_26 (dk_at dksJ39_siftUpComparable_0 9 rfl rfl)
theorem dJ39_siftUpComparable_10 : decode cJ39_siftUpComparable 10 = .ok (.iconst 1, 1) := dk_4 (dk_at dksJ39_siftUpComparable_0 10 rfl rfl)
theorem dJ39_siftUpComparable_11 : decode cJ39_siftUpComparable 11 = .ok (.isub, 1) := dk_100 (dk_at dksJ39_siftUpComparable_0 11 rfl rfl)
theorem dJ39_siftUpComparable_12 : decode cJ39_siftUpComparable 12 = .ok (.iconst 1, 1) := dk_4 (dk_at dksJ39_siftUpComparable_0 12 rfl rfl)
theorem dJ39_siftUpComparable_13 : decode cJ39_siftUpComparable 13 = .ok (.iushr, 1) := dk_124 (dk_at dksJ39_siftUpComparable_0 13 rfl rfl)
theorem dJ39_siftUpComparable_14 : decode cJ39_siftUpComparable 14 = .ok (.istore 4, 2) := dk_54 4 (dk_at dksJ39_siftUpComparable_0 14 rfl rfl)
theorem dJ39_siftUpComparable_16 : decode cJ39_siftUpComparable 16 = .ok (.aload_n 2, 1) := dk_44 (dk_at dksJ39_siftUpComparable_0 16 rfl rfl)
theorem dJ39_siftUpComparable_17 : decode cJ39_siftUpComparable 17 = .ok (.iload 4, 2) := dk_21 4 (dk_at dksJ39_siftUpComparable_0 17 rfl rfl)
theorem dJ39_siftUpComparable_19 : decode cJ39_siftUpComparable 19 = .ok (.aaload, 1) := dk_50 (dk_at dksJ39_siftUpComparable_0 19 rfl rfl)
theorem dJ39_siftUpComparable_20 : decode cJ39_siftUpComparable 20 = .ok (.astore 5, 2) := dk_58 5 (dk_at dksJ39_siftUpComparable_0 20 rfl rfl)
theorem dJ39_siftUpComparable_22 : decode cJ39_siftUpComparable 22 = .ok (.aload_n 3, 1) := dk_45 (dk_at dksJ39_siftUpComparable_0 22 rfl rfl)
theorem dJ39_siftUpComparable_23 : decode cJ39_siftUpComparable 23 = .ok (.aload 5, 2) := dk_25 5 (dk_at dksJ39_siftUpComparable_1 0 rfl rfl)
theorem dJ39_siftUpComparable_25 : decode cJ39_siftUpComparable 25 = .ok (.invokeinterface 146 2, 5) := by decide +kernel
theorem dJ39_siftUpComparable_30 : decode cJ39_siftUpComparable 30 = .ok (.ifCond .lt 6, 3) := dk_155 0 6 (dk_at dksJ39_siftUpComparable_1 7 rfl rfl)
theorem dJ39_siftUpComparable_33 : decode cJ39_siftUpComparable 33 = .ok (.goto 14, 3) := dk_167 0 14 (dk_at dksJ39_siftUpComparable_1 10 rfl rfl)
theorem dJ39_siftUpComparable_36 : decode cJ39_siftUpComparable 36 = .ok (.aload_n 2, 1) := dk_44 (dk_at dksJ39_siftUpComparable_1 13 rfl rfl)
theorem dJ39_siftUpComparable_37 : decode cJ39_siftUpComparable 37 = .ok (.iload_n 0, 1) := dk_26 (dk_at dksJ39_siftUpComparable_1 14 rfl rfl)
theorem dJ39_siftUpComparable_38 : decode cJ39_siftUpComparable 38 = .ok (.aload 5, 2) := dk_25 5 (dk_at dksJ39_siftUpComparable_1 15 rfl rfl)
theorem dJ39_siftUpComparable_40 : decode cJ39_siftUpComparable 40 = .ok (.aastore, 1) := dk_83 (dk_at dksJ39_siftUpComparable_1 17 rfl rfl)
theorem dJ39_siftUpComparable_41 : decode cJ39_siftUpComparable 41 = .ok (.iload 4, 2) := dk_21 4 (dk_at dksJ39_siftUpComparable_1 18 rfl rfl)
theorem dJ39_siftUpComparable_43 : decode cJ39_siftUpComparable 43 = .ok (.istore_n 0, 1) := dk_59 (dk_at dksJ39_siftUpComparable_1 20 rfl rfl)
theorem dJ39_siftUpComparable_44 : decode cJ39_siftUpComparable 44 = .ok (.goto (-39), 3) := dk_167 255 217 (dk_at dksJ39_siftUpComparable_1 21 rfl rfl)
theorem dJ39_siftUpComparable_47 : decode cJ39_siftUpComparable 47 = .ok (.aload_n 2, 1) := dk_44 (dk_at dksJ39_siftUpComparable_2 0 rfl rfl)
theorem dJ39_siftUpComparable_48 : decode cJ39_siftUpComparable 48 = .ok (.iload_n 0, 1) := dk_26 (dk_at dksJ39_siftUpComparable_2 1 rfl rfl)
theorem dJ39_siftUpComparable_49 : decode cJ39_siftUpComparable 49 = .ok (.aload_n 3, 1) := dk_45 (dk_at dksJ39_siftUpComparable_2 2 rfl rfl)
theorem dJ39_siftUpComparable_50 : decode cJ39_siftUpComparable 50 = .ok (.aastore, 1) := dk_83 (dk_at dksJ39_siftUpComparable_2 3 rfl rfl)
theorem dJ39_siftUpComparable_51 : decode cJ39_siftUpComparable 51 = .ok (.return_, 1) := dk_177 (dk_at dksJ39_siftUpComparable_2 4 rfl rfl)
abbrev cJ39_poll : ByteArray := prog_59_method_25_code
def yJ39_poll : MethodName := ⟨RJ39, "poll", "()Ljava/lang/Object;"⟩
def dkwJ39_poll_3 : List UInt8 := [43, 29, 25, 5, 184, 0, 129, 44, 176]
abbrev dktJ39_poll_3 : List UInt8 := dkwJ39_poll_3 ++ []
def dkwJ39_poll_2 : List UInt8 := [42, 180, 0, 21, 89, 58, 5, 199, 0, 14, 3, 25, 4, 43, 29, 184, 0, 125, 167, 0, 13, 3, 25, 4]
abbrev dktJ39_poll_2 : List UInt8 := dkwJ39_poll_2 ++ dktJ39_poll_3
def dkwJ39_poll_1 : List UInt8 := [42, 89, 180, 0, 58, 4, 100, 90, 181, 0, 58, 89, 62, 50, 58, 4, 43, 29, 1, 83, 29, 158, 0, 34]
abbrev dktJ39_poll_1 : List UInt8 := dkwJ39_poll_1 ++ dktJ39_poll_2
def dkwJ39_poll_0 : List UInt8 := [42, 180, 0, 17, 89, 76, 3, 50, 89, 77, 198, 0, 69, 42, 89, 180, 0, 93, 4, 96, 181, 0, 93, 43]
abbrev dktJ39_poll_0 : List UInt8 := dkwJ39_poll_0 ++ dktJ39_poll_1
theorem dksJ39_poll_0 : cJ39_poll.data.toList.drop 0 = dktJ39_poll_0 := by decide +kernel
theorem dksJ39_poll_1 : cJ39_poll.data.toList.drop 24 = dktJ39_poll_1 := dk_seg dksJ39_poll_0 24 rfl rfl
theorem dksJ39_poll_2 : cJ39_poll.data.toList.drop 48 = dktJ39_poll_2 := dk_seg dksJ39_poll_1 24 rfl rfl
theorem dksJ39_poll_3 : cJ39_poll.data.toList.drop 72 = dktJ39_poll_3 := dk_seg dksJ39_poll_2 24 rfl rfl
theorem dJ39_poll_0 : decode cJ39_poll 0 = .ok (.aload_n 0, 1) := dk_42 (dk_at dksJ39_poll_0 0 rfl rfl)
theorem dJ39_poll_1 : decode cJ39_poll 1 = .ok (.getfield 17, 3) := dk_180 0 17 (dk_at dksJ39_poll_0 1 rfl rfl)
theorem dJ39_poll_4 : decode cJ39_poll 4 = .ok (.dup, 1) := dk_89 (dk_at dksJ39_poll_0 4 rfl rfl)
theorem dJ39_poll_5 : decode cJ39_poll 5 = .ok (.astore_n 1, 1) := dk_76 (dk_at dksJ39_poll_0 5 rfl rfl)
theorem dJ39_poll_6 : decode cJ39_poll 6 = .ok (.iconst 0, 1) := dk_3 (dk_at dksJ39_poll_0 6 rfl rfl)
theorem dJ39_poll_7 : decode cJ39_poll 7 = .ok (.aaload, 1) := dk_50 (dk_at dksJ39_poll_0 7 rfl rfl)
theorem dJ39_poll_8 : decode cJ39_poll 8 = .ok (.dup, 1) := dk_89 (dk_at dksJ39_poll_0 8 rfl rfl)
theorem dJ39_poll_9 : decode cJ39_poll 9 = .ok (.astore_n 2, 1) := dk_77 (dk_at dksJ39_poll_0 9 rfl rfl)
theorem dJ39_poll_10 : decode cJ39_poll 10 = .ok (.ifnull 69, 3) := dk_198 0 69 (dk_at dksJ39_poll_0 10 rfl rfl)
theorem dJ39_poll_13 : decode cJ39_poll 13 = .ok (.aload_n 0, 1) := dk_42 (dk_at dksJ39_poll_0 13 rfl rfl)
theorem dJ39_poll_14 : decode cJ39_poll 14 = .ok (.dup, 1) := dk_89 (dk_at dksJ39_poll_0 14 rfl rfl)
theorem dJ39_poll_15 : decode cJ39_poll 15 = .ok (.getfield 93, 3) := dk_180 0 93 (dk_at dksJ39_poll_0 15 rfl rfl)
theorem dJ39_poll_18 : decode cJ39_poll 18 = .ok (.iconst 1, 1) := dk_4 (dk_at dksJ39_poll_0 18 rfl rfl)
theorem dJ39_poll_19 : decode cJ39_poll 19 = .ok (.iadd, 1) := dk_96 (dk_at dksJ39_poll_0 19 rfl rfl)
theorem dJ39_poll_20 : decode cJ39_poll 20 = .ok (.putfield 93, 3) := dk_181 0 93 (dk_at dksJ39_poll_0 20 rfl rfl)
theorem dJ39_poll_23 : decode cJ39_poll 23 = .ok (.aload_n 1, 1) := dk_43 (dk_at dksJ39_poll_0 23 rfl rfl)
theorem dJ39_poll_24 : decode cJ39_poll 24 = .ok (.aload_n 0, 1) := dk_42 (dk_at dksJ39_poll_1 0 rfl rfl)
theorem dJ39_poll_25 : decode cJ39_poll 25 = .ok (.dup, 1) := dk_89 (dk_at dksJ39_poll_1 1 rfl rfl)
theorem dJ39_poll_26 : decode cJ39_poll 26 = .ok (.getfield 58, 3) := dk_180 0 58 (dk_at dksJ39_poll_1 2 rfl rfl)
theorem dJ39_poll_29 : decode cJ39_poll 29 = .ok (.iconst 1, 1) := dk_4 (dk_at dksJ39_poll_1 5 rfl rfl)
theorem dJ39_poll_30 : decode cJ39_poll 30 = .ok (.isub, 1) := dk_100 (dk_at dksJ39_poll_1 6 rfl rfl)
theorem dJ39_poll_31 : decode cJ39_poll 31 = .ok (.dup_x1, 1) := dk_90 (dk_at dksJ39_poll_1 7 rfl rfl)
theorem dJ39_poll_32 : decode cJ39_poll 32 = .ok (.putfield 58, 3) := dk_181 0 58 (dk_at dksJ39_poll_1 8 rfl rfl)
theorem dJ39_poll_35 : decode cJ39_poll 35 = .ok (.dup, 1) := dk_89 (dk_at dksJ39_poll_1 11 rfl rfl)
theorem dJ39_poll_36 : decode cJ39_poll 36 = .ok (.istore_n 3, 1) := dk_62 (dk_at dksJ39_poll_1 12 rfl rfl)
theorem dJ39_poll_37 : decode cJ39_poll 37 = .ok (.aaload, 1) := dk_50 (dk_at dksJ39_poll_1 13 rfl rfl)
theorem dJ39_poll_38 : decode cJ39_poll 38 = .ok (.astore 4, 2) := dk_58 4 (dk_at dksJ39_poll_1 14 rfl rfl)
theorem dJ39_poll_40 : decode cJ39_poll 40 = .ok (.aload_n 1, 1) := dk_43 (dk_at dksJ39_poll_1 16 rfl rfl)
theorem dJ39_poll_41 : decode cJ39_poll 41 = .ok (.iload_n 3, 1) := dk_29 (dk_at dksJ39_poll_1 17 rfl rfl)
theorem dJ39_poll_42 : decode cJ39_poll 42 = .ok (.aconst_null, 1) := dk_1 (dk_at dksJ39_poll_1 18 rfl rfl)
theorem dJ39_poll_43 : decode cJ39_poll 43 = .ok (.aastore, 1) := dk_83 (dk_at dksJ39_poll_1 19 rfl rfl)
theorem dJ39_poll_44 : decode cJ39_poll 44 = .ok (.iload_n 3, 1) := dk_29 (dk_at dksJ39_poll_1 20 rfl rfl)
theorem dJ39_poll_45 : decode cJ39_poll 45 = .ok (.ifCond .le 34, 3) := dk_158 0 34 (dk_at dksJ39_poll_1 21 rfl rfl)
theorem dJ39_poll_48 : decode cJ39_poll 48 = .ok (.aload_n 0, 1) := dk_42 (dk_at dksJ39_poll_2 0 rfl rfl)
theorem dJ39_poll_49 : decode cJ39_poll 49 = .ok (.getfield 21, 3) := dk_180 0 21 (dk_at dksJ39_poll_2 1 rfl rfl)
theorem dJ39_poll_52 : decode cJ39_poll 52 = .ok (.dup, 1) := dk_89 (dk_at dksJ39_poll_2 4 rfl rfl)
theorem dJ39_poll_53 : decode cJ39_poll 53 = .ok (.astore 5, 2) := dk_58 5 (dk_at dksJ39_poll_2 5 rfl rfl)
theorem dJ39_poll_55 : decode cJ39_poll 55 = .ok (.ifnonnull 14, 3) := dk_199 0 14 (dk_at dksJ39_poll_2 7 rfl rfl)
theorem dJ39_poll_58 : decode cJ39_poll 58 = .ok (.iconst 0, 1) := dk_3 (dk_at dksJ39_poll_2 10 rfl rfl)
theorem dJ39_poll_59 : decode cJ39_poll 59 = .ok (.aload 4, 2) := dk_25 4 (dk_at dksJ39_poll_2 11 rfl rfl)
theorem dJ39_poll_61 : decode cJ39_poll 61 = .ok (.aload_n 1, 1) := dk_43 (dk_at dksJ39_poll_2 13 rfl rfl)
theorem dJ39_poll_62 : decode cJ39_poll 62 = .ok (.iload_n 3, 1) := dk_29 (dk_at dksJ39_poll_2 14 rfl rfl)
theorem dJ39_poll_63 : decode cJ39_poll 63 = .ok (.invokestatic 125, 3) := dk_184 0 125 (dk_at dksJ39_poll_2 15 rfl rfl)
theorem dJ39_poll_66 : decode cJ39_poll 66 = .ok (.goto 13, 3) := dk_167 0 13 (dk_at dksJ39_poll_2 18 rfl rfl)
theorem dJ39_poll_69 : decode cJ39_poll 69 = .ok (.iconst 0, 1) := dk_3 (dk_at dksJ39_poll_2 21 rfl rfl)
theorem dJ39_poll_70 : decode cJ39_poll 70 = .ok (.aload 4, 2) := dk_25 4 (dk_at dksJ39_poll_2 22 rfl rfl)
theorem dJ39_poll_72 : decode cJ39_poll 72 = .ok (.aload_n 1, 1) := dk_43 (dk_at dksJ39_poll_3 0 rfl rfl)
theorem dJ39_poll_73 : decode cJ39_poll 73 = .ok (.iload_n 3, 1) := dk_29 (dk_at dksJ39_poll_3 1 rfl rfl)
theorem dJ39_poll_74 : decode cJ39_poll 74 = .ok (.aload 5, 2) := dk_25 5 (dk_at dksJ39_poll_3 2 rfl rfl)
theorem dJ39_poll_76 : decode cJ39_poll 76 = .ok (.invokestatic 129, 3) := dk_184 0 129 (dk_at dksJ39_poll_3 4 rfl rfl)
theorem dJ39_poll_79 : decode cJ39_poll 79 = .ok (.aload_n 2, 1) := dk_44 (dk_at dksJ39_poll_3 7 rfl rfl)
theorem dJ39_poll_80 : decode cJ39_poll 80 = .ok (.areturn, 1) := dk_176 (dk_at dksJ39_poll_3 8 rfl rfl)
abbrev cJ39_siftDownComparable : ByteArray := prog_59_method_31_code
def yJ39_siftDownComparable : MethodName := ⟨RJ39, "siftDownComparable", "(ILjava/lang/Object;[Ljava/lang/Object;I)V"⟩
def dkwJ39_siftDownComparable_4 : List UInt8 := [25, 4, 83, 177]
abbrev dktJ39_siftDownComparable_4 : List UInt8 := dkwJ39_siftDownComparable_4 ++ []
def dkwJ39_siftDownComparable_3 : List UInt8 := [185, 0, 146, 2, 0, 157, 0, 6, 167, 0, 14, 44, 26, 25, 7, 83, 21, 6, 59, 167, 255, 176, 44, 26]
abbrev dktJ39_siftDownComparable_3 : List UInt8 := dkwJ39_siftDownComparable_3 ++ dktJ39_siftDownComparable_4
def dkwJ39_siftDownComparable_2 : List UInt8 := [21, 8, 50, 185, 0, 146, 2, 0, 158, 0, 12, 44, 21, 8, 89, 54, 6, 50, 58, 7, 25, 4, 25, 7]
abbrev dktJ39_siftDownComparable_2 : List UInt8 := dkwJ39_siftDownComparable_2 ++ dktJ39_siftDownComparable_3
def dkwJ39_siftDownComparable_1 : List UInt8 := [44, 21, 6, 50, 58, 7, 21, 6, 4, 96, 54, 8, 21, 8, 29, 162, 0, 29, 25, 7, 192, 0, 144, 44]
abbrev dktJ39_siftDownComparable_1 : List UInt8 := dkwJ39_siftDownComparable_1 ++ dktJ39_siftDownComparable_2
def dkwJ39_siftDownComparable_0 : List UInt8 := [43, 192, 0, 144, 58, 4, 29, 4, 124, 54, 5, 26, 21, 5, 162, 0, 80, 26, 4, 120, 4, 96, 54, 6]
abbrev dktJ39_siftDownComparable_0 : List UInt8 := dkwJ39_siftDownComparable_0 ++ dktJ39_siftDownComparable_1
theorem dksJ39_siftDownComparable_0 : cJ39_siftDownComparable.data.toList.drop 0 = dktJ39_siftDownComparable_0 := by decide +kernel
theorem dksJ39_siftDownComparable_1 : cJ39_siftDownComparable.data.toList.drop 24 = dktJ39_siftDownComparable_1 := dk_seg dksJ39_siftDownComparable_0 24 rfl rfl
theorem dksJ39_siftDownComparable_2 : cJ39_siftDownComparable.data.toList.drop 48 = dktJ39_siftDownComparable_2 := dk_seg dksJ39_siftDownComparable_1 24 rfl rfl
theorem dksJ39_siftDownComparable_3 : cJ39_siftDownComparable.data.toList.drop 72 = dktJ39_siftDownComparable_3 := dk_seg dksJ39_siftDownComparable_2 24 rfl rfl
theorem dksJ39_siftDownComparable_4 : cJ39_siftDownComparable.data.toList.drop 96 = dktJ39_siftDownComparable_4 := dk_seg dksJ39_siftDownComparable_3 24 rfl rfl
theorem dJ39_siftDownComparable_0 : decode cJ39_siftDownComparable 0 = .ok (.aload_n 1, 1) := dk_43 (dk_at dksJ39_siftDownComparable_0 0 rfl rfl)
theorem dJ39_siftDownComparable_1 : decode cJ39_siftDownComparable 1 = .ok (.checkcast 144, 3) := dk_192 0 144 (dk_at dksJ39_siftDownComparable_0 1 rfl rfl)
theorem dJ39_siftDownComparable_4 : decode cJ39_siftDownComparable 4 = .ok (.astore 4, 2) := dk_58 4 (dk_at dksJ39_siftDownComparable_0 4 rfl rfl)
theorem dJ39_siftDownComparable_6 : decode cJ39_siftDownComparable 6 = .ok (.iload_n 3, 1) := dk_29 (dk_at dksJ39_siftDownComparable_0 6 rfl rfl)
theorem dJ39_siftDownComparable_7 : decode cJ39_siftDownComparable 7 = .ok (.iconst 1, 1) := dk_4 (dk_at dksJ39_siftDownComparable_0 7 rfl rfl)
theorem dJ39_siftDownComparable_8 : decode cJ39_siftDownComparable 8 = .ok (.iushr, 1) := dk_124 (dk_at dksJ39_siftDownComparable_0 8 rfl rfl)
theorem dJ39_siftDownComparable_9 : decode cJ39_siftDownComparable 9 = .ok (.istore 5, 2) := dk_54 5 (dk_at dksJ39_siftDownComparable_0 9 rfl rfl)
theorem dJ39_siftDownComparable_11 : decode cJ39_siftDownComparable 11 = .ok (.iload_n 0, 1) := dk_26 (dk_at dksJ39_siftDownComparable_0 11 rfl rfl)
theorem dJ39_siftDownComparable_12 : decode cJ39_siftDownComparable 12 = .ok (.iload 5, 2) := dk_21 5 (dk_at dksJ39_siftDownComparable_0 12 rfl rfl)
theorem dJ39_siftDownComparable_14 : decode cJ39_siftDownComparable 14 = .ok (.if_icmp .ge 80, 3) := dk_162 0 80 (dk_at dksJ39_siftDownComparable_0 14 rfl rfl)
theorem dJ39_siftDownComparable_17 : decode cJ39_siftDownComparable 17 = .ok (.iload_n 0, 1) := dk_26 (dk_at dksJ39_siftDownComparable_0 17 rfl rfl)
theorem dJ39_siftDownComparable_18 : decode cJ39_siftDownComparable 18 = .ok (.iconst 1, 1) := dk_4 (dk_at dksJ39_siftDownComparable_0 18 rfl rfl)
theorem dJ39_siftDownComparable_19 : decode cJ39_siftDownComparable 19 = .ok (.ishl, 1) := dk_120 (dk_at dksJ39_siftDownComparable_0 19 rfl rfl)
theorem dJ39_siftDownComparable_20 : decode cJ39_siftDownComparable 20 = .ok (.iconst 1, 1) := dk_4 (dk_at dksJ39_siftDownComparable_0 20 rfl rfl)
theorem dJ39_siftDownComparable_21 : decode cJ39_siftDownComparable 21 = .ok (.iadd, 1) := dk_96 (dk_at dksJ39_siftDownComparable_0 21 rfl rfl)
theorem dJ39_siftDownComparable_22 : decode cJ39_siftDownComparable 22 = .ok (.istore 6, 2) := dk_54 6 (dk_at dksJ39_siftDownComparable_0 22 rfl rfl)
theorem dJ39_siftDownComparable_24 : decode cJ39_siftDownComparable 24 = .ok (.aload_n 2, 1) := dk_44 (dk_at dksJ39_siftDownComparable_1 0 rfl rfl)
theorem dJ39_siftDownComparable_25 : decode cJ39_siftDownComparable 25 = .ok (.iload 6, 2) := dk_21 6 (dk_at dksJ39_siftDownComparable_1 1 rfl rfl)
theorem dJ39_siftDownComparable_27 : decode cJ39_siftDownComparable 27 = .ok (.aaload, 1) := dk_50 (dk_at dksJ39_siftDownComparable_1 3 rfl rfl)
theorem dJ39_siftDownComparable_28 : decode cJ39_siftDownComparable 28 = .ok (.astore 7, 2) := dk_58 7 (dk_at dksJ39_siftDownComparable_1 4 rfl rfl)
theorem dJ39_siftDownComparable_30 : decode cJ39_siftDownComparable 30 = .ok (.iload 6, 2) := dk_21 6 (dk_at dksJ39_siftDownComparable_1 6 rfl rfl)
theorem dJ39_siftDownComparable_32 : decode cJ39_siftDownComparable 32 = .ok (.iconst 1, 1) := dk_4 (dk_at dksJ39_siftDownComparable_1 8 rfl rfl)
theorem dJ39_siftDownComparable_33 : decode cJ39_siftDownComparable 33 = .ok (.iadd, 1) := dk_96 (dk_at dksJ39_siftDownComparable_1 9 rfl rfl)
theorem dJ39_siftDownComparable_34 : decode cJ39_siftDownComparable 34 = .ok (.istore 8, 2) := dk_54 8 (dk_at dksJ39_siftDownComparable_1 10 rfl rfl)
theorem dJ39_siftDownComparable_36 : decode cJ39_siftDownComparable 36 = .ok (.iload 8, 2) := dk_21 8 (dk_at dksJ39_siftDownComparable_1 12 rfl rfl)
theorem dJ39_siftDownComparable_38 : decode cJ39_siftDownComparable 38 = .ok (.iload_n 3, 1) := dk_29 (dk_at dksJ39_siftDownComparable_1 14 rfl rfl)
theorem dJ39_siftDownComparable_39 : decode cJ39_siftDownComparable 39 = .ok (.if_icmp .ge 29, 3) := dk_162 0 29 (dk_at dksJ39_siftDownComparable_1 15 rfl rfl)
theorem dJ39_siftDownComparable_42 : decode cJ39_siftDownComparable 42 = .ok (.aload 7, 2) := dk_25 7 (dk_at dksJ39_siftDownComparable_1 18 rfl rfl)
theorem dJ39_siftDownComparable_44 : decode cJ39_siftDownComparable 44 = .ok (.checkcast 144, 3) := dk_192 0 144 (dk_at dksJ39_siftDownComparable_1 20 rfl rfl)
theorem dJ39_siftDownComparable_47 : decode cJ39_siftDownComparable 47 = .ok (.aload_n 2, 1) := dk_44 (dk_at dksJ39_siftDownComparable_1 23 rfl rfl)
theorem dJ39_siftDownComparable_48 : decode cJ39_siftDownComparable 48 = .ok (.iload 8, 2) := dk_21 8 (dk_at dksJ39_siftDownComparable_2 0 rfl rfl)
theorem dJ39_siftDownComparable_50 : decode cJ39_siftDownComparable 50 = .ok (.aaload, 1) := dk_50 (dk_at dksJ39_siftDownComparable_2 2 rfl rfl)
theorem dJ39_siftDownComparable_51 : decode cJ39_siftDownComparable 51 = .ok (.invokeinterface 146 2, 5) := by decide +kernel
theorem dJ39_siftDownComparable_56 : decode cJ39_siftDownComparable 56 = .ok (.ifCond .le 12, 3) := dk_158 0 12 (dk_at dksJ39_siftDownComparable_2 8 rfl rfl)
theorem dJ39_siftDownComparable_59 : decode cJ39_siftDownComparable 59 = .ok (.aload_n 2, 1) := dk_44 (dk_at dksJ39_siftDownComparable_2 11 rfl rfl)
theorem dJ39_siftDownComparable_60 : decode cJ39_siftDownComparable 60 = .ok (.iload 8, 2) := dk_21 8 (dk_at dksJ39_siftDownComparable_2 12 rfl rfl)
theorem dJ39_siftDownComparable_62 : decode cJ39_siftDownComparable 62 = .ok (.dup, 1) := dk_89 (dk_at dksJ39_siftDownComparable_2 14 rfl rfl)
theorem dJ39_siftDownComparable_63 : decode cJ39_siftDownComparable 63 = .ok (.istore 6, 2) := dk_54 6 (dk_at dksJ39_siftDownComparable_2 15 rfl rfl)
theorem dJ39_siftDownComparable_65 : decode cJ39_siftDownComparable 65 = .ok (.aaload, 1) := dk_50 (dk_at dksJ39_siftDownComparable_2 17 rfl rfl)
theorem dJ39_siftDownComparable_66 : decode cJ39_siftDownComparable 66 = .ok (.astore 7, 2) := dk_58 7 (dk_at dksJ39_siftDownComparable_2 18 rfl rfl)
theorem dJ39_siftDownComparable_68 : decode cJ39_siftDownComparable 68 = .ok (.aload 4, 2) := dk_25 4 (dk_at dksJ39_siftDownComparable_2 20 rfl rfl)
theorem dJ39_siftDownComparable_70 : decode cJ39_siftDownComparable 70 = .ok (.aload 7, 2) := dk_25 7 (dk_at dksJ39_siftDownComparable_2 22 rfl rfl)
theorem dJ39_siftDownComparable_72 : decode cJ39_siftDownComparable 72 = .ok (.invokeinterface 146 2, 5) := by decide +kernel
theorem dJ39_siftDownComparable_77 : decode cJ39_siftDownComparable 77 = .ok (.ifCond .gt 6, 3) := dk_157 0 6 (dk_at dksJ39_siftDownComparable_3 5 rfl rfl)
theorem dJ39_siftDownComparable_80 : decode cJ39_siftDownComparable 80 = .ok (.goto 14, 3) := dk_167 0 14 (dk_at dksJ39_siftDownComparable_3 8 rfl rfl)
theorem dJ39_siftDownComparable_83 : decode cJ39_siftDownComparable 83 = .ok (.aload_n 2, 1) := dk_44 (dk_at dksJ39_siftDownComparable_3 11 rfl rfl)
theorem dJ39_siftDownComparable_84 : decode cJ39_siftDownComparable 84 = .ok (.iload_n 0, 1) := dk_26 (dk_at dksJ39_siftDownComparable_3 12 rfl rfl)
theorem dJ39_siftDownComparable_85 : decode cJ39_siftDownComparable 85 = .ok (.aload 7, 2) := dk_25 7 (dk_at dksJ39_siftDownComparable_3 13 rfl rfl)
theorem dJ39_siftDownComparable_87 : decode cJ39_siftDownComparable 87 = .ok (.aastore, 1) := dk_83 (dk_at dksJ39_siftDownComparable_3 15 rfl rfl)
theorem dJ39_siftDownComparable_88 : decode cJ39_siftDownComparable 88 = .ok (.iload 6, 2) := dk_21 6 (dk_at dksJ39_siftDownComparable_3 16 rfl rfl)
theorem dJ39_siftDownComparable_90 : decode cJ39_siftDownComparable 90 = .ok (.istore_n 0, 1) := dk_59 (dk_at dksJ39_siftDownComparable_3 18 rfl rfl)
theorem dJ39_siftDownComparable_91 : decode cJ39_siftDownComparable 91 = .ok (.goto (-80), 3) := dk_167 255 176 (dk_at dksJ39_siftDownComparable_3 19 rfl rfl)
theorem dJ39_siftDownComparable_94 : decode cJ39_siftDownComparable 94 = .ok (.aload_n 2, 1) := dk_44 (dk_at dksJ39_siftDownComparable_3 22 rfl rfl)
theorem dJ39_siftDownComparable_95 : decode cJ39_siftDownComparable 95 = .ok (.iload_n 0, 1) := dk_26 (dk_at dksJ39_siftDownComparable_3 23 rfl rfl)
theorem dJ39_siftDownComparable_96 : decode cJ39_siftDownComparable 96 = .ok (.aload 4, 2) := dk_25 4 (dk_at dksJ39_siftDownComparable_4 0 rfl rfl)
theorem dJ39_siftDownComparable_98 : decode cJ39_siftDownComparable 98 = .ok (.aastore, 1) := dk_83 (dk_at dksJ39_siftDownComparable_4 2 rfl rfl)
theorem dJ39_siftDownComparable_99 : decode cJ39_siftDownComparable 99 = .ok (.return_, 1) := dk_177 (dk_at dksJ39_siftDownComparable_4 3 rfl rfl)
abbrev cJ39_siftDownUsingComparator : ByteArray := prog_59_method_32_code
def yJ39_siftDownUsingComparator : MethodName := ⟨RJ39, "siftDownUsingComparator", "(ILjava/lang/Object;[Ljava/lang/Object;ILjava/util/Comparator;)V"⟩
def dkwJ39_siftDownUsingComparator_4 : List UInt8 := [43, 83, 177]
abbrev dktJ39_siftDownUsingComparator_4 : List UInt8 := dkwJ39_siftDownUsingComparator_4 ++ []
def dkwJ39_siftDownUsingComparator_3 : List UInt8 := [185, 0, 149, 3, 0, 157, 0, 6, 167, 0, 14, 44, 26, 25, 7, 83, 21, 6, 59, 167, 255, 176, 44, 26]
abbrev dktJ39_siftDownUsingComparator_3 : List UInt8 := dkwJ39_siftDownUsingComparator_3 ++ dktJ39_siftDownUsingComparator_4
def dkwJ39_siftDownUsingComparator_2 : List UInt8 := [185, 0, 149, 3, 0, 158, 0, 12, 44, 21, 8, 89, 54, 6, 50, 58, 7, 25, 4, 43, 25, 7]
abbrev dktJ39_siftDownUsingComparator_2 : List UInt8 := dkwJ39_siftDownUsingComparator_2 ++ dktJ39_siftDownUsingComparator_3
def dkwJ39_siftDownUsingComparator_1 : List UInt8 := [21, 6, 4, 96, 54, 8, 21, 8, 29, 162, 0, 28, 25, 4, 25, 7, 44, 21, 8, 50]
abbrev dktJ39_siftDownUsingComparator_1 : List UInt8 := dkwJ39_siftDownUsingComparator_1 ++ dktJ39_siftDownUsingComparator_2
def dkwJ39_siftDownUsingComparator_0 : List UInt8 := [29, 4, 124, 54, 5, 26, 21, 5, 162, 0, 80, 26, 4, 120, 4, 96, 54, 6, 44, 21, 6, 50, 58, 7]
abbrev dktJ39_siftDownUsingComparator_0 : List UInt8 := dkwJ39_siftDownUsingComparator_0 ++ dktJ39_siftDownUsingComparator_1
theorem dksJ39_siftDownUsingComparator_0 : cJ39_siftDownUsingComparator.data.toList.drop 0 = dktJ39_siftDownUsingComparator_0 := by decide +kernel
theorem dksJ39_siftDownUsingComparator_1 : cJ39_siftDownUsingComparator.data.toList.drop 24 = dktJ39_siftDownUsingComparator_1 := dk_seg dksJ39_siftDownUsingComparator_0 24 rfl rfl
theorem dksJ39_siftDownUsingComparator_2 : cJ39_siftDownUsingComparator.data.toList.drop 44 = dktJ39_siftDownUsingComparator_2 := dk_seg dksJ39_siftDownUsingComparator_1 20 rfl rfl
theorem dksJ39_siftDownUsingComparator_3 : cJ39_siftDownUsingComparator.data.toList.drop 66 = dktJ39_siftDownUsingComparator_3 := dk_seg dksJ39_siftDownUsingComparator_2 22 rfl rfl
theorem dksJ39_siftDownUsingComparator_4 : cJ39_siftDownUsingComparator.data.toList.drop 90 = dktJ39_siftDownUsingComparator_4 := dk_seg dksJ39_siftDownUsingComparator_3 24 rfl rfl
theorem dJ39_siftDownUsingComparator_0 : decode cJ39_siftDownUsingComparator 0 = .ok (.iload_n 3, 1) := dk_29 (dk_at dksJ39_siftDownUsingComparator_0 0 rfl rfl)
theorem dJ39_siftDownUsingComparator_1 : decode cJ39_siftDownUsingComparator 1 = .ok (.iconst 1, 1) := dk_4 (dk_at dksJ39_siftDownUsingComparator_0 1 rfl rfl)
theorem dJ39_siftDownUsingComparator_2 : decode cJ39_siftDownUsingComparator 2 = .ok (.iushr, 1) := dk_124 (dk_at dksJ39_siftDownUsingComparator_0 2 rfl rfl)
theorem dJ39_siftDownUsingComparator_3 : decode cJ39_siftDownUsingComparator 3 = .ok (.istore 5, 2) := dk_54 5 (dk_at dksJ39_siftDownUsingComparator_0 3 rfl rfl)
theorem dJ39_siftDownUsingComparator_5 : decode cJ39_siftDownUsingComparator 5 = .ok (.iload_n 0, 1) := dk_26 (dk_at dksJ39_siftDownUsingComparator_0 5 rfl rfl)
theorem dJ39_siftDownUsingComparator_6 : decode cJ39_siftDownUsingComparator 6 = .ok (.iload 5, 2) := dk_21 5 (dk_at dksJ39_siftDownUsingComparator_0 6 rfl rfl)
theorem dJ39_siftDownUsingComparator_8 : decode cJ39_siftDownUsingComparator 8 = .ok (.if_icmp .ge 80, 3) := dk_162 0 80 (dk_at dksJ39_siftDownUsingComparator_0 8 rfl rfl)
theorem dJ39_siftDownUsingComparator_11 : decode cJ39_siftDownUsingComparator 11 = .ok (.iload_n 0, 1) := dk_26 (dk_at dksJ39_siftDownUsingComparator_0 11 rfl rfl)
theorem dJ39_siftDownUsingComparator_12 : decode cJ39_siftDownUsingComparator 12 = .ok (.iconst 1, 1) := dk_4 (dk_at dksJ39_siftDownUsingComparator_0 12 rfl rfl)
theorem dJ39_siftDownUsingComparator_13 : decode cJ39_siftDownUsingComparator 13 = .ok (.ishl, 1) := dk_120 (dk_at dksJ39_siftDownUsingComparator_0 13 rfl rfl)
theorem dJ39_siftDownUsingComparator_14 : decode cJ39_siftDownUsingComparator 14 = .ok (.iconst 1, 1) := dk_4 (dk_at dksJ39_siftDownUsingComparator_0 14 rfl rfl)
theorem dJ39_siftDownUsingComparator_15 : decode cJ39_siftDownUsingComparator 15 = .ok (.iadd, 1) := dk_96 (dk_at dksJ39_siftDownUsingComparator_0 15 rfl rfl)
theorem dJ39_siftDownUsingComparator_16 : decode cJ39_siftDownUsingComparator 16 = .ok (.istore 6, 2) := dk_54 6 (dk_at dksJ39_siftDownUsingComparator_0 16 rfl rfl)
theorem dJ39_siftDownUsingComparator_18 : decode cJ39_siftDownUsingComparator 18 = .ok (.aload_n 2, 1) := dk_44 (dk_at dksJ39_siftDownUsingComparator_0 18 rfl rfl)
theorem dJ39_siftDownUsingComparator_19 : decode cJ39_siftDownUsingComparator 19 = .ok (.iload 6, 2) := dk_21 6 (dk_at dksJ39_siftDownUsingComparator_0 19 rfl rfl)
theorem dJ39_siftDownUsingComparator_21 : decode cJ39_siftDownUsingComparator 21 = .ok (.aaload, 1) := dk_50 (dk_at dksJ39_siftDownUsingComparator_0 21 rfl rfl)
theorem dJ39_siftDownUsingComparator_22 : decode cJ39_siftDownUsingComparator 22 = .ok (.astore 7, 2) := dk_58 7 (dk_at dksJ39_siftDownUsingComparator_0 22 rfl rfl)
theorem dJ39_siftDownUsingComparator_24 : decode cJ39_siftDownUsingComparator 24 = .ok (.iload 6, 2) := dk_21 6 (dk_at dksJ39_siftDownUsingComparator_1 0 rfl rfl)
theorem dJ39_siftDownUsingComparator_26 : decode cJ39_siftDownUsingComparator 26 = .ok (.iconst 1, 1) := dk_4 (dk_at dksJ39_siftDownUsingComparator_1 2 rfl rfl)
theorem dJ39_siftDownUsingComparator_27 : decode cJ39_siftDownUsingComparator 27 = .ok (.iadd, 1) := dk_96 (dk_at dksJ39_siftDownUsingComparator_1 3 rfl rfl)
theorem dJ39_siftDownUsingComparator_28 : decode cJ39_siftDownUsingComparator 28 = .ok (.istore 8, 2) := dk_54 8 (dk_at dksJ39_siftDownUsingComparator_1 4 rfl rfl)
theorem dJ39_siftDownUsingComparator_30 : decode cJ39_siftDownUsingComparator 30 = .ok (.iload 8, 2) := dk_21 8 (dk_at dksJ39_siftDownUsingComparator_1 6 rfl rfl)
theorem dJ39_siftDownUsingComparator_32 : decode cJ39_siftDownUsingComparator 32 = .ok (.iload_n 3, 1) := dk_29 (dk_at dksJ39_siftDownUsingComparator_1 8 rfl rfl)
theorem dJ39_siftDownUsingComparator_33 : decode cJ39_siftDownUsingComparator 33 = .ok (.if_icmp .ge 28, 3) := dk_162 0 28 (dk_at dksJ39_siftDownUsingComparator_1 9 rfl rfl)
theorem dJ39_siftDownUsingComparator_36 : decode cJ39_siftDownUsingComparator 36 = .ok (.aload 4, 2) := dk_25 4 (dk_at dksJ39_siftDownUsingComparator_1 12 rfl rfl)
theorem dJ39_siftDownUsingComparator_38 : decode cJ39_siftDownUsingComparator 38 = .ok (.aload 7, 2) := dk_25 7 (dk_at dksJ39_siftDownUsingComparator_1 14 rfl rfl)
theorem dJ39_siftDownUsingComparator_40 : decode cJ39_siftDownUsingComparator 40 = .ok (.aload_n 2, 1) := dk_44 (dk_at dksJ39_siftDownUsingComparator_1 16 rfl rfl)
theorem dJ39_siftDownUsingComparator_41 : decode cJ39_siftDownUsingComparator 41 = .ok (.iload 8, 2) := dk_21 8 (dk_at dksJ39_siftDownUsingComparator_1 17 rfl rfl)
theorem dJ39_siftDownUsingComparator_43 : decode cJ39_siftDownUsingComparator 43 = .ok (.aaload, 1) := dk_50 (dk_at dksJ39_siftDownUsingComparator_1 19 rfl rfl)
theorem dJ39_siftDownUsingComparator_44 : decode cJ39_siftDownUsingComparator 44 = .ok (.invokeinterface 149 3, 5) := by decide +kernel
theorem dJ39_siftDownUsingComparator_49 : decode cJ39_siftDownUsingComparator 49 = .ok (.ifCond .le 12, 3) := dk_158 0 12 (dk_at dksJ39_siftDownUsingComparator_2 5 rfl rfl)
theorem dJ39_siftDownUsingComparator_52 : decode cJ39_siftDownUsingComparator 52 = .ok (.aload_n 2, 1) := dk_44 (dk_at dksJ39_siftDownUsingComparator_2 8 rfl rfl)
theorem dJ39_siftDownUsingComparator_53 : decode cJ39_siftDownUsingComparator 53 = .ok (.iload 8, 2) := dk_21 8 (dk_at dksJ39_siftDownUsingComparator_2 9 rfl rfl)
theorem dJ39_siftDownUsingComparator_55 : decode cJ39_siftDownUsingComparator 55 = .ok (.dup, 1) := dk_89 (dk_at dksJ39_siftDownUsingComparator_2 11 rfl rfl)
theorem dJ39_siftDownUsingComparator_56 : decode cJ39_siftDownUsingComparator 56 = .ok (.istore 6, 2) := dk_54 6 (dk_at dksJ39_siftDownUsingComparator_2 12 rfl rfl)
theorem dJ39_siftDownUsingComparator_58 : decode cJ39_siftDownUsingComparator 58 = .ok (.aaload, 1) := dk_50 (dk_at dksJ39_siftDownUsingComparator_2 14 rfl rfl)
theorem dJ39_siftDownUsingComparator_59 : decode cJ39_siftDownUsingComparator 59 = .ok (.astore 7, 2) := dk_58 7 (dk_at dksJ39_siftDownUsingComparator_2 15 rfl rfl)
theorem dJ39_siftDownUsingComparator_61 : decode cJ39_siftDownUsingComparator 61 = .ok (.aload 4, 2) := dk_25 4 (dk_at dksJ39_siftDownUsingComparator_2 17 rfl rfl)
theorem dJ39_siftDownUsingComparator_63 : decode cJ39_siftDownUsingComparator 63 = .ok (.aload_n 1, 1) := dk_43 (dk_at dksJ39_siftDownUsingComparator_2 19 rfl rfl)
theorem dJ39_siftDownUsingComparator_64 : decode cJ39_siftDownUsingComparator 64 = .ok (.aload 7, 2) := dk_25 7 (dk_at dksJ39_siftDownUsingComparator_2 20 rfl rfl)
theorem dJ39_siftDownUsingComparator_66 : decode cJ39_siftDownUsingComparator 66 = .ok (.invokeinterface 149 3, 5) := by decide +kernel
theorem dJ39_siftDownUsingComparator_71 : decode cJ39_siftDownUsingComparator 71 = .ok (.ifCond .gt 6, 3) := dk_157 0 6 (dk_at dksJ39_siftDownUsingComparator_3 5 rfl rfl)
theorem dJ39_siftDownUsingComparator_74 : decode cJ39_siftDownUsingComparator 74 = .ok (.goto 14, 3) := dk_167 0 14 (dk_at dksJ39_siftDownUsingComparator_3 8 rfl rfl)
theorem dJ39_siftDownUsingComparator_77 : decode cJ39_siftDownUsingComparator 77 = .ok (.aload_n 2, 1) := dk_44 (dk_at dksJ39_siftDownUsingComparator_3 11 rfl rfl)
theorem dJ39_siftDownUsingComparator_78 : decode cJ39_siftDownUsingComparator 78 = .ok (.iload_n 0, 1) := dk_26 (dk_at dksJ39_siftDownUsingComparator_3 12 rfl rfl)
theorem dJ39_siftDownUsingComparator_79 : decode cJ39_siftDownUsingComparator 79 = .ok (.aload 7, 2) := dk_25 7 (dk_at dksJ39_siftDownUsingComparator_3 13 rfl rfl)
theorem dJ39_siftDownUsingComparator_81 : decode cJ39_siftDownUsingComparator 81 = .ok (.aastore, 1) := dk_83 (dk_at dksJ39_siftDownUsingComparator_3 15 rfl rfl)
theorem dJ39_siftDownUsingComparator_82 : decode cJ39_siftDownUsingComparator 82 = .ok (.iload 6, 2) := dk_21 6 (dk_at dksJ39_siftDownUsingComparator_3 16 rfl rfl)
theorem dJ39_siftDownUsingComparator_84 : decode cJ39_siftDownUsingComparator 84 = .ok (.istore_n 0, 1) := dk_59 (dk_at dksJ39_siftDownUsingComparator_3 18 rfl rfl)
theorem dJ39_siftDownUsingComparator_85 : decode cJ39_siftDownUsingComparator 85 = .ok (.goto (-80), 3) := dk_167 255 176 (dk_at dksJ39_siftDownUsingComparator_3 19 rfl rfl)
theorem dJ39_siftDownUsingComparator_88 : decode cJ39_siftDownUsingComparator 88 = .ok (.aload_n 2, 1) := dk_44 (dk_at dksJ39_siftDownUsingComparator_3 22 rfl rfl)
theorem dJ39_siftDownUsingComparator_89 : decode cJ39_siftDownUsingComparator 89 = .ok (.iload_n 0, 1) := dk_26 (dk_at dksJ39_siftDownUsingComparator_3 23 rfl rfl)
theorem dJ39_siftDownUsingComparator_90 : decode cJ39_siftDownUsingComparator 90 = .ok (.aload_n 1, 1) := dk_43 (dk_at dksJ39_siftDownUsingComparator_4 0 rfl rfl)
theorem dJ39_siftDownUsingComparator_91 : decode cJ39_siftDownUsingComparator 91 = .ok (.aastore, 1) := dk_83 (dk_at dksJ39_siftDownUsingComparator_4 1 rfl rfl)
theorem dJ39_siftDownUsingComparator_92 : decode cJ39_siftDownUsingComparator 92 = .ok (.return_, 1) := dk_177 (dk_at dksJ39_siftDownUsingComparator_4 2 rfl rfl)
theorem q153 : (Jvm.Cond.initialized "java/util/PriorityQueue") ∈ lw_all := lw_g (lw_at lw_m1 60 rfl) rfl
theorem q1447 : (Jvm.Cond.selects "java/util/PriorityQueue" ({ cls := "java/lang/Object", name := "getClass", desc := "()Ljava/lang/Class;" } : Jvm.MethodName) ({ cls := "java/lang/Object", name := "getClass", desc := "()Ljava/lang/Class;" } : Jvm.MethodName)) ∈ lw_all := lw_g (lw_at lw_m6 154 rfl) rfl
theorem q1806 : (Jvm.Cond.castable "java/util/PriorityQueue" "java/util/Collection") ∈ lw_tbl := lw_at lw_m8 33 rfl
theorem q1807 : (Jvm.Cond.selects "java/util/PriorityQueue" ({ cls := "java/util/Collection", name := "iterator", desc := "()Ljava/util/Iterator;" } : Jvm.MethodName) ({ cls := "java/util/PriorityQueue", name := "iterator", desc := "()Ljava/util/Iterator;" } : Jvm.MethodName)) ∈ lw_all := lw_g (lw_at lw_m8 34 rfl) rfl
theorem q1808 : (Jvm.Cond.unhidden "java/util/PriorityQueue" "iterator" "()Ljava/util/Iterator;") ∈ lw_tbl := lw_at lw_m8 35 rfl
theorem q1809 : (Jvm.Cond.instanceMethod ({ cls := "java/util/PriorityQueue", name := "iterator", desc := "()Ljava/util/Iterator;" } : Jvm.MethodName)) ∈ lw_all := lw_g (lw_at lw_m8 36 rfl) rfl
theorem q1810 : (Jvm.Cond.publicMethod ({ cls := "java/util/PriorityQueue", name := "iterator", desc := "()Ljava/util/Iterator;" } : Jvm.MethodName)) ∈ lw_tbl := lw_at lw_m8 37 rfl
theorem q1811 : (Jvm.Cond.code ({ cls := "java/util/PriorityQueue", name := "iterator", desc := "()Ljava/util/Iterator;" } : Jvm.MethodName) prog_59_method_22_code (1 : Nat) (Option.some (Jvm.ClassFile.FieldType.object "java/util/Iterator"))) ∈ lw_all := lw_g (lw_at lw_m8 38 rfl) rfl
theorem q1812 : (Jvm.Cond.classLink "java/util/PriorityQueue" (121 : Nat) "java/util/PriorityQueue$Itr") ∈ lw_all := lw_g (lw_at lw_m8 39 rfl) rfl
theorem q1814 : (Jvm.Cond.methodLink "java/util/PriorityQueue" (123 : Nat) ({ cls := "java/util/PriorityQueue$Itr", name := "<init>", desc := "(Ljava/util/PriorityQueue;)V" } : Jvm.MethodName)) ∈ lw_all := lw_g (lw_at lw_m8 41 rfl) rfl
theorem q2020 : (Jvm.Cond.selects "java/util/PriorityQueue" ({ cls := "java/util/Collection", name := "toArray", desc := "()[Ljava/lang/Object;" } : Jvm.MethodName) ({ cls := "java/util/PriorityQueue", name := "toArray", desc := "()[Ljava/lang/Object;" } : Jvm.MethodName)) ∈ lw_all := lw_g (lw_at lw_m9 7 rfl) rfl
theorem q2021 : (Jvm.Cond.unhidden "java/util/PriorityQueue" "toArray" "()[Ljava/lang/Object;") ∈ lw_tbl := lw_at lw_m9 8 rfl
theorem q2022 : (Jvm.Cond.instanceMethod ({ cls := "java/util/PriorityQueue", name := "toArray", desc := "()[Ljava/lang/Object;" } : Jvm.MethodName)) ∈ lw_all := lw_g (lw_at lw_m9 9 rfl) rfl
theorem q2023 : (Jvm.Cond.publicMethod ({ cls := "java/util/PriorityQueue", name := "toArray", desc := "()[Ljava/lang/Object;" } : Jvm.MethodName)) ∈ lw_tbl := lw_at lw_m9 10 rfl
theorem q2024 : (Jvm.Cond.code ({ cls := "java/util/PriorityQueue", name := "toArray", desc := "()[Ljava/lang/Object;" } : Jvm.MethodName) prog_59_method_20_code (1 : Nat) (Option.some (Jvm.ClassFile.FieldType.array (Jvm.ClassFile.FieldType.object "java/lang/Object")))) ∈ lw_all := lw_g (lw_at lw_m9 11 rfl) rfl
theorem q2025 : (Jvm.Cond.methodLink "java/util/PriorityQueue" (86 : Nat) ({ cls := "java/util/Arrays", name := "copyOf", desc := "([Ljava/lang/Object;I)[Ljava/lang/Object;" } : Jvm.MethodName)) ∈ lw_all := lw_g (lw_at lw_m9 12 rfl) rfl
theorem q2035 : (Jvm.Cond.selects "java/util/PriorityQueue" ({ cls := "java/util/AbstractCollection", name := "size", desc := "()I" } : Jvm.MethodName) ({ cls := "java/util/PriorityQueue", name := "size", desc := "()I" } : Jvm.MethodName)) ∈ lw_all := lw_g (lw_at lw_m9 22 rfl) rfl
theorem q2036 : (Jvm.Cond.instanceMethod ({ cls := "java/util/PriorityQueue", name := "size", desc := "()I" } : Jvm.MethodName)) ∈ lw_all := lw_g (lw_at lw_m9 23 rfl) rfl
theorem q2037 : (Jvm.Cond.code ({ cls := "java/util/PriorityQueue", name := "size", desc := "()I" } : Jvm.MethodName) prog_59_method_23_code (1 : Nat) (Option.some Jvm.ClassFile.FieldType.int)) ∈ lw_all := lw_g (lw_at lw_m9 24 rfl) rfl
theorem q2254 : (Jvm.Cond.instantiable "java/util/PriorityQueue" (4 : Nat)) ∈ lw_all := lw_g (lw_at lw_m10 1 rfl) rfl
theorem q2256 : (Jvm.Cond.instanceMethod ({ cls := "java/util/PriorityQueue", name := "<init>", desc := "()V" } : Jvm.MethodName)) ∈ lw_all := lw_g (lw_at lw_m10 3 rfl) rfl
theorem q2257 : (Jvm.Cond.code ({ cls := "java/util/PriorityQueue", name := "<init>", desc := "()V" } : Jvm.MethodName) prog_59_method_1_code (1 : Nat) (Option.none : Option Jvm.ClassFile.FieldType)) ∈ lw_all := lw_g (lw_at lw_m10 4 rfl) rfl
theorem q2258 : (Jvm.Cond.methodLink "java/util/PriorityQueue" (3 : Nat) ({ cls := "java/util/PriorityQueue", name := "<init>", desc := "(ILjava/util/Comparator;)V" } : Jvm.MethodName)) ∈ lw_all := lw_g (lw_at lw_m10 5 rfl) rfl
theorem q2259 : (Jvm.Cond.instanceMethod ({ cls := "java/util/PriorityQueue", name := "<init>", desc := "(ILjava/util/Comparator;)V" } : Jvm.MethodName)) ∈ lw_all := lw_g (lw_at lw_m10 6 rfl) rfl
theorem q2260 : (Jvm.Cond.code ({ cls := "java/util/PriorityQueue", name := "<init>", desc := "(ILjava/util/Comparator;)V" } : Jvm.MethodName) prog_59_method_4_code (3 : Nat) (Option.none : Option Jvm.ClassFile.FieldType)) ∈ lw_all := lw_g (lw_at lw_m10 7 rfl) rfl
theorem q2261 : (Jvm.Cond.methodLink "java/util/PriorityQueue" (7 : Nat) ({ cls := "java/util/AbstractQueue", name := "<init>", desc := "()V" } : Jvm.MethodName)) ∈ lw_all := lw_g (lw_at lw_m10 8 rfl) rfl
theorem q2265 : (Jvm.Cond.classLink "java/util/PriorityQueue" (15 : Nat) "java/lang/Object") ∈ lw_all := lw_g (lw_at lw_m10 12 rfl) rfl
theorem q2267 : (Jvm.Cond.fieldLink "java/util/PriorityQueue" (17 : Nat) "java/util/PriorityQueue" "queue" "[Ljava/lang/Object;") ∈ lw_all := lw_g (lw_at lw_m10 14 rfl) rfl
theorem q2269 : (Jvm.Cond.fieldLink "java/util/PriorityQueue" (58 : Nat) "java/util/PriorityQueue" "size" "I") ∈ lw_all := lw_g (lw_at lw_m10 16 rfl) rfl
theorem q2270 : (Jvm.Cond.fieldLink "java/util/PriorityQueue" (21 : Nat) "java/util/PriorityQueue" "comparator" "Ljava/util/Comparator;") ∈ lw_all := lw_g (lw_at lw_m10 17 rfl) rfl
theorem q2272 : (Jvm.Cond.fieldLink "java/util/PriorityQueue" (93 : Nat) "java/util/PriorityQueue" "modCount" "I") ∈ lw_all := lw_g (lw_at lw_m10 19 rfl) rfl
theorem q2273 : (Jvm.Cond.lays "java/util/PriorityQueue" "java/util/PriorityQueue" "queue" "[Ljava/lang/Object;") ∈ lw_all := lw_g (lw_at lw_m10 20 rfl) rfl
theorem q2274 : (Jvm.Cond.soleField "java/util/PriorityQueue" "queue") ∈ lw_all := lw_g (lw_at lw_m10 21 rfl) rfl
theorem q2275 : (Jvm.Cond.lays "java/util/PriorityQueue" "java/util/PriorityQueue" "size" "I") ∈ lw_all := lw_g (lw_at lw_m10 22 rfl) rfl
theorem q2276 : (Jvm.Cond.soleField "java/util/PriorityQueue" "size") ∈ lw_all := lw_g (lw_at lw_m10 23 rfl) rfl
theorem q2277 : (Jvm.Cond.laysFinal "java/util/PriorityQueue" "java/util/PriorityQueue" "comparator" "Ljava/util/Comparator;") ∈ lw_all := lw_g (lw_at lw_m10 24 rfl) rfl
theorem q2278 : (Jvm.Cond.soleField "java/util/PriorityQueue" "comparator") ∈ lw_all := lw_g (lw_at lw_m10 25 rfl) rfl
theorem q2279 : (Jvm.Cond.lays "java/util/PriorityQueue" "java/util/PriorityQueue" "modCount" "I") ∈ lw_all := lw_g (lw_at lw_m10 26 rfl) rfl
theorem q2280 : (Jvm.Cond.soleField "java/util/PriorityQueue" "modCount") ∈ lw_all := lw_g (lw_at lw_m10 27 rfl) rfl
theorem q2281 : (Jvm.Cond.superclass "java/util/PriorityQueue" "java/util/AbstractQueue") ∈ lw_all := lw_g (lw_at lw_m10 28 rfl) rfl
theorem q2313 : (Jvm.Cond.instanceMethod ({ cls := "java/util/PriorityQueue", name := "add", desc := "(Ljava/lang/Object;)Z" } : Jvm.MethodName)) ∈ lw_all := lw_g (lw_at lw_m10 60 rfl) rfl
theorem q2314 : (Jvm.Cond.selects "java/util/PriorityQueue" ({ cls := "java/util/PriorityQueue", name := "add", desc := "(Ljava/lang/Object;)Z" } : Jvm.MethodName) ({ cls := "java/util/PriorityQueue", name := "add", desc := "(Ljava/lang/Object;)Z" } : Jvm.MethodName)) ∈ lw_all := lw_g (lw_at lw_m10 61 rfl) rfl
theorem q2315 : (Jvm.Cond.code ({ cls := "java/util/PriorityQueue", name := "add", desc := "(Ljava/lang/Object;)Z" } : Jvm.MethodName) prog_59_method_13_code (2 : Nat) (Option.some Jvm.ClassFile.FieldType.boolean)) ∈ lw_all := lw_g (lw_at lw_m10 62 rfl) rfl
theorem q2316 : (Jvm.Cond.methodLink "java/util/PriorityQueue" (89 : Nat) ({ cls := "java/util/PriorityQueue", name := "offer", desc := "(Ljava/lang/Object;)Z" } : Jvm.MethodName)) ∈ lw_all := lw_g (lw_at lw_m10 63 rfl) rfl
theorem q2317 : (Jvm.Cond.instanceMethod ({ cls := "java/util/PriorityQueue", name := "offer", desc := "(Ljava/lang/Object;)Z" } : Jvm.MethodName)) ∈ lw_all := lw_g (lw_at lw_m10 64 rfl) rfl
theorem q2318 : (Jvm.Cond.selects "java/util/PriorityQueue" ({ cls := "java/util/PriorityQueue", name := "offer", desc := "(Ljava/lang/Object;)Z" } : Jvm.MethodName) ({ cls := "java/util/PriorityQueue", name := "offer", desc := "(Ljava/lang/Object;)Z" } : Jvm.MethodName)) ∈ lw_all := lw_g (lw_at lw_m10 65 rfl) rfl
theorem q2319 : (Jvm.Cond.code ({ cls := "java/util/PriorityQueue", name := "offer", desc := "(Ljava/lang/Object;)Z" } : Jvm.MethodName) prog_59_method_14_code (3 : Nat) (Option.some Jvm.ClassFile.FieldType.boolean)) ∈ lw_all := lw_g (lw_at lw_m10 66 rfl) rfl
theorem q2320 : (Jvm.Cond.methodLink "java/util/PriorityQueue" (96 : Nat) ({ cls := "java/util/PriorityQueue", name := "grow", desc := "(I)V" } : Jvm.MethodName)) ∈ lw_all := lw_g (lw_at lw_m10 67 rfl) rfl
theorem q2321 : (Jvm.Cond.privateMethod ({ cls := "java/util/PriorityQueue", name := "grow", desc := "(I)V" } : Jvm.MethodName)) ∈ lw_tbl := lw_at lw_m10 68 rfl
theorem q2322 : (Jvm.Cond.instanceMethod ({ cls := "java/util/PriorityQueue", name := "grow", desc := "(I)V" } : Jvm.MethodName)) ∈ lw_all := lw_g (lw_at lw_m10 69 rfl) rfl
theorem q2323 : (Jvm.Cond.code ({ cls := "java/util/PriorityQueue", name := "grow", desc := "(I)V" } : Jvm.MethodName) prog_59_method_12_code (4 : Nat) (Option.none : Option Jvm.ClassFile.FieldType)) ∈ lw_all := lw_g (lw_at lw_m10 70 rfl) rfl
theorem q2324 : (Jvm.Cond.methodLink "java/util/PriorityQueue" (80 : Nat) ({ cls := "jdk/internal/util/ArraysSupport", name := "newLength", desc := "(III)I" } : Jvm.MethodName)) ∈ lw_all := lw_g (lw_at lw_m10 71 rfl) rfl
theorem q2325 : (Jvm.Cond.methodLink "java/util/PriorityQueue" (100 : Nat) ({ cls := "java/util/PriorityQueue", name := "siftUp", desc := "(ILjava/lang/Object;)V" } : Jvm.MethodName)) ∈ lw_all := lw_g (lw_at lw_m10 72 rfl) rfl
theorem q2326 : (Jvm.Cond.privateMethod ({ cls := "java/util/PriorityQueue", name := "siftUp", desc := "(ILjava/lang/Object;)V" } : Jvm.MethodName)) ∈ lw_tbl := lw_at lw_m10 73 rfl
theorem q2327 : (Jvm.Cond.instanceMethod ({ cls := "java/util/PriorityQueue", name := "siftUp", desc := "(ILjava/lang/Object;)V" } : Jvm.MethodName)) ∈ lw_all := lw_g (lw_at lw_m10 74 rfl) rfl
theorem q2328 : (Jvm.Cond.code ({ cls := "java/util/PriorityQueue", name := "siftUp", desc := "(ILjava/lang/Object;)V" } : Jvm.MethodName) prog_59_method_27_code (3 : Nat) (Option.none : Option Jvm.ClassFile.FieldType)) ∈ lw_all := lw_g (lw_at lw_m10 75 rfl) rfl
theorem q2329 : (Jvm.Cond.methodLink "java/util/PriorityQueue" (136 : Nat) ({ cls := "java/util/PriorityQueue", name := "siftUpUsingComparator", desc := "(ILjava/lang/Object;[Ljava/lang/Object;Ljava/util/Comparator;)V" } : Jvm.MethodName)) ∈ lw_all := lw_g (lw_at lw_m10 76 rfl) rfl
theorem q2330 : (Jvm.Cond.static ({ cls := "java/util/PriorityQueue", name := "siftUpUsingComparator", desc := "(ILjava/lang/Object;[Ljava/lang/Object;Ljava/util/Comparator;)V" } : Jvm.MethodName)) ∈ lw_all := lw_g (lw_at lw_m10 77 rfl) rfl
theorem q2331 : (Jvm.Cond.code ({ cls := "java/util/PriorityQueue", name := "siftUpUsingComparator", desc := "(ILjava/lang/Object;[Ljava/lang/Object;Ljava/util/Comparator;)V" } : Jvm.MethodName) prog_59_method_29_code (6 : Nat) (Option.none : Option Jvm.ClassFile.FieldType)) ∈ lw_all := lw_g (lw_at lw_m10 78 rfl) rfl
theorem q2332 : (Jvm.Cond.interfaceEntry "java/util/PriorityQueue" (149 : Nat)) ∈ lw_tbl := lw_at lw_m10 79 rfl
theorem q2333 : (Jvm.Cond.methodLink "java/util/PriorityQueue" (149 : Nat) ({ cls := "java/util/Comparator", name := "compare", desc := "(Ljava/lang/Object;Ljava/lang/Object;)I" } : Jvm.MethodName)) ∈ lw_all := lw_g (lw_at lw_m10 80 rfl) rfl
theorem q2334 : (Jvm.Cond.methodLink "java/util/PriorityQueue" (140 : Nat) ({ cls := "java/util/PriorityQueue", name := "siftUpComparable", desc := "(ILjava/lang/Object;[Ljava/lang/Object;)V" } : Jvm.MethodName)) ∈ lw_all := lw_g (lw_at lw_m10 81 rfl) rfl
theorem q2335 : (Jvm.Cond.static ({ cls := "java/util/PriorityQueue", name := "siftUpComparable", desc := "(ILjava/lang/Object;[Ljava/lang/Object;)V" } : Jvm.MethodName)) ∈ lw_all := lw_g (lw_at lw_m10 82 rfl) rfl
theorem q2336 : (Jvm.Cond.code ({ cls := "java/util/PriorityQueue", name := "siftUpComparable", desc := "(ILjava/lang/Object;[Ljava/lang/Object;)V" } : Jvm.MethodName) prog_59_method_28_code (6 : Nat) (Option.none : Option Jvm.ClassFile.FieldType)) ∈ lw_all := lw_g (lw_at lw_m10 83 rfl) rfl
theorem q2337 : (Jvm.Cond.classLink "java/util/PriorityQueue" (144 : Nat) "java/lang/Comparable") ∈ lw_all := lw_g (lw_at lw_m10 84 rfl) rfl
theorem q2338 : (Jvm.Cond.interfaceEntry "java/util/PriorityQueue" (146 : Nat)) ∈ lw_tbl := lw_at lw_m10 85 rfl
theorem q2339 : (Jvm.Cond.methodLink "java/util/PriorityQueue" (146 : Nat) ({ cls := "java/lang/Comparable", name := "compareTo", desc := "(Ljava/lang/Object;)I" } : Jvm.MethodName)) ∈ lw_all := lw_g (lw_at lw_m10 86 rfl) rfl
theorem q2341 : (Jvm.Cond.sameMethod "java/util/PriorityQueue" "java/util/AbstractCollection" "isEmpty" "()Z") ∈ lw_all := lw_g (lw_at lw_m10 88 rfl) rfl
theorem q2343 : (Jvm.Cond.selects "java/util/PriorityQueue" ({ cls := "java/util/PriorityQueue", name := "isEmpty", desc := "()Z" } : Jvm.MethodName) ({ cls := "java/util/AbstractCollection", name := "isEmpty", desc := "()Z" } : Jvm.MethodName)) ∈ lw_all := lw_g (lw_at lw_m10 90 rfl) rfl
theorem q2347 : (Jvm.Cond.instanceMethod ({ cls := "java/util/PriorityQueue", name := "poll", desc := "()Ljava/lang/Object;" } : Jvm.MethodName)) ∈ lw_all := lw_g (lw_at lw_m10 94 rfl) rfl
theorem q2348 : (Jvm.Cond.selects "java/util/PriorityQueue" ({ cls := "java/util/PriorityQueue", name := "poll", desc := "()Ljava/lang/Object;" } : Jvm.MethodName) ({ cls := "java/util/PriorityQueue", name := "poll", desc := "()Ljava/lang/Object;" } : Jvm.MethodName)) ∈ lw_all := lw_g (lw_at lw_m10 95 rfl) rfl
theorem q2349 : (Jvm.Cond.code ({ cls := "java/util/PriorityQueue", name := "poll", desc := "()Ljava/lang/Object;" } : Jvm.MethodName) prog_59_method_25_code (6 : Nat) (Option.some (Jvm.ClassFile.FieldType.object "java/lang/Object"))) ∈ lw_all := lw_g (lw_at lw_m10 96 rfl) rfl
theorem q2350 : (Jvm.Cond.methodLink "java/util/PriorityQueue" (125 : Nat) ({ cls := "java/util/PriorityQueue", name := "siftDownComparable", desc := "(ILjava/lang/Object;[Ljava/lang/Object;I)V" } : Jvm.MethodName)) ∈ lw_all := lw_g (lw_at lw_m10 97 rfl) rfl
theorem q2351 : (Jvm.Cond.static ({ cls := "java/util/PriorityQueue", name := "siftDownComparable", desc := "(ILjava/lang/Object;[Ljava/lang/Object;I)V" } : Jvm.MethodName)) ∈ lw_all := lw_g (lw_at lw_m10 98 rfl) rfl
theorem q2352 : (Jvm.Cond.code ({ cls := "java/util/PriorityQueue", name := "siftDownComparable", desc := "(ILjava/lang/Object;[Ljava/lang/Object;I)V" } : Jvm.MethodName) prog_59_method_31_code (9 : Nat) (Option.none : Option Jvm.ClassFile.FieldType)) ∈ lw_all := lw_g (lw_at lw_m10 99 rfl) rfl
theorem q2353 : (Jvm.Cond.methodLink "java/util/PriorityQueue" (129 : Nat) ({ cls := "java/util/PriorityQueue", name := "siftDownUsingComparator", desc := "(ILjava/lang/Object;[Ljava/lang/Object;ILjava/util/Comparator;)V" } : Jvm.MethodName)) ∈ lw_all := lw_g (lw_at lw_m10 100 rfl) rfl
theorem q2354 : (Jvm.Cond.static ({ cls := "java/util/PriorityQueue", name := "siftDownUsingComparator", desc := "(ILjava/lang/Object;[Ljava/lang/Object;ILjava/util/Comparator;)V" } : Jvm.MethodName)) ∈ lw_all := lw_g (lw_at lw_m10 101 rfl) rfl
theorem q2355 : (Jvm.Cond.code ({ cls := "java/util/PriorityQueue", name := "siftDownUsingComparator", desc := "(ILjava/lang/Object;[Ljava/lang/Object;ILjava/util/Comparator;)V" } : Jvm.MethodName) prog_59_method_32_code (9 : Nat) (Option.none : Option Jvm.ClassFile.FieldType)) ∈ lw_all := lw_g (lw_at lw_m10 102 rfl) rfl
theorem q2487 : (Jvm.Cond.unhidden "java/util/PriorityQueue" "getClass" "()Ljava/lang/Class;") ∈ lw_tbl := lw_at lw_m10 234 rfl
theorem q3096 : (Jvm.Cond.selects "java/util/PriorityQueue" ({ cls := "java/util/AbstractCollection", name := "iterator", desc := "()Ljava/util/Iterator;" } : Jvm.MethodName) ({ cls := "java/util/PriorityQueue", name := "iterator", desc := "()Ljava/util/Iterator;" } : Jvm.MethodName)) ∈ lw_all := lw_g (lw_at lw_m13 123 rfl) rfl
theorem q3134 : (Jvm.Cond.castable "java/util/PriorityQueue" "java/lang/Object") ∈ lw_tbl := lw_at lw_m13 161 rfl
theorem in_J39 : ∀ w ∈ wsJ390, w ∈ lw_all := lw_in wsJ390 [2273, 2275, 2277, 2279] (by decide +kernel) (by decide +kernel)

/-! java/util/TreeMap$NavigableSubMap -/
set_option maxRecDepth 100000
def RJ40 : String := "java/util/TreeMap$NavigableSubMap"
abbrev cJ40_put : ByteArray := prog_76_method_27_code
def yJ40_put : MethodName := ⟨RJ40, "put", "(Ljava/lang/Object;Ljava/lang/Object;)Ljava/lang/Object;"⟩
def dkwJ40_put_1 : List UInt8 := [182, 0, 111, 176]
abbrev dktJ40_put_1 : List UInt8 := dkwJ40_put_1 ++ []
def dkwJ40_put_0 : List UInt8 := [42, 43, 182, 0, 53, 154, 0, 13, 187, 0, 13, 89, 18, 109, 183, 0, 17, 191, 42, 180, 0, 20, 43, 44]
abbrev dktJ40_put_0 : List UInt8 := dkwJ40_put_0 ++ dktJ40_put_1
theorem dksJ40_put_0 : cJ40_put.data.toList.drop 0 = dktJ40_put_0 := by decide +kernel
theorem dksJ40_put_1 : cJ40_put.data.toList.drop 24 = dktJ40_put_1 := dk_seg dksJ40_put_0 24 rfl rfl
theorem dJ40_put_0 : decode cJ40_put 0 = .ok (.aload_n 0, 1) := dk_42 (dk_at dksJ40_put_0 0 rfl rfl)
theorem dJ40_put_1 : decode cJ40_put 1 = .ok (.aload_n 1, 1) := dk_43 (dk_at dksJ40_put_0 1 rfl rfl)
theorem dJ40_put_2 : decode cJ40_put 2 = .ok (.invokevirtual 53, 3) := dk_182 0 53 (dk_at dksJ40_put_0 2 rfl rfl)
theorem dJ40_put_5 : decode cJ40_put 5 = .ok (.ifCond .ne 13, 3) := dk_154 0 13 (dk_at dksJ40_put_0 5 rfl rfl)
theorem dJ40_put_8 : decode cJ40_put 8 = .ok (.new 13, 3) := dk_187 0 13 (dk_at dksJ40_put_0 8 rfl rfl)
theorem dJ40_put_11 : decode cJ40_put 11 = .ok (.dup, 1) := dk_89 (dk_at dksJ40_put_0 11 rfl rfl)
theorem dJ40_put_12 : decode cJ40_put 12 = .ok (.ldc 109, 2) := dk_18 109 (dk_at dksJ40_put_0 12 rfl rfl)
theorem dJ40_put_14 : decode cJ40_put 14 = .ok (.invokespecial 17, 3) := dk_183 0 17 (dk_at dksJ40_put_0 14 rfl rfl)
theorem dJ40_put_17 : decode cJ40_put 17 = .ok (.athrow, 1) := dk_191 (dk_at dksJ40_put_0 17 rfl rfl)
theorem dJ40_put_18 : decode cJ40_put 18 = .ok (.aload_n 0, 1) := dk_42 (dk_at dksJ40_put_0 18 rfl rfl)
theorem dJ40_put_19 : decode cJ40_put 19 = .ok (.getfield 20, 3) := dk_180 0 20 (dk_at dksJ40_put_0 19 rfl rfl)
theorem dJ40_put_22 : decode cJ40_put 22 = .ok (.aload_n 1, 1) := dk_43 (dk_at dksJ40_put_0 22 rfl rfl)
theorem dJ40_put_23 : decode cJ40_put 23 = .ok (.aload_n 2, 1) := dk_44 (dk_at dksJ40_put_0 23 rfl rfl)
theorem dJ40_put_24 : decode cJ40_put 24 = .ok (.invokevirtual 111, 3) := dk_182 0 111 (dk_at dksJ40_put_1 0 rfl rfl)
theorem dJ40_put_27 : decode cJ40_put 27 = .ok (.areturn, 1) := dk_176 (dk_at dksJ40_put_1 3 rfl rfl)
abbrev cJ40_inRange : ByteArray := prog_76_method_4_code
def yJ40_inRange : MethodName := ⟨RJ40, "inRange", "(Ljava/lang/Object;)Z"⟩
def dkwJ40_inRange_0 : List UInt8 := [42, 43, 182, 0, 46, 154, 0, 15, 42, 43, 182, 0, 50, 154, 0, 7, 4, 167, 0, 4, 3, 172]
abbrev dktJ40_inRange_0 : List UInt8 := dkwJ40_inRange_0 ++ []
theorem dksJ40_inRange_0 : cJ40_inRange.data.toList.drop 0 = dktJ40_inRange_0 := by decide +kernel
theorem dJ40_inRange_0 : decode cJ40_inRange 0 = .ok (.aload_n 0, 1) := dk_42 (dk_at dksJ40_inRange_0 0 rfl rfl)
theorem dJ40_inRange_1 : decode cJ40_inRange 1 = .ok (.aload_n 1, 1) := dk_43 (dk_at dksJ40_inRange_0 1 rfl rfl)
theorem dJ40_inRange_2 : decode cJ40_inRange 2 = .ok (.invokevirtual 46, 3) := dk_182 0 46 (dk_at dksJ40_inRange_0 2 rfl rfl)
theorem dJ40_inRange_5 : decode cJ40_inRange 5 = .ok (.ifCond .ne 15, 3) := dk_154 0 15 (dk_at dksJ40_inRange_0 5 rfl rfl)
theorem dJ40_inRange_8 : decode cJ40_inRange 8 = .ok (.aload_n 0, 1) := dk_42 (dk_at dksJ40_inRange_0 8 rfl rfl)
theorem dJ40_inRange_9 : decode cJ40_inRange 9 = .ok (.aload_n 1, 1) := dk_43 (dk_at dksJ40_inRange_0 9 rfl rfl)
theorem dJ40_inRange_10 : decode cJ40_inRange 10 = .ok (.invokevirtual 50, 3) := dk_182 0 50 (dk_at dksJ40_inRange_0 10 rfl rfl)
theorem dJ40_inRange_13 : decode cJ40_inRange 13 = .ok (.ifCond .ne 7, 3) := dk_154 0 7 (dk_at dksJ40_inRange_0 13 rfl rfl)
theorem dJ40_inRange_16 : decode cJ40_inRange 16 = .ok (.iconst 1, 1) := dk_4 (dk_at dksJ40_inRange_0 16 rfl rfl)
theorem dJ40_inRange_17 : decode cJ40_inRange 17 = .ok (.goto 4, 3) := dk_167 0 4 (dk_at dksJ40_inRange_0 17 rfl rfl)
theorem dJ40_inRange_20 : decode cJ40_inRange 20 = .ok (.iconst 0, 1) := dk_3 (dk_at dksJ40_inRange_0 20 rfl rfl)
theorem dJ40_inRange_21 : decode cJ40_inRange 21 = .ok (.ireturn, 1) := dk_172 (dk_at dksJ40_inRange_0 21 rfl rfl)
abbrev cJ40_tooLow : ByteArray := prog_76_method_2_code
def yJ40_tooLow : MethodName := ⟨RJ40, "tooLow", "(Ljava/lang/Object;)Z"⟩
def dkwJ40_tooLow_1 : List UInt8 := [28, 154, 0, 12, 42, 180, 0, 34, 154, 0, 5, 4, 172, 3, 172]
abbrev dktJ40_tooLow_1 : List UInt8 := dkwJ40_tooLow_1 ++ []
def dkwJ40_tooLow_0 : List UInt8 := [42, 180, 0, 26, 154, 0, 33, 42, 180, 0, 20, 43, 42, 180, 0, 30, 182, 0, 7, 61, 28, 155, 0, 14]
abbrev dktJ40_tooLow_0 : List UInt8 := dkwJ40_tooLow_0 ++ dktJ40_tooLow_1
theorem dksJ40_tooLow_0 : cJ40_tooLow.data.toList.drop 0 = dktJ40_tooLow_0 := by decide +kernel
theorem dksJ40_tooLow_1 : cJ40_tooLow.data.toList.drop 24 = dktJ40_tooLow_1 := dk_seg dksJ40_tooLow_0 24 rfl rfl
theorem dJ40_tooLow_0 : decode cJ40_tooLow 0 = .ok (.aload_n 0, 1) := dk_42 (dk_at dksJ40_tooLow_0 0 rfl rfl)
theorem dJ40_tooLow_1 : decode cJ40_tooLow 1 = .ok (.getfield 26, 3) := dk_180 0 26 (dk_at dksJ40_tooLow_0 1 rfl rfl)
theorem dJ40_tooLow_4 : decode cJ40_tooLow 4 = .ok (.ifCond .ne 33, 3) := dk_154 0 33 (dk_at dksJ40_tooLow_0 4 rfl rfl)
theorem dJ40_tooLow_7 : decode cJ40_tooLow 7 = .ok (.aload_n 0, 1) := dk_42 (dk_at dksJ40_tooLow_0 7 rfl rfl)
theorem dJ40_tooLow_8 : decode cJ40_tooLow 8 = .ok (.getfield 20, 3) := dk_180 0 20 (dk_at dksJ40_tooLow_0 8 rfl rfl)
theorem dJ40_tooLow_11 : decode cJ40_tooLow 11 = .ok (.aload_n 1, 1) := dk_43 (dk_at dksJ40_tooLow_0 11 rfl rfl)
theorem dJ40_tooLow_12 : decode cJ40_tooLow 12 = .ok (.aload_n 0, 1) := dk_42 (dk_at dksJ40_tooLow_0 12 rfl rfl)
theorem dJ40_tooLow_13 : decode cJ40_tooLow 13 = .ok (.getfield 30, 3) := dk_180 0 30 (dk_at dksJ40_tooLow_0 13 rfl rfl)
theorem dJ40_tooLow_16 : decode cJ40_tooLow 16 = .ok (.invokevirtual 7, 3) := dk_182 0 7 (dk_at dksJ40_tooLow_0 16 rfl rfl)
theorem dJ40_tooLow_19 : decode cJ40_tooLow 19 = .ok (.istore_n 2, 1) := dk_61 (dk_at dksJ40_tooLow_0 19 rfl rfl)
theorem dJ40_tooLow_20 : decode cJ40_tooLow 20 = .ok (.iload_n 2, 1) := dk_28 (dk_at dksJ40_tooLow_0 20 rfl rfl)
theorem dJ40_tooLow_21 : decode cJ40_tooLow 21 = .ok (.ifCond .lt 14, 3) := dk_155 0 14 (dk_at dksJ40_tooLow_0 21 rfl rfl)
theorem dJ40_tooLow_24 : decode cJ40_tooLow 24 = .ok (.iload_n 2, 1) := dk_28 (dk_at dksJ40_tooLow_1 0 rfl rfl)
theorem dJ40_tooLow_25 : decode cJ40_tooLow 25 = .ok (.ifCond .ne 12, 3) := dk_154 0 12 (dk_at dksJ40_tooLow_1 1 rfl rfl)
theorem dJ40_tooLow_28 : decode cJ40_tooLow 28 = .ok (.aload_n 0, 1) := dk_42 (dk_at dksJ40_tooLow_1 4 rfl rfl)
theorem dJ40_tooLow_29 : decode cJ40_tooLow 29 = .ok (.getfield 34, 3) := dk_180 0 34 (dk_at dksJ40_tooLow_1 5 rfl rfl)
theorem dJ40_tooLow_32 : decode cJ40_tooLow 32 = .ok (.ifCond .ne 5, 3) := dk_154 0 5 (dk_at dksJ40_tooLow_1 8 rfl rfl)
theorem dJ40_tooLow_35 : decode cJ40_tooLow 35 = .ok (.iconst 1, 1) := dk_4 (dk_at dksJ40_tooLow_1 11 rfl rfl)
theorem dJ40_tooLow_36 : decode cJ40_tooLow 36 = .ok (.ireturn, 1) := dk_172 (dk_at dksJ40_tooLow_1 12 rfl rfl)
theorem dJ40_tooLow_37 : decode cJ40_tooLow 37 = .ok (.iconst 0, 1) := dk_3 (dk_at dksJ40_tooLow_1 13 rfl rfl)
theorem dJ40_tooLow_38 : decode cJ40_tooLow 38 = .ok (.ireturn, 1) := dk_172 (dk_at dksJ40_tooLow_1 14 rfl rfl)
abbrev cJ40_tooHigh : ByteArray := prog_76_method_3_code
def yJ40_tooHigh : MethodName := ⟨RJ40, "tooHigh", "(Ljava/lang/Object;)Z"⟩
def dkwJ40_tooHigh_1 : List UInt8 := [28, 154, 0, 12, 42, 180, 0, 43, 154, 0, 5, 4, 172, 3, 172]
abbrev dktJ40_tooHigh_1 : List UInt8 := dkwJ40_tooHigh_1 ++ []
def dkwJ40_tooHigh_0 : List UInt8 := [42, 180, 0, 37, 154, 0, 33, 42, 180, 0, 20, 43, 42, 180, 0, 40, 182, 0, 7, 61, 28, 157, 0, 14]
abbrev dktJ40_tooHigh_0 : List UInt8 := dkwJ40_tooHigh_0 ++ dktJ40_tooHigh_1
theorem dksJ40_tooHigh_0 : cJ40_tooHigh.data.toList.drop 0 = dktJ40_tooHigh_0 := by decide +kernel
theorem dksJ40_tooHigh_1 : cJ40_tooHigh.data.toList.drop 24 = dktJ40_tooHigh_1 := dk_seg dksJ40_tooHigh_0 24 rfl rfl
theorem dJ40_tooHigh_0 : decode cJ40_tooHigh 0 = .ok (.aload_n 0, 1) := dk_42 (dk_at dksJ40_tooHigh_0 0 rfl rfl)
theorem dJ40_tooHigh_1 : decode cJ40_tooHigh 1 = .ok (.getfield 37, 3) := dk_180 0 37 (dk_at dksJ40_tooHigh_0 1 rfl rfl)
theorem dJ40_tooHigh_4 : decode cJ40_tooHigh 4 = .ok (.ifCond .ne 33, 3) := dk_154 0 33 (dk_at dksJ40_tooHigh_0 4 rfl rfl)
theorem dJ40_tooHigh_7 : decode cJ40_tooHigh 7 = .ok (.aload_n 0, 1) := dk_42 (dk_at dksJ40_tooHigh_0 7 rfl rfl)
theorem dJ40_tooHigh_8 : decode cJ40_tooHigh 8 = .ok (.getfield 20, 3) := dk_180 0 20 (dk_at dksJ40_tooHigh_0 8 rfl rfl)
theorem dJ40_tooHigh_11 : decode cJ40_tooHigh 11 = .ok (.aload_n 1, 1) := dk_43 (dk_at dksJ40_tooHigh_0 11 rfl rfl)
theorem dJ40_tooHigh_12 : decode cJ40_tooHigh 12 = .ok (.aload_n 0, 1) := dk_42 (dk_at dksJ40_tooHigh_0 12 rfl rfl)
theorem dJ40_tooHigh_13 : decode cJ40_tooHigh 13 = .ok (.getfield 40, 3) := dk_180 0 40 (dk_at dksJ40_tooHigh_0 13 rfl rfl)
theorem dJ40_tooHigh_16 : decode cJ40_tooHigh 16 = .ok (.invokevirtual 7, 3) := dk_182 0 7 (dk_at dksJ40_tooHigh_0 16 rfl rfl)
theorem dJ40_tooHigh_19 : decode cJ40_tooHigh 19 = .ok (.istore_n 2, 1) := dk_61 (dk_at dksJ40_tooHigh_0 19 rfl rfl)
theorem dJ40_tooHigh_20 : decode cJ40_tooHigh 20 = .ok (.iload_n 2, 1) := dk_28 (dk_at dksJ40_tooHigh_0 20 rfl rfl)
theorem dJ40_tooHigh_21 : decode cJ40_tooHigh 21 = .ok (.ifCond .gt 14, 3) := dk_157 0 14 (dk_at dksJ40_tooHigh_0 21 rfl rfl)
theorem dJ40_tooHigh_24 : decode cJ40_tooHigh 24 = .ok (.iload_n 2, 1) := dk_28 (dk_at dksJ40_tooHigh_1 0 rfl rfl)
theorem dJ40_tooHigh_25 : decode cJ40_tooHigh 25 = .ok (.ifCond .ne 12, 3) := dk_154 0 12 (dk_at dksJ40_tooHigh_1 1 rfl rfl)
theorem dJ40_tooHigh_28 : decode cJ40_tooHigh 28 = .ok (.aload_n 0, 1) := dk_42 (dk_at dksJ40_tooHigh_1 4 rfl rfl)
theorem dJ40_tooHigh_29 : decode cJ40_tooHigh 29 = .ok (.getfield 43, 3) := dk_180 0 43 (dk_at dksJ40_tooHigh_1 5 rfl rfl)
theorem dJ40_tooHigh_32 : decode cJ40_tooHigh 32 = .ok (.ifCond .ne 5, 3) := dk_154 0 5 (dk_at dksJ40_tooHigh_1 8 rfl rfl)
theorem dJ40_tooHigh_35 : decode cJ40_tooHigh 35 = .ok (.iconst 1, 1) := dk_4 (dk_at dksJ40_tooHigh_1 11 rfl rfl)
theorem dJ40_tooHigh_36 : decode cJ40_tooHigh 36 = .ok (.ireturn, 1) := dk_172 (dk_at dksJ40_tooHigh_1 12 rfl rfl)
theorem dJ40_tooHigh_37 : decode cJ40_tooHigh 37 = .ok (.iconst 0, 1) := dk_3 (dk_at dksJ40_tooHigh_1 13 rfl rfl)
theorem dJ40_tooHigh_38 : decode cJ40_tooHigh 38 = .ok (.ireturn, 1) := dk_172 (dk_at dksJ40_tooHigh_1 14 rfl rfl)
abbrev cJ40_size : ByteArray := prog_76_method_25_code
def yJ40_size : MethodName := ⟨RJ40, "size", "()I"⟩
def dkwJ40_size_1 : List UInt8 := [42, 182, 0, 94, 185, 0, 105, 1, 0, 172]
abbrev dktJ40_size_1 : List UInt8 := dkwJ40_size_1 ++ []
def dkwJ40_size_0 : List UInt8 := [42, 180, 0, 26, 153, 0, 20, 42, 180, 0, 37, 153, 0, 13, 42, 180, 0, 20, 182, 0, 101, 167, 0, 12]
abbrev dktJ40_size_0 : List UInt8 := dkwJ40_size_0 ++ dktJ40_size_1
theorem dksJ40_size_0 : cJ40_size.data.toList.drop 0 = dktJ40_size_0 := by decide +kernel
theorem dksJ40_size_1 : cJ40_size.data.toList.drop 24 = dktJ40_size_1 := dk_seg dksJ40_size_0 24 rfl rfl
theorem dJ40_size_0 : decode cJ40_size 0 = .ok (.aload_n 0, 1) := dk_42 (dk_at dksJ40_size_0 0 rfl rfl)
theorem dJ40_size_1 : decode cJ40_size 1 = .ok (.getfield 26, 3) := dk_180 0 26 (dk_at dksJ40_size_0 1 rfl rfl)
theorem dJ40_size_4 : decode cJ40_size 4 = .ok (.ifCond .eq 20, 3) := dk_153 0 20 (dk_at dksJ40_size_0 4 rfl rfl)
theorem dJ40_size_7 : decode cJ40_size 7 = .ok (.aload_n 0, 1) := dk_42 (dk_at dksJ40_size_0 7 rfl rfl)
theorem dJ40_size_8 : decode cJ40_size 8 = .ok (.getfield 37, 3) := dk_180 0 37 (dk_at dksJ40_size_0 8 rfl rfl)
theorem dJ40_size_11 : decode cJ40_size 11 = .ok (.ifCond .eq 13, 3) := dk_153 0 13 (dk_at dksJ40_size_0 11 rfl rfl)
theorem dJ40_size_14 : decode cJ40_size 14 = .ok (.aload_n 0, 1) := dk_42 (dk_at dksJ40_size_0 14 rfl rfl)
theorem dJ40_size_15 : decode cJ40_size 15 = .ok (.getfield 20, 3) := dk_180 0 20 (dk_at dksJ40_size_0 15 rfl rfl)
theorem dJ40_size_18 : decode cJ40_size 18 = .ok (.invokevirtual 101, 3) := dk_182 0 101 (dk_at dksJ40_size_0 18 rfl rfl)
theorem dJ40_size_21 : decode cJ40_size 21 = .ok (.goto 12, 3) := dk_167 0 12 (dk_at dksJ40_size_0 21 rfl rfl)
theorem dJ40_size_24 : decode cJ40_size 24 = .ok (.aload_n 0, 1) := dk_42 (dk_at dksJ40_size_1 0 rfl rfl)
theorem dJ40_size_25 : decode cJ40_size 25 = .ok (.invokevirtual 94, 3) := dk_182 0 94 (dk_at dksJ40_size_1 1 rfl rfl)
theorem dJ40_size_28 : decode cJ40_size 28 = .ok (.invokeinterface 105 1, 5) := by decide +kernel
theorem dJ40_size_33 : decode cJ40_size 33 = .ok (.ireturn, 1) := dk_172 (dk_at dksJ40_size_1 9 rfl rfl)
abbrev cJ40_absLowest : ByteArray := prog_76_method_7_code
def yJ40_absLowest : MethodName := ⟨RJ40, "absLowest", "()Ljava/util/TreeMap$Entry;"⟩
def dkwJ40_absLowest_3 : List UInt8 := [176]
abbrev dktJ40_absLowest_3 : List UInt8 := dkwJ40_absLowest_3 ++ []
def dkwJ40_absLowest_2 : List UInt8 := [182, 0, 67, 76, 43, 198, 0, 14, 42, 43, 180, 0, 70, 182, 0, 50, 153, 0, 7, 1, 167, 0, 4, 43]
abbrev dktJ40_absLowest_2 : List UInt8 := dkwJ40_absLowest_2 ++ dktJ40_absLowest_3
def dkwJ40_absLowest_1 : List UInt8 := [42, 180, 0, 20, 42, 180, 0, 30, 182, 0, 63, 167, 0, 14, 42, 180, 0, 20, 42, 180, 0, 30]
abbrev dktJ40_absLowest_1 : List UInt8 := dkwJ40_absLowest_1 ++ dktJ40_absLowest_2
def dkwJ40_absLowest_0 : List UInt8 := [42, 180, 0, 26, 153, 0, 13, 42, 180, 0, 20, 182, 0, 59, 167, 0, 35, 42, 180, 0, 34, 153, 0, 17]
abbrev dktJ40_absLowest_0 : List UInt8 := dkwJ40_absLowest_0 ++ dktJ40_absLowest_1
theorem dksJ40_absLowest_0 : cJ40_absLowest.data.toList.drop 0 = dktJ40_absLowest_0 := by decide +kernel
theorem dksJ40_absLowest_1 : cJ40_absLowest.data.toList.drop 24 = dktJ40_absLowest_1 := dk_seg dksJ40_absLowest_0 24 rfl rfl
theorem dksJ40_absLowest_2 : cJ40_absLowest.data.toList.drop 46 = dktJ40_absLowest_2 := dk_seg dksJ40_absLowest_1 22 rfl rfl
theorem dksJ40_absLowest_3 : cJ40_absLowest.data.toList.drop 70 = dktJ40_absLowest_3 := dk_seg dksJ40_absLowest_2 24 rfl rfl
theorem dJ40_absLowest_0 : decode cJ40_absLowest 0 = .ok (.aload_n 0, 1) := dk_42 (dk_at dksJ40_absLowest_0 0 rfl rfl)
theorem dJ40_absLowest_1 : decode cJ40_absLowest 1 = .ok (.getfield 26, 3) := dk_180 0 26 (dk_at dksJ40_absLowest_0 1 rfl rfl)
theorem dJ40_absLowest_4 : decode cJ40_absLowest 4 = .ok (.ifCond .eq 13, 3) := dk_153 0 13 (dk_at dksJ40_absLowest_0 4 rfl rfl)
theorem dJ40_absLowest_7 : decode cJ40_absLowest 7 = .ok (.aload_n 0, 1) := dk_42 (dk_at dksJ40_absLowest_0 7 rfl rfl)
theorem dJ40_absLowest_8 : decode cJ40_absLowest 8 = .ok (.getfield 20, 3) := dk_180 0 20 (dk_at dksJ40_absLowest_0 8 rfl rfl)
theorem dJ40_absLowest_11 : decode cJ40_absLowest 11 = .ok (.invokevirtual 59, 3) := dk_182 0 59 (dk_at dksJ40_absLowest_0 11 rfl rfl)
theorem dJ40_absLowest_14 : decode cJ40_absLowest 14 = .ok (.goto 35, 3) := dk_167 0 35 (dk_at dksJ40_absLowest_0 14 rfl rfl)
theorem dJ40_absLowest_17 : decode cJ40_absLowest 17 = .ok (.aload_n 0, 1) := dk_42 (dk_at dksJ40_absLowest_0 17 rfl rfl)
theorem dJ40_absLowest_18 : decode cJ40_absLowest 18 = .ok (.getfield 34, 3) := dk_180 0 34 (dk_at dksJ40_absLowest_0 18 rfl rfl)
theorem dJ40_absLowest_21 : decode cJ40_absLowest 21 = .ok (.ifCond .eq 17, 3) := dk_153 0 17 (dk_at dksJ40_absLowest_0 21 rfl rfl)
theorem dJ40_absLowest_24 : decode cJ40_absLowest 24 = .ok (.aload_n 0, 1) := dk_42 (dk_at dksJ40_absLowest_1 0 rfl rfl)
theorem dJ40_absLowest_25 : decode cJ40_absLowest 25 = .ok (.getfield 20, 3) := dk_180 0 20 (dk_at dksJ40_absLowest_1 1 rfl rfl)
theorem dJ40_absLowest_28 : decode cJ40_absLowest 28 = .ok (.aload_n 0, 1) := dk_42 (dk_at dksJ40_absLowest_1 4 rfl rfl)
theorem dJ40_absLowest_29 : decode cJ40_absLowest 29 = .ok (.getfield 30, 3) := dk_180 0 30 (dk_at dksJ40_absLowest_1 5 rfl rfl)
theorem dJ40_absLowest_32 : decode cJ40_absLowest 32 = .ok (.invokevirtual 63, 3) := dk_182 0 63 (dk_at dksJ40_absLowest_1 8 rfl rfl)
theorem dJ40_absLowest_35 : decode cJ40_absLowest 35 = .ok (.goto 14, 3) := dk_167 0 14 (dk_at dksJ40_absLowest_1 11 rfl rfl)
theorem dJ40_absLowest_38 : decode cJ40_absLowest 38 = .ok (.aload_n 0, 1) := dk_42 (dk_at dksJ40_absLowest_1 14 rfl rfl)
theorem dJ40_absLowest_39 : decode cJ40_absLowest 39 = .ok (.getfield 20, 3) := dk_180 0 20 (dk_at dksJ40_absLowest_1 15 rfl rfl)
theorem dJ40_absLowest_42 : decode cJ40_absLowest 42 = .ok (.aload_n 0, 1) := dk_42 (dk_at dksJ40_absLowest_1 18 rfl rfl)
theorem dJ40_absLowest_43 : decode cJ40_absLowest 43 = .ok (.getfield 30, 3) := dk_180 0 30 (dk_at dksJ40_absLowest_1 19 rfl rfl)
theorem dJ40_absLowest_46 : decode cJ40_absLowest 46 = .ok (.invokevirtual 67, 3) := dk_182 0 67 (dk_at dksJ40_absLowest_2 0 rfl rfl)
theorem dJ40_absLowest_49 : decode cJ40_absLowest 49 = .ok (.astore_n 1, 1) := dk_76 (dk_at dksJ40_absLowest_2 3 rfl rfl)
theorem dJ40_absLowest_50 : decode cJ40_absLowest 50 = .ok (.aload_n 1, 1) := dk_43 (dk_at dksJ40_absLowest_2 4 rfl rfl)
theorem dJ40_absLowest_51 : decode cJ40_absLowest 51 = .ok (.ifnull 14, 3) := dk_198 0 14 (dk_at dksJ40_absLowest_2 5 rfl rfl)
theorem dJ40_absLowest_54 : decode cJ40_absLowest 54 = .ok (.aload_n 0, 1) := dk_42 (dk_at dksJ40_absLowest_2 8 rfl rfl)
theorem dJ40_absLowest_55 : decode cJ40_absLowest 55 = .ok (.aload_n 1, 1) := dk_43 (dk_at dksJ40_absLowest_2 9 rfl rfl)
theorem dJ40_absLowest_56 : decode cJ40_absLowest 56 = .ok (.getfield 70, 3) := dk_180 0 70 (dk_at dksJ40_absLowest_2 10 rfl rfl)
theorem dJ40_absLowest_59 : decode cJ40_absLowest 59 = .ok (.invokevirtual 50, 3) := dk_182 0 50 (dk_at dksJ40_absLowest_2 13 rfl rfl)
theorem dJ40_absLowest_62 : decode cJ40_absLowest 62 = .ok (.ifCond .eq 7, 3) := dk_153 0 7 (dk_at dksJ40_absLowest_2 16 rfl rfl)
theorem dJ40_absLowest_65 : decode cJ40_absLowest 65 = .ok (.aconst_null, 1) := dk_1 (dk_at dksJ40_absLowest_2 19 rfl rfl)
theorem dJ40_absLowest_66 : decode cJ40_absLowest 66 = .ok (.goto 4, 3) := dk_167 0 4 (dk_at dksJ40_absLowest_2 20 rfl rfl)
theorem dJ40_absLowest_69 : decode cJ40_absLowest 69 = .ok (.aload_n 1, 1) := dk_43 (dk_at dksJ40_absLowest_2 23 rfl rfl)
theorem dJ40_absLowest_70 : decode cJ40_absLowest 70 = .ok (.areturn, 1) := dk_176 (dk_at dksJ40_absLowest_3 0 rfl rfl)
abbrev cJ40_absHighFence : ByteArray := prog_76_method_13_code
def yJ40_absHighFence : MethodName := ⟨RJ40, "absHighFence", "()Ljava/util/TreeMap$Entry;"⟩
def dkwJ40_absHighFence_1 : List UInt8 := [180, 0, 40, 182, 0, 67, 167, 0, 14, 42, 180, 0, 20, 42, 180, 0, 40, 182, 0, 63, 176]
abbrev dktJ40_absHighFence_1 : List UInt8 := dkwJ40_absHighFence_1 ++ []
def dkwJ40_absHighFence_0 : List UInt8 := [42, 180, 0, 37, 153, 0, 7, 1, 167, 0, 35, 42, 180, 0, 43, 153, 0, 17, 42, 180, 0, 20, 42]
abbrev dktJ40_absHighFence_0 : List UInt8 := dkwJ40_absHighFence_0 ++ dktJ40_absHighFence_1
theorem dksJ40_absHighFence_0 : cJ40_absHighFence.data.toList.drop 0 = dktJ40_absHighFence_0 := by decide +kernel
theorem dksJ40_absHighFence_1 : cJ40_absHighFence.data.toList.drop 23 = dktJ40_absHighFence_1 := dk_seg dksJ40_absHighFence_0 23 rfl rfl
theorem dJ40_absHighFence_0 : decode cJ40_absHighFence 0 = .ok (.aload_n 0, 1) := dk_42 (dk_at dksJ40_absHighFence_0 0 rfl rfl)
theorem dJ40_absHighFence_1 : decode cJ40_absHighFence 1 = .ok (.getfield 37, 3) := dk_180 0 37 (dk_at dksJ40_absHighFence_0 1 rfl rfl)
theorem dJ40_absHighFence_4 : decode cJ40_absHighFence 4 = .ok (.ifCond .eq 7, 3) := dk_153 0 7 (dk_at dksJ40_absHighFence_0 4 rfl rfl)
theorem dJ40_absHighFence_7 : decode cJ40_absHighFence 7 = .ok (.aconst_null, 1) := dk_1 (dk_at dksJ40_absHighFence_0 7 rfl rfl)
theorem dJ40_absHighFence_8 : decode cJ40_absHighFence 8 = .ok (.goto 35, 3) := dk_167 0 35 (dk_at dksJ40_absHighFence_0 8 rfl rfl)
theorem dJ40_absHighFence_11 : decode cJ40_absHighFence 11 = .ok (.aload_n 0, 1) := dk_42 (dk_at dksJ40_absHighFence_0 11 rfl rfl)
theorem dJ40_absHighFence_12 : decode cJ40_absHighFence 12 = .ok (.getfield 43, 3) := dk_180 0 43 (dk_at dksJ40_absHighFence_0 12 rfl rfl)
theorem dJ40_absHighFence_15 : decode cJ40_absHighFence 15 = .ok (.ifCond .eq 17, 3) := dk_153 0 17 (dk_at dksJ40_absHighFence_0 15 rfl rfl)
theorem dJ40_absHighFence_18 : decode cJ40_absHighFence 18 = .ok (.aload_n 0, 1) := dk_42 (dk_at dksJ40_absHighFence_0 18 rfl rfl)
theorem dJ40_absHighFence_19 : decode cJ40_absHighFence 19 = .ok (.getfield 20, 3) := dk_180 0 20 (dk_at dksJ40_absHighFence_0 19 rfl rfl)
theorem dJ40_absHighFence_22 : decode cJ40_absHighFence 22 = .ok (.aload_n 0, 1) := dk_42 (dk_at dksJ40_absHighFence_0 22 rfl rfl)
theorem dJ40_absHighFence_23 : decode cJ40_absHighFence 23 = .ok (.getfield 40, 3) := dk_180 0 40 (dk_at dksJ40_absHighFence_1 0 rfl rfl)
theorem dJ40_absHighFence_26 : decode cJ40_absHighFence 26 = .ok (.invokevirtual 67, 3) := dk_182 0 67 (dk_at dksJ40_absHighFence_1 3 rfl rfl)
theorem dJ40_absHighFence_29 : decode cJ40_absHighFence 29 = .ok (.goto 14, 3) := dk_167 0 14 (dk_at dksJ40_absHighFence_1 6 rfl rfl)
theorem dJ40_absHighFence_32 : decode cJ40_absHighFence 32 = .ok (.aload_n 0, 1) := dk_42 (dk_at dksJ40_absHighFence_1 9 rfl rfl)
theorem dJ40_absHighFence_33 : decode cJ40_absHighFence 33 = .ok (.getfield 20, 3) := dk_180 0 20 (dk_at dksJ40_absHighFence_1 10 rfl rfl)
theorem dJ40_absHighFence_36 : decode cJ40_absHighFence 36 = .ok (.aload_n 0, 1) := dk_42 (dk_at dksJ40_absHighFence_1 13 rfl rfl)
theorem dJ40_absHighFence_37 : decode cJ40_absHighFence 37 = .ok (.getfield 40, 3) := dk_180 0 40 (dk_at dksJ40_absHighFence_1 14 rfl rfl)
theorem dJ40_absHighFence_40 : decode cJ40_absHighFence 40 = .ok (.invokevirtual 63, 3) := dk_182 0 63 (dk_at dksJ40_absHighFence_1 17 rfl rfl)
theorem dJ40_absHighFence_43 : decode cJ40_absHighFence 43 = .ok (.areturn, 1) := dk_176 (dk_at dksJ40_absHighFence_1 20 rfl rfl)
abbrev cJ40_pollFirstEntry : ByteArray := prog_76_method_47_code
def yJ40_pollFirstEntry : MethodName := ⟨RJ40, "pollFirstEntry", "()Ljava/util/Map$Entry;"⟩
def dkwJ40_pollFirstEntry_0 : List UInt8 := [42, 182, 0, 169, 76, 43, 184, 0, 152, 77, 43, 198, 0, 11, 42, 180, 0, 20, 43, 182, 0, 177, 44, 176]
abbrev dktJ40_pollFirstEntry_0 : List UInt8 := dkwJ40_pollFirstEntry_0 ++ []
theorem dksJ40_pollFirstEntry_0 : cJ40_pollFirstEntry.data.toList.drop 0 = dktJ40_pollFirstEntry_0 := by decide +kernel
theorem dJ40_pollFirstEntry_0 : decode cJ40_pollFirstEntry 0 = .ok (.aload_n 0, 1) := dk_42 (dk_at dksJ40_pollFirstEntry_0 0 rfl rfl)
theorem dJ40_pollFirstEntry_1 : decode cJ40_pollFirstEntry 1 = .ok (.invokevirtual 169, 3) := dk_182 0 169 (dk_at dksJ40_pollFirstEntry_0 1 rfl rfl)
theorem dJ40_pollFirstEntry_4 : decode cJ40_pollFirstEntry 4 = .ok (.astore_n 1, 1) := dk_76 (dk_at dksJ40_pollFirstEntry_0 4 rfl rfl)
theorem dJ40_pollFirstEntry_5 : decode cJ40_pollFirstEntry 5 = .ok (.aload_n 1, 1) := dk_43 (dk_at dksJ40_pollFirstEntry_0 5 rfl rfl)
theorem dJ40_pollFirstEntry_6 : decode cJ40_pollFirstEntry 6 = .ok (.invokestatic 152, 3) := dk_184 0 152 (dk_at dksJ40_pollFirstEntry_0 6 rfl rfl)
theorem dJ40_pollFirstEntry_9 : decode cJ40_pollFirstEntry 9 = .ok (.astore_n 2, 1) := dk_77 (dk_at dksJ40_pollFirstEntry_0 9 rfl rfl)
theorem dJ40_pollFirstEntry_10 : decode cJ40_pollFirstEntry 10 = .ok (.aload_n 1, 1) := dk_43 (dk_at dksJ40_pollFirstEntry_0 10 rfl rfl)
theorem dJ40_pollFirstEntry_11 : decode cJ40_pollFirstEntry 11 = .ok (.ifnull 11, 3) := dk_198 0 11 (dk_at dksJ40_pollFirstEntry_0 11 rfl rfl)
theorem dJ40_pollFirstEntry_14 : decode cJ40_pollFirstEntry 14 = .ok (.aload_n 0, 1) := dk_42 (dk_at dksJ40_pollFirstEntry_0 14 rfl rfl)
theorem dJ40_pollFirstEntry_15 : decode cJ40_pollFirstEntry 15 = .ok (.getfield 20, 3) := dk_180 0 20 (dk_at dksJ40_pollFirstEntry_0 15 rfl rfl)
theorem dJ40_pollFirstEntry_18 : decode cJ40_pollFirstEntry 18 = .ok (.aload_n 1, 1) := dk_43 (dk_at dksJ40_pollFirstEntry_0 18 rfl rfl)
theorem dJ40_pollFirstEntry_19 : decode cJ40_pollFirstEntry 19 = .ok (.invokevirtual 177, 3) := dk_182 0 177 (dk_at dksJ40_pollFirstEntry_0 19 rfl rfl)
theorem dJ40_pollFirstEntry_22 : decode cJ40_pollFirstEntry 22 = .ok (.aload_n 2, 1) := dk_44 (dk_at dksJ40_pollFirstEntry_0 22 rfl rfl)
theorem dJ40_pollFirstEntry_23 : decode cJ40_pollFirstEntry 23 = .ok (.areturn, 1) := dk_176 (dk_at dksJ40_pollFirstEntry_0 23 rfl rfl)
abbrev cJ40_navigableKeySet : ByteArray := prog_76_method_49_code
def yJ40_navigableKeySet : MethodName := ⟨RJ40, "navigableKeySet", "()Ljava/util/NavigableSet;"⟩
def dkwJ40_navigableKeySet_1 : List UInt8 := [181, 0, 181, 176]
abbrev dktJ40_navigableKeySet_1 : List UInt8 := dkwJ40_navigableKeySet_1 ++ []
def dkwJ40_navigableKeySet_0 : List UInt8 := [42, 180, 0, 181, 76, 43, 198, 0, 7, 43, 167, 0, 16, 42, 187, 0, 185, 89, 42, 183, 0, 187, 90]
abbrev dktJ40_navigableKeySet_0 : List UInt8 := dkwJ40_navigableKeySet_0 ++ dktJ40_navigableKeySet_1
theorem dksJ40_navigableKeySet_0 : cJ40_navigableKeySet.data.toList.drop 0 = dktJ40_navigableKeySet_0 := by decide +kernel
theorem dksJ40_navigableKeySet_1 : cJ40_navigableKeySet.data.toList.drop 23 = dktJ40_navigableKeySet_1 := dk_seg dksJ40_navigableKeySet_0 23 rfl rfl
theorem dJ40_navigableKeySet_0 : decode cJ40_navigableKeySet 0 = .ok (.aload_n 0, 1) := dk_42 (dk_at dksJ40_navigableKeySet_0 0 rfl rfl)
theorem dJ40_navigableKeySet_1 : decode cJ40_navigableKeySet 1 = .ok (.getfield 181, 3) := dk_180 0 181 (dk_at dksJ40_navigableKeySet_0 1 rfl rfl)
theorem dJ40_navigableKeySet_4 : decode cJ40_navigableKeySet 4 = .ok (.astore_n 1, 1) := dk_76 (dk_at dksJ40_navigableKeySet_0 4 rfl rfl)
theorem dJ40_navigableKeySet_5 : decode cJ40_navigableKeySet 5 = .ok (.aload_n 1, 1) := dk_43 (dk_at dksJ40_navigableKeySet_0 5 rfl rfl)
theorem dJ40_navigableKeySet_6 : decode cJ40_navigableKeySet 6 = .ok (.ifnull 7, 3) := dk_198 0 7 (dk_at dksJ40_navigableKeySet_0 6 rfl rfl)
theorem dJ40_navigableKeySet_9 : decode cJ40_navigableKeySet 9 = .ok (.aload_n 1, 1) := dk_43 (dk_at dksJ40_navigableKeySet_0 9 rfl rfl)
theorem dJ40_navigableKeySet_10 : decode cJ40_navigableKeySet 10 = .ok (.goto 16, 3) := dk_167 0 16 (dk_at dksJ40_navigableKeySet_0 10 rfl rfl)
theorem dJ40_navigableKeySet_13 : decode cJ40_navigableKeySet 13 = .ok (.aload_n 0, 1) := dk_42 (dk_at dksJ40_navigableKeySet_0 13 rfl rfl)
theorem dJ40_navigableKeySet_14 : decode cJ40_navigableKeySet 14 = .ok (.new 185, 3) := dk_187 0 185 (dk_at dksJ40_navigableKeySet_0 14 rfl rfl)
theorem dJ40_navigableKeySet_17 : decode cJ40_navigableKeySet 17 = .ok (.dup, 1) := dk_89 (dk_at dksJ40_navigableKeySet_0 17 rfl rfl)
theorem dJ40_navigableKeySet_18 : decode cJ40_navigableKeySet 18 = .ok (.aload_n 0, 1) := dk_42 (dk_at dksJ40_navigableKeySet_0 18 rfl rfl)
theorem dJ40_navigableKeySet_19 : decode cJ40_navigableKeySet 19 = .ok (.invokespecial 187, 3) := dk_183 0 187 (dk_at dksJ40_navigableKeySet_0 19 rfl rfl)
theorem dJ40_navigableKeySet_22 : decode cJ40_navigableKeySet 22 = .ok (.dup_x1, 1) := dk_90 (dk_at dksJ40_navigableKeySet_0 22 rfl rfl)
theorem dJ40_navigableKeySet_23 : decode cJ40_navigableKeySet 23 = .ok (.putfield 181, 3) := dk_181 0 181 (dk_at dksJ40_navigableKeySet_1 0 rfl rfl)
theorem dJ40_navigableKeySet_26 : decode cJ40_navigableKeySet 26 = .ok (.areturn, 1) := dk_176 (dk_at dksJ40_navigableKeySet_1 3 rfl rfl)
abbrev cJ40_lastKey : ByteArray := prog_76_method_44_code
def yJ40_lastKey : MethodName := ⟨RJ40, "lastKey", "()Ljava/lang/Object;"⟩
def dkwJ40_lastKey_0 : List UInt8 := [42, 182, 0, 174, 184, 0, 172, 176]
abbrev dktJ40_lastKey_0 : List UInt8 := dkwJ40_lastKey_0 ++ []
theorem dksJ40_lastKey_0 : cJ40_lastKey.data.toList.drop 0 = dktJ40_lastKey_0 := by decide +kernel
theorem dJ40_lastKey_0 : decode cJ40_lastKey 0 = .ok (.aload_n 0, 1) := dk_42 (dk_at dksJ40_lastKey_0 0 rfl rfl)
theorem dJ40_lastKey_1 : decode cJ40_lastKey 1 = .ok (.invokevirtual 174, 3) := dk_182 0 174 (dk_at dksJ40_lastKey_0 1 rfl rfl)
theorem dJ40_lastKey_4 : decode cJ40_lastKey 4 = .ok (.invokestatic 172, 3) := dk_184 0 172 (dk_at dksJ40_lastKey_0 4 rfl rfl)
theorem dJ40_lastKey_7 : decode cJ40_lastKey 7 = .ok (.areturn, 1) := dk_176 (dk_at dksJ40_lastKey_0 7 rfl rfl)
abbrev cJ40_absHighest : ByteArray := prog_76_method_8_code
def yJ40_absHighest : MethodName := ⟨RJ40, "absHighest", "()Ljava/util/TreeMap$Entry;"⟩
def dkwJ40_absHighest_3 : List UInt8 := [176]
abbrev dktJ40_absHighest_3 : List UInt8 := dkwJ40_absHighest_3 ++ []
def dkwJ40_absHighest_2 : List UInt8 := [182, 0, 81, 76, 43, 198, 0, 14, 42, 43, 180, 0, 70, 182, 0, 46, 153, 0, 7, 1, 167, 0, 4, 43]
abbrev dktJ40_absHighest_2 : List UInt8 := dkwJ40_absHighest_2 ++ dktJ40_absHighest_3
def dkwJ40_absHighest_1 : List UInt8 := [42, 180, 0, 20, 42, 180, 0, 40, 182, 0, 78, 167, 0, 14, 42, 180, 0, 20, 42, 180, 0, 40]
abbrev dktJ40_absHighest_1 : List UInt8 := dkwJ40_absHighest_1 ++ dktJ40_absHighest_2
def dkwJ40_absHighest_0 : List UInt8 := [42, 180, 0, 37, 153, 0, 13, 42, 180, 0, 20, 182, 0, 75, 167, 0, 35, 42, 180, 0, 43, 153, 0, 17]
abbrev dktJ40_absHighest_0 : List UInt8 := dkwJ40_absHighest_0 ++ dktJ40_absHighest_1
theorem dksJ40_absHighest_0 : cJ40_absHighest.data.toList.drop 0 = dktJ40_absHighest_0 := by decide +kernel
theorem dksJ40_absHighest_1 : cJ40_absHighest.data.toList.drop 24 = dktJ40_absHighest_1 := dk_seg dksJ40_absHighest_0 24 rfl rfl
theorem dksJ40_absHighest_2 : cJ40_absHighest.data.toList.drop 46 = dktJ40_absHighest_2 := dk_seg dksJ40_absHighest_1 22 rfl rfl
theorem dksJ40_absHighest_3 : cJ40_absHighest.data.toList.drop 70 = dktJ40_absHighest_3 := dk_seg dksJ40_absHighest_2 24 rfl rfl
theorem dJ40_absHighest_0 : decode cJ40_absHighest 0 = .ok (.aload_n 0, 1) := dk_42 (dk_at dksJ40_absHighest_0 0 rfl rfl)
theorem dJ40_absHighest_1 : decode cJ40_absHighest 1 = .ok (.getfield 37, 3) := dk_180 0 37 (dk_at dksJ40_absHighest_0 1 rfl rfl)
theorem dJ40_absHighest_4 : decode cJ40_absHighest 4 = .ok (.ifCond .eq 13, 3) := dk_153 0 13 (dk_at dksJ40_absHighest_0 4 rfl rfl)
theorem dJ40_absHighest_7 : decode cJ40_absHighest 7 = .ok (.aload_n 0, 1) := dk_42 (dk_at dksJ40_absHighest_0 7 rfl rfl)
theorem dJ40_absHighest_8 : decode cJ40_absHighest 8 = .ok (.getfield 20, 3) := dk_180 0 20 (dk_at dksJ40_absHighest_0 8 rfl rfl)
theorem dJ40_absHighest_11 : decode cJ40_absHighest 11 = .ok (.invokevirtual 75, 3) := dk_182 0 75 (dk_at dksJ40_absHighest_0 11 rfl rfl)
theorem dJ40_absHighest_14 : decode cJ40_absHighest 14 = .ok (.goto 35, 3) := dk_167 0 35 (dk_at dksJ40_absHighest_0 14 rfl rfl)
theorem dJ40_absHighest_17 : decode cJ40_absHighest 17 = .ok (.aload_n 0, 1) := dk_42 (dk_at dksJ40_absHighest_0 17 rfl rfl)
theorem dJ40_absHighest_18 : decode cJ40_absHighest 18 = .ok (.getfield 43, 3) := dk_180 0 43 (dk_at dksJ40_absHighest_0 18 rfl rfl)
theorem dJ40_absHighest_21 : decode cJ40_absHighest 21 = .ok (.ifCond .eq 17, 3) := dk_153 0 17 (dk_at dksJ40_absHighest_0 21 rfl rfl)
theorem dJ40_absHighest_24 : decode cJ40_absHighest 24 = .ok (.aload_n 0, 1) := dk_42 (dk_at dksJ40_absHighest_1 0 rfl rfl)
theorem dJ40_absHighest_25 : decode cJ40_absHighest 25 = .ok (.getfield 20, 3) := dk_180 0 20 (dk_at dksJ40_absHighest_1 1 rfl rfl)
theorem dJ40_absHighest_28 : decode cJ40_absHighest 28 = .ok (.aload_n 0, 1) := dk_42 (dk_at dksJ40_absHighest_1 4 rfl rfl)
theorem dJ40_absHighest_29 : decode cJ40_absHighest 29 = .ok (.getfield 40, 3) := dk_180 0 40 (dk_at dksJ40_absHighest_1 5 rfl rfl)
theorem dJ40_absHighest_32 : decode cJ40_absHighest 32 = .ok (.invokevirtual 78, 3) := dk_182 0 78 (dk_at dksJ40_absHighest_1 8 rfl rfl)
theorem dJ40_absHighest_35 : decode cJ40_absHighest 35 = .ok (.goto 14, 3) := dk_167 0 14 (dk_at dksJ40_absHighest_1 11 rfl rfl)
theorem dJ40_absHighest_38 : decode cJ40_absHighest 38 = .ok (.aload_n 0, 1) := dk_42 (dk_at dksJ40_absHighest_1 14 rfl rfl)
theorem dJ40_absHighest_39 : decode cJ40_absHighest 39 = .ok (.getfield 20, 3) := dk_180 0 20 (dk_at dksJ40_absHighest_1 15 rfl rfl)
theorem dJ40_absHighest_42 : decode cJ40_absHighest 42 = .ok (.aload_n 0, 1) := dk_42 (dk_at dksJ40_absHighest_1 18 rfl rfl)
theorem dJ40_absHighest_43 : decode cJ40_absHighest 43 = .ok (.getfield 40, 3) := dk_180 0 40 (dk_at dksJ40_absHighest_1 19 rfl rfl)
theorem dJ40_absHighest_46 : decode cJ40_absHighest 46 = .ok (.invokevirtual 81, 3) := dk_182 0 81 (dk_at dksJ40_absHighest_2 0 rfl rfl)
theorem dJ40_absHighest_49 : decode cJ40_absHighest 49 = .ok (.astore_n 1, 1) := dk_76 (dk_at dksJ40_absHighest_2 3 rfl rfl)
theorem dJ40_absHighest_50 : decode cJ40_absHighest 50 = .ok (.aload_n 1, 1) := dk_43 (dk_at dksJ40_absHighest_2 4 rfl rfl)
theorem dJ40_absHighest_51 : decode cJ40_absHighest 51 = .ok (.ifnull 14, 3) := dk_198 0 14 (dk_at dksJ40_absHighest_2 5 rfl rfl)
theorem dJ40_absHighest_54 : decode cJ40_absHighest 54 = .ok (.aload_n 0, 1) := dk_42 (dk_at dksJ40_absHighest_2 8 rfl rfl)
theorem dJ40_absHighest_55 : decode cJ40_absHighest 55 = .ok (.aload_n 1, 1) := dk_43 (dk_at dksJ40_absHighest_2 9 rfl rfl)
theorem dJ40_absHighest_56 : decode cJ40_absHighest 56 = .ok (.getfield 70, 3) := dk_180 0 70 (dk_at dksJ40_absHighest_2 10 rfl rfl)
theorem dJ40_absHighest_59 : decode cJ40_absHighest 59 = .ok (.invokevirtual 46, 3) := dk_182 0 46 (dk_at dksJ40_absHighest_2 13 rfl rfl)
theorem dJ40_absHighest_62 : decode cJ40_absHighest 62 = .ok (.ifCond .eq 7, 3) := dk_153 0 7 (dk_at dksJ40_absHighest_2 16 rfl rfl)
theorem dJ40_absHighest_65 : decode cJ40_absHighest 65 = .ok (.aconst_null, 1) := dk_1 (dk_at dksJ40_absHighest_2 19 rfl rfl)
theorem dJ40_absHighest_66 : decode cJ40_absHighest 66 = .ok (.goto 4, 3) := dk_167 0 4 (dk_at dksJ40_absHighest_2 20 rfl rfl)
theorem dJ40_absHighest_69 : decode cJ40_absHighest 69 = .ok (.aload_n 1, 1) := dk_43 (dk_at dksJ40_absHighest_2 23 rfl rfl)
theorem dJ40_absHighest_70 : decode cJ40_absHighest 70 = .ok (.areturn, 1) := dk_176 (dk_at dksJ40_absHighest_3 0 rfl rfl)
abbrev cJ40_floorKey : ByteArray := prog_76_method_40_code
def yJ40_floorKey : MethodName := ⟨RJ40, "floorKey", "(Ljava/lang/Object;)Ljava/lang/Object;"⟩
def dkwJ40_floorKey_0 : List UInt8 := [42, 43, 182, 0, 163, 184, 0, 156, 176]
abbrev dktJ40_floorKey_0 : List UInt8 := dkwJ40_floorKey_0 ++ []
theorem dksJ40_floorKey_0 : cJ40_floorKey.data.toList.drop 0 = dktJ40_floorKey_0 := by decide +kernel
theorem dJ40_floorKey_0 : decode cJ40_floorKey 0 = .ok (.aload_n 0, 1) := dk_42 (dk_at dksJ40_floorKey_0 0 rfl rfl)
theorem dJ40_floorKey_1 : decode cJ40_floorKey 1 = .ok (.aload_n 1, 1) := dk_43 (dk_at dksJ40_floorKey_0 1 rfl rfl)
theorem dJ40_floorKey_2 : decode cJ40_floorKey 2 = .ok (.invokevirtual 163, 3) := dk_182 0 163 (dk_at dksJ40_floorKey_0 2 rfl rfl)
theorem dJ40_floorKey_5 : decode cJ40_floorKey 5 = .ok (.invokestatic 156, 3) := dk_184 0 156 (dk_at dksJ40_floorKey_0 5 rfl rfl)
theorem dJ40_floorKey_8 : decode cJ40_floorKey 8 = .ok (.areturn, 1) := dk_176 (dk_at dksJ40_floorKey_0 8 rfl rfl)
abbrev cJ40_absFloor : ByteArray := prog_76_method_11_code
def yJ40_absFloor : MethodName := ⟨RJ40, "absFloor", "(Ljava/lang/Object;)Ljava/util/TreeMap$Entry;"⟩
def dkwJ40_absFloor_1 : List UInt8 := [198, 0, 14, 42, 44, 180, 0, 70, 182, 0, 46, 153, 0, 7, 1, 167, 0, 4, 44, 176]
abbrev dktJ40_absFloor_1 : List UInt8 := dkwJ40_absFloor_1 ++ []
def dkwJ40_absFloor_0 : List UInt8 := [42, 43, 182, 0, 50, 153, 0, 8, 42, 182, 0, 87, 176, 42, 180, 0, 20, 43, 182, 0, 78, 77, 44]
abbrev dktJ40_absFloor_0 : List UInt8 := dkwJ40_absFloor_0 ++ dktJ40_absFloor_1
theorem dksJ40_absFloor_0 : cJ40_absFloor.data.toList.drop 0 = dktJ40_absFloor_0 := by decide +kernel
theorem dksJ40_absFloor_1 : cJ40_absFloor.data.toList.drop 23 = dktJ40_absFloor_1 := dk_seg dksJ40_absFloor_0 23 rfl rfl
theorem dJ40_absFloor_0 : decode cJ40_absFloor 0 = .ok (.aload_n 0, 1) := dk_42 (dk_at dksJ40_absFloor_0 0 rfl rfl)
theorem dJ40_absFloor_1 : decode cJ40_absFloor 1 = .ok (.aload_n 1, 1) := dk_43 (dk_at dksJ40_absFloor_0 1 rfl rfl)
theorem dJ40_absFloor_2 : decode cJ40_absFloor 2 = .ok (.invokevirtual 50, 3) := dk_182 0 50 (dk_at dksJ40_absFloor_0 2 rfl rfl)
theorem dJ40_absFloor_5 : decode cJ40_absFloor 5 = .ok (.ifCond .eq 8, 3) := dk_153 0 8 (dk_at dksJ40_absFloor_0 5 rfl rfl)
theorem dJ40_absFloor_8 : decode cJ40_absFloor 8 = .ok (.aload_n 0, 1) := dk_42 (dk_at dksJ40_absFloor_0 8 rfl rfl)
theorem dJ40_absFloor_9 : decode cJ40_absFloor 9 = .ok (.invokevirtual 87, 3) := dk_182 0 87 (dk_at dksJ40_absFloor_0 9 rfl rfl)
theorem dJ40_absFloor_12 : decode cJ40_absFloor 12 = .ok (.areturn, 1) := dk_176 (dk_at dksJ40_absFloor_0 12 rfl rfl)
theorem dJ40_absFloor_13 : decode cJ40_absFloor 13 = .ok (.aload_n 0, 1) := dk_42 (dk_at dksJ40_absFloor_0 13 rfl rfl)
theorem dJ40_absFloor_14 : decode cJ40_absFloor 14 = .ok (.getfield 20, 3) := dk_180 0 20 (dk_at dksJ40_absFloor_0 14 rfl rfl)
theorem dJ40_absFloor_17 : decode cJ40_absFloor 17 = .ok (.aload_n 1, 1) := dk_43 (dk_at dksJ40_absFloor_0 17 rfl rfl)
theorem dJ40_absFloor_18 : decode cJ40_absFloor 18 = .ok (.invokevirtual 78, 3) := dk_182 0 78 (dk_at dksJ40_absFloor_0 18 rfl rfl)
theorem dJ40_absFloor_21 : decode cJ40_absFloor 21 = .ok (.astore_n 2, 1) := dk_77 (dk_at dksJ40_absFloor_0 21 rfl rfl)
theorem dJ40_absFloor_22 : decode cJ40_absFloor 22 = .ok (.aload_n 2, 1) := dk_44 (dk_at dksJ40_absFloor_0 22 rfl rfl)
theorem dJ40_absFloor_23 : decode cJ40_absFloor 23 = .ok (.ifnull 14, 3) := dk_198 0 14 (dk_at dksJ40_absFloor_1 0 rfl rfl)
theorem dJ40_absFloor_26 : decode cJ40_absFloor 26 = .ok (.aload_n 0, 1) := dk_42 (dk_at dksJ40_absFloor_1 3 rfl rfl)
theorem dJ40_absFloor_27 : decode cJ40_absFloor 27 = .ok (.aload_n 2, 1) := dk_44 (dk_at dksJ40_absFloor_1 4 rfl rfl)
theorem dJ40_absFloor_28 : decode cJ40_absFloor 28 = .ok (.getfield 70, 3) := dk_180 0 70 (dk_at dksJ40_absFloor_1 5 rfl rfl)
theorem dJ40_absFloor_31 : decode cJ40_absFloor 31 = .ok (.invokevirtual 46, 3) := dk_182 0 46 (dk_at dksJ40_absFloor_1 8 rfl rfl)
theorem dJ40_absFloor_34 : decode cJ40_absFloor 34 = .ok (.ifCond .eq 7, 3) := dk_153 0 7 (dk_at dksJ40_absFloor_1 11 rfl rfl)
theorem dJ40_absFloor_37 : decode cJ40_absFloor 37 = .ok (.aconst_null, 1) := dk_1 (dk_at dksJ40_absFloor_1 14 rfl rfl)
theorem dJ40_absFloor_38 : decode cJ40_absFloor 38 = .ok (.goto 4, 3) := dk_167 0 4 (dk_at dksJ40_absFloor_1 15 rfl rfl)
theorem dJ40_absFloor_41 : decode cJ40_absFloor 41 = .ok (.aload_n 2, 1) := dk_44 (dk_at dksJ40_absFloor_1 18 rfl rfl)
theorem dJ40_absFloor_42 : decode cJ40_absFloor 42 = .ok (.areturn, 1) := dk_176 (dk_at dksJ40_absFloor_1 19 rfl rfl)
abbrev cJ40_init : ByteArray := prog_76_method_1_code
def yJ40_init : MethodName := ⟨RJ40, "<init>", "(Ljava/util/TreeMap;ZLjava/lang/Object;ZZLjava/lang/Object;Z)V"⟩
def dkwJ40_init_4 : List UInt8 := [181, 0, 43, 177]
abbrev dktJ40_init_4 : List UInt8 := dkwJ40_init_4 ++ []
def dkwJ40_init_3 : List UInt8 := [181, 0, 30, 42, 21, 4, 181, 0, 34, 42, 21, 5, 181, 0, 37, 42, 25, 6, 181, 0, 40, 42, 21, 7]
abbrev dktJ40_init_3 : List UInt8 := dkwJ40_init_3 ++ dktJ40_init_4
def dkwJ40_init_2 : List UInt8 := [154, 0, 12, 43, 25, 6, 25, 6, 182, 0, 7, 87, 42, 43, 181, 0, 20, 42, 28, 181, 0, 26, 42, 45]
abbrev dktJ40_init_2 : List UInt8 := dkwJ40_init_2 ++ dktJ40_init_3
def dkwJ40_init_1 : List UInt8 := [187, 0, 13, 89, 18, 15, 183, 0, 17, 191, 28, 154, 0, 10, 43, 45, 45, 182, 0, 7, 87, 21, 5]
abbrev dktJ40_init_1 : List UInt8 := dkwJ40_init_1 ++ dktJ40_init_2
def dkwJ40_init_0 : List UInt8 := [42, 183, 0, 1, 28, 154, 0, 28, 21, 5, 154, 0, 23, 43, 45, 25, 6, 182, 0, 7, 158, 0, 38]
abbrev dktJ40_init_0 : List UInt8 := dkwJ40_init_0 ++ dktJ40_init_1
theorem dksJ40_init_0 : cJ40_init.data.toList.drop 0 = dktJ40_init_0 := by decide +kernel
theorem dksJ40_init_1 : cJ40_init.data.toList.drop 23 = dktJ40_init_1 := dk_seg dksJ40_init_0 23 rfl rfl
theorem dksJ40_init_2 : cJ40_init.data.toList.drop 46 = dktJ40_init_2 := dk_seg dksJ40_init_1 23 rfl rfl
theorem dksJ40_init_3 : cJ40_init.data.toList.drop 70 = dktJ40_init_3 := dk_seg dksJ40_init_2 24 rfl rfl
theorem dksJ40_init_4 : cJ40_init.data.toList.drop 94 = dktJ40_init_4 := dk_seg dksJ40_init_3 24 rfl rfl
theorem dJ40_init_0 : decode cJ40_init 0 = .ok (.aload_n 0, 1) := dk_42 (dk_at dksJ40_init_0 0 rfl rfl)
theorem dJ40_init_1 : decode cJ40_init 1 = .ok (.invokespecial 1, 3) := dk_183 0 1 (dk_at dksJ40_init_0 1 rfl rfl)
theorem dJ40_init_4 : decode cJ40_init 4 = .ok (.iload_n 2, 1) := dk_28 (dk_at dksJ40_init_0 4 rfl rfl)
theorem dJ40_init_5 : decode cJ40_init 5 = .ok (.ifCond .ne 28, 3) := dk_154 0 28 (dk_at dksJ40_init_0 5 rfl rfl)
theorem dJ40_init_8 : decode cJ40_init 8 = .ok (.iload 5, 2) := dk_21 5 (dk_at dksJ40_init_0 8 rfl rfl)
theorem dJ40_init_10 : decode cJ40_init 10 = .ok (.ifCond .ne 23, 3) := dk_154 0 23 (dk_at dksJ40_init_0 10 rfl rfl)
theorem dJ40_init_13 : decode cJ40_init 13 = .ok (.aload_n 1, 1) := dk_43 (dk_at dksJ40_init_0 13 rfl rfl)
theorem dJ40_init_14 : decode cJ40_init 14 = .ok (.aload_n 3, 1) := dk_45 (dk_at dksJ40_init_0 14 rfl rfl)
theorem dJ40_init_15 : decode cJ40_init 15 = .ok (.aload 6, 2) := dk_25 6 (dk_at dksJ40_init_0 15 rfl rfl)
theorem dJ40_init_17 : decode cJ40_init 17 = .ok (.invokevirtual 7, 3) := dk_182 0 7 (dk_at dksJ40_init_0 17 rfl rfl)
theorem dJ40_init_20 : decode cJ40_init 20 = .ok (.ifCond .le 38, 3) := dk_158 0 38 (dk_at dksJ40_init_0 20 rfl rfl)
theorem dJ40_init_23 : decode cJ40_init 23 = .ok (.new 13, 3) := dk_187 0 13 (dk_at dksJ40_init_1 0 rfl rfl)
theorem dJ40_init_26 : decode cJ40_init 26 = .ok (.dup, 1) := dk_89 (dk_at dksJ40_init_1 3 rfl rfl)
theorem dJ40_init_27 : decode cJ40_init 27 = .ok (.ldc 15, 2) := dk_18 15 (dk_at dksJ40_init_1 4 rfl rfl)
theorem dJ40_init_29 : decode cJ40_init 29 = .ok (.invokespecial 17, 3) := dk_183 0 17 (dk_at dksJ40_init_1 6 rfl rfl)
theorem dJ40_init_32 : decode cJ40_init 32 = .ok (.athrow, 1) := dk_191 (dk_at dksJ40_init_1 9 rfl rfl)
theorem dJ40_init_33 : decode cJ40_init 33 = .ok (.iload_n 2, 1) := dk_28 (dk_at dksJ40_init_1 10 rfl rfl)
theorem dJ40_init_34 : decode cJ40_init 34 = .ok (.ifCond .ne 10, 3) := dk_154 0 10 (dk_at dksJ40_init_1 11 rfl rfl)
theorem dJ40_init_37 : decode cJ40_init 37 = .ok (.aload_n 1, 1) := dk_43 (dk_at dksJ40_init_1 14 rfl rfl)
theorem dJ40_init_38 : decode cJ40_init 38 = .ok (.aload_n 3, 1) := dk_45 (dk_at dksJ40_init_1 15 rfl rfl)
theorem dJ40_init_39 : decode cJ40_init 39 = .ok (.aload_n 3, 1) := dk_45 (dk_at dksJ40_init_1 16 rfl rfl)
theorem dJ40_init_40 : decode cJ40_init 40 = .ok (.invokevirtual 7, 3) := dk_182 0 7 (dk_at dksJ40_init_1 17 rfl rfl)
theorem dJ40_init_43 : decode cJ40_init 43 = .ok (.pop, 1) := dk_87 (dk_at dksJ40_init_1 20 rfl rfl)
theorem dJ40_init_44 : decode cJ40_init 44 = .ok (.iload 5, 2) := dk_21 5 (dk_at dksJ40_init_1 21 rfl rfl)
theorem dJ40_init_46 : decode cJ40_init 46 = .ok (.ifCond .ne 12, 3) := dk_154 0 12 (dk_at dksJ40_init_2 0 rfl rfl)
theorem dJ40_init_49 : decode cJ40_init 49 = .ok (.aload_n 1, 1) := dk_43 (dk_at dksJ40_init_2 3 rfl rfl)
theorem dJ40_init_50 : decode cJ40_init 50 = .ok (.aload 6, 2) := dk_25 6 (dk_at dksJ40_init_2 4 rfl rfl)
theorem dJ40_init_52 : decode cJ40_init 52 = .ok (.aload 6, 2) := dk_25 6 (dk_at dksJ40_init_2 6 rfl rfl)
theorem dJ40_init_54 : decode cJ40_init 54 = .ok (.invokevirtual 7, 3) := dk_182 0 7 (dk_at dksJ40_init_2 8 rfl rfl)
theorem dJ40_init_57 : decode cJ40_init 57 = .ok (.pop, 1) := dk_87 (dk_at dksJ40_init_2 11 rfl rfl)
theorem dJ40_init_58 : decode cJ40_init 58 = .ok (.aload_n 0, 1) := dk_42 (dk_at dksJ40_init_2 12 rfl rfl)
theorem dJ40_init_59 : decode cJ40_init 59 = .ok (.aload_n 1, 1) := dk_43 (dk_at dksJ40_init_2 13 rfl rfl)
theorem dJ40_init_60 : decode cJ40_init 60 = .ok (.putfield 20, 3) := dk_181 0 20 (dk_at dksJ40_init_2 14 rfl rfl)
theorem dJ40_init_63 : decode cJ40_init 63 = .ok (.aload_n 0, 1) := dk_42 (dk_at dksJ40_init_2 17 rfl rfl)
theorem dJ40_init_64 : decode cJ40_init 64 = .ok (.iload_n 2, 1) := dk_28 (dk_at dksJ40_init_2 18 rfl rfl)
theorem dJ40_init_65 : decode cJ40_init 65 = .ok (.putfield 26, 3) := dk_181 0 26 (dk_at dksJ40_init_2 19 rfl rfl)
theorem dJ40_init_68 : decode cJ40_init 68 = .ok (.aload_n 0, 1) := dk_42 (dk_at dksJ40_init_2 22 rfl rfl)
theorem dJ40_init_69 : decode cJ40_init 69 = .ok (.aload_n 3, 1) := dk_45 (dk_at dksJ40_init_2 23 rfl rfl)
theorem dJ40_init_70 : decode cJ40_init 70 = .ok (.putfield 30, 3) := dk_181 0 30 (dk_at dksJ40_init_3 0 rfl rfl)
theorem dJ40_init_73 : decode cJ40_init 73 = .ok (.aload_n 0, 1) := dk_42 (dk_at dksJ40_init_3 3 rfl rfl)
theorem dJ40_init_74 : decode cJ40_init 74 = .ok (.iload 4, 2) := dk_21 4 (dk_at dksJ40_init_3 4 rfl rfl)
theorem dJ40_init_76 : decode cJ40_init 76 = .ok (.putfield 34, 3) := dk_181 0 34 (dk_at dksJ40_init_3 6 rfl rfl)
theorem dJ40_init_79 : decode cJ40_init 79 = .ok (.aload_n 0, 1) := dk_42 (dk_at dksJ40_init_3 9 rfl rfl)
theorem dJ40_init_80 : decode cJ40_init 80 = .ok (.iload 5, 2) := dk_21 5 (dk_at dksJ40_init_3 10 rfl rfl)
theorem dJ40_init_82 : decode cJ40_init 82 = .ok (.putfield 37, 3) := dk_181 0 37 (dk_at dksJ40_init_3 12 rfl rfl)
theorem dJ40_init_85 : decode cJ40_init 85 = .ok (.aload_n 0, 1) := dk_42 (dk_at dksJ40_init_3 15 rfl rfl)
theorem dJ40_init_86 : decode cJ40_init 86 = .ok (.aload 6, 2) := dk_25 6 (dk_at dksJ40_init_3 16 rfl rfl)
theorem dJ40_init_88 : decode cJ40_init 88 = .ok (.putfield 40, 3) := dk_181 0 40 (dk_at dksJ40_init_3 18 rfl rfl)
theorem dJ40_init_91 : decode cJ40_init 91 = .ok (.aload_n 0, 1) := dk_42 (dk_at dksJ40_init_3 21 rfl rfl)
theorem dJ40_init_92 : decode cJ40_init 92 = .ok (.iload 7, 2) := dk_21 7 (dk_at dksJ40_init_3 22 rfl rfl)
theorem dJ40_init_94 : decode cJ40_init 94 = .ok (.putfield 43, 3) := dk_181 0 43 (dk_at dksJ40_init_4 0 rfl rfl)
theorem dJ40_init_97 : decode cJ40_init 97 = .ok (.return_, 1) := dk_177 (dk_at dksJ40_init_4 3 rfl rfl)
abbrev cJ40_inRange_2 : ByteArray := prog_76_method_6_code
def yJ40_inRange_2 : MethodName := ⟨RJ40, "inRange", "(Ljava/lang/Object;Z)Z"⟩
def dkwJ40_inRange_2_0 : List UInt8 := [28, 153, 0, 11, 42, 43, 182, 0, 53, 167, 0, 8, 42, 43, 182, 0, 56, 172]
abbrev dktJ40_inRange_2_0 : List UInt8 := dkwJ40_inRange_2_0 ++ []
theorem dksJ40_inRange_2_0 : cJ40_inRange_2.data.toList.drop 0 = dktJ40_inRange_2_0 := by decide +kernel
theorem dJ40_inRange_2_0 : decode cJ40_inRange_2 0 = .ok (.iload_n 2, 1) := dk_28 (dk_at dksJ40_inRange_2_0 0 rfl rfl)
theorem dJ40_inRange_2_1 : decode cJ40_inRange_2 1 = .ok (.ifCond .eq 11, 3) := dk_153 0 11 (dk_at dksJ40_inRange_2_0 1 rfl rfl)
theorem dJ40_inRange_2_4 : decode cJ40_inRange_2 4 = .ok (.aload_n 0, 1) := dk_42 (dk_at dksJ40_inRange_2_0 4 rfl rfl)
theorem dJ40_inRange_2_5 : decode cJ40_inRange_2 5 = .ok (.aload_n 1, 1) := dk_43 (dk_at dksJ40_inRange_2_0 5 rfl rfl)
theorem dJ40_inRange_2_6 : decode cJ40_inRange_2 6 = .ok (.invokevirtual 53, 3) := dk_182 0 53 (dk_at dksJ40_inRange_2_0 6 rfl rfl)
theorem dJ40_inRange_2_9 : decode cJ40_inRange_2 9 = .ok (.goto 8, 3) := dk_167 0 8 (dk_at dksJ40_inRange_2_0 9 rfl rfl)
theorem dJ40_inRange_2_12 : decode cJ40_inRange_2 12 = .ok (.aload_n 0, 1) := dk_42 (dk_at dksJ40_inRange_2_0 12 rfl rfl)
theorem dJ40_inRange_2_13 : decode cJ40_inRange_2 13 = .ok (.aload_n 1, 1) := dk_43 (dk_at dksJ40_inRange_2_0 13 rfl rfl)
theorem dJ40_inRange_2_14 : decode cJ40_inRange_2 14 = .ok (.invokevirtual 56, 3) := dk_182 0 56 (dk_at dksJ40_inRange_2_0 14 rfl rfl)
theorem dJ40_inRange_2_17 : decode cJ40_inRange_2 17 = .ok (.ireturn, 1) := dk_172 (dk_at dksJ40_inRange_2_0 17 rfl rfl)
abbrev cJ40_inClosedRange : ByteArray := prog_76_method_5_code
def yJ40_inClosedRange : MethodName := ⟨RJ40, "inClosedRange", "(Ljava/lang/Object;)Z"⟩
def dkwJ40_inClosedRange_2 : List UInt8 := [167, 0, 4, 3, 172]
abbrev dktJ40_inClosedRange_2 : List UInt8 := dkwJ40_inClosedRange_2 ++ []
def dkwJ40_inClosedRange_1 : List UInt8 := [180, 0, 37, 154, 0, 18, 42, 180, 0, 20, 42, 180, 0, 40, 43, 182, 0, 7, 155, 0, 7, 4]
abbrev dktJ40_inClosedRange_1 : List UInt8 := dkwJ40_inClosedRange_1 ++ dktJ40_inClosedRange_2
def dkwJ40_inClosedRange_0 : List UInt8 := [42, 180, 0, 26, 154, 0, 18, 42, 180, 0, 20, 43, 42, 180, 0, 30, 182, 0, 7, 155, 0, 29, 42]
abbrev dktJ40_inClosedRange_0 : List UInt8 := dkwJ40_inClosedRange_0 ++ dktJ40_inClosedRange_1
theorem dksJ40_inClosedRange_0 : cJ40_inClosedRange.data.toList.drop 0 = dktJ40_inClosedRange_0 := by decide +kernel
theorem dksJ40_inClosedRange_1 : cJ40_inClosedRange.data.toList.drop 23 = dktJ40_inClosedRange_1 := dk_seg dksJ40_inClosedRange_0 23 rfl rfl
theorem dksJ40_inClosedRange_2 : cJ40_inClosedRange.data.toList.drop 45 = dktJ40_inClosedRange_2 := dk_seg dksJ40_inClosedRange_1 22 rfl rfl
theorem dJ40_inClosedRange_0 : decode cJ40_inClosedRange 0 = .ok (.aload_n 0, 1) := dk_42 (dk_at dksJ40_inClosedRange_0 0 rfl rfl)
theorem dJ40_inClosedRange_1 : decode cJ40_inClosedRange 1 = .ok (.getfield 26, 3) := dk_180 0 26 (dk_at dksJ40_inClosedRange_0 1 rfl rfl)
theorem dJ40_inClosedRange_4 : decode cJ40_inClosedRange 4 = .ok (.ifCond .ne 18, 3) := dk_154 0 18 (dk_at dksJ40_inClosedRange_0 4 rfl rfl)
theorem dJ40_inClosedRange_7 : decode cJ40_inClosedRange 7 = .ok (.aload_n 0, 1) := dk_42 (dk_at dksJ40_inClosedRange_0 7 rfl rfl)
theorem dJ40_inClosedRange_8 : decode cJ40_inClosedRange 8 = .ok (.getfield 20, 3) := dk_180 0 20 (dk_at dksJ40_inClosedRange_0 8 rfl rfl)
theorem dJ40_inClosedRange_11 : decode cJ40_inClosedRange 11 = .ok (.aload_n 1, 1) := dk_43 (dk_at dksJ40_inClosedRange_0 11 rfl rfl)
theorem dJ40_inClosedRange_12 : decode cJ40_inClosedRange 12 = .ok (.aload_n 0, 1) := dk_42 (dk_at dksJ40_inClosedRange_0 12 rfl rfl)
theorem dJ40_inClosedRange_13 : decode cJ40_inClosedRange 13 = .ok (.getfield 30, 3) := dk_180 0 30 (dk_at dksJ40_inClosedRange_0 13 rfl rfl)
theorem dJ40_inClosedRange_16 : decode cJ40_inClosedRange 16 = .ok (.invokevirtual 7, 3) := dk_182 0 7 (dk_at dksJ40_inClosedRange_0 16 rfl rfl)
theorem dJ40_inClosedRange_19 : decode cJ40_inClosedRange 19 = .ok (.ifCond .lt 29, 3) := dk_155 0 29 (dk_at dksJ40_inClosedRange_0 19 rfl rfl)
theorem dJ40_inClosedRange_22 : decode cJ40_inClosedRange 22 = .ok (.aload_n 0, 1) := dk_42 (dk_at dksJ40_inClosedRange_0 22 rfl rfl)
theorem dJ40_inClosedRange_23 : decode cJ40_inClosedRange 23 = .ok (.getfield 37, 3) := dk_180 0 37 (dk_at dksJ40_inClosedRange_1 0 rfl rfl)
theorem dJ40_inClosedRange_26 : decode cJ40_inClosedRange 26 = .ok (.ifCond .ne 18, 3) := dk_154 0 18 (dk_at dksJ40_inClosedRange_1 3 rfl rfl)
theorem dJ40_inClosedRange_29 : decode cJ40_inClosedRange 29 = .ok (.aload_n 0, 1) := dk_42 (dk_at dksJ40_inClosedRange_1 6 rfl rfl)
theorem dJ40_inClosedRange_30 : decode cJ40_inClosedRange 30 = .ok (.getfield 20, 3) := dk_180 0 20 (dk_at dksJ40_inClosedRange_1 7 rfl rfl)
theorem dJ40_inClosedRange_33 : decode cJ40_inClosedRange 33 = .ok (.aload_n 0, 1) := dk_42 (dk_at dksJ40_inClosedRange_1 10 rfl rfl)
theorem dJ40_inClosedRange_34 : decode cJ40_inClosedRange 34 = .ok (.getfield 40, 3) := dk_180 0 40 (dk_at dksJ40_inClosedRange_1 11 rfl rfl)
theorem dJ40_inClosedRange_37 : decode cJ40_inClosedRange 37 = .ok (.aload_n 1, 1) := dk_43 (dk_at dksJ40_inClosedRange_1 14 rfl rfl)
theorem dJ40_inClosedRange_38 : decode cJ40_inClosedRange 38 = .ok (.invokevirtual 7, 3) := dk_182 0 7 (dk_at dksJ40_inClosedRange_1 15 rfl rfl)
theorem dJ40_inClosedRange_41 : decode cJ40_inClosedRange 41 = .ok (.ifCond .lt 7, 3) := dk_155 0 7 (dk_at dksJ40_inClosedRange_1 18 rfl rfl)
theorem dJ40_inClosedRange_44 : decode cJ40_inClosedRange 44 = .ok (.iconst 1, 1) := dk_4 (dk_at dksJ40_inClosedRange_1 21 rfl rfl)
theorem dJ40_inClosedRange_45 : decode cJ40_inClosedRange 45 = .ok (.goto 4, 3) := dk_167 0 4 (dk_at dksJ40_inClosedRange_2 0 rfl rfl)
theorem dJ40_inClosedRange_48 : decode cJ40_inClosedRange 48 = .ok (.iconst 0, 1) := dk_3 (dk_at dksJ40_inClosedRange_2 3 rfl rfl)
theorem dJ40_inClosedRange_49 : decode cJ40_inClosedRange 49 = .ok (.ireturn, 1) := dk_172 (dk_at dksJ40_inClosedRange_2 4 rfl rfl)
theorem q155 : (Jvm.Cond.initialized "java/util/TreeMap$NavigableSubMap") ∈ lw_all := lw_g (lw_at lw_m1 62 rfl) rfl
theorem q655 : (Jvm.Cond.fieldLink "java/util/TreeMap$NavigableSubMap" (70 : Nat) "java/util/TreeMap$Entry" "key" "Ljava/lang/Object;") ∈ lw_all := lw_g (lw_at lw_m3 82 rfl) rfl
theorem q716 : (Jvm.Cond.instanceMethod ({ cls := "java/util/TreeMap$NavigableSubMap", name := "put", desc := "(Ljava/lang/Object;Ljava/lang/Object;)Ljava/lang/Object;" } : Jvm.MethodName)) ∈ lw_all := lw_g (lw_at lw_m3 143 rfl) rfl
theorem q717 : (Jvm.Cond.publicMethod ({ cls := "java/util/TreeMap$NavigableSubMap", name := "put", desc := "(Ljava/lang/Object;Ljava/lang/Object;)Ljava/lang/Object;" } : Jvm.MethodName)) ∈ lw_tbl := lw_at lw_m3 144 rfl
theorem q718 : (Jvm.Cond.code ({ cls := "java/util/TreeMap$NavigableSubMap", name := "put", desc := "(Ljava/lang/Object;Ljava/lang/Object;)Ljava/lang/Object;" } : Jvm.MethodName) prog_76_method_27_code (3 : Nat) (Option.some (Jvm.ClassFile.FieldType.object "java/lang/Object"))) ∈ lw_all := lw_g (lw_at lw_m3 145 rfl) rfl
theorem q719 : (Jvm.Cond.methodLink "java/util/TreeMap$NavigableSubMap" (53 : Nat) ({ cls := "java/util/TreeMap$NavigableSubMap", name := "inRange", desc := "(Ljava/lang/Object;)Z" } : Jvm.MethodName)) ∈ lw_all := lw_g (lw_at lw_m3 146 rfl) rfl
theorem q720 : (Jvm.Cond.instanceMethod ({ cls := "java/util/TreeMap$NavigableSubMap", name := "inRange", desc := "(Ljava/lang/Object;)Z" } : Jvm.MethodName)) ∈ lw_all := lw_g (lw_at lw_m3 147 rfl) rfl
theorem q721 : (Jvm.Cond.sameMethod "java/util/TreeMap$NavigableSubMap" "java/util/TreeMap$NavigableSubMap" "inRange" "(Ljava/lang/Object;)Z") ∈ lw_all := lw_g (lw_at lw_m3 148 rfl) rfl
theorem q723 : (Jvm.Cond.code ({ cls := "java/util/TreeMap$NavigableSubMap", name := "inRange", desc := "(Ljava/lang/Object;)Z" } : Jvm.MethodName) prog_76_method_4_code (2 : Nat) (Option.some Jvm.ClassFile.FieldType.boolean)) ∈ lw_all := lw_g (lw_at lw_m3 150 rfl) rfl
theorem q724 : (Jvm.Cond.methodLink "java/util/TreeMap$NavigableSubMap" (46 : Nat) ({ cls := "java/util/TreeMap$NavigableSubMap", name := "tooLow", desc := "(Ljava/lang/Object;)Z" } : Jvm.MethodName)) ∈ lw_all := lw_g (lw_at lw_m3 151 rfl) rfl
theorem q725 : (Jvm.Cond.instanceMethod ({ cls := "java/util/TreeMap$NavigableSubMap", name := "tooLow", desc := "(Ljava/lang/Object;)Z" } : Jvm.MethodName)) ∈ lw_all := lw_g (lw_at lw_m3 152 rfl) rfl
theorem q726 : (Jvm.Cond.sameMethod "java/util/TreeMap$NavigableSubMap" "java/util/TreeMap$NavigableSubMap" "tooLow" "(Ljava/lang/Object;)Z") ∈ lw_all := lw_g (lw_at lw_m3 153 rfl) rfl
theorem q728 : (Jvm.Cond.code ({ cls := "java/util/TreeMap$NavigableSubMap", name := "tooLow", desc := "(Ljava/lang/Object;)Z" } : Jvm.MethodName) prog_76_method_2_code (3 : Nat) (Option.some Jvm.ClassFile.FieldType.boolean)) ∈ lw_all := lw_g (lw_at lw_m3 155 rfl) rfl
theorem q729 : (Jvm.Cond.methodLink "java/util/TreeMap$NavigableSubMap" (7 : Nat) ({ cls := "java/util/TreeMap", name := "compare", desc := "(Ljava/lang/Object;Ljava/lang/Object;)I" } : Jvm.MethodName)) ∈ lw_all := lw_g (lw_at lw_m3 156 rfl) rfl
theorem q730 : (Jvm.Cond.methodLink "java/util/TreeMap$NavigableSubMap" (50 : Nat) ({ cls := "java/util/TreeMap$NavigableSubMap", name := "tooHigh", desc := "(Ljava/lang/Object;)Z" } : Jvm.MethodName)) ∈ lw_all := lw_g (lw_at lw_m3 157 rfl) rfl
theorem q731 : (Jvm.Cond.instanceMethod ({ cls := "java/util/TreeMap$NavigableSubMap", name := "tooHigh", desc := "(Ljava/lang/Object;)Z" } : Jvm.MethodName)) ∈ lw_all := lw_g (lw_at lw_m3 158 rfl) rfl
theorem q732 : (Jvm.Cond.sameMethod "java/util/TreeMap$NavigableSubMap" "java/util/TreeMap$NavigableSubMap" "tooHigh" "(Ljava/lang/Object;)Z") ∈ lw_all := lw_g (lw_at lw_m3 159 rfl) rfl
theorem q734 : (Jvm.Cond.code ({ cls := "java/util/TreeMap$NavigableSubMap", name := "tooHigh", desc := "(Ljava/lang/Object;)Z" } : Jvm.MethodName) prog_76_method_3_code (3 : Nat) (Option.some Jvm.ClassFile.FieldType.boolean)) ∈ lw_all := lw_g (lw_at lw_m3 161 rfl) rfl
theorem q735 : (Jvm.Cond.methodLink "java/util/TreeMap$NavigableSubMap" (111 : Nat) ({ cls := "java/util/TreeMap", name := "put", desc := "(Ljava/lang/Object;Ljava/lang/Object;)Ljava/lang/Object;" } : Jvm.MethodName)) ∈ lw_all := lw_g (lw_at lw_m3 162 rfl) rfl
theorem q750 : (Jvm.Cond.instanceMethod ({ cls := "java/util/TreeMap$NavigableSubMap", name := "size", desc := "()I" } : Jvm.MethodName)) ∈ lw_all := lw_g (lw_at lw_m3 177 rfl) rfl
theorem q751 : (Jvm.Cond.publicMethod ({ cls := "java/util/TreeMap$NavigableSubMap", name := "size", desc := "()I" } : Jvm.MethodName)) ∈ lw_tbl := lw_at lw_m3 178 rfl
theorem q752 : (Jvm.Cond.code ({ cls := "java/util/TreeMap$NavigableSubMap", name := "size", desc := "()I" } : Jvm.MethodName) prog_76_method_25_code (1 : Nat) (Option.some Jvm.ClassFile.FieldType.int)) ∈ lw_all := lw_g (lw_at lw_m3 179 rfl) rfl
theorem q753 : (Jvm.Cond.methodLink "java/util/TreeMap$NavigableSubMap" (101 : Nat) ({ cls := "java/util/TreeMap", name := "size", desc := "()I" } : Jvm.MethodName)) ∈ lw_all := lw_g (lw_at lw_m3 180 rfl) rfl
theorem q754 : (Jvm.Cond.methodLink "java/util/TreeMap$NavigableSubMap" (94 : Nat) ({ cls := "java/util/TreeMap$NavigableSubMap", name := "entrySet", desc := "()Ljava/util/Set;" } : Jvm.MethodName)) ∈ lw_all := lw_g (lw_at lw_m3 181 rfl) rfl
theorem q755 : (Jvm.Cond.sameMethod "java/util/TreeMap$NavigableSubMap" "java/util/AbstractMap" "entrySet" "()Ljava/util/Set;") ∈ lw_all := lw_g (lw_at lw_m3 182 rfl) rfl
theorem q782 : (Jvm.Cond.interfaceEntry "java/util/TreeMap$NavigableSubMap" (105 : Nat)) ∈ lw_tbl := lw_at lw_m3 209 rfl
theorem q783 : (Jvm.Cond.methodLink "java/util/TreeMap$NavigableSubMap" (105 : Nat) ({ cls := "java/util/Set", name := "size", desc := "()I" } : Jvm.MethodName)) ∈ lw_all := lw_g (lw_at lw_m3 210 rfl) rfl
theorem q803 : (Jvm.Cond.declares ({ cls := "java/util/TreeMap$NavigableSubMap", name := "absLowest", desc := "()Ljava/util/TreeMap$Entry;" } : Jvm.MethodName)) ∈ lw_tbl := lw_at lw_m3 230 rfl
theorem q805 : (Jvm.Cond.instanceMethod ({ cls := "java/util/TreeMap$NavigableSubMap", name := "absLowest", desc := "()Ljava/util/TreeMap$Entry;" } : Jvm.MethodName)) ∈ lw_all := lw_g (lw_at lw_m3 232 rfl) rfl
theorem q806 : (Jvm.Cond.code ({ cls := "java/util/TreeMap$NavigableSubMap", name := "absLowest", desc := "()Ljava/util/TreeMap$Entry;" } : Jvm.MethodName) prog_76_method_7_code (2 : Nat) (Option.some (Jvm.ClassFile.FieldType.object "java/util/TreeMap$Entry"))) ∈ lw_all := lw_g (lw_at lw_m3 233 rfl) rfl
theorem q807 : (Jvm.Cond.methodLink "java/util/TreeMap$NavigableSubMap" (59 : Nat) ({ cls := "java/util/TreeMap", name := "getFirstEntry", desc := "()Ljava/util/TreeMap$Entry;" } : Jvm.MethodName)) ∈ lw_all := lw_g (lw_at lw_m3 234 rfl) rfl
theorem q811 : (Jvm.Cond.methodLink "java/util/TreeMap$NavigableSubMap" (63 : Nat) ({ cls := "java/util/TreeMap", name := "getCeilingEntry", desc := "(Ljava/lang/Object;)Ljava/util/TreeMap$Entry;" } : Jvm.MethodName)) ∈ lw_all := lw_g (lw_at lw_m3 238 rfl) rfl
theorem q815 : (Jvm.Cond.methodLink "java/util/TreeMap$NavigableSubMap" (67 : Nat) ({ cls := "java/util/TreeMap", name := "getHigherEntry", desc := "(Ljava/lang/Object;)Ljava/util/TreeMap$Entry;" } : Jvm.MethodName)) ∈ lw_all := lw_g (lw_at lw_m4 2 rfl) rfl
theorem q821 : (Jvm.Cond.declares ({ cls := "java/util/TreeMap$NavigableSubMap", name := "absHighFence", desc := "()Ljava/util/TreeMap$Entry;" } : Jvm.MethodName)) ∈ lw_tbl := lw_at lw_m4 8 rfl
theorem q823 : (Jvm.Cond.instanceMethod ({ cls := "java/util/TreeMap$NavigableSubMap", name := "absHighFence", desc := "()Ljava/util/TreeMap$Entry;" } : Jvm.MethodName)) ∈ lw_all := lw_g (lw_at lw_m4 10 rfl) rfl
theorem q824 : (Jvm.Cond.code ({ cls := "java/util/TreeMap$NavigableSubMap", name := "absHighFence", desc := "()Ljava/util/TreeMap$Entry;" } : Jvm.MethodName) prog_76_method_13_code (1 : Nat) (Option.some (Jvm.ClassFile.FieldType.object "java/util/TreeMap$Entry"))) ∈ lw_all := lw_g (lw_at lw_m4 11 rfl) rfl
theorem q1048 : (Jvm.Cond.instanceMethod ({ cls := "java/util/TreeMap$NavigableSubMap", name := "pollFirstEntry", desc := "()Ljava/util/Map$Entry;" } : Jvm.MethodName)) ∈ lw_all := lw_g (lw_at lw_m4 235 rfl) rfl
theorem q1049 : (Jvm.Cond.publicMethod ({ cls := "java/util/TreeMap$NavigableSubMap", name := "pollFirstEntry", desc := "()Ljava/util/Map$Entry;" } : Jvm.MethodName)) ∈ lw_tbl := lw_at lw_m4 236 rfl
theorem q1050 : (Jvm.Cond.code ({ cls := "java/util/TreeMap$NavigableSubMap", name := "pollFirstEntry", desc := "()Ljava/util/Map$Entry;" } : Jvm.MethodName) prog_76_method_47_code (3 : Nat) (Option.some (Jvm.ClassFile.FieldType.object "java/util/Map$Entry"))) ∈ lw_all := lw_g (lw_at lw_m4 237 rfl) rfl
theorem q1051 : (Jvm.Cond.methodLink "java/util/TreeMap$NavigableSubMap" (169 : Nat) ({ cls := "java/util/TreeMap$NavigableSubMap", name := "subLowest", desc := "()Ljava/util/TreeMap$Entry;" } : Jvm.MethodName)) ∈ lw_all := lw_g (lw_at lw_m4 238 rfl) rfl
theorem q1052 : (Jvm.Cond.declares ({ cls := "java/util/TreeMap$NavigableSubMap", name := "subLowest", desc := "()Ljava/util/TreeMap$Entry;" } : Jvm.MethodName)) ∈ lw_tbl := lw_at lw_m4 239 rfl
theorem q1053 : (Jvm.Cond.sameMethod "java/util/TreeMap$NavigableSubMap" "java/util/TreeMap$NavigableSubMap" "subLowest" "()Ljava/util/TreeMap$Entry;") ∈ lw_all := lw_g (lw_at lw_m5 0 rfl) rfl
theorem q1058 : (Jvm.Cond.methodLink "java/util/TreeMap$NavigableSubMap" (152 : Nat) ({ cls := "java/util/TreeMap", name := "exportEntry", desc := "(Ljava/util/TreeMap$Entry;)Ljava/util/Map$Entry;" } : Jvm.MethodName)) ∈ lw_all := lw_g (lw_at lw_m5 5 rfl) rfl
theorem q1059 : (Jvm.Cond.methodLinkNest "java/util/TreeMap$NavigableSubMap" (177 : Nat) ({ cls := "java/util/TreeMap", name := "deleteEntry", desc := "(Ljava/util/TreeMap$Entry;)V" } : Jvm.MethodName) "java/util/TreeMap") ∈ lw_tbl := lw_at lw_m5 6 rfl
theorem q1876 : (Jvm.Cond.declares ({ cls := "java/util/TreeMap$NavigableSubMap", name := "keyIterator", desc := "()Ljava/util/Iterator;" } : Jvm.MethodName)) ∈ lw_tbl := lw_at lw_m8 103 rfl
theorem q1877 : (Jvm.Cond.sameMethod "java/util/TreeMap$NavigableSubMap" "java/util/TreeMap$NavigableSubMap" "keyIterator" "()Ljava/util/Iterator;") ∈ lw_all := lw_g (lw_at lw_m8 104 rfl) rfl
theorem q1942 : (Jvm.Cond.instanceMethod ({ cls := "java/util/TreeMap$NavigableSubMap", name := "navigableKeySet", desc := "()Ljava/util/NavigableSet;" } : Jvm.MethodName)) ∈ lw_all := lw_g (lw_at lw_m8 169 rfl) rfl
theorem q1943 : (Jvm.Cond.publicMethod ({ cls := "java/util/TreeMap$NavigableSubMap", name := "navigableKeySet", desc := "()Ljava/util/NavigableSet;" } : Jvm.MethodName)) ∈ lw_tbl := lw_at lw_m8 170 rfl
theorem q1944 : (Jvm.Cond.code ({ cls := "java/util/TreeMap$NavigableSubMap", name := "navigableKeySet", desc := "()Ljava/util/NavigableSet;" } : Jvm.MethodName) prog_76_method_49_code (2 : Nat) (Option.some (Jvm.ClassFile.FieldType.object "java/util/NavigableSet"))) ∈ lw_all := lw_g (lw_at lw_m8 171 rfl) rfl
theorem q1945 : (Jvm.Cond.classLink "java/util/TreeMap$NavigableSubMap" (185 : Nat) "java/util/TreeMap$KeySet") ∈ lw_all := lw_g (lw_at lw_m8 172 rfl) rfl
theorem q1946 : (Jvm.Cond.methodLink "java/util/TreeMap$NavigableSubMap" (187 : Nat) ({ cls := "java/util/TreeMap$KeySet", name := "<init>", desc := "(Ljava/util/NavigableMap;)V" } : Jvm.MethodName)) ∈ lw_all := lw_g (lw_at lw_m8 173 rfl) rfl
theorem q2088 : (Jvm.Cond.instanceMethod ({ cls := "java/util/TreeMap$NavigableSubMap", name := "lastKey", desc := "()Ljava/lang/Object;" } : Jvm.MethodName)) ∈ lw_all := lw_g (lw_at lw_m9 75 rfl) rfl
theorem q2089 : (Jvm.Cond.publicMethod ({ cls := "java/util/TreeMap$NavigableSubMap", name := "lastKey", desc := "()Ljava/lang/Object;" } : Jvm.MethodName)) ∈ lw_tbl := lw_at lw_m9 76 rfl
theorem q2090 : (Jvm.Cond.code ({ cls := "java/util/TreeMap$NavigableSubMap", name := "lastKey", desc := "()Ljava/lang/Object;" } : Jvm.MethodName) prog_76_method_44_code (1 : Nat) (Option.some (Jvm.ClassFile.FieldType.object "java/lang/Object"))) ∈ lw_all := lw_g (lw_at lw_m9 77 rfl) rfl
theorem q2091 : (Jvm.Cond.methodLink "java/util/TreeMap$NavigableSubMap" (174 : Nat) ({ cls := "java/util/TreeMap$NavigableSubMap", name := "subHighest", desc := "()Ljava/util/TreeMap$Entry;" } : Jvm.MethodName)) ∈ lw_all := lw_g (lw_at lw_m9 78 rfl) rfl
theorem q2092 : (Jvm.Cond.declares ({ cls := "java/util/TreeMap$NavigableSubMap", name := "subHighest", desc := "()Ljava/util/TreeMap$Entry;" } : Jvm.MethodName)) ∈ lw_tbl := lw_at lw_m9 79 rfl
theorem q2093 : (Jvm.Cond.sameMethod "java/util/TreeMap$NavigableSubMap" "java/util/TreeMap$NavigableSubMap" "subHighest" "()Ljava/util/TreeMap$Entry;") ∈ lw_all := lw_g (lw_at lw_m9 80 rfl) rfl
theorem q2099 : (Jvm.Cond.declares ({ cls := "java/util/TreeMap$NavigableSubMap", name := "absHighest", desc := "()Ljava/util/TreeMap$Entry;" } : Jvm.MethodName)) ∈ lw_tbl := lw_at lw_m9 86 rfl
theorem q2101 : (Jvm.Cond.instanceMethod ({ cls := "java/util/TreeMap$NavigableSubMap", name := "absHighest", desc := "()Ljava/util/TreeMap$Entry;" } : Jvm.MethodName)) ∈ lw_all := lw_g (lw_at lw_m9 88 rfl) rfl
theorem q2102 : (Jvm.Cond.code ({ cls := "java/util/TreeMap$NavigableSubMap", name := "absHighest", desc := "()Ljava/util/TreeMap$Entry;" } : Jvm.MethodName) prog_76_method_8_code (2 : Nat) (Option.some (Jvm.ClassFile.FieldType.object "java/util/TreeMap$Entry"))) ∈ lw_all := lw_g (lw_at lw_m9 89 rfl) rfl
theorem q2103 : (Jvm.Cond.methodLink "java/util/TreeMap$NavigableSubMap" (75 : Nat) ({ cls := "java/util/TreeMap", name := "getLastEntry", desc := "()Ljava/util/TreeMap$Entry;" } : Jvm.MethodName)) ∈ lw_all := lw_g (lw_at lw_m9 90 rfl) rfl
theorem q2104 : (Jvm.Cond.methodLink "java/util/TreeMap$NavigableSubMap" (78 : Nat) ({ cls := "java/util/TreeMap", name := "getFloorEntry", desc := "(Ljava/lang/Object;)Ljava/util/TreeMap$Entry;" } : Jvm.MethodName)) ∈ lw_all := lw_g (lw_at lw_m9 91 rfl) rfl
theorem q2108 : (Jvm.Cond.methodLink "java/util/TreeMap$NavigableSubMap" (81 : Nat) ({ cls := "java/util/TreeMap", name := "getLowerEntry", desc := "(Ljava/lang/Object;)Ljava/util/TreeMap$Entry;" } : Jvm.MethodName)) ∈ lw_all := lw_g (lw_at lw_m9 95 rfl) rfl
theorem q2112 : (Jvm.Cond.methodLink "java/util/TreeMap$NavigableSubMap" (172 : Nat) ({ cls := "java/util/TreeMap", name := "key", desc := "(Ljava/util/TreeMap$Entry;)Ljava/lang/Object;" } : Jvm.MethodName)) ∈ lw_all := lw_g (lw_at lw_m9 99 rfl) rfl
theorem q2193 : (Jvm.Cond.instanceMethod ({ cls := "java/util/TreeMap$NavigableSubMap", name := "floorKey", desc := "(Ljava/lang/Object;)Ljava/lang/Object;" } : Jvm.MethodName)) ∈ lw_all := lw_g (lw_at lw_m9 180 rfl) rfl
theorem q2194 : (Jvm.Cond.publicMethod ({ cls := "java/util/TreeMap$NavigableSubMap", name := "floorKey", desc := "(Ljava/lang/Object;)Ljava/lang/Object;" } : Jvm.MethodName)) ∈ lw_tbl := lw_at lw_m9 181 rfl
theorem q2195 : (Jvm.Cond.code ({ cls := "java/util/TreeMap$NavigableSubMap", name := "floorKey", desc := "(Ljava/lang/Object;)Ljava/lang/Object;" } : Jvm.MethodName) prog_76_method_40_code (2 : Nat) (Option.some (Jvm.ClassFile.FieldType.object "java/lang/Object"))) ∈ lw_all := lw_g (lw_at lw_m9 182 rfl) rfl
theorem q2196 : (Jvm.Cond.methodLink "java/util/TreeMap$NavigableSubMap" (163 : Nat) ({ cls := "java/util/TreeMap$NavigableSubMap", name := "subFloor", desc := "(Ljava/lang/Object;)Ljava/util/TreeMap$Entry;" } : Jvm.MethodName)) ∈ lw_all := lw_g (lw_at lw_m9 183 rfl) rfl
theorem q2197 : (Jvm.Cond.declares ({ cls := "java/util/TreeMap$NavigableSubMap", name := "subFloor", desc := "(Ljava/lang/Object;)Ljava/util/TreeMap$Entry;" } : Jvm.MethodName)) ∈ lw_tbl := lw_at lw_m9 184 rfl
theorem q2198 : (Jvm.Cond.sameMethod "java/util/TreeMap$NavigableSubMap" "java/util/TreeMap$NavigableSubMap" "subFloor" "(Ljava/lang/Object;)Ljava/util/TreeMap$Entry;") ∈ lw_all := lw_g (lw_at lw_m9 185 rfl) rfl
theorem q2204 : (Jvm.Cond.declares ({ cls := "java/util/TreeMap$NavigableSubMap", name := "absFloor", desc := "(Ljava/lang/Object;)Ljava/util/TreeMap$Entry;" } : Jvm.MethodName)) ∈ lw_tbl := lw_at lw_m9 191 rfl
theorem q2206 : (Jvm.Cond.instanceMethod ({ cls := "java/util/TreeMap$NavigableSubMap", name := "absFloor", desc := "(Ljava/lang/Object;)Ljava/util/TreeMap$Entry;" } : Jvm.MethodName)) ∈ lw_all := lw_g (lw_at lw_m9 193 rfl) rfl
theorem q2207 : (Jvm.Cond.code ({ cls := "java/util/TreeMap$NavigableSubMap", name := "absFloor", desc := "(Ljava/lang/Object;)Ljava/util/TreeMap$Entry;" } : Jvm.MethodName) prog_76_method_11_code (3 : Nat) (Option.some (Jvm.ClassFile.FieldType.object "java/util/TreeMap$Entry"))) ∈ lw_all := lw_g (lw_at lw_m9 194 rfl) rfl
theorem q2208 : (Jvm.Cond.methodLink "java/util/TreeMap$NavigableSubMap" (87 : Nat) ({ cls := "java/util/TreeMap$NavigableSubMap", name := "absHighest", desc := "()Ljava/util/TreeMap$Entry;" } : Jvm.MethodName)) ∈ lw_all := lw_g (lw_at lw_m9 195 rfl) rfl
theorem q2209 : (Jvm.Cond.methodLink "java/util/TreeMap$NavigableSubMap" (156 : Nat) ({ cls := "java/util/TreeMap", name := "keyOrNull", desc := "(Ljava/util/TreeMap$Entry;)Ljava/lang/Object;" } : Jvm.MethodName)) ∈ lw_all := lw_g (lw_at lw_m9 196 rfl) rfl
theorem q2392 : (Jvm.Cond.instanceMethod ({ cls := "java/util/TreeMap$NavigableSubMap", name := "<init>", desc := "(Ljava/util/TreeMap;ZLjava/lang/Object;ZZLjava/lang/Object;Z)V" } : Jvm.MethodName)) ∈ lw_all := lw_g (lw_at lw_m10 139 rfl) rfl
theorem q2393 : (Jvm.Cond.code ({ cls := "java/util/TreeMap$NavigableSubMap", name := "<init>", desc := "(Ljava/util/TreeMap;ZLjava/lang/Object;ZZLjava/lang/Object;Z)V" } : Jvm.MethodName) prog_76_method_1_code (8 : Nat) (Option.none : Option Jvm.ClassFile.FieldType)) ∈ lw_all := lw_g (lw_at lw_m10 140 rfl) rfl
theorem q2394 : (Jvm.Cond.methodLink "java/util/TreeMap$NavigableSubMap" (1 : Nat) ({ cls := "java/util/AbstractMap", name := "<init>", desc := "()V" } : Jvm.MethodName)) ∈ lw_all := lw_g (lw_at lw_m10 141 rfl) rfl
theorem q2396 : (Jvm.Cond.fieldLink "java/util/TreeMap$NavigableSubMap" (20 : Nat) "java/util/TreeMap$NavigableSubMap" "m" "Ljava/util/TreeMap;") ∈ lw_all := lw_g (lw_at lw_m10 143 rfl) rfl
theorem q2400 : (Jvm.Cond.fieldLink "java/util/TreeMap$NavigableSubMap" (30 : Nat) "java/util/TreeMap$NavigableSubMap" "lo" "Ljava/lang/Object;") ∈ lw_all := lw_g (lw_at lw_m10 147 rfl) rfl
theorem q2403 : (Jvm.Cond.fieldLink "java/util/TreeMap$NavigableSubMap" (40 : Nat) "java/util/TreeMap$NavigableSubMap" "hi" "Ljava/lang/Object;") ∈ lw_all := lw_g (lw_at lw_m10 150 rfl) rfl
theorem q2404 : (Jvm.Cond.fieldLink "java/util/TreeMap$NavigableSubMap" (26 : Nat) "java/util/TreeMap$NavigableSubMap" "fromStart" "Z") ∈ lw_all := lw_g (lw_at lw_m10 151 rfl) rfl
theorem q2408 : (Jvm.Cond.fieldLink "java/util/TreeMap$NavigableSubMap" (37 : Nat) "java/util/TreeMap$NavigableSubMap" "toEnd" "Z") ∈ lw_all := lw_g (lw_at lw_m10 155 rfl) rfl
theorem q2410 : (Jvm.Cond.fieldLink "java/util/TreeMap$NavigableSubMap" (34 : Nat) "java/util/TreeMap$NavigableSubMap" "loInclusive" "Z") ∈ lw_all := lw_g (lw_at lw_m10 157 rfl) rfl
theorem q2413 : (Jvm.Cond.fieldLink "java/util/TreeMap$NavigableSubMap" (43 : Nat) "java/util/TreeMap$NavigableSubMap" "hiInclusive" "Z") ∈ lw_all := lw_g (lw_at lw_m10 160 rfl) rfl
theorem q2416 : (Jvm.Cond.fieldLink "java/util/TreeMap$NavigableSubMap" (181 : Nat) "java/util/TreeMap$NavigableSubMap" "navigableKeySetView" "Ljava/util/TreeMap$KeySet;") ∈ lw_all := lw_g (lw_at lw_m10 163 rfl) rfl
theorem q2418 : (Jvm.Cond.soleField "java/util/TreeMap$NavigableSubMap" "m") ∈ lw_all := lw_g (lw_at lw_m10 165 rfl) rfl
theorem q2420 : (Jvm.Cond.soleField "java/util/TreeMap$NavigableSubMap" "lo") ∈ lw_all := lw_g (lw_at lw_m10 167 rfl) rfl
theorem q2422 : (Jvm.Cond.soleField "java/util/TreeMap$NavigableSubMap" "hi") ∈ lw_all := lw_g (lw_at lw_m10 169 rfl) rfl
theorem q2424 : (Jvm.Cond.soleField "java/util/TreeMap$NavigableSubMap" "fromStart") ∈ lw_all := lw_g (lw_at lw_m10 171 rfl) rfl
theorem q2426 : (Jvm.Cond.soleField "java/util/TreeMap$NavigableSubMap" "toEnd") ∈ lw_all := lw_g (lw_at lw_m10 173 rfl) rfl
theorem q2428 : (Jvm.Cond.soleField "java/util/TreeMap$NavigableSubMap" "loInclusive") ∈ lw_all := lw_g (lw_at lw_m10 175 rfl) rfl
theorem q2430 : (Jvm.Cond.soleField "java/util/TreeMap$NavigableSubMap" "hiInclusive") ∈ lw_all := lw_g (lw_at lw_m10 177 rfl) rfl
theorem q2432 : (Jvm.Cond.soleField "java/util/TreeMap$NavigableSubMap" "descendingMapView") ∈ lw_all := lw_g (lw_at lw_m10 179 rfl) rfl
theorem q2434 : (Jvm.Cond.soleField "java/util/TreeMap$NavigableSubMap" "entrySetView") ∈ lw_all := lw_g (lw_at lw_m10 181 rfl) rfl
theorem q2436 : (Jvm.Cond.soleField "java/util/TreeMap$NavigableSubMap" "navigableKeySetView") ∈ lw_all := lw_g (lw_at lw_m10 183 rfl) rfl
theorem q2447 : (Jvm.Cond.declares ({ cls := "java/util/TreeMap$NavigableSubMap", name := "inRange", desc := "(Ljava/lang/Object;Z)Z" } : Jvm.MethodName)) ∈ lw_tbl := lw_at lw_m10 194 rfl
theorem q2449 : (Jvm.Cond.instanceMethod ({ cls := "java/util/TreeMap$NavigableSubMap", name := "inRange", desc := "(Ljava/lang/Object;Z)Z" } : Jvm.MethodName)) ∈ lw_all := lw_g (lw_at lw_m10 196 rfl) rfl
theorem q2450 : (Jvm.Cond.code ({ cls := "java/util/TreeMap$NavigableSubMap", name := "inRange", desc := "(Ljava/lang/Object;Z)Z" } : Jvm.MethodName) prog_76_method_6_code (3 : Nat) (Option.some Jvm.ClassFile.FieldType.boolean)) ∈ lw_all := lw_g (lw_at lw_m10 197 rfl) rfl
theorem q2451 : (Jvm.Cond.methodLink "java/util/TreeMap$NavigableSubMap" (56 : Nat) ({ cls := "java/util/TreeMap$NavigableSubMap", name := "inClosedRange", desc := "(Ljava/lang/Object;)Z" } : Jvm.MethodName)) ∈ lw_all := lw_g (lw_at lw_m10 198 rfl) rfl
theorem q2452 : (Jvm.Cond.instanceMethod ({ cls := "java/util/TreeMap$NavigableSubMap", name := "inClosedRange", desc := "(Ljava/lang/Object;)Z" } : Jvm.MethodName)) ∈ lw_all := lw_g (lw_at lw_m10 199 rfl) rfl
theorem q2453 : (Jvm.Cond.sameMethod "java/util/TreeMap$NavigableSubMap" "java/util/TreeMap$NavigableSubMap" "inClosedRange" "(Ljava/lang/Object;)Z") ∈ lw_all := lw_g (lw_at lw_m10 200 rfl) rfl
theorem q2455 : (Jvm.Cond.code ({ cls := "java/util/TreeMap$NavigableSubMap", name := "inClosedRange", desc := "(Ljava/lang/Object;)Z" } : Jvm.MethodName) prog_76_method_5_code (2 : Nat) (Option.some Jvm.ClassFile.FieldType.boolean)) ∈ lw_all := lw_g (lw_at lw_m10 202 rfl) rfl
theorem q3101 : (Jvm.Cond.sameMethod "java/util/TreeMap$NavigableSubMap" "java/util/TreeMap$NavigableSubMap" "absHighest" "()Ljava/util/TreeMap$Entry;") ∈ lw_all := lw_g (lw_at lw_m13 128 rfl) rfl

/-! java/util/TreeMap$AscendingSubMap -/
set_option maxRecDepth 100000
def RJ41 : String := "java/util/TreeMap$AscendingSubMap"
def TJ41 : u_T := fun k => match k with
  | 0 => ("java/util/TreeMap$NavigableSubMap", "m", "Ljava/util/TreeMap;", true)
  | 1 => ("java/util/TreeMap$NavigableSubMap", "lo", "Ljava/lang/Object;", true)
  | 2 => ("java/util/TreeMap$NavigableSubMap", "hi", "Ljava/lang/Object;", true)
  | 3 => ("java/util/TreeMap$NavigableSubMap", "fromStart", "Z", true)
  | 4 => ("java/util/TreeMap$NavigableSubMap", "toEnd", "Z", true)
  | 5 => ("java/util/TreeMap$NavigableSubMap", "loInclusive", "Z", true)
  | 6 => ("java/util/TreeMap$NavigableSubMap", "hiInclusive", "Z", true)
  | 7 => ("java/util/TreeMap$NavigableSubMap", "descendingMapView", "Ljava/util/NavigableMap;", false)
  | 8 => ("java/util/TreeMap$NavigableSubMap", "entrySetView", "Ljava/util/TreeMap$NavigableSubMap$EntrySetView;", false)
  | 9 => ("java/util/TreeMap$NavigableSubMap", "navigableKeySetView", "Ljava/util/TreeMap$KeySet;", false)
  | 10 => ("java/util/AbstractMap", "keySet", "Ljava/util/Set;", false)
  | _ => ("java/util/AbstractMap", "values", "Ljava/util/Collection;", false)
def tyJ41 : Nat → FieldType := fun k => match k with
  | 0 => .object "java/util/TreeMap"
  | 1 => .object "java/lang/Object"
  | 2 => .object "java/lang/Object"
  | 3 => .boolean
  | 4 => .boolean
  | 5 => .boolean
  | 6 => .boolean
  | 7 => .object "java/util/NavigableMap"
  | 8 => .object "java/util/TreeMap$NavigableSubMap$EntrySetView"
  | 9 => .object "java/util/TreeMap$KeySet"
  | 10 => .object "java/util/Set"
  | _ => .object "java/util/Collection"
abbrev wsJ410 : List Cond := u_ws RJ41 TJ41 12
theorem nmJ41 : ∀ a, a < 12 → ∀ b, b < 12 → a ≠ b → (TJ41 a).2.1 ≠ (TJ41 b).2.1 := by decide +kernel
theorem tyJ41_ok : ∀ k, k < 12 → parseFieldDescriptor (TJ41 k).2.2.1 = some (tyJ41 k) := by decide +kernel
abbrev cJ41_entrySet : ByteArray := prog_71_method_10_code
def yJ41_entrySet : MethodName := ⟨RJ41, "entrySet", "()Ljava/util/Set;"⟩
def dkwJ41_entrySet_1 : List UInt8 := [181, 0, 81, 176]
abbrev dktJ41_entrySet_1 : List UInt8 := dkwJ41_entrySet_1 ++ []
def dkwJ41_entrySet_0 : List UInt8 := [42, 180, 0, 81, 76, 43, 198, 0, 7, 43, 167, 0, 16, 42, 187, 0, 85, 89, 42, 183, 0, 87, 90]
abbrev dktJ41_entrySet_0 : List UInt8 := dkwJ41_entrySet_0 ++ dktJ41_entrySet_1
theorem dksJ41_entrySet_0 : cJ41_entrySet.data.toList.drop 0 = dktJ41_entrySet_0 := by decide +kernel
theorem dksJ41_entrySet_1 : cJ41_entrySet.data.toList.drop 23 = dktJ41_entrySet_1 := dk_seg dksJ41_entrySet_0 23 rfl rfl
theorem dJ41_entrySet_0 : decode cJ41_entrySet 0 = .ok (.aload_n 0, 1) := dk_42 (dk_at dksJ41_entrySet_0 0 rfl rfl)
theorem dJ41_entrySet_1 : decode cJ41_entrySet 1 = .ok (.getfield 81, 3) := dk_180 0 81 (dk_at dksJ41_entrySet_0 1 rfl rfl)
theorem dJ41_entrySet_4 : decode cJ41_entrySet 4 = .ok (.astore_n 1, 1) := dk_76 (dk_at dksJ41_entrySet_0 4 rfl rfl)
theorem dJ41_entrySet_5 : decode cJ41_entrySet 5 = .ok (.aload_n 1, 1) := dk_43 (dk_at dksJ41_entrySet_0 5 rfl rfl)
theorem dJ41_entrySet_6 : decode cJ41_entrySet 6 = .ok (.ifnull 7, 3) := dk_198 0 7 (dk_at dksJ41_entrySet_0 6 rfl rfl)
theorem dJ41_entrySet_9 : decode cJ41_entrySet 9 = .ok (.aload_n 1, 1) := dk_43 (dk_at dksJ41_entrySet_0 9 rfl rfl)
theorem dJ41_entrySet_10 : decode cJ41_entrySet 10 = .ok (.goto 16, 3) := dk_167 0 16 (dk_at dksJ41_entrySet_0 10 rfl rfl)
theorem dJ41_entrySet_13 : decode cJ41_entrySet 13 = .ok (.aload_n 0, 1) := dk_42 (dk_at dksJ41_entrySet_0 13 rfl rfl)
theorem dJ41_entrySet_14 : decode cJ41_entrySet 14 = .ok (.new 85, 3) := dk_187 0 85 (dk_at dksJ41_entrySet_0 14 rfl rfl)
theorem dJ41_entrySet_17 : decode cJ41_entrySet 17 = .ok (.dup, 1) := dk_89 (dk_at dksJ41_entrySet_0 17 rfl rfl)
theorem dJ41_entrySet_18 : decode cJ41_entrySet 18 = .ok (.aload_n 0, 1) := dk_42 (dk_at dksJ41_entrySet_0 18 rfl rfl)
theorem dJ41_entrySet_19 : decode cJ41_entrySet 19 = .ok (.invokespecial 87, 3) := dk_183 0 87 (dk_at dksJ41_entrySet_0 19 rfl rfl)
theorem dJ41_entrySet_22 : decode cJ41_entrySet 22 = .ok (.dup_x1, 1) := dk_90 (dk_at dksJ41_entrySet_0 22 rfl rfl)
theorem dJ41_entrySet_23 : decode cJ41_entrySet 23 = .ok (.putfield 81, 3) := dk_181 0 81 (dk_at dksJ41_entrySet_1 0 rfl rfl)
theorem dJ41_entrySet_26 : decode cJ41_entrySet 26 = .ok (.areturn, 1) := dk_176 (dk_at dksJ41_entrySet_1 3 rfl rfl)
abbrev cJ41_subLowest : ByteArray := prog_71_method_11_code
def yJ41_subLowest : MethodName := ⟨RJ41, "subLowest", "()Ljava/util/TreeMap$Entry;"⟩
theorem dJ41_subLowest_0 : decode cJ41_subLowest 0 = .ok (.aload_n 0, 1) := by decide +kernel
theorem dJ41_subLowest_1 : decode cJ41_subLowest 1 = .ok (.invokevirtual 62, 3) := by decide +kernel
theorem dJ41_subLowest_4 : decode cJ41_subLowest 4 = .ok (.areturn, 1) := by decide +kernel
abbrev cJ41_keyIterator : ByteArray := prog_71_method_7_code
def yJ41_keyIterator : MethodName := ⟨RJ41, "keyIterator", "()Ljava/util/Iterator;"⟩
def dkwJ41_keyIterator_0 : List UInt8 := [187, 0, 60, 89, 42, 42, 182, 0, 62, 42, 182, 0, 66, 183, 0, 69, 176]
abbrev dktJ41_keyIterator_0 : List UInt8 := dkwJ41_keyIterator_0 ++ []
theorem dksJ41_keyIterator_0 : cJ41_keyIterator.data.toList.drop 0 = dktJ41_keyIterator_0 := by decide +kernel
theorem dJ41_keyIterator_0 : decode cJ41_keyIterator 0 = .ok (.new 60, 3) := dk_187 0 60 (dk_at dksJ41_keyIterator_0 0 rfl rfl)
theorem dJ41_keyIterator_3 : decode cJ41_keyIterator 3 = .ok (.dup, 1) := dk_89 (dk_at dksJ41_keyIterator_0 3 rfl rfl)
theorem dJ41_keyIterator_4 : decode cJ41_keyIterator 4 = .ok (.aload_n 0, 1) := dk_42 (dk_at dksJ41_keyIterator_0 4 rfl rfl)
theorem dJ41_keyIterator_5 : decode cJ41_keyIterator 5 = .ok (.aload_n 0, 1) := dk_42 (dk_at dksJ41_keyIterator_0 5 rfl rfl)
theorem dJ41_keyIterator_6 : decode cJ41_keyIterator 6 = .ok (.invokevirtual 62, 3) := dk_182 0 62 (dk_at dksJ41_keyIterator_0 6 rfl rfl)
theorem dJ41_keyIterator_9 : decode cJ41_keyIterator 9 = .ok (.aload_n 0, 1) := dk_42 (dk_at dksJ41_keyIterator_0 9 rfl rfl)
theorem dJ41_keyIterator_10 : decode cJ41_keyIterator 10 = .ok (.invokevirtual 66, 3) := dk_182 0 66 (dk_at dksJ41_keyIterator_0 10 rfl rfl)
theorem dJ41_keyIterator_13 : decode cJ41_keyIterator 13 = .ok (.invokespecial 69, 3) := dk_183 0 69 (dk_at dksJ41_keyIterator_0 13 rfl rfl)
theorem dJ41_keyIterator_16 : decode cJ41_keyIterator 16 = .ok (.areturn, 1) := dk_176 (dk_at dksJ41_keyIterator_0 16 rfl rfl)
abbrev cJ41_subHighest : ByteArray := prog_71_method_12_code
def yJ41_subHighest : MethodName := ⟨RJ41, "subHighest", "()Ljava/util/TreeMap$Entry;"⟩
theorem dJ41_subHighest_0 : decode cJ41_subHighest 0 = .ok (.aload_n 0, 1) := by decide +kernel
theorem dJ41_subHighest_1 : decode cJ41_subHighest 1 = .ok (.invokevirtual 74, 3) := by decide +kernel
theorem dJ41_subHighest_4 : decode cJ41_subHighest 4 = .ok (.areturn, 1) := by decide +kernel
abbrev cJ41_subFloor : ByteArray := prog_71_method_15_code
def yJ41_subFloor : MethodName := ⟨RJ41, "subFloor", "(Ljava/lang/Object;)Ljava/util/TreeMap$Entry;"⟩
def dkwJ41_subFloor_0 : List UInt8 := [42, 43, 182, 0, 97, 176]
abbrev dktJ41_subFloor_0 : List UInt8 := dkwJ41_subFloor_0 ++ []
theorem dksJ41_subFloor_0 : cJ41_subFloor.data.toList.drop 0 = dktJ41_subFloor_0 := by decide +kernel
theorem dJ41_subFloor_0 : decode cJ41_subFloor 0 = .ok (.aload_n 0, 1) := dk_42 (dk_at dksJ41_subFloor_0 0 rfl rfl)
theorem dJ41_subFloor_1 : decode cJ41_subFloor 1 = .ok (.aload_n 1, 1) := dk_43 (dk_at dksJ41_subFloor_0 1 rfl rfl)
theorem dJ41_subFloor_2 : decode cJ41_subFloor 2 = .ok (.invokevirtual 97, 3) := dk_182 0 97 (dk_at dksJ41_subFloor_0 2 rfl rfl)
theorem dJ41_subFloor_5 : decode cJ41_subFloor 5 = .ok (.areturn, 1) := dk_176 (dk_at dksJ41_subFloor_0 5 rfl rfl)
abbrev cJ41_init : ByteArray := prog_71_method_1_code
def yJ41_init : MethodName := ⟨RJ41, "<init>", "(Ljava/util/TreeMap;ZLjava/lang/Object;ZZLjava/lang/Object;Z)V"⟩
def dkwJ41_init_0 : List UInt8 := [42, 43, 28, 45, 21, 4, 21, 5, 25, 6, 21, 7, 183, 0, 1, 177]
abbrev dktJ41_init_0 : List UInt8 := dkwJ41_init_0 ++ []
theorem dksJ41_init_0 : cJ41_init.data.toList.drop 0 = dktJ41_init_0 := by decide +kernel
theorem dJ41_init_0 : decode cJ41_init 0 = .ok (.aload_n 0, 1) := dk_42 (dk_at dksJ41_init_0 0 rfl rfl)
theorem dJ41_init_1 : decode cJ41_init 1 = .ok (.aload_n 1, 1) := dk_43 (dk_at dksJ41_init_0 1 rfl rfl)
theorem dJ41_init_2 : decode cJ41_init 2 = .ok (.iload_n 2, 1) := dk_28 (dk_at dksJ41_init_0 2 rfl rfl)
theorem dJ41_init_3 : decode cJ41_init 3 = .ok (.aload_n 3, 1) := dk_45 (dk_at dksJ41_init_0 3 rfl rfl)
theorem dJ41_init_4 : decode cJ41_init 4 = .ok (.iload 4, 2) := dk_21 4 (dk_at dksJ41_init_0 4 rfl rfl)
theorem dJ41_init_6 : decode cJ41_init 6 = .ok (.iload 5, 2) := dk_21 5 (dk_at dksJ41_init_0 6 rfl rfl)
theorem dJ41_init_8 : decode cJ41_init 8 = .ok (.aload 6, 2) := dk_25 6 (dk_at dksJ41_init_0 8 rfl rfl)
theorem dJ41_init_10 : decode cJ41_init 10 = .ok (.iload 7, 2) := dk_21 7 (dk_at dksJ41_init_0 10 rfl rfl)
theorem dJ41_init_12 : decode cJ41_init 12 = .ok (.invokespecial 1, 3) := dk_183 0 1 (dk_at dksJ41_init_0 12 rfl rfl)
theorem dJ41_init_15 : decode cJ41_init 15 = .ok (.return_, 1) := dk_177 (dk_at dksJ41_init_0 15 rfl rfl)
abbrev cJ41_headMap : ByteArray := prog_71_method_4_code
def yJ41_headMap : MethodName := ⟨RJ41, "headMap", "(Ljava/lang/Object;Z)Ljava/util/NavigableMap;"⟩
def dkwJ41_headMap_1 : List UInt8 := [180, 0, 7, 42, 180, 0, 33, 42, 180, 0, 37, 42, 180, 0, 41, 3, 43, 28, 183, 0, 32, 176]
abbrev dktJ41_headMap_1 : List UInt8 := dkwJ41_headMap_1 ++ []
def dkwJ41_headMap_0 : List UInt8 := [42, 43, 28, 182, 0, 19, 154, 0, 13, 187, 0, 23, 89, 18, 30, 183, 0, 27, 191, 187, 0, 8, 89, 42]
abbrev dktJ41_headMap_0 : List UInt8 := dkwJ41_headMap_0 ++ dktJ41_headMap_1
theorem dksJ41_headMap_0 : cJ41_headMap.data.toList.drop 0 = dktJ41_headMap_0 := by decide +kernel
theorem dksJ41_headMap_1 : cJ41_headMap.data.toList.drop 24 = dktJ41_headMap_1 := dk_seg dksJ41_headMap_0 24 rfl rfl
theorem dJ41_headMap_0 : decode cJ41_headMap 0 = .ok (.aload_n 0, 1) := dk_42 (dk_at dksJ41_headMap_0 0 rfl rfl)
theorem dJ41_headMap_1 : decode cJ41_headMap 1 = .ok (.aload_n 1, 1) := dk_43 (dk_at dksJ41_headMap_0 1 rfl rfl)
theorem dJ41_headMap_2 : decode cJ41_headMap 2 = .ok (.iload_n 2, 1) := dk_28 (dk_at dksJ41_headMap_0 2 rfl rfl)
theorem dJ41_headMap_3 : decode cJ41_headMap 3 = .ok (.invokevirtual 19, 3) := dk_182 0 19 (dk_at dksJ41_headMap_0 3 rfl rfl)
theorem dJ41_headMap_6 : decode cJ41_headMap 6 = .ok (.ifCond .ne 13, 3) := dk_154 0 13 (dk_at dksJ41_headMap_0 6 rfl rfl)
theorem dJ41_headMap_9 : decode cJ41_headMap 9 = .ok (.new 23, 3) := dk_187 0 23 (dk_at dksJ41_headMap_0 9 rfl rfl)
theorem dJ41_headMap_12 : decode cJ41_headMap 12 = .ok (.dup, 1) := dk_89 (dk_at dksJ41_headMap_0 12 rfl rfl)
theorem dJ41_headMap_13 : decode cJ41_headMap 13 = .ok (.ldc 30, 2) := dk_18 30 (dk_at dksJ41_headMap_0 13 rfl rfl)
theorem dJ41_headMap_15 : decode cJ41_headMap 15 = .ok (.invokespecial 27, 3) := dk_183 0 27 (dk_at dksJ41_headMap_0 15 rfl rfl)
theorem dJ41_headMap_18 : decode cJ41_headMap 18 = .ok (.athrow, 1) := dk_191 (dk_at dksJ41_headMap_0 18 rfl rfl)
theorem dJ41_headMap_19 : decode cJ41_headMap 19 = .ok (.new 8, 3) := dk_187 0 8 (dk_at dksJ41_headMap_0 19 rfl rfl)
theorem dJ41_headMap_22 : decode cJ41_headMap 22 = .ok (.dup, 1) := dk_89 (dk_at dksJ41_headMap_0 22 rfl rfl)
theorem dJ41_headMap_23 : decode cJ41_headMap 23 = .ok (.aload_n 0, 1) := dk_42 (dk_at dksJ41_headMap_0 23 rfl rfl)
theorem dJ41_headMap_24 : decode cJ41_headMap 24 = .ok (.getfield 7, 3) := dk_180 0 7 (dk_at dksJ41_headMap_1 0 rfl rfl)
theorem dJ41_headMap_27 : decode cJ41_headMap 27 = .ok (.aload_n 0, 1) := dk_42 (dk_at dksJ41_headMap_1 3 rfl rfl)
theorem dJ41_headMap_28 : decode cJ41_headMap 28 = .ok (.getfield 33, 3) := dk_180 0 33 (dk_at dksJ41_headMap_1 4 rfl rfl)
theorem dJ41_headMap_31 : decode cJ41_headMap 31 = .ok (.aload_n 0, 1) := dk_42 (dk_at dksJ41_headMap_1 7 rfl rfl)
theorem dJ41_headMap_32 : decode cJ41_headMap 32 = .ok (.getfield 37, 3) := dk_180 0 37 (dk_at dksJ41_headMap_1 8 rfl rfl)
theorem dJ41_headMap_35 : decode cJ41_headMap 35 = .ok (.aload_n 0, 1) := dk_42 (dk_at dksJ41_headMap_1 11 rfl rfl)
theorem dJ41_headMap_36 : decode cJ41_headMap 36 = .ok (.getfield 41, 3) := dk_180 0 41 (dk_at dksJ41_headMap_1 12 rfl rfl)
theorem dJ41_headMap_39 : decode cJ41_headMap 39 = .ok (.iconst 0, 1) := dk_3 (dk_at dksJ41_headMap_1 15 rfl rfl)
theorem dJ41_headMap_40 : decode cJ41_headMap 40 = .ok (.aload_n 1, 1) := dk_43 (dk_at dksJ41_headMap_1 16 rfl rfl)
theorem dJ41_headMap_41 : decode cJ41_headMap 41 = .ok (.iload_n 2, 1) := dk_28 (dk_at dksJ41_headMap_1 17 rfl rfl)
theorem dJ41_headMap_42 : decode cJ41_headMap 42 = .ok (.invokespecial 32, 3) := dk_183 0 32 (dk_at dksJ41_headMap_1 18 rfl rfl)
theorem dJ41_headMap_45 : decode cJ41_headMap 45 = .ok (.areturn, 1) := dk_176 (dk_at dksJ41_headMap_1 21 rfl rfl)
theorem q156 : (Jvm.Cond.initialized "java/util/TreeMap$AscendingSubMap") ∈ lw_all := lw_g (lw_at lw_m1 63 rfl) rfl
theorem q713 : (Jvm.Cond.castable "java/util/TreeMap$AscendingSubMap" "java/util/NavigableMap") ∈ lw_tbl := lw_at lw_m3 140 rfl
theorem q714 : (Jvm.Cond.selects "java/util/TreeMap$AscendingSubMap" ({ cls := "java/util/Map", name := "put", desc := "(Ljava/lang/Object;Ljava/lang/Object;)Ljava/lang/Object;" } : Jvm.MethodName) ({ cls := "java/util/TreeMap$NavigableSubMap", name := "put", desc := "(Ljava/lang/Object;Ljava/lang/Object;)Ljava/lang/Object;" } : Jvm.MethodName)) ∈ lw_all := lw_g (lw_at lw_m3 141 rfl) rfl
theorem q715 : (Jvm.Cond.unhidden "java/util/TreeMap$AscendingSubMap" "put" "(Ljava/lang/Object;Ljava/lang/Object;)Ljava/lang/Object;") ∈ lw_tbl := lw_at lw_m3 142 rfl
theorem q722 : (Jvm.Cond.selects "java/util/TreeMap$AscendingSubMap" ({ cls := "java/util/TreeMap$NavigableSubMap", name := "inRange", desc := "(Ljava/lang/Object;)Z" } : Jvm.MethodName) ({ cls := "java/util/TreeMap$NavigableSubMap", name := "inRange", desc := "(Ljava/lang/Object;)Z" } : Jvm.MethodName)) ∈ lw_all := lw_g (lw_at lw_m3 149 rfl) rfl
theorem q727 : (Jvm.Cond.selects "java/util/TreeMap$AscendingSubMap" ({ cls := "java/util/TreeMap$NavigableSubMap", name := "tooLow", desc := "(Ljava/lang/Object;)Z" } : Jvm.MethodName) ({ cls := "java/util/TreeMap$NavigableSubMap", name := "tooLow", desc := "(Ljava/lang/Object;)Z" } : Jvm.MethodName)) ∈ lw_all := lw_g (lw_at lw_m3 154 rfl) rfl
theorem q733 : (Jvm.Cond.selects "java/util/TreeMap$AscendingSubMap" ({ cls := "java/util/TreeMap$NavigableSubMap", name := "tooHigh", desc := "(Ljava/lang/Object;)Z" } : Jvm.MethodName) ({ cls := "java/util/TreeMap$NavigableSubMap", name := "tooHigh", desc := "(Ljava/lang/Object;)Z" } : Jvm.MethodName)) ∈ lw_all := lw_g (lw_at lw_m3 160 rfl) rfl
theorem q748 : (Jvm.Cond.selects "java/util/TreeMap$AscendingSubMap" ({ cls := "java/util/Map", name := "size", desc := "()I" } : Jvm.MethodName) ({ cls := "java/util/TreeMap$NavigableSubMap", name := "size", desc := "()I" } : Jvm.MethodName)) ∈ lw_all := lw_g (lw_at lw_m3 175 rfl) rfl
theorem q749 : (Jvm.Cond.unhidden "java/util/TreeMap$AscendingSubMap" "size" "()I") ∈ lw_tbl := lw_at lw_m3 176 rfl
theorem q757 : (Jvm.Cond.selects "java/util/TreeMap$AscendingSubMap" ({ cls := "java/util/TreeMap$NavigableSubMap", name := "entrySet", desc := "()Ljava/util/Set;" } : Jvm.MethodName) ({ cls := "java/util/TreeMap$AscendingSubMap", name := "entrySet", desc := "()Ljava/util/Set;" } : Jvm.MethodName)) ∈ lw_all := lw_g (lw_at lw_m3 184 rfl) rfl
theorem q758 : (Jvm.Cond.instanceMethod ({ cls := "java/util/TreeMap$AscendingSubMap", name := "entrySet", desc := "()Ljava/util/Set;" } : Jvm.MethodName)) ∈ lw_all := lw_g (lw_at lw_m3 185 rfl) rfl
theorem q759 : (Jvm.Cond.code ({ cls := "java/util/TreeMap$AscendingSubMap", name := "entrySet", desc := "()Ljava/util/Set;" } : Jvm.MethodName) prog_71_method_10_code (2 : Nat) (Option.some (Jvm.ClassFile.FieldType.object "java/util/Set"))) ∈ lw_all := lw_g (lw_at lw_m3 186 rfl) rfl
theorem q760 : (Jvm.Cond.classLink "java/util/TreeMap$AscendingSubMap" (85 : Nat) "java/util/TreeMap$AscendingSubMap$AscendingEntrySetView") ∈ lw_all := lw_g (lw_at lw_m3 187 rfl) rfl
theorem q762 : (Jvm.Cond.methodLink "java/util/TreeMap$AscendingSubMap" (87 : Nat) ({ cls := "java/util/TreeMap$AscendingSubMap$AscendingEntrySetView", name := "<init>", desc := "(Ljava/util/TreeMap$AscendingSubMap;)V" } : Jvm.MethodName)) ∈ lw_all := lw_g (lw_at lw_m3 189 rfl) rfl
theorem q802 : (Jvm.Cond.sameMethod "java/util/TreeMap$AscendingSubMap" "java/util/TreeMap$NavigableSubMap" "absLowest" "()Ljava/util/TreeMap$Entry;") ∈ lw_all := lw_g (lw_at lw_m3 229 rfl) rfl
theorem q804 : (Jvm.Cond.selects "java/util/TreeMap$AscendingSubMap" ({ cls := "java/util/TreeMap$AscendingSubMap", name := "absLowest", desc := "()Ljava/util/TreeMap$Entry;" } : Jvm.MethodName) ({ cls := "java/util/TreeMap$NavigableSubMap", name := "absLowest", desc := "()Ljava/util/TreeMap$Entry;" } : Jvm.MethodName)) ∈ lw_all := lw_g (lw_at lw_m3 231 rfl) rfl
theorem q820 : (Jvm.Cond.sameMethod "java/util/TreeMap$AscendingSubMap" "java/util/TreeMap$NavigableSubMap" "absHighFence" "()Ljava/util/TreeMap$Entry;") ∈ lw_all := lw_g (lw_at lw_m4 7 rfl) rfl
theorem q822 : (Jvm.Cond.selects "java/util/TreeMap$AscendingSubMap" ({ cls := "java/util/TreeMap$AscendingSubMap", name := "absHighFence", desc := "()Ljava/util/TreeMap$Entry;" } : Jvm.MethodName) ({ cls := "java/util/TreeMap$NavigableSubMap", name := "absHighFence", desc := "()Ljava/util/TreeMap$Entry;" } : Jvm.MethodName)) ∈ lw_all := lw_g (lw_at lw_m4 9 rfl) rfl
theorem q1046 : (Jvm.Cond.selects "java/util/TreeMap$AscendingSubMap" ({ cls := "java/util/NavigableMap", name := "pollFirstEntry", desc := "()Ljava/util/Map$Entry;" } : Jvm.MethodName) ({ cls := "java/util/TreeMap$NavigableSubMap", name := "pollFirstEntry", desc := "()Ljava/util/Map$Entry;" } : Jvm.MethodName)) ∈ lw_all := lw_g (lw_at lw_m4 233 rfl) rfl
theorem q1047 : (Jvm.Cond.unhidden "java/util/TreeMap$AscendingSubMap" "pollFirstEntry" "()Ljava/util/Map$Entry;") ∈ lw_tbl := lw_at lw_m4 234 rfl
theorem q1054 : (Jvm.Cond.selects "java/util/TreeMap$AscendingSubMap" ({ cls := "java/util/TreeMap$NavigableSubMap", name := "subLowest", desc := "()Ljava/util/TreeMap$Entry;" } : Jvm.MethodName) ({ cls := "java/util/TreeMap$AscendingSubMap", name := "subLowest", desc := "()Ljava/util/TreeMap$Entry;" } : Jvm.MethodName)) ∈ lw_all := lw_g (lw_at lw_m5 1 rfl) rfl
theorem q1055 : (Jvm.Cond.instanceMethod ({ cls := "java/util/TreeMap$AscendingSubMap", name := "subLowest", desc := "()Ljava/util/TreeMap$Entry;" } : Jvm.MethodName)) ∈ lw_all := lw_g (lw_at lw_m5 2 rfl) rfl
theorem q1056 : (Jvm.Cond.code ({ cls := "java/util/TreeMap$AscendingSubMap", name := "subLowest", desc := "()Ljava/util/TreeMap$Entry;" } : Jvm.MethodName) prog_71_method_11_code (1 : Nat) (Option.some (Jvm.ClassFile.FieldType.object "java/util/TreeMap$Entry"))) ∈ lw_all := lw_g (lw_at lw_m5 3 rfl) rfl
theorem q1057 : (Jvm.Cond.methodLink "java/util/TreeMap$AscendingSubMap" (62 : Nat) ({ cls := "java/util/TreeMap$AscendingSubMap", name := "absLowest", desc := "()Ljava/util/TreeMap$Entry;" } : Jvm.MethodName)) ∈ lw_all := lw_g (lw_at lw_m5 4 rfl) rfl
theorem q1450 : (Jvm.Cond.selects "java/util/TreeMap$AscendingSubMap" ({ cls := "java/lang/Object", name := "getClass", desc := "()Ljava/lang/Class;" } : Jvm.MethodName) ({ cls := "java/lang/Object", name := "getClass", desc := "()Ljava/lang/Class;" } : Jvm.MethodName)) ∈ lw_all := lw_g (lw_at lw_m6 157 rfl) rfl
theorem q1878 : (Jvm.Cond.selects "java/util/TreeMap$AscendingSubMap" ({ cls := "java/util/TreeMap$NavigableSubMap", name := "keyIterator", desc := "()Ljava/util/Iterator;" } : Jvm.MethodName) ({ cls := "java/util/TreeMap$AscendingSubMap", name := "keyIterator", desc := "()Ljava/util/Iterator;" } : Jvm.MethodName)) ∈ lw_all := lw_g (lw_at lw_m8 105 rfl) rfl
theorem q1879 : (Jvm.Cond.instanceMethod ({ cls := "java/util/TreeMap$AscendingSubMap", name := "keyIterator", desc := "()Ljava/util/Iterator;" } : Jvm.MethodName)) ∈ lw_all := lw_g (lw_at lw_m8 106 rfl) rfl
theorem q1880 : (Jvm.Cond.code ({ cls := "java/util/TreeMap$AscendingSubMap", name := "keyIterator", desc := "()Ljava/util/Iterator;" } : Jvm.MethodName) prog_71_method_7_code (1 : Nat) (Option.some (Jvm.ClassFile.FieldType.object "java/util/Iterator"))) ∈ lw_all := lw_g (lw_at lw_m8 107 rfl) rfl
theorem q1881 : (Jvm.Cond.classLink "java/util/TreeMap$AscendingSubMap" (60 : Nat) "java/util/TreeMap$NavigableSubMap$SubMapKeyIterator") ∈ lw_all := lw_g (lw_at lw_m8 108 rfl) rfl
theorem q1883 : (Jvm.Cond.methodLink "java/util/TreeMap$AscendingSubMap" (66 : Nat) ({ cls := "java/util/TreeMap$AscendingSubMap", name := "absHighFence", desc := "()Ljava/util/TreeMap$Entry;" } : Jvm.MethodName)) ∈ lw_all := lw_g (lw_at lw_m8 110 rfl) rfl
theorem q1884 : (Jvm.Cond.methodLink "java/util/TreeMap$AscendingSubMap" (69 : Nat) ({ cls := "java/util/TreeMap$NavigableSubMap$SubMapKeyIterator", name := "<init>", desc := "(Ljava/util/TreeMap$NavigableSubMap;Ljava/util/TreeMap$Entry;Ljava/util/TreeMap$Entry;)V" } : Jvm.MethodName)) ∈ lw_all := lw_g (lw_at lw_m8 111 rfl) rfl
theorem q1940 : (Jvm.Cond.selects "java/util/TreeMap$AscendingSubMap" ({ cls := "java/util/NavigableMap", name := "navigableKeySet", desc := "()Ljava/util/NavigableSet;" } : Jvm.MethodName) ({ cls := "java/util/TreeMap$NavigableSubMap", name := "navigableKeySet", desc := "()Ljava/util/NavigableSet;" } : Jvm.MethodName)) ∈ lw_all := lw_g (lw_at lw_m8 167 rfl) rfl
theorem q1941 : (Jvm.Cond.unhidden "java/util/TreeMap$AscendingSubMap" "navigableKeySet" "()Ljava/util/NavigableSet;") ∈ lw_tbl := lw_at lw_m8 168 rfl
theorem q2086 : (Jvm.Cond.selects "java/util/TreeMap$AscendingSubMap" ({ cls := "java/util/SortedMap", name := "lastKey", desc := "()Ljava/lang/Object;" } : Jvm.MethodName) ({ cls := "java/util/TreeMap$NavigableSubMap", name := "lastKey", desc := "()Ljava/lang/Object;" } : Jvm.MethodName)) ∈ lw_all := lw_g (lw_at lw_m9 73 rfl) rfl
theorem q2087 : (Jvm.Cond.unhidden "java/util/TreeMap$AscendingSubMap" "lastKey" "()Ljava/lang/Object;") ∈ lw_tbl := lw_at lw_m9 74 rfl
theorem q2094 : (Jvm.Cond.selects "java/util/TreeMap$AscendingSubMap" ({ cls := "java/util/TreeMap$NavigableSubMap", name := "subHighest", desc := "()Ljava/util/TreeMap$Entry;" } : Jvm.MethodName) ({ cls := "java/util/TreeMap$AscendingSubMap", name := "subHighest", desc := "()Ljava/util/TreeMap$Entry;" } : Jvm.MethodName)) ∈ lw_all := lw_g (lw_at lw_m9 81 rfl) rfl
theorem q2095 : (Jvm.Cond.instanceMethod ({ cls := "java/util/TreeMap$AscendingSubMap", name := "subHighest", desc := "()Ljava/util/TreeMap$Entry;" } : Jvm.MethodName)) ∈ lw_all := lw_g (lw_at lw_m9 82 rfl) rfl
theorem q2096 : (Jvm.Cond.code ({ cls := "java/util/TreeMap$AscendingSubMap", name := "subHighest", desc := "()Ljava/util/TreeMap$Entry;" } : Jvm.MethodName) prog_71_method_12_code (1 : Nat) (Option.some (Jvm.ClassFile.FieldType.object "java/util/TreeMap$Entry"))) ∈ lw_all := lw_g (lw_at lw_m9 83 rfl) rfl
theorem q2097 : (Jvm.Cond.methodLink "java/util/TreeMap$AscendingSubMap" (74 : Nat) ({ cls := "java/util/TreeMap$AscendingSubMap", name := "absHighest", desc := "()Ljava/util/TreeMap$Entry;" } : Jvm.MethodName)) ∈ lw_all := lw_g (lw_at lw_m9 84 rfl) rfl
theorem q2098 : (Jvm.Cond.sameMethod "java/util/TreeMap$AscendingSubMap" "java/util/TreeMap$NavigableSubMap" "absHighest" "()Ljava/util/TreeMap$Entry;") ∈ lw_all := lw_g (lw_at lw_m9 85 rfl) rfl
theorem q2100 : (Jvm.Cond.selects "java/util/TreeMap$AscendingSubMap" ({ cls := "java/util/TreeMap$AscendingSubMap", name := "absHighest", desc := "()Ljava/util/TreeMap$Entry;" } : Jvm.MethodName) ({ cls := "java/util/TreeMap$NavigableSubMap", name := "absHighest", desc := "()Ljava/util/TreeMap$Entry;" } : Jvm.MethodName)) ∈ lw_all := lw_g (lw_at lw_m9 87 rfl) rfl
theorem q2191 : (Jvm.Cond.selects "java/util/TreeMap$AscendingSubMap" ({ cls := "java/util/NavigableMap", name := "floorKey", desc := "(Ljava/lang/Object;)Ljava/lang/Object;" } : Jvm.MethodName) ({ cls := "java/util/TreeMap$NavigableSubMap", name := "floorKey", desc := "(Ljava/lang/Object;)Ljava/lang/Object;" } : Jvm.MethodName)) ∈ lw_all := lw_g (lw_at lw_m9 178 rfl) rfl
theorem q2192 : (Jvm.Cond.unhidden "java/util/TreeMap$AscendingSubMap" "floorKey" "(Ljava/lang/Object;)Ljava/lang/Object;") ∈ lw_tbl := lw_at lw_m9 179 rfl
theorem q2199 : (Jvm.Cond.selects "java/util/TreeMap$AscendingSubMap" ({ cls := "java/util/TreeMap$NavigableSubMap", name := "subFloor", desc := "(Ljava/lang/Object;)Ljava/util/TreeMap$Entry;" } : Jvm.MethodName) ({ cls := "java/util/TreeMap$AscendingSubMap", name := "subFloor", desc := "(Ljava/lang/Object;)Ljava/util/TreeMap$Entry;" } : Jvm.MethodName)) ∈ lw_all := lw_g (lw_at lw_m9 186 rfl) rfl
theorem q2200 : (Jvm.Cond.instanceMethod ({ cls := "java/util/TreeMap$AscendingSubMap", name := "subFloor", desc := "(Ljava/lang/Object;)Ljava/util/TreeMap$Entry;" } : Jvm.MethodName)) ∈ lw_all := lw_g (lw_at lw_m9 187 rfl) rfl
theorem q2201 : (Jvm.Cond.code ({ cls := "java/util/TreeMap$AscendingSubMap", name := "subFloor", desc := "(Ljava/lang/Object;)Ljava/util/TreeMap$Entry;" } : Jvm.MethodName) prog_71_method_15_code (2 : Nat) (Option.some (Jvm.ClassFile.FieldType.object "java/util/TreeMap$Entry"))) ∈ lw_all := lw_g (lw_at lw_m9 188 rfl) rfl
theorem q2202 : (Jvm.Cond.methodLink "java/util/TreeMap$AscendingSubMap" (97 : Nat) ({ cls := "java/util/TreeMap$AscendingSubMap", name := "absFloor", desc := "(Ljava/lang/Object;)Ljava/util/TreeMap$Entry;" } : Jvm.MethodName)) ∈ lw_all := lw_g (lw_at lw_m9 189 rfl) rfl
theorem q2203 : (Jvm.Cond.sameMethod "java/util/TreeMap$AscendingSubMap" "java/util/TreeMap$NavigableSubMap" "absFloor" "(Ljava/lang/Object;)Ljava/util/TreeMap$Entry;") ∈ lw_all := lw_g (lw_at lw_m9 190 rfl) rfl
theorem q2205 : (Jvm.Cond.selects "java/util/TreeMap$AscendingSubMap" ({ cls := "java/util/TreeMap$AscendingSubMap", name := "absFloor", desc := "(Ljava/lang/Object;)Ljava/util/TreeMap$Entry;" } : Jvm.MethodName) ({ cls := "java/util/TreeMap$NavigableSubMap", name := "absFloor", desc := "(Ljava/lang/Object;)Ljava/util/TreeMap$Entry;" } : Jvm.MethodName)) ∈ lw_all := lw_g (lw_at lw_m9 192 rfl) rfl
theorem q2387 : (Jvm.Cond.instantiable "java/util/TreeMap$AscendingSubMap" (12 : Nat)) ∈ lw_all := lw_g (lw_at lw_m10 134 rfl) rfl
theorem q2389 : (Jvm.Cond.instanceMethod ({ cls := "java/util/TreeMap$AscendingSubMap", name := "<init>", desc := "(Ljava/util/TreeMap;ZLjava/lang/Object;ZZLjava/lang/Object;Z)V" } : Jvm.MethodName)) ∈ lw_all := lw_g (lw_at lw_m10 136 rfl) rfl
theorem q2390 : (Jvm.Cond.code ({ cls := "java/util/TreeMap$AscendingSubMap", name := "<init>", desc := "(Ljava/util/TreeMap;ZLjava/lang/Object;ZZLjava/lang/Object;Z)V" } : Jvm.MethodName) prog_71_method_1_code (8 : Nat) (Option.none : Option Jvm.ClassFile.FieldType)) ∈ lw_all := lw_g (lw_at lw_m10 137 rfl) rfl
theorem q2391 : (Jvm.Cond.methodLink "java/util/TreeMap$AscendingSubMap" (1 : Nat) ({ cls := "java/util/TreeMap$NavigableSubMap", name := "<init>", desc := "(Ljava/util/TreeMap;ZLjava/lang/Object;ZZLjava/lang/Object;Z)V" } : Jvm.MethodName)) ∈ lw_all := lw_g (lw_at lw_m10 138 rfl) rfl
theorem q2398 : (Jvm.Cond.fieldLink "java/util/TreeMap$AscendingSubMap" (7 : Nat) "java/util/TreeMap$AscendingSubMap" "m" "Ljava/util/TreeMap;") ∈ lw_all := lw_g (lw_at lw_m10 145 rfl) rfl
theorem q2399 : (Jvm.Cond.sameField "java/util/TreeMap$AscendingSubMap" "java/util/TreeMap$NavigableSubMap" "m" "Ljava/util/TreeMap;") ∈ lw_all := lw_g (lw_at lw_m10 146 rfl) rfl
theorem q2401 : (Jvm.Cond.fieldLink "java/util/TreeMap$AscendingSubMap" (37 : Nat) "java/util/TreeMap$AscendingSubMap" "lo" "Ljava/lang/Object;") ∈ lw_all := lw_g (lw_at lw_m10 148 rfl) rfl
theorem q2402 : (Jvm.Cond.sameField "java/util/TreeMap$AscendingSubMap" "java/util/TreeMap$NavigableSubMap" "lo" "Ljava/lang/Object;") ∈ lw_all := lw_g (lw_at lw_m10 149 rfl) rfl
theorem q2406 : (Jvm.Cond.fieldLink "java/util/TreeMap$AscendingSubMap" (33 : Nat) "java/util/TreeMap$AscendingSubMap" "fromStart" "Z") ∈ lw_all := lw_g (lw_at lw_m10 153 rfl) rfl
theorem q2407 : (Jvm.Cond.sameField "java/util/TreeMap$AscendingSubMap" "java/util/TreeMap$NavigableSubMap" "fromStart" "Z") ∈ lw_all := lw_g (lw_at lw_m10 154 rfl) rfl
theorem q2411 : (Jvm.Cond.fieldLink "java/util/TreeMap$AscendingSubMap" (41 : Nat) "java/util/TreeMap$AscendingSubMap" "loInclusive" "Z") ∈ lw_all := lw_g (lw_at lw_m10 158 rfl) rfl
theorem q2412 : (Jvm.Cond.sameField "java/util/TreeMap$AscendingSubMap" "java/util/TreeMap$NavigableSubMap" "loInclusive" "Z") ∈ lw_all := lw_g (lw_at lw_m10 159 rfl) rfl
theorem q2414 : (Jvm.Cond.fieldLink "java/util/TreeMap$AscendingSubMap" (81 : Nat) "java/util/TreeMap$AscendingSubMap" "entrySetView" "Ljava/util/TreeMap$NavigableSubMap$EntrySetView;") ∈ lw_all := lw_g (lw_at lw_m10 161 rfl) rfl
theorem q2415 : (Jvm.Cond.sameField "java/util/TreeMap$AscendingSubMap" "java/util/TreeMap$NavigableSubMap" "entrySetView" "Ljava/util/TreeMap$NavigableSubMap$EntrySetView;") ∈ lw_all := lw_g (lw_at lw_m10 162 rfl) rfl
theorem q2417 : (Jvm.Cond.laysFinal "java/util/TreeMap$AscendingSubMap" "java/util/TreeMap$NavigableSubMap" "m" "Ljava/util/TreeMap;") ∈ lw_all := lw_g (lw_at lw_m10 164 rfl) rfl
theorem q2419 : (Jvm.Cond.laysFinal "java/util/TreeMap$AscendingSubMap" "java/util/TreeMap$NavigableSubMap" "lo" "Ljava/lang/Object;") ∈ lw_all := lw_g (lw_at lw_m10 166 rfl) rfl
theorem q2421 : (Jvm.Cond.laysFinal "java/util/TreeMap$AscendingSubMap" "java/util/TreeMap$NavigableSubMap" "hi" "Ljava/lang/Object;") ∈ lw_all := lw_g (lw_at lw_m10 168 rfl) rfl
theorem q2423 : (Jvm.Cond.laysFinal "java/util/TreeMap$AscendingSubMap" "java/util/TreeMap$NavigableSubMap" "fromStart" "Z") ∈ lw_all := lw_g (lw_at lw_m10 170 rfl) rfl
theorem q2425 : (Jvm.Cond.laysFinal "java/util/TreeMap$AscendingSubMap" "java/util/TreeMap$NavigableSubMap" "toEnd" "Z") ∈ lw_all := lw_g (lw_at lw_m10 172 rfl) rfl
theorem q2427 : (Jvm.Cond.laysFinal "java/util/TreeMap$AscendingSubMap" "java/util/TreeMap$NavigableSubMap" "loInclusive" "Z") ∈ lw_all := lw_g (lw_at lw_m10 174 rfl) rfl
theorem q2429 : (Jvm.Cond.laysFinal "java/util/TreeMap$AscendingSubMap" "java/util/TreeMap$NavigableSubMap" "hiInclusive" "Z") ∈ lw_all := lw_g (lw_at lw_m10 176 rfl) rfl
theorem q2431 : (Jvm.Cond.lays "java/util/TreeMap$AscendingSubMap" "java/util/TreeMap$NavigableSubMap" "descendingMapView" "Ljava/util/NavigableMap;") ∈ lw_all := lw_g (lw_at lw_m10 178 rfl) rfl
theorem q2433 : (Jvm.Cond.lays "java/util/TreeMap$AscendingSubMap" "java/util/TreeMap$NavigableSubMap" "entrySetView" "Ljava/util/TreeMap$NavigableSubMap$EntrySetView;") ∈ lw_all := lw_g (lw_at lw_m10 180 rfl) rfl
theorem q2435 : (Jvm.Cond.lays "java/util/TreeMap$AscendingSubMap" "java/util/TreeMap$NavigableSubMap" "navigableKeySetView" "Ljava/util/TreeMap$KeySet;") ∈ lw_all := lw_g (lw_at lw_m10 182 rfl) rfl
theorem q2437 : (Jvm.Cond.lays "java/util/TreeMap$AscendingSubMap" "java/util/AbstractMap" "keySet" "Ljava/util/Set;") ∈ lw_all := lw_g (lw_at lw_m10 184 rfl) rfl
theorem q2438 : (Jvm.Cond.lays "java/util/TreeMap$AscendingSubMap" "java/util/AbstractMap" "values" "Ljava/util/Collection;") ∈ lw_all := lw_g (lw_at lw_m10 185 rfl) rfl
theorem q2439 : (Jvm.Cond.superclass "java/util/TreeMap$AscendingSubMap" "java/util/TreeMap$NavigableSubMap") ∈ lw_all := lw_g (lw_at lw_m10 186 rfl) rfl
theorem q2440 : (Jvm.Cond.selects "java/util/TreeMap$AscendingSubMap" ({ cls := "java/util/NavigableMap", name := "headMap", desc := "(Ljava/lang/Object;Z)Ljava/util/NavigableMap;" } : Jvm.MethodName) ({ cls := "java/util/TreeMap$AscendingSubMap", name := "headMap", desc := "(Ljava/lang/Object;Z)Ljava/util/NavigableMap;" } : Jvm.MethodName)) ∈ lw_all := lw_g (lw_at lw_m10 187 rfl) rfl
theorem q2441 : (Jvm.Cond.unhidden "java/util/TreeMap$AscendingSubMap" "headMap" "(Ljava/lang/Object;Z)Ljava/util/NavigableMap;") ∈ lw_tbl := lw_at lw_m10 188 rfl
theorem q2442 : (Jvm.Cond.instanceMethod ({ cls := "java/util/TreeMap$AscendingSubMap", name := "headMap", desc := "(Ljava/lang/Object;Z)Ljava/util/NavigableMap;" } : Jvm.MethodName)) ∈ lw_all := lw_g (lw_at lw_m10 189 rfl) rfl
theorem q2443 : (Jvm.Cond.publicMethod ({ cls := "java/util/TreeMap$AscendingSubMap", name := "headMap", desc := "(Ljava/lang/Object;Z)Ljava/util/NavigableMap;" } : Jvm.MethodName)) ∈ lw_tbl := lw_at lw_m10 190 rfl
theorem q2444 : (Jvm.Cond.code ({ cls := "java/util/TreeMap$AscendingSubMap", name := "headMap", desc := "(Ljava/lang/Object;Z)Ljava/util/NavigableMap;" } : Jvm.MethodName) prog_71_method_4_code (3 : Nat) (Option.some (Jvm.ClassFile.FieldType.object "java/util/NavigableMap"))) ∈ lw_all := lw_g (lw_at lw_m10 191 rfl) rfl
theorem q2445 : (Jvm.Cond.methodLink "java/util/TreeMap$AscendingSubMap" (19 : Nat) ({ cls := "java/util/TreeMap$AscendingSubMap", name := "inRange", desc := "(Ljava/lang/Object;Z)Z" } : Jvm.MethodName)) ∈ lw_all := lw_g (lw_at lw_m10 192 rfl) rfl
theorem q2446 : (Jvm.Cond.sameMethod "java/util/TreeMap$AscendingSubMap" "java/util/TreeMap$NavigableSubMap" "inRange" "(Ljava/lang/Object;Z)Z") ∈ lw_all := lw_g (lw_at lw_m10 193 rfl) rfl
theorem q2448 : (Jvm.Cond.selects "java/util/TreeMap$AscendingSubMap" ({ cls := "java/util/TreeMap$AscendingSubMap", name := "inRange", desc := "(Ljava/lang/Object;Z)Z" } : Jvm.MethodName) ({ cls := "java/util/TreeMap$NavigableSubMap", name := "inRange", desc := "(Ljava/lang/Object;Z)Z" } : Jvm.MethodName)) ∈ lw_all := lw_g (lw_at lw_m10 195 rfl) rfl
theorem q2454 : (Jvm.Cond.selects "java/util/TreeMap$AscendingSubMap" ({ cls := "java/util/TreeMap$NavigableSubMap", name := "inClosedRange", desc := "(Ljava/lang/Object;)Z" } : Jvm.MethodName) ({ cls := "java/util/TreeMap$NavigableSubMap", name := "inClosedRange", desc := "(Ljava/lang/Object;)Z" } : Jvm.MethodName)) ∈ lw_all := lw_g (lw_at lw_m10 201 rfl) rfl
theorem q2456 : (Jvm.Cond.classLink "java/util/TreeMap$AscendingSubMap" (8 : Nat) "java/util/TreeMap$AscendingSubMap") ∈ lw_all := lw_g (lw_at lw_m10 203 rfl) rfl
theorem q2457 : (Jvm.Cond.methodLink "java/util/TreeMap$AscendingSubMap" (32 : Nat) ({ cls := "java/util/TreeMap$AscendingSubMap", name := "<init>", desc := "(Ljava/util/TreeMap;ZLjava/lang/Object;ZZLjava/lang/Object;Z)V" } : Jvm.MethodName)) ∈ lw_all := lw_g (lw_at lw_m10 204 rfl) rfl
theorem q3102 : (Jvm.Cond.selects "java/util/TreeMap$AscendingSubMap" ({ cls := "java/util/TreeMap$NavigableSubMap", name := "absHighest", desc := "()Ljava/util/TreeMap$Entry;" } : Jvm.MethodName) ({ cls := "java/util/TreeMap$NavigableSubMap", name := "absHighest", desc := "()Ljava/util/TreeMap$Entry;" } : Jvm.MethodName)) ∈ lw_all := lw_g (lw_at lw_m13 129 rfl) rfl
theorem q3106 : (Jvm.Cond.castable "java/util/TreeMap$AscendingSubMap" "java/util/TreeMap$NavigableSubMap") ∈ lw_tbl := lw_at lw_m13 133 rfl
theorem q3136 : (Jvm.Cond.castable "java/util/TreeMap$AscendingSubMap" "java/lang/Object") ∈ lw_tbl := lw_at lw_m13 163 rfl
theorem in_J41 : ∀ w ∈ wsJ410, w ∈ lw_all := lw_in wsJ410 [2417, 2419, 2421, 2423, 2425, 2427, 2429, 2431, 2433, 2435, 2437, 2438] (by decide +kernel) (by decide +kernel)

/-! the law's own entry -/
set_option maxRecDepth 100000
abbrev cL_law : ByteArray := code
def dkwL_law_43 : List UInt8 := [4, 172]
abbrev dktL_law_43 : List UInt8 := dkwL_law_43 ++ []
def dkwL_law_42 : List UInt8 := [46, 182, 0, 150, 44, 42, 29, 4, 96, 46, 182, 0, 153, 159, 0, 5, 3, 172, 132, 3, 5, 167, 251, 169]
abbrev dktL_law_42 : List UInt8 := dkwL_law_42 ++ dktL_law_43
def dkwL_law_41 : List UInt8 := [96, 46, 182, 0, 146, 44, 42, 29, 4, 96, 46, 182, 0, 149, 159, 0, 28, 3, 172, 43, 42, 29, 4, 96]
abbrev dktL_law_41 : List UInt8 := dkwL_law_41 ++ dktL_law_42
def dkwL_law_40 : List UInt8 := [4, 96, 46, 182, 0, 142, 44, 42, 29, 4, 96, 46, 182, 0, 145, 159, 0, 51, 3, 172, 43, 42, 29, 4]
abbrev dktL_law_40 : List UInt8 := dkwL_law_40 ++ dktL_law_41
def dkwL_law_39 : List UInt8 := [182, 0, 137, 159, 0, 87, 3, 172, 43, 182, 0, 138, 44, 182, 0, 141, 159, 0, 74, 3, 172, 43, 42, 29]
abbrev dktL_law_39 : List UInt8 := dkwL_law_39 ++ dktL_law_40
def dkwL_law_38 : List UInt8 := [159, 0, 113, 3, 172, 43, 182, 0, 130, 44, 182, 0, 133, 159, 0, 100, 3, 172, 43, 182, 0, 134, 44]
abbrev dktL_law_38 : List UInt8 := dkwL_law_38 ++ dktL_law_39
def dkwL_law_37 : List UInt8 := [42, 29, 5, 96, 46, 182, 0, 126, 44, 42, 29, 4, 96, 46, 42, 29, 5, 96, 46, 182, 0, 129]
abbrev dktL_law_37 : List UInt8 := dkwL_law_37 ++ dktL_law_38
def dkwL_law_36 : List UInt8 := [159, 0, 159, 3, 172, 43, 182, 0, 122, 44, 182, 0, 125, 159, 0, 146, 3, 172, 43, 42, 29, 4, 96, 46]
abbrev dktL_law_36 : List UInt8 := dkwL_law_36 ++ dktL_law_37
def dkwL_law_35 : List UInt8 := [159, 0, 182, 3, 172, 43, 42, 29, 4, 96, 46, 182, 0, 118, 44, 42, 29, 4, 96, 46, 182, 0, 121]
abbrev dktL_law_35 : List UInt8 := dkwL_law_35 ++ dktL_law_36
def dkwL_law_34 : List UInt8 := [182, 0, 114, 44, 42, 29, 4, 96, 46, 42, 29, 5, 96, 46, 42, 29, 6, 96, 46, 182, 0, 117]
abbrev dktL_law_34 : List UInt8 := dkwL_law_34 ++ dktL_law_35
def dkwL_law_33 : List UInt8 := [182, 0, 113, 159, 0, 225, 3, 172, 43, 42, 29, 4, 96, 46, 42, 29, 5, 96, 46, 42, 29, 6, 96, 46]
abbrev dktL_law_33 : List UInt8 := dkwL_law_33 ++ dktL_law_34
def dkwL_law_32 : List UInt8 := [29, 4, 96, 46, 42, 29, 5, 96, 46, 182, 0, 110, 44, 42, 29, 4, 96, 46, 42, 29, 5, 96, 46]
abbrev dktL_law_32 : List UInt8 := dkwL_law_32 ++ dktL_law_33
def dkwL_law_31 : List UInt8 := [182, 0, 106, 44, 42, 29, 4, 96, 46, 42, 29, 5, 96, 46, 182, 0, 109, 159, 1, 2, 3, 172, 43, 42]
abbrev dktL_law_31 : List UInt8 := dkwL_law_31 ++ dktL_law_32
def dkwL_law_30 : List UInt8 := [42, 29, 4, 96, 46, 182, 0, 105, 159, 1, 35, 3, 172, 43, 42, 29, 4, 96, 46, 42, 29, 5, 96, 46]
abbrev dktL_law_30 : List UInt8 := dkwL_law_30 ++ dktL_law_31
def dkwL_law_29 : List UInt8 := [46, 42, 29, 5, 96, 46, 182, 0, 101, 159, 1, 58, 3, 172, 43, 42, 29, 4, 96, 46, 182, 0, 102, 44]
abbrev dktL_law_29 : List UInt8 := dkwL_law_29 ++ dktL_law_30
def dkwL_law_28 : List UInt8 := [159, 1, 91, 3, 172, 43, 42, 29, 4, 96, 46, 42, 29, 5, 96, 46, 182, 0, 98, 44, 42, 29, 4, 96]
abbrev dktL_law_28 : List UInt8 := dkwL_law_28 ++ dktL_law_29
def dkwL_law_27 : List UInt8 := [46, 42, 29, 5, 96, 46, 182, 0, 94, 44, 42, 29, 4, 96, 46, 42, 29, 5, 96, 46, 182, 0, 97]
abbrev dktL_law_27 : List UInt8 := dkwL_law_27 ++ dktL_law_28
def dkwL_law_26 : List UInt8 := [46, 42, 29, 5, 96, 46, 42, 29, 6, 96, 46, 182, 0, 93, 159, 1, 124, 3, 172, 43, 42, 29, 4, 96]
abbrev dktL_law_26 : List UInt8 := dkwL_law_26 ++ dktL_law_27
def dkwL_law_25 : List UInt8 := [43, 42, 29, 4, 96, 46, 42, 29, 5, 96, 46, 42, 29, 6, 96, 46, 182, 0, 90, 44, 42, 29, 4, 96]
abbrev dktL_law_25 : List UInt8 := dkwL_law_25 ++ dktL_law_26
def dkwL_law_24 : List UInt8 := [44, 42, 29, 4, 96, 46, 42, 29, 5, 96, 46, 42, 29, 6, 96, 46, 182, 0, 89, 159, 1, 167, 3, 172]
abbrev dktL_law_24 : List UInt8 := dkwL_law_24 ++ dktL_law_25
def dkwL_law_23 : List UInt8 := [159, 1, 210, 3, 172, 43, 42, 29, 4, 96, 46, 42, 29, 5, 96, 46, 42, 29, 6, 96, 46, 182, 0, 86]
abbrev dktL_law_23 : List UInt8 := dkwL_law_23 ++ dktL_law_24
def dkwL_law_22 : List UInt8 := [182, 0, 82, 44, 42, 29, 4, 96, 46, 42, 29, 5, 96, 46, 42, 29, 6, 96, 46, 182, 0, 85]
abbrev dktL_law_22 : List UInt8 := dkwL_law_22 ++ dktL_law_23
def dkwL_law_21 : List UInt8 := [182, 0, 81, 159, 1, 253, 3, 172, 43, 42, 29, 4, 96, 46, 42, 29, 5, 96, 46, 42, 29, 6, 96, 46]
abbrev dktL_law_21 : List UInt8 := dkwL_law_21 ++ dktL_law_22
def dkwL_law_20 : List UInt8 := [42, 29, 6, 96, 46, 182, 0, 77, 44, 42, 29, 4, 96, 46, 42, 29, 5, 96, 46, 42, 29, 6, 96, 46]
abbrev dktL_law_20 : List UInt8 := dkwL_law_20 ++ dktL_law_21
def dkwL_law_19 : List UInt8 := [42, 29, 7, 96, 46, 182, 0, 76, 159, 2, 40, 3, 172, 43, 42, 29, 4, 96, 46, 42, 29, 5, 96, 46]
abbrev dktL_law_19 : List UInt8 := dkwL_law_19 ++ dktL_law_20
def dkwL_law_18 : List UInt8 := [42, 29, 7, 96, 46, 182, 0, 72, 44, 42, 29, 4, 96, 46, 42, 29, 5, 96, 46, 42, 29, 6, 96, 46]
abbrev dktL_law_18 : List UInt8 := dkwL_law_18 ++ dktL_law_19
def dkwL_law_17 : List UInt8 := [182, 0, 71, 159, 2, 93, 3, 172, 43, 42, 29, 4, 96, 46, 42, 29, 5, 96, 46, 42, 29, 6, 96, 46]
abbrev dktL_law_17 : List UInt8 := dkwL_law_17 ++ dktL_law_18
def dkwL_law_16 : List UInt8 := [4, 96, 46, 42, 29, 5, 96, 46, 182, 0, 68, 44, 42, 29, 4, 96, 46, 42, 29, 5, 96, 46]
abbrev dktL_law_16 : List UInt8 := dkwL_law_16 ++ dktL_law_17
def dkwL_law_15 : List UInt8 := [182, 0, 63, 159, 2, 139, 3, 172, 43, 182, 0, 64, 44, 182, 0, 67, 159, 2, 126, 3, 172, 43, 42, 29]
abbrev dktL_law_15 : List UInt8 := dkwL_law_15 ++ dktL_law_16
def dkwL_law_14 : List UInt8 := [46, 182, 0, 59, 159, 2, 162, 3, 172, 43, 42, 29, 4, 96, 46, 182, 0, 60, 44, 42, 29, 4, 96, 46]
abbrev dktL_law_14 : List UInt8 := dkwL_law_14 ++ dktL_law_15
def dkwL_law_13 : List UInt8 := [96, 46, 182, 0, 55, 159, 2, 185, 3, 172, 43, 42, 29, 4, 96, 46, 182, 0, 56, 44, 42, 29, 4, 96]
abbrev dktL_law_13 : List UInt8 := dkwL_law_13 ++ dktL_law_14
def dkwL_law_12 : List UInt8 := [5, 96, 46, 182, 0, 51, 159, 2, 208, 3, 172, 43, 42, 29, 4, 96, 46, 182, 0, 52, 44, 42, 29, 4]
abbrev dktL_law_12 : List UInt8 := dkwL_law_12 ++ dktL_law_13
def dkwL_law_11 : List UInt8 := [3, 172, 43, 42, 29, 4, 96, 46, 42, 29, 5, 96, 46, 182, 0, 48, 44, 42, 29, 4, 96, 46, 42, 29]
abbrev dktL_law_11 : List UInt8 := dkwL_law_11 ++ dktL_law_12
def dkwL_law_10 : List UInt8 := [29, 5, 96, 46, 182, 0, 44, 44, 42, 29, 4, 96, 46, 42, 29, 5, 96, 46, 182, 0, 47, 159, 2, 241]
abbrev dktL_law_10 : List UInt8 := dkwL_law_10 ++ dktL_law_11
def dkwL_law_9 : List UInt8 := [29, 4, 96, 46, 42, 29, 5, 96, 46, 182, 0, 43, 159, 3, 18, 3, 172, 43, 42, 29, 4, 96, 46, 42]
abbrev dktL_law_9 : List UInt8 := dkwL_law_9 ++ dktL_law_10
def dkwL_law_8 : List UInt8 := [182, 0, 39, 159, 3, 51, 3, 172, 43, 42, 29, 4, 96, 46, 42, 29, 5, 96, 46, 182, 0, 40, 44, 42]
abbrev dktL_law_8 : List UInt8 := dkwL_law_8 ++ dktL_law_9
def dkwL_law_7 : List UInt8 := [42, 29, 4, 96, 46, 42, 29, 5, 96, 46, 182, 0, 36, 44, 42, 29, 4, 96, 46, 42, 29, 5, 96, 46]
abbrev dktL_law_7 : List UInt8 := dkwL_law_7 ++ dktL_law_8
def dkwL_law_6 : List UInt8 := [46, 182, 0, 31, 44, 42, 29, 4, 96, 46, 42, 29, 5, 96, 46, 182, 0, 35, 159, 3, 84, 3, 172, 43]
abbrev dktL_law_6 : List UInt8 := dkwL_law_6 ++ dktL_law_7
def dkwL_law_5 : List UInt8 := [172, 43, 182, 0, 27, 44, 182, 0, 30, 159, 3, 117, 3, 172, 43, 42, 29, 4, 96, 46, 42, 29, 5, 96]
abbrev dktL_law_5 : List UInt8 := dkwL_law_5 ++ dktL_law_6
def dkwL_law_4 : List UInt8 := [182, 0, 18, 44, 182, 0, 22, 159, 3, 143, 3, 172, 43, 182, 0, 23, 44, 182, 0, 26, 159, 3, 130, 3]
abbrev dktL_law_4 : List UInt8 := dkwL_law_4 ++ dktL_law_5
def dkwL_law_3 : List UInt8 := [43, 42, 29, 4, 96, 46, 182, 0, 13, 44, 42, 29, 4, 96, 46, 182, 0, 17, 159, 3, 156, 3, 172, 43]
abbrev dktL_law_3 : List UInt8 := dkwL_law_3 ++ dktL_law_4
def dkwL_law_2 : List UInt8 := [170, 0, 0, 0, 0, 0, 4, 70, 0, 0, 0, 0, 0, 0, 0, 33, 0, 0, 0, 152, 0, 0, 0, 175, 0, 0, 0, 188, 0, 0, 0, 201, 0, 0, 0, 214, 0, 0, 0, 247, 0, 0, 1, 24, 0, 0, 1, 57, 0, 0, 1, 90, 0, 0, 1, 123, 0, 0, 1, 146, 0, 0, 1, 169, 0, 0, 1, 192, 0, 0, 1, 205, 0, 0, 1, 238, 0, 0, 2, 35, 0, 0, 2, 78, 0, 0, 2, 121, 0, 0, 2, 164, 0, 0, 2, 207, 0, 0, 2, 240, 0, 0, 3, 17, 0, 0, 3, 40, 0, 0, 3, 73, 0, 0, 3, 106, 0, 0, 3, 149, 0, 0, 3, 172, 0, 0, 3, 185, 0, 0, 3, 218, 0, 0, 3, 231, 0, 0, 3, 244, 0, 0, 4, 1, 0, 0, 4, 24, 0, 0, 4, 47]
abbrev dktL_law_2 : List UInt8 := dkwL_law_2 ++ dktL_law_3
def dkwL_law_1 : List UInt8 := [163, 4, 85, 42, 29, 46, 16, 63, 126]
abbrev dktL_law_1 : List UInt8 := dkwL_law_1 ++ dktL_law_2
def dkwL_law_0 : List UInt8 := [187, 0, 7, 89, 183, 0, 9, 76, 187, 0, 10, 89, 183, 0, 12, 77, 3, 62, 29, 42, 190, 8, 100]
abbrev dktL_law_0 : List UInt8 := dkwL_law_0 ++ dktL_law_1
theorem dksL_law_0 : cL_law.data.toList.drop 0 = dktL_law_0 := by decide +kernel
theorem dksL_law_1 : cL_law.data.toList.drop 23 = dktL_law_1 := dk_seg dksL_law_0 23 rfl rfl
theorem dksL_law_2 : cL_law.data.toList.drop 32 = dktL_law_2 := dk_seg dksL_law_1 9 rfl rfl
theorem dksL_law_3 : cL_law.data.toList.drop 184 = dktL_law_3 := dk_seg dksL_law_2 152 rfl rfl
theorem dksL_law_4 : cL_law.data.toList.drop 208 = dktL_law_4 := dk_seg dksL_law_3 24 rfl rfl
theorem dksL_law_5 : cL_law.data.toList.drop 232 = dktL_law_5 := dk_seg dksL_law_4 24 rfl rfl
theorem dksL_law_6 : cL_law.data.toList.drop 256 = dktL_law_6 := dk_seg dksL_law_5 24 rfl rfl
theorem dksL_law_7 : cL_law.data.toList.drop 280 = dktL_law_7 := dk_seg dksL_law_6 24 rfl rfl
theorem dksL_law_8 : cL_law.data.toList.drop 304 = dktL_law_8 := dk_seg dksL_law_7 24 rfl rfl
theorem dksL_law_9 : cL_law.data.toList.drop 328 = dktL_law_9 := dk_seg dksL_law_8 24 rfl rfl
theorem dksL_law_10 : cL_law.data.toList.drop 352 = dktL_law_10 := dk_seg dksL_law_9 24 rfl rfl
theorem dksL_law_11 : cL_law.data.toList.drop 376 = dktL_law_11 := dk_seg dksL_law_10 24 rfl rfl
theorem dksL_law_12 : cL_law.data.toList.drop 400 = dktL_law_12 := dk_seg dksL_law_11 24 rfl rfl
theorem dksL_law_13 : cL_law.data.toList.drop 424 = dktL_law_13 := dk_seg dksL_law_12 24 rfl rfl
theorem dksL_law_14 : cL_law.data.toList.drop 448 = dktL_law_14 := dk_seg dksL_law_13 24 rfl rfl
theorem dksL_law_15 : cL_law.data.toList.drop 472 = dktL_law_15 := dk_seg dksL_law_14 24 rfl rfl
theorem dksL_law_16 : cL_law.data.toList.drop 496 = dktL_law_16 := dk_seg dksL_law_15 24 rfl rfl
theorem dksL_law_17 : cL_law.data.toList.drop 518 = dktL_law_17 := dk_seg dksL_law_16 22 rfl rfl
theorem dksL_law_18 : cL_law.data.toList.drop 542 = dktL_law_18 := dk_seg dksL_law_17 24 rfl rfl
theorem dksL_law_19 : cL_law.data.toList.drop 566 = dktL_law_19 := dk_seg dksL_law_18 24 rfl rfl
theorem dksL_law_20 : cL_law.data.toList.drop 590 = dktL_law_20 := dk_seg dksL_law_19 24 rfl rfl
theorem dksL_law_21 : cL_law.data.toList.drop 614 = dktL_law_21 := dk_seg dksL_law_20 24 rfl rfl
theorem dksL_law_22 : cL_law.data.toList.drop 638 = dktL_law_22 := dk_seg dksL_law_21 24 rfl rfl
theorem dksL_law_23 : cL_law.data.toList.drop 660 = dktL_law_23 := dk_seg dksL_law_22 22 rfl rfl
theorem dksL_law_24 : cL_law.data.toList.drop 684 = dktL_law_24 := dk_seg dksL_law_23 24 rfl rfl
theorem dksL_law_25 : cL_law.data.toList.drop 708 = dktL_law_25 := dk_seg dksL_law_24 24 rfl rfl
theorem dksL_law_26 : cL_law.data.toList.drop 732 = dktL_law_26 := dk_seg dksL_law_25 24 rfl rfl
theorem dksL_law_27 : cL_law.data.toList.drop 756 = dktL_law_27 := dk_seg dksL_law_26 24 rfl rfl
theorem dksL_law_28 : cL_law.data.toList.drop 779 = dktL_law_28 := dk_seg dksL_law_27 23 rfl rfl
theorem dksL_law_29 : cL_law.data.toList.drop 803 = dktL_law_29 := dk_seg dksL_law_28 24 rfl rfl
theorem dksL_law_30 : cL_law.data.toList.drop 827 = dktL_law_30 := dk_seg dksL_law_29 24 rfl rfl
theorem dksL_law_31 : cL_law.data.toList.drop 851 = dktL_law_31 := dk_seg dksL_law_30 24 rfl rfl
theorem dksL_law_32 : cL_law.data.toList.drop 875 = dktL_law_32 := dk_seg dksL_law_31 24 rfl rfl
theorem dksL_law_33 : cL_law.data.toList.drop 898 = dktL_law_33 := dk_seg dksL_law_32 23 rfl rfl
theorem dksL_law_34 : cL_law.data.toList.drop 922 = dktL_law_34 := dk_seg dksL_law_33 24 rfl rfl
theorem dksL_law_35 : cL_law.data.toList.drop 944 = dktL_law_35 := dk_seg dksL_law_34 22 rfl rfl
theorem dksL_law_36 : cL_law.data.toList.drop 967 = dktL_law_36 := dk_seg dksL_law_35 23 rfl rfl
theorem dksL_law_37 : cL_law.data.toList.drop 991 = dktL_law_37 := dk_seg dksL_law_36 24 rfl rfl
theorem dksL_law_38 : cL_law.data.toList.drop 1013 = dktL_law_38 := dk_seg dksL_law_37 22 rfl rfl
theorem dksL_law_39 : cL_law.data.toList.drop 1036 = dktL_law_39 := dk_seg dksL_law_38 23 rfl rfl
theorem dksL_law_40 : cL_law.data.toList.drop 1060 = dktL_law_40 := dk_seg dksL_law_39 24 rfl rfl
theorem dksL_law_41 : cL_law.data.toList.drop 1084 = dktL_law_41 := dk_seg dksL_law_40 24 rfl rfl
theorem dksL_law_42 : cL_law.data.toList.drop 1108 = dktL_law_42 := dk_seg dksL_law_41 24 rfl rfl
theorem dksL_law_43 : cL_law.data.toList.drop 1132 = dktL_law_43 := dk_seg dksL_law_42 24 rfl rfl
theorem dL_law_0 : decode cL_law 0 = .ok (.new 7, 3) := dk_187 0 7 (dk_at dksL_law_0 0 rfl rfl)
theorem dL_law_3 : decode cL_law 3 = .ok (.dup, 1) := dk_89 (dk_at dksL_law_0 3 rfl rfl)
theorem dL_law_4 : decode cL_law 4 = .ok (.invokespecial 9, 3) := dk_183 0 9 (dk_at dksL_law_0 4 rfl rfl)
theorem dL_law_7 : decode cL_law 7 = .ok (.astore_n 1, 1) := dk_76 (dk_at dksL_law_0 7 rfl rfl)
theorem dL_law_8 : decode cL_law 8 = .ok (.new 10, 3) := dk_187 0 10 (dk_at dksL_law_0 8 rfl rfl)
theorem dL_law_11 : decode cL_law 11 = .ok (.dup, 1) := dk_89 (dk_at dksL_law_0 11 rfl rfl)
theorem dL_law_12 : decode cL_law 12 = .ok (.invokespecial 12, 3) := dk_183 0 12 (dk_at dksL_law_0 12 rfl rfl)
theorem dL_law_15 : decode cL_law 15 = .ok (.astore_n 2, 1) := dk_77 (dk_at dksL_law_0 15 rfl rfl)
theorem dL_law_16 : decode cL_law 16 = .ok (.iconst 0, 1) := dk_3 (dk_at dksL_law_0 16 rfl rfl)
theorem dL_law_17 : decode cL_law 17 = .ok (.istore_n 3, 1) := dk_62 (dk_at dksL_law_0 17 rfl rfl)
theorem dL_law_18 : decode cL_law 18 = .ok (.iload_n 3, 1) := dk_29 (dk_at dksL_law_0 18 rfl rfl)
theorem dL_law_19 : decode cL_law 19 = .ok (.aload_n 0, 1) := dk_42 (dk_at dksL_law_0 19 rfl rfl)
theorem dL_law_20 : decode cL_law 20 = .ok (.arraylength, 1) := dk_190 (dk_at dksL_law_0 20 rfl rfl)
theorem dL_law_21 : decode cL_law 21 = .ok (.iconst 5, 1) := dk_8 (dk_at dksL_law_0 21 rfl rfl)
theorem dL_law_22 : decode cL_law 22 = .ok (.isub, 1) := dk_100 (dk_at dksL_law_0 22 rfl rfl)
theorem dL_law_23 : decode cL_law 23 = .ok (.if_icmp .gt 1109, 3) := dk_163 4 85 (dk_at dksL_law_1 0 rfl rfl)
theorem dL_law_26 : decode cL_law 26 = .ok (.aload_n 0, 1) := dk_42 (dk_at dksL_law_1 3 rfl rfl)
theorem dL_law_27 : decode cL_law 27 = .ok (.iload_n 3, 1) := dk_29 (dk_at dksL_law_1 4 rfl rfl)
theorem dL_law_28 : decode cL_law 28 = .ok (.iaload, 1) := dk_46 (dk_at dksL_law_1 5 rfl rfl)
theorem dL_law_29 : decode cL_law 29 = .ok (.bipush 63, 2) := dk_16 63 (dk_at dksL_law_1 6 rfl rfl)
theorem dL_law_31 : decode cL_law 31 = .ok (.iand, 1) := dk_126 (dk_at dksL_law_1 8 rfl rfl)
theorem dL_law_32 : decode cL_law 32 = .ok (.tableswitch 1094 0 33 #[152, 175, 188, 201, 214, 247, 280, 313, 346, 379, 402, 425, 448, 461, 494, 547, 590, 633, 676, 719, 752, 785, 808, 841, 874, 917, 940, 953, 986, 999, 1012, 1025, 1048, 1071], 152) := by decide +kernel
theorem dL_law_184 : decode cL_law 184 = .ok (.aload_n 1, 1) := dk_43 (dk_at dksL_law_3 0 rfl rfl)
theorem dL_law_185 : decode cL_law 185 = .ok (.aload_n 0, 1) := dk_42 (dk_at dksL_law_3 1 rfl rfl)
theorem dL_law_186 : decode cL_law 186 = .ok (.iload_n 3, 1) := dk_29 (dk_at dksL_law_3 2 rfl rfl)
theorem dL_law_187 : decode cL_law 187 = .ok (.iconst 1, 1) := dk_4 (dk_at dksL_law_3 3 rfl rfl)
theorem dL_law_188 : decode cL_law 188 = .ok (.iadd, 1) := dk_96 (dk_at dksL_law_3 4 rfl rfl)
theorem dL_law_189 : decode cL_law 189 = .ok (.iaload, 1) := dk_46 (dk_at dksL_law_3 5 rfl rfl)
theorem dL_law_190 : decode cL_law 190 = .ok (.invokevirtual 13, 3) := dk_182 0 13 (dk_at dksL_law_3 6 rfl rfl)
theorem dL_law_193 : decode cL_law 193 = .ok (.aload_n 2, 1) := dk_44 (dk_at dksL_law_3 9 rfl rfl)
theorem dL_law_194 : decode cL_law 194 = .ok (.aload_n 0, 1) := dk_42 (dk_at dksL_law_3 10 rfl rfl)
theorem dL_law_195 : decode cL_law 195 = .ok (.iload_n 3, 1) := dk_29 (dk_at dksL_law_3 11 rfl rfl)
theorem dL_law_196 : decode cL_law 196 = .ok (.iconst 1, 1) := dk_4 (dk_at dksL_law_3 12 rfl rfl)
theorem dL_law_197 : decode cL_law 197 = .ok (.iadd, 1) := dk_96 (dk_at dksL_law_3 13 rfl rfl)
theorem dL_law_198 : decode cL_law 198 = .ok (.iaload, 1) := dk_46 (dk_at dksL_law_3 14 rfl rfl)
theorem dL_law_199 : decode cL_law 199 = .ok (.invokevirtual 17, 3) := dk_182 0 17 (dk_at dksL_law_3 15 rfl rfl)
theorem dL_law_202 : decode cL_law 202 = .ok (.if_icmp .eq 924, 3) := dk_159 3 156 (dk_at dksL_law_3 18 rfl rfl)
theorem dL_law_205 : decode cL_law 205 = .ok (.iconst 0, 1) := dk_3 (dk_at dksL_law_3 21 rfl rfl)
theorem dL_law_206 : decode cL_law 206 = .ok (.ireturn, 1) := dk_172 (dk_at dksL_law_3 22 rfl rfl)
theorem dL_law_207 : decode cL_law 207 = .ok (.aload_n 1, 1) := dk_43 (dk_at dksL_law_3 23 rfl rfl)
theorem dL_law_208 : decode cL_law 208 = .ok (.invokevirtual 18, 3) := dk_182 0 18 (dk_at dksL_law_4 0 rfl rfl)
theorem dL_law_211 : decode cL_law 211 = .ok (.aload_n 2, 1) := dk_44 (dk_at dksL_law_4 3 rfl rfl)
theorem dL_law_212 : decode cL_law 212 = .ok (.invokevirtual 22, 3) := dk_182 0 22 (dk_at dksL_law_4 4 rfl rfl)
theorem dL_law_215 : decode cL_law 215 = .ok (.if_icmp .eq 911, 3) := dk_159 3 143 (dk_at dksL_law_4 7 rfl rfl)
theorem dL_law_218 : decode cL_law 218 = .ok (.iconst 0, 1) := dk_3 (dk_at dksL_law_4 10 rfl rfl)
theorem dL_law_219 : decode cL_law 219 = .ok (.ireturn, 1) := dk_172 (dk_at dksL_law_4 11 rfl rfl)
theorem dL_law_220 : decode cL_law 220 = .ok (.aload_n 1, 1) := dk_43 (dk_at dksL_law_4 12 rfl rfl)
theorem dL_law_221 : decode cL_law 221 = .ok (.invokevirtual 23, 3) := dk_182 0 23 (dk_at dksL_law_4 13 rfl rfl)
theorem dL_law_224 : decode cL_law 224 = .ok (.aload_n 2, 1) := dk_44 (dk_at dksL_law_4 16 rfl rfl)
theorem dL_law_225 : decode cL_law 225 = .ok (.invokevirtual 26, 3) := dk_182 0 26 (dk_at dksL_law_4 17 rfl rfl)
theorem dL_law_228 : decode cL_law 228 = .ok (.if_icmp .eq 898, 3) := dk_159 3 130 (dk_at dksL_law_4 20 rfl rfl)
theorem dL_law_231 : decode cL_law 231 = .ok (.iconst 0, 1) := dk_3 (dk_at dksL_law_4 23 rfl rfl)
theorem dL_law_232 : decode cL_law 232 = .ok (.ireturn, 1) := dk_172 (dk_at dksL_law_5 0 rfl rfl)
theorem dL_law_233 : decode cL_law 233 = .ok (.aload_n 1, 1) := dk_43 (dk_at dksL_law_5 1 rfl rfl)
theorem dL_law_234 : decode cL_law 234 = .ok (.invokevirtual 27, 3) := dk_182 0 27 (dk_at dksL_law_5 2 rfl rfl)
theorem dL_law_237 : decode cL_law 237 = .ok (.aload_n 2, 1) := dk_44 (dk_at dksL_law_5 5 rfl rfl)
theorem dL_law_238 : decode cL_law 238 = .ok (.invokevirtual 30, 3) := dk_182 0 30 (dk_at dksL_law_5 6 rfl rfl)
theorem dL_law_241 : decode cL_law 241 = .ok (.if_icmp .eq 885, 3) := dk_159 3 117 (dk_at dksL_law_5 9 rfl rfl)
theorem dL_law_244 : decode cL_law 244 = .ok (.iconst 0, 1) := dk_3 (dk_at dksL_law_5 12 rfl rfl)
theorem dL_law_245 : decode cL_law 245 = .ok (.ireturn, 1) := dk_172 (dk_at dksL_law_5 13 rfl rfl)
theorem dL_law_246 : decode cL_law 246 = .ok (.aload_n 1, 1) := dk_43 (dk_at dksL_law_5 14 rfl rfl)
theorem dL_law_247 : decode cL_law 247 = .ok (.aload_n 0, 1) := dk_42 (dk_at dksL_law_5 15 rfl rfl)
theorem dL_law_248 : decode cL_law 248 = .ok (.iload_n 3, 1) := dk_29 (dk_at dksL_law_5 16 rfl rfl)
theorem dL_law_249 : decode cL_law 249 = .ok (.iconst 1, 1) := dk_4 (dk_at dksL_law_5 17 rfl rfl)
theorem dL_law_250 : decode cL_law 250 = .ok (.iadd, 1) := dk_96 (dk_at dksL_law_5 18 rfl rfl)
theorem dL_law_251 : decode cL_law 251 = .ok (.iaload, 1) := dk_46 (dk_at dksL_law_5 19 rfl rfl)
theorem dL_law_252 : decode cL_law 252 = .ok (.aload_n 0, 1) := dk_42 (dk_at dksL_law_5 20 rfl rfl)
theorem dL_law_253 : decode cL_law 253 = .ok (.iload_n 3, 1) := dk_29 (dk_at dksL_law_5 21 rfl rfl)
theorem dL_law_254 : decode cL_law 254 = .ok (.iconst 2, 1) := dk_5 (dk_at dksL_law_5 22 rfl rfl)
theorem dL_law_255 : decode cL_law 255 = .ok (.iadd, 1) := dk_96 (dk_at dksL_law_5 23 rfl rfl)
theorem dL_law_256 : decode cL_law 256 = .ok (.iaload, 1) := dk_46 (dk_at dksL_law_6 0 rfl rfl)
theorem dL_law_257 : decode cL_law 257 = .ok (.invokevirtual 31, 3) := dk_182 0 31 (dk_at dksL_law_6 1 rfl rfl)
theorem dL_law_260 : decode cL_law 260 = .ok (.aload_n 2, 1) := dk_44 (dk_at dksL_law_6 4 rfl rfl)
theorem dL_law_261 : decode cL_law 261 = .ok (.aload_n 0, 1) := dk_42 (dk_at dksL_law_6 5 rfl rfl)
theorem dL_law_262 : decode cL_law 262 = .ok (.iload_n 3, 1) := dk_29 (dk_at dksL_law_6 6 rfl rfl)
theorem dL_law_263 : decode cL_law 263 = .ok (.iconst 1, 1) := dk_4 (dk_at dksL_law_6 7 rfl rfl)
theorem dL_law_264 : decode cL_law 264 = .ok (.iadd, 1) := dk_96 (dk_at dksL_law_6 8 rfl rfl)
theorem dL_law_265 : decode cL_law 265 = .ok (.iaload, 1) := dk_46 (dk_at dksL_law_6 9 rfl rfl)
theorem dL_law_266 : decode cL_law 266 = .ok (.aload_n 0, 1) := dk_42 (dk_at dksL_law_6 10 rfl rfl)
theorem dL_law_267 : decode cL_law 267 = .ok (.iload_n 3, 1) := dk_29 (dk_at dksL_law_6 11 rfl rfl)
theorem dL_law_268 : decode cL_law 268 = .ok (.iconst 2, 1) := dk_5 (dk_at dksL_law_6 12 rfl rfl)
theorem dL_law_269 : decode cL_law 269 = .ok (.iadd, 1) := dk_96 (dk_at dksL_law_6 13 rfl rfl)
theorem dL_law_270 : decode cL_law 270 = .ok (.iaload, 1) := dk_46 (dk_at dksL_law_6 14 rfl rfl)
theorem dL_law_271 : decode cL_law 271 = .ok (.invokevirtual 35, 3) := dk_182 0 35 (dk_at dksL_law_6 15 rfl rfl)
theorem dL_law_274 : decode cL_law 274 = .ok (.if_icmp .eq 852, 3) := dk_159 3 84 (dk_at dksL_law_6 18 rfl rfl)
theorem dL_law_277 : decode cL_law 277 = .ok (.iconst 0, 1) := dk_3 (dk_at dksL_law_6 21 rfl rfl)
theorem dL_law_278 : decode cL_law 278 = .ok (.ireturn, 1) := dk_172 (dk_at dksL_law_6 22 rfl rfl)
theorem dL_law_279 : decode cL_law 279 = .ok (.aload_n 1, 1) := dk_43 (dk_at dksL_law_6 23 rfl rfl)
theorem dL_law_280 : decode cL_law 280 = .ok (.aload_n 0, 1) := dk_42 (dk_at dksL_law_7 0 rfl rfl)
theorem dL_law_281 : decode cL_law 281 = .ok (.iload_n 3, 1) := dk_29 (dk_at dksL_law_7 1 rfl rfl)
theorem dL_law_282 : decode cL_law 282 = .ok (.iconst 1, 1) := dk_4 (dk_at dksL_law_7 2 rfl rfl)
theorem dL_law_283 : decode cL_law 283 = .ok (.iadd, 1) := dk_96 (dk_at dksL_law_7 3 rfl rfl)
theorem dL_law_284 : decode cL_law 284 = .ok (.iaload, 1) := dk_46 (dk_at dksL_law_7 4 rfl rfl)
theorem dL_law_285 : decode cL_law 285 = .ok (.aload_n 0, 1) := dk_42 (dk_at dksL_law_7 5 rfl rfl)
theorem dL_law_286 : decode cL_law 286 = .ok (.iload_n 3, 1) := dk_29 (dk_at dksL_law_7 6 rfl rfl)
theorem dL_law_287 : decode cL_law 287 = .ok (.iconst 2, 1) := dk_5 (dk_at dksL_law_7 7 rfl rfl)
theorem dL_law_288 : decode cL_law 288 = .ok (.iadd, 1) := dk_96 (dk_at dksL_law_7 8 rfl rfl)
theorem dL_law_289 : decode cL_law 289 = .ok (.iaload, 1) := dk_46 (dk_at dksL_law_7 9 rfl rfl)
theorem dL_law_290 : decode cL_law 290 = .ok (.invokevirtual 36, 3) := dk_182 0 36 (dk_at dksL_law_7 10 rfl rfl)
theorem dL_law_293 : decode cL_law 293 = .ok (.aload_n 2, 1) := dk_44 (dk_at dksL_law_7 13 rfl rfl)
theorem dL_law_294 : decode cL_law 294 = .ok (.aload_n 0, 1) := dk_42 (dk_at dksL_law_7 14 rfl rfl)
theorem dL_law_295 : decode cL_law 295 = .ok (.iload_n 3, 1) := dk_29 (dk_at dksL_law_7 15 rfl rfl)
theorem dL_law_296 : decode cL_law 296 = .ok (.iconst 1, 1) := dk_4 (dk_at dksL_law_7 16 rfl rfl)
theorem dL_law_297 : decode cL_law 297 = .ok (.iadd, 1) := dk_96 (dk_at dksL_law_7 17 rfl rfl)
theorem dL_law_298 : decode cL_law 298 = .ok (.iaload, 1) := dk_46 (dk_at dksL_law_7 18 rfl rfl)
theorem dL_law_299 : decode cL_law 299 = .ok (.aload_n 0, 1) := dk_42 (dk_at dksL_law_7 19 rfl rfl)
theorem dL_law_300 : decode cL_law 300 = .ok (.iload_n 3, 1) := dk_29 (dk_at dksL_law_7 20 rfl rfl)
theorem dL_law_301 : decode cL_law 301 = .ok (.iconst 2, 1) := dk_5 (dk_at dksL_law_7 21 rfl rfl)
theorem dL_law_302 : decode cL_law 302 = .ok (.iadd, 1) := dk_96 (dk_at dksL_law_7 22 rfl rfl)
theorem dL_law_303 : decode cL_law 303 = .ok (.iaload, 1) := dk_46 (dk_at dksL_law_7 23 rfl rfl)
theorem dL_law_304 : decode cL_law 304 = .ok (.invokevirtual 39, 3) := dk_182 0 39 (dk_at dksL_law_8 0 rfl rfl)
theorem dL_law_307 : decode cL_law 307 = .ok (.if_icmp .eq 819, 3) := dk_159 3 51 (dk_at dksL_law_8 3 rfl rfl)
theorem dL_law_310 : decode cL_law 310 = .ok (.iconst 0, 1) := dk_3 (dk_at dksL_law_8 6 rfl rfl)
theorem dL_law_311 : decode cL_law 311 = .ok (.ireturn, 1) := dk_172 (dk_at dksL_law_8 7 rfl rfl)
theorem dL_law_312 : decode cL_law 312 = .ok (.aload_n 1, 1) := dk_43 (dk_at dksL_law_8 8 rfl rfl)
theorem dL_law_313 : decode cL_law 313 = .ok (.aload_n 0, 1) := dk_42 (dk_at dksL_law_8 9 rfl rfl)
theorem dL_law_314 : decode cL_law 314 = .ok (.iload_n 3, 1) := dk_29 (dk_at dksL_law_8 10 rfl rfl)
theorem dL_law_315 : decode cL_law 315 = .ok (.iconst 1, 1) := dk_4 (dk_at dksL_law_8 11 rfl rfl)
theorem dL_law_316 : decode cL_law 316 = .ok (.iadd, 1) := dk_96 (dk_at dksL_law_8 12 rfl rfl)
theorem dL_law_317 : decode cL_law 317 = .ok (.iaload, 1) := dk_46 (dk_at dksL_law_8 13 rfl rfl)
theorem dL_law_318 : decode cL_law 318 = .ok (.aload_n 0, 1) := dk_42 (dk_at dksL_law_8 14 rfl rfl)
theorem dL_law_319 : decode cL_law 319 = .ok (.iload_n 3, 1) := dk_29 (dk_at dksL_law_8 15 rfl rfl)
theorem dL_law_320 : decode cL_law 320 = .ok (.iconst 2, 1) := dk_5 (dk_at dksL_law_8 16 rfl rfl)
theorem dL_law_321 : decode cL_law 321 = .ok (.iadd, 1) := dk_96 (dk_at dksL_law_8 17 rfl rfl)
theorem dL_law_322 : decode cL_law 322 = .ok (.iaload, 1) := dk_46 (dk_at dksL_law_8 18 rfl rfl)
theorem dL_law_323 : decode cL_law 323 = .ok (.invokevirtual 40, 3) := dk_182 0 40 (dk_at dksL_law_8 19 rfl rfl)
theorem dL_law_326 : decode cL_law 326 = .ok (.aload_n 2, 1) := dk_44 (dk_at dksL_law_8 22 rfl rfl)
theorem dL_law_327 : decode cL_law 327 = .ok (.aload_n 0, 1) := dk_42 (dk_at dksL_law_8 23 rfl rfl)
theorem dL_law_328 : decode cL_law 328 = .ok (.iload_n 3, 1) := dk_29 (dk_at dksL_law_9 0 rfl rfl)
theorem dL_law_329 : decode cL_law 329 = .ok (.iconst 1, 1) := dk_4 (dk_at dksL_law_9 1 rfl rfl)
theorem dL_law_330 : decode cL_law 330 = .ok (.iadd, 1) := dk_96 (dk_at dksL_law_9 2 rfl rfl)
theorem dL_law_331 : decode cL_law 331 = .ok (.iaload, 1) := dk_46 (dk_at dksL_law_9 3 rfl rfl)
theorem dL_law_332 : decode cL_law 332 = .ok (.aload_n 0, 1) := dk_42 (dk_at dksL_law_9 4 rfl rfl)
theorem dL_law_333 : decode cL_law 333 = .ok (.iload_n 3, 1) := dk_29 (dk_at dksL_law_9 5 rfl rfl)
theorem dL_law_334 : decode cL_law 334 = .ok (.iconst 2, 1) := dk_5 (dk_at dksL_law_9 6 rfl rfl)
theorem dL_law_335 : decode cL_law 335 = .ok (.iadd, 1) := dk_96 (dk_at dksL_law_9 7 rfl rfl)
theorem dL_law_336 : decode cL_law 336 = .ok (.iaload, 1) := dk_46 (dk_at dksL_law_9 8 rfl rfl)
theorem dL_law_337 : decode cL_law 337 = .ok (.invokevirtual 43, 3) := dk_182 0 43 (dk_at dksL_law_9 9 rfl rfl)
theorem dL_law_340 : decode cL_law 340 = .ok (.if_icmp .eq 786, 3) := dk_159 3 18 (dk_at dksL_law_9 12 rfl rfl)
theorem dL_law_343 : decode cL_law 343 = .ok (.iconst 0, 1) := dk_3 (dk_at dksL_law_9 15 rfl rfl)
theorem dL_law_344 : decode cL_law 344 = .ok (.ireturn, 1) := dk_172 (dk_at dksL_law_9 16 rfl rfl)
theorem dL_law_345 : decode cL_law 345 = .ok (.aload_n 1, 1) := dk_43 (dk_at dksL_law_9 17 rfl rfl)
theorem dL_law_346 : decode cL_law 346 = .ok (.aload_n 0, 1) := dk_42 (dk_at dksL_law_9 18 rfl rfl)
theorem dL_law_347 : decode cL_law 347 = .ok (.iload_n 3, 1) := dk_29 (dk_at dksL_law_9 19 rfl rfl)
theorem dL_law_348 : decode cL_law 348 = .ok (.iconst 1, 1) := dk_4 (dk_at dksL_law_9 20 rfl rfl)
theorem dL_law_349 : decode cL_law 349 = .ok (.iadd, 1) := dk_96 (dk_at dksL_law_9 21 rfl rfl)
theorem dL_law_350 : decode cL_law 350 = .ok (.iaload, 1) := dk_46 (dk_at dksL_law_9 22 rfl rfl)
theorem dL_law_351 : decode cL_law 351 = .ok (.aload_n 0, 1) := dk_42 (dk_at dksL_law_9 23 rfl rfl)
theorem dL_law_352 : decode cL_law 352 = .ok (.iload_n 3, 1) := dk_29 (dk_at dksL_law_10 0 rfl rfl)
theorem dL_law_353 : decode cL_law 353 = .ok (.iconst 2, 1) := dk_5 (dk_at dksL_law_10 1 rfl rfl)
theorem dL_law_354 : decode cL_law 354 = .ok (.iadd, 1) := dk_96 (dk_at dksL_law_10 2 rfl rfl)
theorem dL_law_355 : decode cL_law 355 = .ok (.iaload, 1) := dk_46 (dk_at dksL_law_10 3 rfl rfl)
theorem dL_law_356 : decode cL_law 356 = .ok (.invokevirtual 44, 3) := dk_182 0 44 (dk_at dksL_law_10 4 rfl rfl)
theorem dL_law_359 : decode cL_law 359 = .ok (.aload_n 2, 1) := dk_44 (dk_at dksL_law_10 7 rfl rfl)
theorem dL_law_360 : decode cL_law 360 = .ok (.aload_n 0, 1) := dk_42 (dk_at dksL_law_10 8 rfl rfl)
theorem dL_law_361 : decode cL_law 361 = .ok (.iload_n 3, 1) := dk_29 (dk_at dksL_law_10 9 rfl rfl)
theorem dL_law_362 : decode cL_law 362 = .ok (.iconst 1, 1) := dk_4 (dk_at dksL_law_10 10 rfl rfl)
theorem dL_law_363 : decode cL_law 363 = .ok (.iadd, 1) := dk_96 (dk_at dksL_law_10 11 rfl rfl)
theorem dL_law_364 : decode cL_law 364 = .ok (.iaload, 1) := dk_46 (dk_at dksL_law_10 12 rfl rfl)
theorem dL_law_365 : decode cL_law 365 = .ok (.aload_n 0, 1) := dk_42 (dk_at dksL_law_10 13 rfl rfl)
theorem dL_law_366 : decode cL_law 366 = .ok (.iload_n 3, 1) := dk_29 (dk_at dksL_law_10 14 rfl rfl)
theorem dL_law_367 : decode cL_law 367 = .ok (.iconst 2, 1) := dk_5 (dk_at dksL_law_10 15 rfl rfl)
theorem dL_law_368 : decode cL_law 368 = .ok (.iadd, 1) := dk_96 (dk_at dksL_law_10 16 rfl rfl)
theorem dL_law_369 : decode cL_law 369 = .ok (.iaload, 1) := dk_46 (dk_at dksL_law_10 17 rfl rfl)
theorem dL_law_370 : decode cL_law 370 = .ok (.invokevirtual 47, 3) := dk_182 0 47 (dk_at dksL_law_10 18 rfl rfl)
theorem dL_law_373 : decode cL_law 373 = .ok (.if_icmp .eq 753, 3) := dk_159 2 241 (dk_at dksL_law_10 21 rfl rfl)
theorem dL_law_376 : decode cL_law 376 = .ok (.iconst 0, 1) := dk_3 (dk_at dksL_law_11 0 rfl rfl)
theorem dL_law_377 : decode cL_law 377 = .ok (.ireturn, 1) := dk_172 (dk_at dksL_law_11 1 rfl rfl)
theorem dL_law_378 : decode cL_law 378 = .ok (.aload_n 1, 1) := dk_43 (dk_at dksL_law_11 2 rfl rfl)
theorem dL_law_379 : decode cL_law 379 = .ok (.aload_n 0, 1) := dk_42 (dk_at dksL_law_11 3 rfl rfl)
theorem dL_law_380 : decode cL_law 380 = .ok (.iload_n 3, 1) := dk_29 (dk_at dksL_law_11 4 rfl rfl)
theorem dL_law_381 : decode cL_law 381 = .ok (.iconst 1, 1) := dk_4 (dk_at dksL_law_11 5 rfl rfl)
theorem dL_law_382 : decode cL_law 382 = .ok (.iadd, 1) := dk_96 (dk_at dksL_law_11 6 rfl rfl)
theorem dL_law_383 : decode cL_law 383 = .ok (.iaload, 1) := dk_46 (dk_at dksL_law_11 7 rfl rfl)
theorem dL_law_384 : decode cL_law 384 = .ok (.aload_n 0, 1) := dk_42 (dk_at dksL_law_11 8 rfl rfl)
theorem dL_law_385 : decode cL_law 385 = .ok (.iload_n 3, 1) := dk_29 (dk_at dksL_law_11 9 rfl rfl)
theorem dL_law_386 : decode cL_law 386 = .ok (.iconst 2, 1) := dk_5 (dk_at dksL_law_11 10 rfl rfl)
theorem dL_law_387 : decode cL_law 387 = .ok (.iadd, 1) := dk_96 (dk_at dksL_law_11 11 rfl rfl)
theorem dL_law_388 : decode cL_law 388 = .ok (.iaload, 1) := dk_46 (dk_at dksL_law_11 12 rfl rfl)
theorem dL_law_389 : decode cL_law 389 = .ok (.invokevirtual 48, 3) := dk_182 0 48 (dk_at dksL_law_11 13 rfl rfl)
theorem dL_law_392 : decode cL_law 392 = .ok (.aload_n 2, 1) := dk_44 (dk_at dksL_law_11 16 rfl rfl)
theorem dL_law_393 : decode cL_law 393 = .ok (.aload_n 0, 1) := dk_42 (dk_at dksL_law_11 17 rfl rfl)
theorem dL_law_394 : decode cL_law 394 = .ok (.iload_n 3, 1) := dk_29 (dk_at dksL_law_11 18 rfl rfl)
theorem dL_law_395 : decode cL_law 395 = .ok (.iconst 1, 1) := dk_4 (dk_at dksL_law_11 19 rfl rfl)
theorem dL_law_396 : decode cL_law 396 = .ok (.iadd, 1) := dk_96 (dk_at dksL_law_11 20 rfl rfl)
theorem dL_law_397 : decode cL_law 397 = .ok (.iaload, 1) := dk_46 (dk_at dksL_law_11 21 rfl rfl)
theorem dL_law_398 : decode cL_law 398 = .ok (.aload_n 0, 1) := dk_42 (dk_at dksL_law_11 22 rfl rfl)
theorem dL_law_399 : decode cL_law 399 = .ok (.iload_n 3, 1) := dk_29 (dk_at dksL_law_11 23 rfl rfl)
theorem dL_law_400 : decode cL_law 400 = .ok (.iconst 2, 1) := dk_5 (dk_at dksL_law_12 0 rfl rfl)
theorem dL_law_401 : decode cL_law 401 = .ok (.iadd, 1) := dk_96 (dk_at dksL_law_12 1 rfl rfl)
theorem dL_law_402 : decode cL_law 402 = .ok (.iaload, 1) := dk_46 (dk_at dksL_law_12 2 rfl rfl)
theorem dL_law_403 : decode cL_law 403 = .ok (.invokevirtual 51, 3) := dk_182 0 51 (dk_at dksL_law_12 3 rfl rfl)
theorem dL_law_406 : decode cL_law 406 = .ok (.if_icmp .eq 720, 3) := dk_159 2 208 (dk_at dksL_law_12 6 rfl rfl)
theorem dL_law_409 : decode cL_law 409 = .ok (.iconst 0, 1) := dk_3 (dk_at dksL_law_12 9 rfl rfl)
theorem dL_law_410 : decode cL_law 410 = .ok (.ireturn, 1) := dk_172 (dk_at dksL_law_12 10 rfl rfl)
theorem dL_law_411 : decode cL_law 411 = .ok (.aload_n 1, 1) := dk_43 (dk_at dksL_law_12 11 rfl rfl)
theorem dL_law_412 : decode cL_law 412 = .ok (.aload_n 0, 1) := dk_42 (dk_at dksL_law_12 12 rfl rfl)
theorem dL_law_413 : decode cL_law 413 = .ok (.iload_n 3, 1) := dk_29 (dk_at dksL_law_12 13 rfl rfl)
theorem dL_law_414 : decode cL_law 414 = .ok (.iconst 1, 1) := dk_4 (dk_at dksL_law_12 14 rfl rfl)
theorem dL_law_415 : decode cL_law 415 = .ok (.iadd, 1) := dk_96 (dk_at dksL_law_12 15 rfl rfl)
theorem dL_law_416 : decode cL_law 416 = .ok (.iaload, 1) := dk_46 (dk_at dksL_law_12 16 rfl rfl)
theorem dL_law_417 : decode cL_law 417 = .ok (.invokevirtual 52, 3) := dk_182 0 52 (dk_at dksL_law_12 17 rfl rfl)
theorem dL_law_420 : decode cL_law 420 = .ok (.aload_n 2, 1) := dk_44 (dk_at dksL_law_12 20 rfl rfl)
theorem dL_law_421 : decode cL_law 421 = .ok (.aload_n 0, 1) := dk_42 (dk_at dksL_law_12 21 rfl rfl)
theorem dL_law_422 : decode cL_law 422 = .ok (.iload_n 3, 1) := dk_29 (dk_at dksL_law_12 22 rfl rfl)
theorem dL_law_423 : decode cL_law 423 = .ok (.iconst 1, 1) := dk_4 (dk_at dksL_law_12 23 rfl rfl)
theorem dL_law_424 : decode cL_law 424 = .ok (.iadd, 1) := dk_96 (dk_at dksL_law_13 0 rfl rfl)
theorem dL_law_425 : decode cL_law 425 = .ok (.iaload, 1) := dk_46 (dk_at dksL_law_13 1 rfl rfl)
theorem dL_law_426 : decode cL_law 426 = .ok (.invokevirtual 55, 3) := dk_182 0 55 (dk_at dksL_law_13 2 rfl rfl)
theorem dL_law_429 : decode cL_law 429 = .ok (.if_icmp .eq 697, 3) := dk_159 2 185 (dk_at dksL_law_13 5 rfl rfl)
theorem dL_law_432 : decode cL_law 432 = .ok (.iconst 0, 1) := dk_3 (dk_at dksL_law_13 8 rfl rfl)
theorem dL_law_433 : decode cL_law 433 = .ok (.ireturn, 1) := dk_172 (dk_at dksL_law_13 9 rfl rfl)
theorem dL_law_434 : decode cL_law 434 = .ok (.aload_n 1, 1) := dk_43 (dk_at dksL_law_13 10 rfl rfl)
theorem dL_law_435 : decode cL_law 435 = .ok (.aload_n 0, 1) := dk_42 (dk_at dksL_law_13 11 rfl rfl)
theorem dL_law_436 : decode cL_law 436 = .ok (.iload_n 3, 1) := dk_29 (dk_at dksL_law_13 12 rfl rfl)
theorem dL_law_437 : decode cL_law 437 = .ok (.iconst 1, 1) := dk_4 (dk_at dksL_law_13 13 rfl rfl)
theorem dL_law_438 : decode cL_law 438 = .ok (.iadd, 1) := dk_96 (dk_at dksL_law_13 14 rfl rfl)
theorem dL_law_439 : decode cL_law 439 = .ok (.iaload, 1) := dk_46 (dk_at dksL_law_13 15 rfl rfl)
theorem dL_law_440 : decode cL_law 440 = .ok (.invokevirtual 56, 3) := dk_182 0 56 (dk_at dksL_law_13 16 rfl rfl)
theorem dL_law_443 : decode cL_law 443 = .ok (.aload_n 2, 1) := dk_44 (dk_at dksL_law_13 19 rfl rfl)
theorem dL_law_444 : decode cL_law 444 = .ok (.aload_n 0, 1) := dk_42 (dk_at dksL_law_13 20 rfl rfl)
theorem dL_law_445 : decode cL_law 445 = .ok (.iload_n 3, 1) := dk_29 (dk_at dksL_law_13 21 rfl rfl)
theorem dL_law_446 : decode cL_law 446 = .ok (.iconst 1, 1) := dk_4 (dk_at dksL_law_13 22 rfl rfl)
theorem dL_law_447 : decode cL_law 447 = .ok (.iadd, 1) := dk_96 (dk_at dksL_law_13 23 rfl rfl)
theorem dL_law_448 : decode cL_law 448 = .ok (.iaload, 1) := dk_46 (dk_at dksL_law_14 0 rfl rfl)
theorem dL_law_449 : decode cL_law 449 = .ok (.invokevirtual 59, 3) := dk_182 0 59 (dk_at dksL_law_14 1 rfl rfl)
theorem dL_law_452 : decode cL_law 452 = .ok (.if_icmp .eq 674, 3) := dk_159 2 162 (dk_at dksL_law_14 4 rfl rfl)
theorem dL_law_455 : decode cL_law 455 = .ok (.iconst 0, 1) := dk_3 (dk_at dksL_law_14 7 rfl rfl)
theorem dL_law_456 : decode cL_law 456 = .ok (.ireturn, 1) := dk_172 (dk_at dksL_law_14 8 rfl rfl)
theorem dL_law_457 : decode cL_law 457 = .ok (.aload_n 1, 1) := dk_43 (dk_at dksL_law_14 9 rfl rfl)
theorem dL_law_458 : decode cL_law 458 = .ok (.aload_n 0, 1) := dk_42 (dk_at dksL_law_14 10 rfl rfl)
theorem dL_law_459 : decode cL_law 459 = .ok (.iload_n 3, 1) := dk_29 (dk_at dksL_law_14 11 rfl rfl)
theorem dL_law_460 : decode cL_law 460 = .ok (.iconst 1, 1) := dk_4 (dk_at dksL_law_14 12 rfl rfl)
theorem dL_law_461 : decode cL_law 461 = .ok (.iadd, 1) := dk_96 (dk_at dksL_law_14 13 rfl rfl)
theorem dL_law_462 : decode cL_law 462 = .ok (.iaload, 1) := dk_46 (dk_at dksL_law_14 14 rfl rfl)
theorem dL_law_463 : decode cL_law 463 = .ok (.invokevirtual 60, 3) := dk_182 0 60 (dk_at dksL_law_14 15 rfl rfl)
theorem dL_law_466 : decode cL_law 466 = .ok (.aload_n 2, 1) := dk_44 (dk_at dksL_law_14 18 rfl rfl)
theorem dL_law_467 : decode cL_law 467 = .ok (.aload_n 0, 1) := dk_42 (dk_at dksL_law_14 19 rfl rfl)
theorem dL_law_468 : decode cL_law 468 = .ok (.iload_n 3, 1) := dk_29 (dk_at dksL_law_14 20 rfl rfl)
theorem dL_law_469 : decode cL_law 469 = .ok (.iconst 1, 1) := dk_4 (dk_at dksL_law_14 21 rfl rfl)
theorem dL_law_470 : decode cL_law 470 = .ok (.iadd, 1) := dk_96 (dk_at dksL_law_14 22 rfl rfl)
theorem dL_law_471 : decode cL_law 471 = .ok (.iaload, 1) := dk_46 (dk_at dksL_law_14 23 rfl rfl)
theorem dL_law_472 : decode cL_law 472 = .ok (.invokevirtual 63, 3) := dk_182 0 63 (dk_at dksL_law_15 0 rfl rfl)
theorem dL_law_475 : decode cL_law 475 = .ok (.if_icmp .eq 651, 3) := dk_159 2 139 (dk_at dksL_law_15 3 rfl rfl)
theorem dL_law_478 : decode cL_law 478 = .ok (.iconst 0, 1) := dk_3 (dk_at dksL_law_15 6 rfl rfl)
theorem dL_law_479 : decode cL_law 479 = .ok (.ireturn, 1) := dk_172 (dk_at dksL_law_15 7 rfl rfl)
theorem dL_law_480 : decode cL_law 480 = .ok (.aload_n 1, 1) := dk_43 (dk_at dksL_law_15 8 rfl rfl)
theorem dL_law_481 : decode cL_law 481 = .ok (.invokevirtual 64, 3) := dk_182 0 64 (dk_at dksL_law_15 9 rfl rfl)
theorem dL_law_484 : decode cL_law 484 = .ok (.aload_n 2, 1) := dk_44 (dk_at dksL_law_15 12 rfl rfl)
theorem dL_law_485 : decode cL_law 485 = .ok (.invokevirtual 67, 3) := dk_182 0 67 (dk_at dksL_law_15 13 rfl rfl)
theorem dL_law_488 : decode cL_law 488 = .ok (.if_icmp .eq 638, 3) := dk_159 2 126 (dk_at dksL_law_15 16 rfl rfl)
theorem dL_law_491 : decode cL_law 491 = .ok (.iconst 0, 1) := dk_3 (dk_at dksL_law_15 19 rfl rfl)
theorem dL_law_492 : decode cL_law 492 = .ok (.ireturn, 1) := dk_172 (dk_at dksL_law_15 20 rfl rfl)
theorem dL_law_493 : decode cL_law 493 = .ok (.aload_n 1, 1) := dk_43 (dk_at dksL_law_15 21 rfl rfl)
theorem dL_law_494 : decode cL_law 494 = .ok (.aload_n 0, 1) := dk_42 (dk_at dksL_law_15 22 rfl rfl)
theorem dL_law_495 : decode cL_law 495 = .ok (.iload_n 3, 1) := dk_29 (dk_at dksL_law_15 23 rfl rfl)
theorem dL_law_496 : decode cL_law 496 = .ok (.iconst 1, 1) := dk_4 (dk_at dksL_law_16 0 rfl rfl)
theorem dL_law_497 : decode cL_law 497 = .ok (.iadd, 1) := dk_96 (dk_at dksL_law_16 1 rfl rfl)
theorem dL_law_498 : decode cL_law 498 = .ok (.iaload, 1) := dk_46 (dk_at dksL_law_16 2 rfl rfl)
theorem dL_law_499 : decode cL_law 499 = .ok (.aload_n 0, 1) := dk_42 (dk_at dksL_law_16 3 rfl rfl)
theorem dL_law_500 : decode cL_law 500 = .ok (.iload_n 3, 1) := dk_29 (dk_at dksL_law_16 4 rfl rfl)
theorem dL_law_501 : decode cL_law 501 = .ok (.iconst 2, 1) := dk_5 (dk_at dksL_law_16 5 rfl rfl)
theorem dL_law_502 : decode cL_law 502 = .ok (.iadd, 1) := dk_96 (dk_at dksL_law_16 6 rfl rfl)
theorem dL_law_503 : decode cL_law 503 = .ok (.iaload, 1) := dk_46 (dk_at dksL_law_16 7 rfl rfl)
theorem dL_law_504 : decode cL_law 504 = .ok (.invokevirtual 68, 3) := dk_182 0 68 (dk_at dksL_law_16 8 rfl rfl)
theorem dL_law_507 : decode cL_law 507 = .ok (.aload_n 2, 1) := dk_44 (dk_at dksL_law_16 11 rfl rfl)
theorem dL_law_508 : decode cL_law 508 = .ok (.aload_n 0, 1) := dk_42 (dk_at dksL_law_16 12 rfl rfl)
theorem dL_law_509 : decode cL_law 509 = .ok (.iload_n 3, 1) := dk_29 (dk_at dksL_law_16 13 rfl rfl)
theorem dL_law_510 : decode cL_law 510 = .ok (.iconst 1, 1) := dk_4 (dk_at dksL_law_16 14 rfl rfl)
theorem dL_law_511 : decode cL_law 511 = .ok (.iadd, 1) := dk_96 (dk_at dksL_law_16 15 rfl rfl)
theorem dL_law_512 : decode cL_law 512 = .ok (.iaload, 1) := dk_46 (dk_at dksL_law_16 16 rfl rfl)
theorem dL_law_513 : decode cL_law 513 = .ok (.aload_n 0, 1) := dk_42 (dk_at dksL_law_16 17 rfl rfl)
theorem dL_law_514 : decode cL_law 514 = .ok (.iload_n 3, 1) := dk_29 (dk_at dksL_law_16 18 rfl rfl)
theorem dL_law_515 : decode cL_law 515 = .ok (.iconst 2, 1) := dk_5 (dk_at dksL_law_16 19 rfl rfl)
theorem dL_law_516 : decode cL_law 516 = .ok (.iadd, 1) := dk_96 (dk_at dksL_law_16 20 rfl rfl)
theorem dL_law_517 : decode cL_law 517 = .ok (.iaload, 1) := dk_46 (dk_at dksL_law_16 21 rfl rfl)
theorem dL_law_518 : decode cL_law 518 = .ok (.invokevirtual 71, 3) := dk_182 0 71 (dk_at dksL_law_17 0 rfl rfl)
theorem dL_law_521 : decode cL_law 521 = .ok (.if_icmp .eq 605, 3) := dk_159 2 93 (dk_at dksL_law_17 3 rfl rfl)
theorem dL_law_524 : decode cL_law 524 = .ok (.iconst 0, 1) := dk_3 (dk_at dksL_law_17 6 rfl rfl)
theorem dL_law_525 : decode cL_law 525 = .ok (.ireturn, 1) := dk_172 (dk_at dksL_law_17 7 rfl rfl)
theorem dL_law_526 : decode cL_law 526 = .ok (.aload_n 1, 1) := dk_43 (dk_at dksL_law_17 8 rfl rfl)
theorem dL_law_527 : decode cL_law 527 = .ok (.aload_n 0, 1) := dk_42 (dk_at dksL_law_17 9 rfl rfl)
theorem dL_law_528 : decode cL_law 528 = .ok (.iload_n 3, 1) := dk_29 (dk_at dksL_law_17 10 rfl rfl)
theorem dL_law_529 : decode cL_law 529 = .ok (.iconst 1, 1) := dk_4 (dk_at dksL_law_17 11 rfl rfl)
theorem dL_law_530 : decode cL_law 530 = .ok (.iadd, 1) := dk_96 (dk_at dksL_law_17 12 rfl rfl)
theorem dL_law_531 : decode cL_law 531 = .ok (.iaload, 1) := dk_46 (dk_at dksL_law_17 13 rfl rfl)
theorem dL_law_532 : decode cL_law 532 = .ok (.aload_n 0, 1) := dk_42 (dk_at dksL_law_17 14 rfl rfl)
theorem dL_law_533 : decode cL_law 533 = .ok (.iload_n 3, 1) := dk_29 (dk_at dksL_law_17 15 rfl rfl)
theorem dL_law_534 : decode cL_law 534 = .ok (.iconst 2, 1) := dk_5 (dk_at dksL_law_17 16 rfl rfl)
theorem dL_law_535 : decode cL_law 535 = .ok (.iadd, 1) := dk_96 (dk_at dksL_law_17 17 rfl rfl)
theorem dL_law_536 : decode cL_law 536 = .ok (.iaload, 1) := dk_46 (dk_at dksL_law_17 18 rfl rfl)
theorem dL_law_537 : decode cL_law 537 = .ok (.aload_n 0, 1) := dk_42 (dk_at dksL_law_17 19 rfl rfl)
theorem dL_law_538 : decode cL_law 538 = .ok (.iload_n 3, 1) := dk_29 (dk_at dksL_law_17 20 rfl rfl)
theorem dL_law_539 : decode cL_law 539 = .ok (.iconst 3, 1) := dk_6 (dk_at dksL_law_17 21 rfl rfl)
theorem dL_law_540 : decode cL_law 540 = .ok (.iadd, 1) := dk_96 (dk_at dksL_law_17 22 rfl rfl)
theorem dL_law_541 : decode cL_law 541 = .ok (.iaload, 1) := dk_46 (dk_at dksL_law_17 23 rfl rfl)
theorem dL_law_542 : decode cL_law 542 = .ok (.aload_n 0, 1) := dk_42 (dk_at dksL_law_18 0 rfl rfl)
theorem dL_law_543 : decode cL_law 543 = .ok (.iload_n 3, 1) := dk_29 (dk_at dksL_law_18 1 rfl rfl)
theorem dL_law_544 : decode cL_law 544 = .ok (.iconst 4, 1) := dk_7 (dk_at dksL_law_18 2 rfl rfl)
theorem dL_law_545 : decode cL_law 545 = .ok (.iadd, 1) := dk_96 (dk_at dksL_law_18 3 rfl rfl)
theorem dL_law_546 : decode cL_law 546 = .ok (.iaload, 1) := dk_46 (dk_at dksL_law_18 4 rfl rfl)
theorem dL_law_547 : decode cL_law 547 = .ok (.invokevirtual 72, 3) := dk_182 0 72 (dk_at dksL_law_18 5 rfl rfl)
theorem dL_law_550 : decode cL_law 550 = .ok (.aload_n 2, 1) := dk_44 (dk_at dksL_law_18 8 rfl rfl)
theorem dL_law_551 : decode cL_law 551 = .ok (.aload_n 0, 1) := dk_42 (dk_at dksL_law_18 9 rfl rfl)
theorem dL_law_552 : decode cL_law 552 = .ok (.iload_n 3, 1) := dk_29 (dk_at dksL_law_18 10 rfl rfl)
theorem dL_law_553 : decode cL_law 553 = .ok (.iconst 1, 1) := dk_4 (dk_at dksL_law_18 11 rfl rfl)
theorem dL_law_554 : decode cL_law 554 = .ok (.iadd, 1) := dk_96 (dk_at dksL_law_18 12 rfl rfl)
theorem dL_law_555 : decode cL_law 555 = .ok (.iaload, 1) := dk_46 (dk_at dksL_law_18 13 rfl rfl)
theorem dL_law_556 : decode cL_law 556 = .ok (.aload_n 0, 1) := dk_42 (dk_at dksL_law_18 14 rfl rfl)
theorem dL_law_557 : decode cL_law 557 = .ok (.iload_n 3, 1) := dk_29 (dk_at dksL_law_18 15 rfl rfl)
theorem dL_law_558 : decode cL_law 558 = .ok (.iconst 2, 1) := dk_5 (dk_at dksL_law_18 16 rfl rfl)
theorem dL_law_559 : decode cL_law 559 = .ok (.iadd, 1) := dk_96 (dk_at dksL_law_18 17 rfl rfl)
theorem dL_law_560 : decode cL_law 560 = .ok (.iaload, 1) := dk_46 (dk_at dksL_law_18 18 rfl rfl)
theorem dL_law_561 : decode cL_law 561 = .ok (.aload_n 0, 1) := dk_42 (dk_at dksL_law_18 19 rfl rfl)
theorem dL_law_562 : decode cL_law 562 = .ok (.iload_n 3, 1) := dk_29 (dk_at dksL_law_18 20 rfl rfl)
theorem dL_law_563 : decode cL_law 563 = .ok (.iconst 3, 1) := dk_6 (dk_at dksL_law_18 21 rfl rfl)
theorem dL_law_564 : decode cL_law 564 = .ok (.iadd, 1) := dk_96 (dk_at dksL_law_18 22 rfl rfl)
theorem dL_law_565 : decode cL_law 565 = .ok (.iaload, 1) := dk_46 (dk_at dksL_law_18 23 rfl rfl)
theorem dL_law_566 : decode cL_law 566 = .ok (.aload_n 0, 1) := dk_42 (dk_at dksL_law_19 0 rfl rfl)
theorem dL_law_567 : decode cL_law 567 = .ok (.iload_n 3, 1) := dk_29 (dk_at dksL_law_19 1 rfl rfl)
theorem dL_law_568 : decode cL_law 568 = .ok (.iconst 4, 1) := dk_7 (dk_at dksL_law_19 2 rfl rfl)
theorem dL_law_569 : decode cL_law 569 = .ok (.iadd, 1) := dk_96 (dk_at dksL_law_19 3 rfl rfl)
theorem dL_law_570 : decode cL_law 570 = .ok (.iaload, 1) := dk_46 (dk_at dksL_law_19 4 rfl rfl)
theorem dL_law_571 : decode cL_law 571 = .ok (.invokevirtual 76, 3) := dk_182 0 76 (dk_at dksL_law_19 5 rfl rfl)
theorem dL_law_574 : decode cL_law 574 = .ok (.if_icmp .eq 552, 3) := dk_159 2 40 (dk_at dksL_law_19 8 rfl rfl)
theorem dL_law_577 : decode cL_law 577 = .ok (.iconst 0, 1) := dk_3 (dk_at dksL_law_19 11 rfl rfl)
theorem dL_law_578 : decode cL_law 578 = .ok (.ireturn, 1) := dk_172 (dk_at dksL_law_19 12 rfl rfl)
theorem dL_law_579 : decode cL_law 579 = .ok (.aload_n 1, 1) := dk_43 (dk_at dksL_law_19 13 rfl rfl)
theorem dL_law_580 : decode cL_law 580 = .ok (.aload_n 0, 1) := dk_42 (dk_at dksL_law_19 14 rfl rfl)
theorem dL_law_581 : decode cL_law 581 = .ok (.iload_n 3, 1) := dk_29 (dk_at dksL_law_19 15 rfl rfl)
theorem dL_law_582 : decode cL_law 582 = .ok (.iconst 1, 1) := dk_4 (dk_at dksL_law_19 16 rfl rfl)
theorem dL_law_583 : decode cL_law 583 = .ok (.iadd, 1) := dk_96 (dk_at dksL_law_19 17 rfl rfl)
theorem dL_law_584 : decode cL_law 584 = .ok (.iaload, 1) := dk_46 (dk_at dksL_law_19 18 rfl rfl)
theorem dL_law_585 : decode cL_law 585 = .ok (.aload_n 0, 1) := dk_42 (dk_at dksL_law_19 19 rfl rfl)
theorem dL_law_586 : decode cL_law 586 = .ok (.iload_n 3, 1) := dk_29 (dk_at dksL_law_19 20 rfl rfl)
theorem dL_law_587 : decode cL_law 587 = .ok (.iconst 2, 1) := dk_5 (dk_at dksL_law_19 21 rfl rfl)
theorem dL_law_588 : decode cL_law 588 = .ok (.iadd, 1) := dk_96 (dk_at dksL_law_19 22 rfl rfl)
theorem dL_law_589 : decode cL_law 589 = .ok (.iaload, 1) := dk_46 (dk_at dksL_law_19 23 rfl rfl)
theorem dL_law_590 : decode cL_law 590 = .ok (.aload_n 0, 1) := dk_42 (dk_at dksL_law_20 0 rfl rfl)
theorem dL_law_591 : decode cL_law 591 = .ok (.iload_n 3, 1) := dk_29 (dk_at dksL_law_20 1 rfl rfl)
theorem dL_law_592 : decode cL_law 592 = .ok (.iconst 3, 1) := dk_6 (dk_at dksL_law_20 2 rfl rfl)
theorem dL_law_593 : decode cL_law 593 = .ok (.iadd, 1) := dk_96 (dk_at dksL_law_20 3 rfl rfl)
theorem dL_law_594 : decode cL_law 594 = .ok (.iaload, 1) := dk_46 (dk_at dksL_law_20 4 rfl rfl)
theorem dL_law_595 : decode cL_law 595 = .ok (.invokevirtual 77, 3) := dk_182 0 77 (dk_at dksL_law_20 5 rfl rfl)
theorem dL_law_598 : decode cL_law 598 = .ok (.aload_n 2, 1) := dk_44 (dk_at dksL_law_20 8 rfl rfl)
theorem dL_law_599 : decode cL_law 599 = .ok (.aload_n 0, 1) := dk_42 (dk_at dksL_law_20 9 rfl rfl)
theorem dL_law_600 : decode cL_law 600 = .ok (.iload_n 3, 1) := dk_29 (dk_at dksL_law_20 10 rfl rfl)
theorem dL_law_601 : decode cL_law 601 = .ok (.iconst 1, 1) := dk_4 (dk_at dksL_law_20 11 rfl rfl)
theorem dL_law_602 : decode cL_law 602 = .ok (.iadd, 1) := dk_96 (dk_at dksL_law_20 12 rfl rfl)
theorem dL_law_603 : decode cL_law 603 = .ok (.iaload, 1) := dk_46 (dk_at dksL_law_20 13 rfl rfl)
theorem dL_law_604 : decode cL_law 604 = .ok (.aload_n 0, 1) := dk_42 (dk_at dksL_law_20 14 rfl rfl)
theorem dL_law_605 : decode cL_law 605 = .ok (.iload_n 3, 1) := dk_29 (dk_at dksL_law_20 15 rfl rfl)
theorem dL_law_606 : decode cL_law 606 = .ok (.iconst 2, 1) := dk_5 (dk_at dksL_law_20 16 rfl rfl)
theorem dL_law_607 : decode cL_law 607 = .ok (.iadd, 1) := dk_96 (dk_at dksL_law_20 17 rfl rfl)
theorem dL_law_608 : decode cL_law 608 = .ok (.iaload, 1) := dk_46 (dk_at dksL_law_20 18 rfl rfl)
theorem dL_law_609 : decode cL_law 609 = .ok (.aload_n 0, 1) := dk_42 (dk_at dksL_law_20 19 rfl rfl)
theorem dL_law_610 : decode cL_law 610 = .ok (.iload_n 3, 1) := dk_29 (dk_at dksL_law_20 20 rfl rfl)
theorem dL_law_611 : decode cL_law 611 = .ok (.iconst 3, 1) := dk_6 (dk_at dksL_law_20 21 rfl rfl)
theorem dL_law_612 : decode cL_law 612 = .ok (.iadd, 1) := dk_96 (dk_at dksL_law_20 22 rfl rfl)
theorem dL_law_613 : decode cL_law 613 = .ok (.iaload, 1) := dk_46 (dk_at dksL_law_20 23 rfl rfl)
theorem dL_law_614 : decode cL_law 614 = .ok (.invokevirtual 81, 3) := dk_182 0 81 (dk_at dksL_law_21 0 rfl rfl)
theorem dL_law_617 : decode cL_law 617 = .ok (.if_icmp .eq 509, 3) := dk_159 1 253 (dk_at dksL_law_21 3 rfl rfl)
theorem dL_law_620 : decode cL_law 620 = .ok (.iconst 0, 1) := dk_3 (dk_at dksL_law_21 6 rfl rfl)
theorem dL_law_621 : decode cL_law 621 = .ok (.ireturn, 1) := dk_172 (dk_at dksL_law_21 7 rfl rfl)
theorem dL_law_622 : decode cL_law 622 = .ok (.aload_n 1, 1) := dk_43 (dk_at dksL_law_21 8 rfl rfl)
theorem dL_law_623 : decode cL_law 623 = .ok (.aload_n 0, 1) := dk_42 (dk_at dksL_law_21 9 rfl rfl)
theorem dL_law_624 : decode cL_law 624 = .ok (.iload_n 3, 1) := dk_29 (dk_at dksL_law_21 10 rfl rfl)
theorem dL_law_625 : decode cL_law 625 = .ok (.iconst 1, 1) := dk_4 (dk_at dksL_law_21 11 rfl rfl)
theorem dL_law_626 : decode cL_law 626 = .ok (.iadd, 1) := dk_96 (dk_at dksL_law_21 12 rfl rfl)
theorem dL_law_627 : decode cL_law 627 = .ok (.iaload, 1) := dk_46 (dk_at dksL_law_21 13 rfl rfl)
theorem dL_law_628 : decode cL_law 628 = .ok (.aload_n 0, 1) := dk_42 (dk_at dksL_law_21 14 rfl rfl)
theorem dL_law_629 : decode cL_law 629 = .ok (.iload_n 3, 1) := dk_29 (dk_at dksL_law_21 15 rfl rfl)
theorem dL_law_630 : decode cL_law 630 = .ok (.iconst 2, 1) := dk_5 (dk_at dksL_law_21 16 rfl rfl)
theorem dL_law_631 : decode cL_law 631 = .ok (.iadd, 1) := dk_96 (dk_at dksL_law_21 17 rfl rfl)
theorem dL_law_632 : decode cL_law 632 = .ok (.iaload, 1) := dk_46 (dk_at dksL_law_21 18 rfl rfl)
theorem dL_law_633 : decode cL_law 633 = .ok (.aload_n 0, 1) := dk_42 (dk_at dksL_law_21 19 rfl rfl)
theorem dL_law_634 : decode cL_law 634 = .ok (.iload_n 3, 1) := dk_29 (dk_at dksL_law_21 20 rfl rfl)
theorem dL_law_635 : decode cL_law 635 = .ok (.iconst 3, 1) := dk_6 (dk_at dksL_law_21 21 rfl rfl)
theorem dL_law_636 : decode cL_law 636 = .ok (.iadd, 1) := dk_96 (dk_at dksL_law_21 22 rfl rfl)
theorem dL_law_637 : decode cL_law 637 = .ok (.iaload, 1) := dk_46 (dk_at dksL_law_21 23 rfl rfl)
theorem dL_law_638 : decode cL_law 638 = .ok (.invokevirtual 82, 3) := dk_182 0 82 (dk_at dksL_law_22 0 rfl rfl)
theorem dL_law_641 : decode cL_law 641 = .ok (.aload_n 2, 1) := dk_44 (dk_at dksL_law_22 3 rfl rfl)
theorem dL_law_642 : decode cL_law 642 = .ok (.aload_n 0, 1) := dk_42 (dk_at dksL_law_22 4 rfl rfl)
theorem dL_law_643 : decode cL_law 643 = .ok (.iload_n 3, 1) := dk_29 (dk_at dksL_law_22 5 rfl rfl)
theorem dL_law_644 : decode cL_law 644 = .ok (.iconst 1, 1) := dk_4 (dk_at dksL_law_22 6 rfl rfl)
theorem dL_law_645 : decode cL_law 645 = .ok (.iadd, 1) := dk_96 (dk_at dksL_law_22 7 rfl rfl)
theorem dL_law_646 : decode cL_law 646 = .ok (.iaload, 1) := dk_46 (dk_at dksL_law_22 8 rfl rfl)
theorem dL_law_647 : decode cL_law 647 = .ok (.aload_n 0, 1) := dk_42 (dk_at dksL_law_22 9 rfl rfl)
theorem dL_law_648 : decode cL_law 648 = .ok (.iload_n 3, 1) := dk_29 (dk_at dksL_law_22 10 rfl rfl)
theorem dL_law_649 : decode cL_law 649 = .ok (.iconst 2, 1) := dk_5 (dk_at dksL_law_22 11 rfl rfl)
theorem dL_law_650 : decode cL_law 650 = .ok (.iadd, 1) := dk_96 (dk_at dksL_law_22 12 rfl rfl)
theorem dL_law_651 : decode cL_law 651 = .ok (.iaload, 1) := dk_46 (dk_at dksL_law_22 13 rfl rfl)
theorem dL_law_652 : decode cL_law 652 = .ok (.aload_n 0, 1) := dk_42 (dk_at dksL_law_22 14 rfl rfl)
theorem dL_law_653 : decode cL_law 653 = .ok (.iload_n 3, 1) := dk_29 (dk_at dksL_law_22 15 rfl rfl)
theorem dL_law_654 : decode cL_law 654 = .ok (.iconst 3, 1) := dk_6 (dk_at dksL_law_22 16 rfl rfl)
theorem dL_law_655 : decode cL_law 655 = .ok (.iadd, 1) := dk_96 (dk_at dksL_law_22 17 rfl rfl)
theorem dL_law_656 : decode cL_law 656 = .ok (.iaload, 1) := dk_46 (dk_at dksL_law_22 18 rfl rfl)
theorem dL_law_657 : decode cL_law 657 = .ok (.invokevirtual 85, 3) := dk_182 0 85 (dk_at dksL_law_22 19 rfl rfl)
theorem dL_law_660 : decode cL_law 660 = .ok (.if_icmp .eq 466, 3) := dk_159 1 210 (dk_at dksL_law_23 0 rfl rfl)
theorem dL_law_663 : decode cL_law 663 = .ok (.iconst 0, 1) := dk_3 (dk_at dksL_law_23 3 rfl rfl)
theorem dL_law_664 : decode cL_law 664 = .ok (.ireturn, 1) := dk_172 (dk_at dksL_law_23 4 rfl rfl)
theorem dL_law_665 : decode cL_law 665 = .ok (.aload_n 1, 1) := dk_43 (dk_at dksL_law_23 5 rfl rfl)
theorem dL_law_666 : decode cL_law 666 = .ok (.aload_n 0, 1) := dk_42 (dk_at dksL_law_23 6 rfl rfl)
theorem dL_law_667 : decode cL_law 667 = .ok (.iload_n 3, 1) := dk_29 (dk_at dksL_law_23 7 rfl rfl)
theorem dL_law_668 : decode cL_law 668 = .ok (.iconst 1, 1) := dk_4 (dk_at dksL_law_23 8 rfl rfl)
theorem dL_law_669 : decode cL_law 669 = .ok (.iadd, 1) := dk_96 (dk_at dksL_law_23 9 rfl rfl)
theorem dL_law_670 : decode cL_law 670 = .ok (.iaload, 1) := dk_46 (dk_at dksL_law_23 10 rfl rfl)
theorem dL_law_671 : decode cL_law 671 = .ok (.aload_n 0, 1) := dk_42 (dk_at dksL_law_23 11 rfl rfl)
theorem dL_law_672 : decode cL_law 672 = .ok (.iload_n 3, 1) := dk_29 (dk_at dksL_law_23 12 rfl rfl)
theorem dL_law_673 : decode cL_law 673 = .ok (.iconst 2, 1) := dk_5 (dk_at dksL_law_23 13 rfl rfl)
theorem dL_law_674 : decode cL_law 674 = .ok (.iadd, 1) := dk_96 (dk_at dksL_law_23 14 rfl rfl)
theorem dL_law_675 : decode cL_law 675 = .ok (.iaload, 1) := dk_46 (dk_at dksL_law_23 15 rfl rfl)
theorem dL_law_676 : decode cL_law 676 = .ok (.aload_n 0, 1) := dk_42 (dk_at dksL_law_23 16 rfl rfl)
theorem dL_law_677 : decode cL_law 677 = .ok (.iload_n 3, 1) := dk_29 (dk_at dksL_law_23 17 rfl rfl)
theorem dL_law_678 : decode cL_law 678 = .ok (.iconst 3, 1) := dk_6 (dk_at dksL_law_23 18 rfl rfl)
theorem dL_law_679 : decode cL_law 679 = .ok (.iadd, 1) := dk_96 (dk_at dksL_law_23 19 rfl rfl)
theorem dL_law_680 : decode cL_law 680 = .ok (.iaload, 1) := dk_46 (dk_at dksL_law_23 20 rfl rfl)
theorem dL_law_681 : decode cL_law 681 = .ok (.invokevirtual 86, 3) := dk_182 0 86 (dk_at dksL_law_23 21 rfl rfl)
theorem dL_law_684 : decode cL_law 684 = .ok (.aload_n 2, 1) := dk_44 (dk_at dksL_law_24 0 rfl rfl)
theorem dL_law_685 : decode cL_law 685 = .ok (.aload_n 0, 1) := dk_42 (dk_at dksL_law_24 1 rfl rfl)
theorem dL_law_686 : decode cL_law 686 = .ok (.iload_n 3, 1) := dk_29 (dk_at dksL_law_24 2 rfl rfl)
theorem dL_law_687 : decode cL_law 687 = .ok (.iconst 1, 1) := dk_4 (dk_at dksL_law_24 3 rfl rfl)
theorem dL_law_688 : decode cL_law 688 = .ok (.iadd, 1) := dk_96 (dk_at dksL_law_24 4 rfl rfl)
theorem dL_law_689 : decode cL_law 689 = .ok (.iaload, 1) := dk_46 (dk_at dksL_law_24 5 rfl rfl)
theorem dL_law_690 : decode cL_law 690 = .ok (.aload_n 0, 1) := dk_42 (dk_at dksL_law_24 6 rfl rfl)
theorem dL_law_691 : decode cL_law 691 = .ok (.iload_n 3, 1) := dk_29 (dk_at dksL_law_24 7 rfl rfl)
theorem dL_law_692 : decode cL_law 692 = .ok (.iconst 2, 1) := dk_5 (dk_at dksL_law_24 8 rfl rfl)
theorem dL_law_693 : decode cL_law 693 = .ok (.iadd, 1) := dk_96 (dk_at dksL_law_24 9 rfl rfl)
theorem dL_law_694 : decode cL_law 694 = .ok (.iaload, 1) := dk_46 (dk_at dksL_law_24 10 rfl rfl)
theorem dL_law_695 : decode cL_law 695 = .ok (.aload_n 0, 1) := dk_42 (dk_at dksL_law_24 11 rfl rfl)
theorem dL_law_696 : decode cL_law 696 = .ok (.iload_n 3, 1) := dk_29 (dk_at dksL_law_24 12 rfl rfl)
theorem dL_law_697 : decode cL_law 697 = .ok (.iconst 3, 1) := dk_6 (dk_at dksL_law_24 13 rfl rfl)
theorem dL_law_698 : decode cL_law 698 = .ok (.iadd, 1) := dk_96 (dk_at dksL_law_24 14 rfl rfl)
theorem dL_law_699 : decode cL_law 699 = .ok (.iaload, 1) := dk_46 (dk_at dksL_law_24 15 rfl rfl)
theorem dL_law_700 : decode cL_law 700 = .ok (.invokevirtual 89, 3) := dk_182 0 89 (dk_at dksL_law_24 16 rfl rfl)
theorem dL_law_703 : decode cL_law 703 = .ok (.if_icmp .eq 423, 3) := dk_159 1 167 (dk_at dksL_law_24 19 rfl rfl)
theorem dL_law_706 : decode cL_law 706 = .ok (.iconst 0, 1) := dk_3 (dk_at dksL_law_24 22 rfl rfl)
theorem dL_law_707 : decode cL_law 707 = .ok (.ireturn, 1) := dk_172 (dk_at dksL_law_24 23 rfl rfl)
theorem dL_law_708 : decode cL_law 708 = .ok (.aload_n 1, 1) := dk_43 (dk_at dksL_law_25 0 rfl rfl)
theorem dL_law_709 : decode cL_law 709 = .ok (.aload_n 0, 1) := dk_42 (dk_at dksL_law_25 1 rfl rfl)
theorem dL_law_710 : decode cL_law 710 = .ok (.iload_n 3, 1) := dk_29 (dk_at dksL_law_25 2 rfl rfl)
theorem dL_law_711 : decode cL_law 711 = .ok (.iconst 1, 1) := dk_4 (dk_at dksL_law_25 3 rfl rfl)
theorem dL_law_712 : decode cL_law 712 = .ok (.iadd, 1) := dk_96 (dk_at dksL_law_25 4 rfl rfl)
theorem dL_law_713 : decode cL_law 713 = .ok (.iaload, 1) := dk_46 (dk_at dksL_law_25 5 rfl rfl)
theorem dL_law_714 : decode cL_law 714 = .ok (.aload_n 0, 1) := dk_42 (dk_at dksL_law_25 6 rfl rfl)
theorem dL_law_715 : decode cL_law 715 = .ok (.iload_n 3, 1) := dk_29 (dk_at dksL_law_25 7 rfl rfl)
theorem dL_law_716 : decode cL_law 716 = .ok (.iconst 2, 1) := dk_5 (dk_at dksL_law_25 8 rfl rfl)
theorem dL_law_717 : decode cL_law 717 = .ok (.iadd, 1) := dk_96 (dk_at dksL_law_25 9 rfl rfl)
theorem dL_law_718 : decode cL_law 718 = .ok (.iaload, 1) := dk_46 (dk_at dksL_law_25 10 rfl rfl)
theorem dL_law_719 : decode cL_law 719 = .ok (.aload_n 0, 1) := dk_42 (dk_at dksL_law_25 11 rfl rfl)
theorem dL_law_720 : decode cL_law 720 = .ok (.iload_n 3, 1) := dk_29 (dk_at dksL_law_25 12 rfl rfl)
theorem dL_law_721 : decode cL_law 721 = .ok (.iconst 3, 1) := dk_6 (dk_at dksL_law_25 13 rfl rfl)
theorem dL_law_722 : decode cL_law 722 = .ok (.iadd, 1) := dk_96 (dk_at dksL_law_25 14 rfl rfl)
theorem dL_law_723 : decode cL_law 723 = .ok (.iaload, 1) := dk_46 (dk_at dksL_law_25 15 rfl rfl)
theorem dL_law_724 : decode cL_law 724 = .ok (.invokevirtual 90, 3) := dk_182 0 90 (dk_at dksL_law_25 16 rfl rfl)
theorem dL_law_727 : decode cL_law 727 = .ok (.aload_n 2, 1) := dk_44 (dk_at dksL_law_25 19 rfl rfl)
theorem dL_law_728 : decode cL_law 728 = .ok (.aload_n 0, 1) := dk_42 (dk_at dksL_law_25 20 rfl rfl)
theorem dL_law_729 : decode cL_law 729 = .ok (.iload_n 3, 1) := dk_29 (dk_at dksL_law_25 21 rfl rfl)
theorem dL_law_730 : decode cL_law 730 = .ok (.iconst 1, 1) := dk_4 (dk_at dksL_law_25 22 rfl rfl)
theorem dL_law_731 : decode cL_law 731 = .ok (.iadd, 1) := dk_96 (dk_at dksL_law_25 23 rfl rfl)
theorem dL_law_732 : decode cL_law 732 = .ok (.iaload, 1) := dk_46 (dk_at dksL_law_26 0 rfl rfl)
theorem dL_law_733 : decode cL_law 733 = .ok (.aload_n 0, 1) := dk_42 (dk_at dksL_law_26 1 rfl rfl)
theorem dL_law_734 : decode cL_law 734 = .ok (.iload_n 3, 1) := dk_29 (dk_at dksL_law_26 2 rfl rfl)
theorem dL_law_735 : decode cL_law 735 = .ok (.iconst 2, 1) := dk_5 (dk_at dksL_law_26 3 rfl rfl)
theorem dL_law_736 : decode cL_law 736 = .ok (.iadd, 1) := dk_96 (dk_at dksL_law_26 4 rfl rfl)
theorem dL_law_737 : decode cL_law 737 = .ok (.iaload, 1) := dk_46 (dk_at dksL_law_26 5 rfl rfl)
theorem dL_law_738 : decode cL_law 738 = .ok (.aload_n 0, 1) := dk_42 (dk_at dksL_law_26 6 rfl rfl)
theorem dL_law_739 : decode cL_law 739 = .ok (.iload_n 3, 1) := dk_29 (dk_at dksL_law_26 7 rfl rfl)
theorem dL_law_740 : decode cL_law 740 = .ok (.iconst 3, 1) := dk_6 (dk_at dksL_law_26 8 rfl rfl)
theorem dL_law_741 : decode cL_law 741 = .ok (.iadd, 1) := dk_96 (dk_at dksL_law_26 9 rfl rfl)
theorem dL_law_742 : decode cL_law 742 = .ok (.iaload, 1) := dk_46 (dk_at dksL_law_26 10 rfl rfl)
theorem dL_law_743 : decode cL_law 743 = .ok (.invokevirtual 93, 3) := dk_182 0 93 (dk_at dksL_law_26 11 rfl rfl)
theorem dL_law_746 : decode cL_law 746 = .ok (.if_icmp .eq 380, 3) := dk_159 1 124 (dk_at dksL_law_26 14 rfl rfl)
theorem dL_law_749 : decode cL_law 749 = .ok (.iconst 0, 1) := dk_3 (dk_at dksL_law_26 17 rfl rfl)
theorem dL_law_750 : decode cL_law 750 = .ok (.ireturn, 1) := dk_172 (dk_at dksL_law_26 18 rfl rfl)
theorem dL_law_751 : decode cL_law 751 = .ok (.aload_n 1, 1) := dk_43 (dk_at dksL_law_26 19 rfl rfl)
theorem dL_law_752 : decode cL_law 752 = .ok (.aload_n 0, 1) := dk_42 (dk_at dksL_law_26 20 rfl rfl)
theorem dL_law_753 : decode cL_law 753 = .ok (.iload_n 3, 1) := dk_29 (dk_at dksL_law_26 21 rfl rfl)
theorem dL_law_754 : decode cL_law 754 = .ok (.iconst 1, 1) := dk_4 (dk_at dksL_law_26 22 rfl rfl)
theorem dL_law_755 : decode cL_law 755 = .ok (.iadd, 1) := dk_96 (dk_at dksL_law_26 23 rfl rfl)
theorem dL_law_756 : decode cL_law 756 = .ok (.iaload, 1) := dk_46 (dk_at dksL_law_27 0 rfl rfl)
theorem dL_law_757 : decode cL_law 757 = .ok (.aload_n 0, 1) := dk_42 (dk_at dksL_law_27 1 rfl rfl)
theorem dL_law_758 : decode cL_law 758 = .ok (.iload_n 3, 1) := dk_29 (dk_at dksL_law_27 2 rfl rfl)
theorem dL_law_759 : decode cL_law 759 = .ok (.iconst 2, 1) := dk_5 (dk_at dksL_law_27 3 rfl rfl)
theorem dL_law_760 : decode cL_law 760 = .ok (.iadd, 1) := dk_96 (dk_at dksL_law_27 4 rfl rfl)
theorem dL_law_761 : decode cL_law 761 = .ok (.iaload, 1) := dk_46 (dk_at dksL_law_27 5 rfl rfl)
theorem dL_law_762 : decode cL_law 762 = .ok (.invokevirtual 94, 3) := dk_182 0 94 (dk_at dksL_law_27 6 rfl rfl)
theorem dL_law_765 : decode cL_law 765 = .ok (.aload_n 2, 1) := dk_44 (dk_at dksL_law_27 9 rfl rfl)
theorem dL_law_766 : decode cL_law 766 = .ok (.aload_n 0, 1) := dk_42 (dk_at dksL_law_27 10 rfl rfl)
theorem dL_law_767 : decode cL_law 767 = .ok (.iload_n 3, 1) := dk_29 (dk_at dksL_law_27 11 rfl rfl)
theorem dL_law_768 : decode cL_law 768 = .ok (.iconst 1, 1) := dk_4 (dk_at dksL_law_27 12 rfl rfl)
theorem dL_law_769 : decode cL_law 769 = .ok (.iadd, 1) := dk_96 (dk_at dksL_law_27 13 rfl rfl)
theorem dL_law_770 : decode cL_law 770 = .ok (.iaload, 1) := dk_46 (dk_at dksL_law_27 14 rfl rfl)
theorem dL_law_771 : decode cL_law 771 = .ok (.aload_n 0, 1) := dk_42 (dk_at dksL_law_27 15 rfl rfl)
theorem dL_law_772 : decode cL_law 772 = .ok (.iload_n 3, 1) := dk_29 (dk_at dksL_law_27 16 rfl rfl)
theorem dL_law_773 : decode cL_law 773 = .ok (.iconst 2, 1) := dk_5 (dk_at dksL_law_27 17 rfl rfl)
theorem dL_law_774 : decode cL_law 774 = .ok (.iadd, 1) := dk_96 (dk_at dksL_law_27 18 rfl rfl)
theorem dL_law_775 : decode cL_law 775 = .ok (.iaload, 1) := dk_46 (dk_at dksL_law_27 19 rfl rfl)
theorem dL_law_776 : decode cL_law 776 = .ok (.invokevirtual 97, 3) := dk_182 0 97 (dk_at dksL_law_27 20 rfl rfl)
theorem dL_law_779 : decode cL_law 779 = .ok (.if_icmp .eq 347, 3) := dk_159 1 91 (dk_at dksL_law_28 0 rfl rfl)
theorem dL_law_782 : decode cL_law 782 = .ok (.iconst 0, 1) := dk_3 (dk_at dksL_law_28 3 rfl rfl)
theorem dL_law_783 : decode cL_law 783 = .ok (.ireturn, 1) := dk_172 (dk_at dksL_law_28 4 rfl rfl)
theorem dL_law_784 : decode cL_law 784 = .ok (.aload_n 1, 1) := dk_43 (dk_at dksL_law_28 5 rfl rfl)
theorem dL_law_785 : decode cL_law 785 = .ok (.aload_n 0, 1) := dk_42 (dk_at dksL_law_28 6 rfl rfl)
theorem dL_law_786 : decode cL_law 786 = .ok (.iload_n 3, 1) := dk_29 (dk_at dksL_law_28 7 rfl rfl)
theorem dL_law_787 : decode cL_law 787 = .ok (.iconst 1, 1) := dk_4 (dk_at dksL_law_28 8 rfl rfl)
theorem dL_law_788 : decode cL_law 788 = .ok (.iadd, 1) := dk_96 (dk_at dksL_law_28 9 rfl rfl)
theorem dL_law_789 : decode cL_law 789 = .ok (.iaload, 1) := dk_46 (dk_at dksL_law_28 10 rfl rfl)
theorem dL_law_790 : decode cL_law 790 = .ok (.aload_n 0, 1) := dk_42 (dk_at dksL_law_28 11 rfl rfl)
theorem dL_law_791 : decode cL_law 791 = .ok (.iload_n 3, 1) := dk_29 (dk_at dksL_law_28 12 rfl rfl)
theorem dL_law_792 : decode cL_law 792 = .ok (.iconst 2, 1) := dk_5 (dk_at dksL_law_28 13 rfl rfl)
theorem dL_law_793 : decode cL_law 793 = .ok (.iadd, 1) := dk_96 (dk_at dksL_law_28 14 rfl rfl)
theorem dL_law_794 : decode cL_law 794 = .ok (.iaload, 1) := dk_46 (dk_at dksL_law_28 15 rfl rfl)
theorem dL_law_795 : decode cL_law 795 = .ok (.invokevirtual 98, 3) := dk_182 0 98 (dk_at dksL_law_28 16 rfl rfl)
theorem dL_law_798 : decode cL_law 798 = .ok (.aload_n 2, 1) := dk_44 (dk_at dksL_law_28 19 rfl rfl)
theorem dL_law_799 : decode cL_law 799 = .ok (.aload_n 0, 1) := dk_42 (dk_at dksL_law_28 20 rfl rfl)
theorem dL_law_800 : decode cL_law 800 = .ok (.iload_n 3, 1) := dk_29 (dk_at dksL_law_28 21 rfl rfl)
theorem dL_law_801 : decode cL_law 801 = .ok (.iconst 1, 1) := dk_4 (dk_at dksL_law_28 22 rfl rfl)
theorem dL_law_802 : decode cL_law 802 = .ok (.iadd, 1) := dk_96 (dk_at dksL_law_28 23 rfl rfl)
theorem dL_law_803 : decode cL_law 803 = .ok (.iaload, 1) := dk_46 (dk_at dksL_law_29 0 rfl rfl)
theorem dL_law_804 : decode cL_law 804 = .ok (.aload_n 0, 1) := dk_42 (dk_at dksL_law_29 1 rfl rfl)
theorem dL_law_805 : decode cL_law 805 = .ok (.iload_n 3, 1) := dk_29 (dk_at dksL_law_29 2 rfl rfl)
theorem dL_law_806 : decode cL_law 806 = .ok (.iconst 2, 1) := dk_5 (dk_at dksL_law_29 3 rfl rfl)
theorem dL_law_807 : decode cL_law 807 = .ok (.iadd, 1) := dk_96 (dk_at dksL_law_29 4 rfl rfl)
theorem dL_law_808 : decode cL_law 808 = .ok (.iaload, 1) := dk_46 (dk_at dksL_law_29 5 rfl rfl)
theorem dL_law_809 : decode cL_law 809 = .ok (.invokevirtual 101, 3) := dk_182 0 101 (dk_at dksL_law_29 6 rfl rfl)
theorem dL_law_812 : decode cL_law 812 = .ok (.if_icmp .eq 314, 3) := dk_159 1 58 (dk_at dksL_law_29 9 rfl rfl)
theorem dL_law_815 : decode cL_law 815 = .ok (.iconst 0, 1) := dk_3 (dk_at dksL_law_29 12 rfl rfl)
theorem dL_law_816 : decode cL_law 816 = .ok (.ireturn, 1) := dk_172 (dk_at dksL_law_29 13 rfl rfl)
theorem dL_law_817 : decode cL_law 817 = .ok (.aload_n 1, 1) := dk_43 (dk_at dksL_law_29 14 rfl rfl)
theorem dL_law_818 : decode cL_law 818 = .ok (.aload_n 0, 1) := dk_42 (dk_at dksL_law_29 15 rfl rfl)
theorem dL_law_819 : decode cL_law 819 = .ok (.iload_n 3, 1) := dk_29 (dk_at dksL_law_29 16 rfl rfl)
theorem dL_law_820 : decode cL_law 820 = .ok (.iconst 1, 1) := dk_4 (dk_at dksL_law_29 17 rfl rfl)
theorem dL_law_821 : decode cL_law 821 = .ok (.iadd, 1) := dk_96 (dk_at dksL_law_29 18 rfl rfl)
theorem dL_law_822 : decode cL_law 822 = .ok (.iaload, 1) := dk_46 (dk_at dksL_law_29 19 rfl rfl)
theorem dL_law_823 : decode cL_law 823 = .ok (.invokevirtual 102, 3) := dk_182 0 102 (dk_at dksL_law_29 20 rfl rfl)
theorem dL_law_826 : decode cL_law 826 = .ok (.aload_n 2, 1) := dk_44 (dk_at dksL_law_29 23 rfl rfl)
theorem dL_law_827 : decode cL_law 827 = .ok (.aload_n 0, 1) := dk_42 (dk_at dksL_law_30 0 rfl rfl)
theorem dL_law_828 : decode cL_law 828 = .ok (.iload_n 3, 1) := dk_29 (dk_at dksL_law_30 1 rfl rfl)
theorem dL_law_829 : decode cL_law 829 = .ok (.iconst 1, 1) := dk_4 (dk_at dksL_law_30 2 rfl rfl)
theorem dL_law_830 : decode cL_law 830 = .ok (.iadd, 1) := dk_96 (dk_at dksL_law_30 3 rfl rfl)
theorem dL_law_831 : decode cL_law 831 = .ok (.iaload, 1) := dk_46 (dk_at dksL_law_30 4 rfl rfl)
theorem dL_law_832 : decode cL_law 832 = .ok (.invokevirtual 105, 3) := dk_182 0 105 (dk_at dksL_law_30 5 rfl rfl)
theorem dL_law_835 : decode cL_law 835 = .ok (.if_icmp .eq 291, 3) := dk_159 1 35 (dk_at dksL_law_30 8 rfl rfl)
theorem dL_law_838 : decode cL_law 838 = .ok (.iconst 0, 1) := dk_3 (dk_at dksL_law_30 11 rfl rfl)
theorem dL_law_839 : decode cL_law 839 = .ok (.ireturn, 1) := dk_172 (dk_at dksL_law_30 12 rfl rfl)
theorem dL_law_840 : decode cL_law 840 = .ok (.aload_n 1, 1) := dk_43 (dk_at dksL_law_30 13 rfl rfl)
theorem dL_law_841 : decode cL_law 841 = .ok (.aload_n 0, 1) := dk_42 (dk_at dksL_law_30 14 rfl rfl)
theorem dL_law_842 : decode cL_law 842 = .ok (.iload_n 3, 1) := dk_29 (dk_at dksL_law_30 15 rfl rfl)
theorem dL_law_843 : decode cL_law 843 = .ok (.iconst 1, 1) := dk_4 (dk_at dksL_law_30 16 rfl rfl)
theorem dL_law_844 : decode cL_law 844 = .ok (.iadd, 1) := dk_96 (dk_at dksL_law_30 17 rfl rfl)
theorem dL_law_845 : decode cL_law 845 = .ok (.iaload, 1) := dk_46 (dk_at dksL_law_30 18 rfl rfl)
theorem dL_law_846 : decode cL_law 846 = .ok (.aload_n 0, 1) := dk_42 (dk_at dksL_law_30 19 rfl rfl)
theorem dL_law_847 : decode cL_law 847 = .ok (.iload_n 3, 1) := dk_29 (dk_at dksL_law_30 20 rfl rfl)
theorem dL_law_848 : decode cL_law 848 = .ok (.iconst 2, 1) := dk_5 (dk_at dksL_law_30 21 rfl rfl)
theorem dL_law_849 : decode cL_law 849 = .ok (.iadd, 1) := dk_96 (dk_at dksL_law_30 22 rfl rfl)
theorem dL_law_850 : decode cL_law 850 = .ok (.iaload, 1) := dk_46 (dk_at dksL_law_30 23 rfl rfl)
theorem dL_law_851 : decode cL_law 851 = .ok (.invokevirtual 106, 3) := dk_182 0 106 (dk_at dksL_law_31 0 rfl rfl)
theorem dL_law_854 : decode cL_law 854 = .ok (.aload_n 2, 1) := dk_44 (dk_at dksL_law_31 3 rfl rfl)
theorem dL_law_855 : decode cL_law 855 = .ok (.aload_n 0, 1) := dk_42 (dk_at dksL_law_31 4 rfl rfl)
theorem dL_law_856 : decode cL_law 856 = .ok (.iload_n 3, 1) := dk_29 (dk_at dksL_law_31 5 rfl rfl)
theorem dL_law_857 : decode cL_law 857 = .ok (.iconst 1, 1) := dk_4 (dk_at dksL_law_31 6 rfl rfl)
theorem dL_law_858 : decode cL_law 858 = .ok (.iadd, 1) := dk_96 (dk_at dksL_law_31 7 rfl rfl)
theorem dL_law_859 : decode cL_law 859 = .ok (.iaload, 1) := dk_46 (dk_at dksL_law_31 8 rfl rfl)
theorem dL_law_860 : decode cL_law 860 = .ok (.aload_n 0, 1) := dk_42 (dk_at dksL_law_31 9 rfl rfl)
theorem dL_law_861 : decode cL_law 861 = .ok (.iload_n 3, 1) := dk_29 (dk_at dksL_law_31 10 rfl rfl)
theorem dL_law_862 : decode cL_law 862 = .ok (.iconst 2, 1) := dk_5 (dk_at dksL_law_31 11 rfl rfl)
theorem dL_law_863 : decode cL_law 863 = .ok (.iadd, 1) := dk_96 (dk_at dksL_law_31 12 rfl rfl)
theorem dL_law_864 : decode cL_law 864 = .ok (.iaload, 1) := dk_46 (dk_at dksL_law_31 13 rfl rfl)
theorem dL_law_865 : decode cL_law 865 = .ok (.invokevirtual 109, 3) := dk_182 0 109 (dk_at dksL_law_31 14 rfl rfl)
theorem dL_law_868 : decode cL_law 868 = .ok (.if_icmp .eq 258, 3) := dk_159 1 2 (dk_at dksL_law_31 17 rfl rfl)
theorem dL_law_871 : decode cL_law 871 = .ok (.iconst 0, 1) := dk_3 (dk_at dksL_law_31 20 rfl rfl)
theorem dL_law_872 : decode cL_law 872 = .ok (.ireturn, 1) := dk_172 (dk_at dksL_law_31 21 rfl rfl)
theorem dL_law_873 : decode cL_law 873 = .ok (.aload_n 1, 1) := dk_43 (dk_at dksL_law_31 22 rfl rfl)
theorem dL_law_874 : decode cL_law 874 = .ok (.aload_n 0, 1) := dk_42 (dk_at dksL_law_31 23 rfl rfl)
theorem dL_law_875 : decode cL_law 875 = .ok (.iload_n 3, 1) := dk_29 (dk_at dksL_law_32 0 rfl rfl)
theorem dL_law_876 : decode cL_law 876 = .ok (.iconst 1, 1) := dk_4 (dk_at dksL_law_32 1 rfl rfl)
theorem dL_law_877 : decode cL_law 877 = .ok (.iadd, 1) := dk_96 (dk_at dksL_law_32 2 rfl rfl)
theorem dL_law_878 : decode cL_law 878 = .ok (.iaload, 1) := dk_46 (dk_at dksL_law_32 3 rfl rfl)
theorem dL_law_879 : decode cL_law 879 = .ok (.aload_n 0, 1) := dk_42 (dk_at dksL_law_32 4 rfl rfl)
theorem dL_law_880 : decode cL_law 880 = .ok (.iload_n 3, 1) := dk_29 (dk_at dksL_law_32 5 rfl rfl)
theorem dL_law_881 : decode cL_law 881 = .ok (.iconst 2, 1) := dk_5 (dk_at dksL_law_32 6 rfl rfl)
theorem dL_law_882 : decode cL_law 882 = .ok (.iadd, 1) := dk_96 (dk_at dksL_law_32 7 rfl rfl)
theorem dL_law_883 : decode cL_law 883 = .ok (.iaload, 1) := dk_46 (dk_at dksL_law_32 8 rfl rfl)
theorem dL_law_884 : decode cL_law 884 = .ok (.invokevirtual 110, 3) := dk_182 0 110 (dk_at dksL_law_32 9 rfl rfl)
theorem dL_law_887 : decode cL_law 887 = .ok (.aload_n 2, 1) := dk_44 (dk_at dksL_law_32 12 rfl rfl)
theorem dL_law_888 : decode cL_law 888 = .ok (.aload_n 0, 1) := dk_42 (dk_at dksL_law_32 13 rfl rfl)
theorem dL_law_889 : decode cL_law 889 = .ok (.iload_n 3, 1) := dk_29 (dk_at dksL_law_32 14 rfl rfl)
theorem dL_law_890 : decode cL_law 890 = .ok (.iconst 1, 1) := dk_4 (dk_at dksL_law_32 15 rfl rfl)
theorem dL_law_891 : decode cL_law 891 = .ok (.iadd, 1) := dk_96 (dk_at dksL_law_32 16 rfl rfl)
theorem dL_law_892 : decode cL_law 892 = .ok (.iaload, 1) := dk_46 (dk_at dksL_law_32 17 rfl rfl)
theorem dL_law_893 : decode cL_law 893 = .ok (.aload_n 0, 1) := dk_42 (dk_at dksL_law_32 18 rfl rfl)
theorem dL_law_894 : decode cL_law 894 = .ok (.iload_n 3, 1) := dk_29 (dk_at dksL_law_32 19 rfl rfl)
theorem dL_law_895 : decode cL_law 895 = .ok (.iconst 2, 1) := dk_5 (dk_at dksL_law_32 20 rfl rfl)
theorem dL_law_896 : decode cL_law 896 = .ok (.iadd, 1) := dk_96 (dk_at dksL_law_32 21 rfl rfl)
theorem dL_law_897 : decode cL_law 897 = .ok (.iaload, 1) := dk_46 (dk_at dksL_law_32 22 rfl rfl)
theorem dL_law_898 : decode cL_law 898 = .ok (.invokevirtual 113, 3) := dk_182 0 113 (dk_at dksL_law_33 0 rfl rfl)
theorem dL_law_901 : decode cL_law 901 = .ok (.if_icmp .eq 225, 3) := dk_159 0 225 (dk_at dksL_law_33 3 rfl rfl)
theorem dL_law_904 : decode cL_law 904 = .ok (.iconst 0, 1) := dk_3 (dk_at dksL_law_33 6 rfl rfl)
theorem dL_law_905 : decode cL_law 905 = .ok (.ireturn, 1) := dk_172 (dk_at dksL_law_33 7 rfl rfl)
theorem dL_law_906 : decode cL_law 906 = .ok (.aload_n 1, 1) := dk_43 (dk_at dksL_law_33 8 rfl rfl)
theorem dL_law_907 : decode cL_law 907 = .ok (.aload_n 0, 1) := dk_42 (dk_at dksL_law_33 9 rfl rfl)
theorem dL_law_908 : decode cL_law 908 = .ok (.iload_n 3, 1) := dk_29 (dk_at dksL_law_33 10 rfl rfl)
theorem dL_law_909 : decode cL_law 909 = .ok (.iconst 1, 1) := dk_4 (dk_at dksL_law_33 11 rfl rfl)
theorem dL_law_910 : decode cL_law 910 = .ok (.iadd, 1) := dk_96 (dk_at dksL_law_33 12 rfl rfl)
theorem dL_law_911 : decode cL_law 911 = .ok (.iaload, 1) := dk_46 (dk_at dksL_law_33 13 rfl rfl)
theorem dL_law_912 : decode cL_law 912 = .ok (.aload_n 0, 1) := dk_42 (dk_at dksL_law_33 14 rfl rfl)
theorem dL_law_913 : decode cL_law 913 = .ok (.iload_n 3, 1) := dk_29 (dk_at dksL_law_33 15 rfl rfl)
theorem dL_law_914 : decode cL_law 914 = .ok (.iconst 2, 1) := dk_5 (dk_at dksL_law_33 16 rfl rfl)
theorem dL_law_915 : decode cL_law 915 = .ok (.iadd, 1) := dk_96 (dk_at dksL_law_33 17 rfl rfl)
theorem dL_law_916 : decode cL_law 916 = .ok (.iaload, 1) := dk_46 (dk_at dksL_law_33 18 rfl rfl)
theorem dL_law_917 : decode cL_law 917 = .ok (.aload_n 0, 1) := dk_42 (dk_at dksL_law_33 19 rfl rfl)
theorem dL_law_918 : decode cL_law 918 = .ok (.iload_n 3, 1) := dk_29 (dk_at dksL_law_33 20 rfl rfl)
theorem dL_law_919 : decode cL_law 919 = .ok (.iconst 3, 1) := dk_6 (dk_at dksL_law_33 21 rfl rfl)
theorem dL_law_920 : decode cL_law 920 = .ok (.iadd, 1) := dk_96 (dk_at dksL_law_33 22 rfl rfl)
theorem dL_law_921 : decode cL_law 921 = .ok (.iaload, 1) := dk_46 (dk_at dksL_law_33 23 rfl rfl)
theorem dL_law_922 : decode cL_law 922 = .ok (.invokevirtual 114, 3) := dk_182 0 114 (dk_at dksL_law_34 0 rfl rfl)
theorem dL_law_925 : decode cL_law 925 = .ok (.aload_n 2, 1) := dk_44 (dk_at dksL_law_34 3 rfl rfl)
theorem dL_law_926 : decode cL_law 926 = .ok (.aload_n 0, 1) := dk_42 (dk_at dksL_law_34 4 rfl rfl)
theorem dL_law_927 : decode cL_law 927 = .ok (.iload_n 3, 1) := dk_29 (dk_at dksL_law_34 5 rfl rfl)
theorem dL_law_928 : decode cL_law 928 = .ok (.iconst 1, 1) := dk_4 (dk_at dksL_law_34 6 rfl rfl)
theorem dL_law_929 : decode cL_law 929 = .ok (.iadd, 1) := dk_96 (dk_at dksL_law_34 7 rfl rfl)
theorem dL_law_930 : decode cL_law 930 = .ok (.iaload, 1) := dk_46 (dk_at dksL_law_34 8 rfl rfl)
theorem dL_law_931 : decode cL_law 931 = .ok (.aload_n 0, 1) := dk_42 (dk_at dksL_law_34 9 rfl rfl)
theorem dL_law_932 : decode cL_law 932 = .ok (.iload_n 3, 1) := dk_29 (dk_at dksL_law_34 10 rfl rfl)
theorem dL_law_933 : decode cL_law 933 = .ok (.iconst 2, 1) := dk_5 (dk_at dksL_law_34 11 rfl rfl)
theorem dL_law_934 : decode cL_law 934 = .ok (.iadd, 1) := dk_96 (dk_at dksL_law_34 12 rfl rfl)
theorem dL_law_935 : decode cL_law 935 = .ok (.iaload, 1) := dk_46 (dk_at dksL_law_34 13 rfl rfl)
theorem dL_law_936 : decode cL_law 936 = .ok (.aload_n 0, 1) := dk_42 (dk_at dksL_law_34 14 rfl rfl)
theorem dL_law_937 : decode cL_law 937 = .ok (.iload_n 3, 1) := dk_29 (dk_at dksL_law_34 15 rfl rfl)
theorem dL_law_938 : decode cL_law 938 = .ok (.iconst 3, 1) := dk_6 (dk_at dksL_law_34 16 rfl rfl)
theorem dL_law_939 : decode cL_law 939 = .ok (.iadd, 1) := dk_96 (dk_at dksL_law_34 17 rfl rfl)
theorem dL_law_940 : decode cL_law 940 = .ok (.iaload, 1) := dk_46 (dk_at dksL_law_34 18 rfl rfl)
theorem dL_law_941 : decode cL_law 941 = .ok (.invokevirtual 117, 3) := dk_182 0 117 (dk_at dksL_law_34 19 rfl rfl)
theorem dL_law_944 : decode cL_law 944 = .ok (.if_icmp .eq 182, 3) := dk_159 0 182 (dk_at dksL_law_35 0 rfl rfl)
theorem dL_law_947 : decode cL_law 947 = .ok (.iconst 0, 1) := dk_3 (dk_at dksL_law_35 3 rfl rfl)
theorem dL_law_948 : decode cL_law 948 = .ok (.ireturn, 1) := dk_172 (dk_at dksL_law_35 4 rfl rfl)
theorem dL_law_949 : decode cL_law 949 = .ok (.aload_n 1, 1) := dk_43 (dk_at dksL_law_35 5 rfl rfl)
theorem dL_law_950 : decode cL_law 950 = .ok (.aload_n 0, 1) := dk_42 (dk_at dksL_law_35 6 rfl rfl)
theorem dL_law_951 : decode cL_law 951 = .ok (.iload_n 3, 1) := dk_29 (dk_at dksL_law_35 7 rfl rfl)
theorem dL_law_952 : decode cL_law 952 = .ok (.iconst 1, 1) := dk_4 (dk_at dksL_law_35 8 rfl rfl)
theorem dL_law_953 : decode cL_law 953 = .ok (.iadd, 1) := dk_96 (dk_at dksL_law_35 9 rfl rfl)
theorem dL_law_954 : decode cL_law 954 = .ok (.iaload, 1) := dk_46 (dk_at dksL_law_35 10 rfl rfl)
theorem dL_law_955 : decode cL_law 955 = .ok (.invokevirtual 118, 3) := dk_182 0 118 (dk_at dksL_law_35 11 rfl rfl)
theorem dL_law_958 : decode cL_law 958 = .ok (.aload_n 2, 1) := dk_44 (dk_at dksL_law_35 14 rfl rfl)
theorem dL_law_959 : decode cL_law 959 = .ok (.aload_n 0, 1) := dk_42 (dk_at dksL_law_35 15 rfl rfl)
theorem dL_law_960 : decode cL_law 960 = .ok (.iload_n 3, 1) := dk_29 (dk_at dksL_law_35 16 rfl rfl)
theorem dL_law_961 : decode cL_law 961 = .ok (.iconst 1, 1) := dk_4 (dk_at dksL_law_35 17 rfl rfl)
theorem dL_law_962 : decode cL_law 962 = .ok (.iadd, 1) := dk_96 (dk_at dksL_law_35 18 rfl rfl)
theorem dL_law_963 : decode cL_law 963 = .ok (.iaload, 1) := dk_46 (dk_at dksL_law_35 19 rfl rfl)
theorem dL_law_964 : decode cL_law 964 = .ok (.invokevirtual 121, 3) := dk_182 0 121 (dk_at dksL_law_35 20 rfl rfl)
theorem dL_law_967 : decode cL_law 967 = .ok (.if_icmp .eq 159, 3) := dk_159 0 159 (dk_at dksL_law_36 0 rfl rfl)
theorem dL_law_970 : decode cL_law 970 = .ok (.iconst 0, 1) := dk_3 (dk_at dksL_law_36 3 rfl rfl)
theorem dL_law_971 : decode cL_law 971 = .ok (.ireturn, 1) := dk_172 (dk_at dksL_law_36 4 rfl rfl)
theorem dL_law_972 : decode cL_law 972 = .ok (.aload_n 1, 1) := dk_43 (dk_at dksL_law_36 5 rfl rfl)
theorem dL_law_973 : decode cL_law 973 = .ok (.invokevirtual 122, 3) := dk_182 0 122 (dk_at dksL_law_36 6 rfl rfl)
theorem dL_law_976 : decode cL_law 976 = .ok (.aload_n 2, 1) := dk_44 (dk_at dksL_law_36 9 rfl rfl)
theorem dL_law_977 : decode cL_law 977 = .ok (.invokevirtual 125, 3) := dk_182 0 125 (dk_at dksL_law_36 10 rfl rfl)
theorem dL_law_980 : decode cL_law 980 = .ok (.if_icmp .eq 146, 3) := dk_159 0 146 (dk_at dksL_law_36 13 rfl rfl)
theorem dL_law_983 : decode cL_law 983 = .ok (.iconst 0, 1) := dk_3 (dk_at dksL_law_36 16 rfl rfl)
theorem dL_law_984 : decode cL_law 984 = .ok (.ireturn, 1) := dk_172 (dk_at dksL_law_36 17 rfl rfl)
theorem dL_law_985 : decode cL_law 985 = .ok (.aload_n 1, 1) := dk_43 (dk_at dksL_law_36 18 rfl rfl)
theorem dL_law_986 : decode cL_law 986 = .ok (.aload_n 0, 1) := dk_42 (dk_at dksL_law_36 19 rfl rfl)
theorem dL_law_987 : decode cL_law 987 = .ok (.iload_n 3, 1) := dk_29 (dk_at dksL_law_36 20 rfl rfl)
theorem dL_law_988 : decode cL_law 988 = .ok (.iconst 1, 1) := dk_4 (dk_at dksL_law_36 21 rfl rfl)
theorem dL_law_989 : decode cL_law 989 = .ok (.iadd, 1) := dk_96 (dk_at dksL_law_36 22 rfl rfl)
theorem dL_law_990 : decode cL_law 990 = .ok (.iaload, 1) := dk_46 (dk_at dksL_law_36 23 rfl rfl)
theorem dL_law_991 : decode cL_law 991 = .ok (.aload_n 0, 1) := dk_42 (dk_at dksL_law_37 0 rfl rfl)
theorem dL_law_992 : decode cL_law 992 = .ok (.iload_n 3, 1) := dk_29 (dk_at dksL_law_37 1 rfl rfl)
theorem dL_law_993 : decode cL_law 993 = .ok (.iconst 2, 1) := dk_5 (dk_at dksL_law_37 2 rfl rfl)
theorem dL_law_994 : decode cL_law 994 = .ok (.iadd, 1) := dk_96 (dk_at dksL_law_37 3 rfl rfl)
theorem dL_law_995 : decode cL_law 995 = .ok (.iaload, 1) := dk_46 (dk_at dksL_law_37 4 rfl rfl)
theorem dL_law_996 : decode cL_law 996 = .ok (.invokevirtual 126, 3) := dk_182 0 126 (dk_at dksL_law_37 5 rfl rfl)
theorem dL_law_999 : decode cL_law 999 = .ok (.aload_n 2, 1) := dk_44 (dk_at dksL_law_37 8 rfl rfl)
theorem dL_law_1000 : decode cL_law 1000 = .ok (.aload_n 0, 1) := dk_42 (dk_at dksL_law_37 9 rfl rfl)
theorem dL_law_1001 : decode cL_law 1001 = .ok (.iload_n 3, 1) := dk_29 (dk_at dksL_law_37 10 rfl rfl)
theorem dL_law_1002 : decode cL_law 1002 = .ok (.iconst 1, 1) := dk_4 (dk_at dksL_law_37 11 rfl rfl)
theorem dL_law_1003 : decode cL_law 1003 = .ok (.iadd, 1) := dk_96 (dk_at dksL_law_37 12 rfl rfl)
theorem dL_law_1004 : decode cL_law 1004 = .ok (.iaload, 1) := dk_46 (dk_at dksL_law_37 13 rfl rfl)
theorem dL_law_1005 : decode cL_law 1005 = .ok (.aload_n 0, 1) := dk_42 (dk_at dksL_law_37 14 rfl rfl)
theorem dL_law_1006 : decode cL_law 1006 = .ok (.iload_n 3, 1) := dk_29 (dk_at dksL_law_37 15 rfl rfl)
theorem dL_law_1007 : decode cL_law 1007 = .ok (.iconst 2, 1) := dk_5 (dk_at dksL_law_37 16 rfl rfl)
theorem dL_law_1008 : decode cL_law 1008 = .ok (.iadd, 1) := dk_96 (dk_at dksL_law_37 17 rfl rfl)
theorem dL_law_1009 : decode cL_law 1009 = .ok (.iaload, 1) := dk_46 (dk_at dksL_law_37 18 rfl rfl)
theorem dL_law_1010 : decode cL_law 1010 = .ok (.invokevirtual 129, 3) := dk_182 0 129 (dk_at dksL_law_37 19 rfl rfl)
theorem dL_law_1013 : decode cL_law 1013 = .ok (.if_icmp .eq 113, 3) := dk_159 0 113 (dk_at dksL_law_38 0 rfl rfl)
theorem dL_law_1016 : decode cL_law 1016 = .ok (.iconst 0, 1) := dk_3 (dk_at dksL_law_38 3 rfl rfl)
theorem dL_law_1017 : decode cL_law 1017 = .ok (.ireturn, 1) := dk_172 (dk_at dksL_law_38 4 rfl rfl)
theorem dL_law_1018 : decode cL_law 1018 = .ok (.aload_n 1, 1) := dk_43 (dk_at dksL_law_38 5 rfl rfl)
theorem dL_law_1019 : decode cL_law 1019 = .ok (.invokevirtual 130, 3) := dk_182 0 130 (dk_at dksL_law_38 6 rfl rfl)
theorem dL_law_1022 : decode cL_law 1022 = .ok (.aload_n 2, 1) := dk_44 (dk_at dksL_law_38 9 rfl rfl)
theorem dL_law_1023 : decode cL_law 1023 = .ok (.invokevirtual 133, 3) := dk_182 0 133 (dk_at dksL_law_38 10 rfl rfl)
theorem dL_law_1026 : decode cL_law 1026 = .ok (.if_icmp .eq 100, 3) := dk_159 0 100 (dk_at dksL_law_38 13 rfl rfl)
theorem dL_law_1029 : decode cL_law 1029 = .ok (.iconst 0, 1) := dk_3 (dk_at dksL_law_38 16 rfl rfl)
theorem dL_law_1030 : decode cL_law 1030 = .ok (.ireturn, 1) := dk_172 (dk_at dksL_law_38 17 rfl rfl)
theorem dL_law_1031 : decode cL_law 1031 = .ok (.aload_n 1, 1) := dk_43 (dk_at dksL_law_38 18 rfl rfl)
theorem dL_law_1032 : decode cL_law 1032 = .ok (.invokevirtual 134, 3) := dk_182 0 134 (dk_at dksL_law_38 19 rfl rfl)
theorem dL_law_1035 : decode cL_law 1035 = .ok (.aload_n 2, 1) := dk_44 (dk_at dksL_law_38 22 rfl rfl)
theorem dL_law_1036 : decode cL_law 1036 = .ok (.invokevirtual 137, 3) := dk_182 0 137 (dk_at dksL_law_39 0 rfl rfl)
theorem dL_law_1039 : decode cL_law 1039 = .ok (.if_icmp .eq 87, 3) := dk_159 0 87 (dk_at dksL_law_39 3 rfl rfl)
theorem dL_law_1042 : decode cL_law 1042 = .ok (.iconst 0, 1) := dk_3 (dk_at dksL_law_39 6 rfl rfl)
theorem dL_law_1043 : decode cL_law 1043 = .ok (.ireturn, 1) := dk_172 (dk_at dksL_law_39 7 rfl rfl)
theorem dL_law_1044 : decode cL_law 1044 = .ok (.aload_n 1, 1) := dk_43 (dk_at dksL_law_39 8 rfl rfl)
theorem dL_law_1045 : decode cL_law 1045 = .ok (.invokevirtual 138, 3) := dk_182 0 138 (dk_at dksL_law_39 9 rfl rfl)
theorem dL_law_1048 : decode cL_law 1048 = .ok (.aload_n 2, 1) := dk_44 (dk_at dksL_law_39 12 rfl rfl)
theorem dL_law_1049 : decode cL_law 1049 = .ok (.invokevirtual 141, 3) := dk_182 0 141 (dk_at dksL_law_39 13 rfl rfl)
theorem dL_law_1052 : decode cL_law 1052 = .ok (.if_icmp .eq 74, 3) := dk_159 0 74 (dk_at dksL_law_39 16 rfl rfl)
theorem dL_law_1055 : decode cL_law 1055 = .ok (.iconst 0, 1) := dk_3 (dk_at dksL_law_39 19 rfl rfl)
theorem dL_law_1056 : decode cL_law 1056 = .ok (.ireturn, 1) := dk_172 (dk_at dksL_law_39 20 rfl rfl)
theorem dL_law_1057 : decode cL_law 1057 = .ok (.aload_n 1, 1) := dk_43 (dk_at dksL_law_39 21 rfl rfl)
theorem dL_law_1058 : decode cL_law 1058 = .ok (.aload_n 0, 1) := dk_42 (dk_at dksL_law_39 22 rfl rfl)
theorem dL_law_1059 : decode cL_law 1059 = .ok (.iload_n 3, 1) := dk_29 (dk_at dksL_law_39 23 rfl rfl)
theorem dL_law_1060 : decode cL_law 1060 = .ok (.iconst 1, 1) := dk_4 (dk_at dksL_law_40 0 rfl rfl)
theorem dL_law_1061 : decode cL_law 1061 = .ok (.iadd, 1) := dk_96 (dk_at dksL_law_40 1 rfl rfl)
theorem dL_law_1062 : decode cL_law 1062 = .ok (.iaload, 1) := dk_46 (dk_at dksL_law_40 2 rfl rfl)
theorem dL_law_1063 : decode cL_law 1063 = .ok (.invokevirtual 142, 3) := dk_182 0 142 (dk_at dksL_law_40 3 rfl rfl)
theorem dL_law_1066 : decode cL_law 1066 = .ok (.aload_n 2, 1) := dk_44 (dk_at dksL_law_40 6 rfl rfl)
theorem dL_law_1067 : decode cL_law 1067 = .ok (.aload_n 0, 1) := dk_42 (dk_at dksL_law_40 7 rfl rfl)
theorem dL_law_1068 : decode cL_law 1068 = .ok (.iload_n 3, 1) := dk_29 (dk_at dksL_law_40 8 rfl rfl)
theorem dL_law_1069 : decode cL_law 1069 = .ok (.iconst 1, 1) := dk_4 (dk_at dksL_law_40 9 rfl rfl)
theorem dL_law_1070 : decode cL_law 1070 = .ok (.iadd, 1) := dk_96 (dk_at dksL_law_40 10 rfl rfl)
theorem dL_law_1071 : decode cL_law 1071 = .ok (.iaload, 1) := dk_46 (dk_at dksL_law_40 11 rfl rfl)
theorem dL_law_1072 : decode cL_law 1072 = .ok (.invokevirtual 145, 3) := dk_182 0 145 (dk_at dksL_law_40 12 rfl rfl)
theorem dL_law_1075 : decode cL_law 1075 = .ok (.if_icmp .eq 51, 3) := dk_159 0 51 (dk_at dksL_law_40 15 rfl rfl)
theorem dL_law_1078 : decode cL_law 1078 = .ok (.iconst 0, 1) := dk_3 (dk_at dksL_law_40 18 rfl rfl)
theorem dL_law_1079 : decode cL_law 1079 = .ok (.ireturn, 1) := dk_172 (dk_at dksL_law_40 19 rfl rfl)
theorem dL_law_1080 : decode cL_law 1080 = .ok (.aload_n 1, 1) := dk_43 (dk_at dksL_law_40 20 rfl rfl)
theorem dL_law_1081 : decode cL_law 1081 = .ok (.aload_n 0, 1) := dk_42 (dk_at dksL_law_40 21 rfl rfl)
theorem dL_law_1082 : decode cL_law 1082 = .ok (.iload_n 3, 1) := dk_29 (dk_at dksL_law_40 22 rfl rfl)
theorem dL_law_1083 : decode cL_law 1083 = .ok (.iconst 1, 1) := dk_4 (dk_at dksL_law_40 23 rfl rfl)
theorem dL_law_1084 : decode cL_law 1084 = .ok (.iadd, 1) := dk_96 (dk_at dksL_law_41 0 rfl rfl)
theorem dL_law_1085 : decode cL_law 1085 = .ok (.iaload, 1) := dk_46 (dk_at dksL_law_41 1 rfl rfl)
theorem dL_law_1086 : decode cL_law 1086 = .ok (.invokevirtual 146, 3) := dk_182 0 146 (dk_at dksL_law_41 2 rfl rfl)
theorem dL_law_1089 : decode cL_law 1089 = .ok (.aload_n 2, 1) := dk_44 (dk_at dksL_law_41 5 rfl rfl)
theorem dL_law_1090 : decode cL_law 1090 = .ok (.aload_n 0, 1) := dk_42 (dk_at dksL_law_41 6 rfl rfl)
theorem dL_law_1091 : decode cL_law 1091 = .ok (.iload_n 3, 1) := dk_29 (dk_at dksL_law_41 7 rfl rfl)
theorem dL_law_1092 : decode cL_law 1092 = .ok (.iconst 1, 1) := dk_4 (dk_at dksL_law_41 8 rfl rfl)
theorem dL_law_1093 : decode cL_law 1093 = .ok (.iadd, 1) := dk_96 (dk_at dksL_law_41 9 rfl rfl)
theorem dL_law_1094 : decode cL_law 1094 = .ok (.iaload, 1) := dk_46 (dk_at dksL_law_41 10 rfl rfl)
theorem dL_law_1095 : decode cL_law 1095 = .ok (.invokevirtual 149, 3) := dk_182 0 149 (dk_at dksL_law_41 11 rfl rfl)
theorem dL_law_1098 : decode cL_law 1098 = .ok (.if_icmp .eq 28, 3) := dk_159 0 28 (dk_at dksL_law_41 14 rfl rfl)
theorem dL_law_1101 : decode cL_law 1101 = .ok (.iconst 0, 1) := dk_3 (dk_at dksL_law_41 17 rfl rfl)
theorem dL_law_1102 : decode cL_law 1102 = .ok (.ireturn, 1) := dk_172 (dk_at dksL_law_41 18 rfl rfl)
theorem dL_law_1103 : decode cL_law 1103 = .ok (.aload_n 1, 1) := dk_43 (dk_at dksL_law_41 19 rfl rfl)
theorem dL_law_1104 : decode cL_law 1104 = .ok (.aload_n 0, 1) := dk_42 (dk_at dksL_law_41 20 rfl rfl)
theorem dL_law_1105 : decode cL_law 1105 = .ok (.iload_n 3, 1) := dk_29 (dk_at dksL_law_41 21 rfl rfl)
theorem dL_law_1106 : decode cL_law 1106 = .ok (.iconst 1, 1) := dk_4 (dk_at dksL_law_41 22 rfl rfl)
theorem dL_law_1107 : decode cL_law 1107 = .ok (.iadd, 1) := dk_96 (dk_at dksL_law_41 23 rfl rfl)
theorem dL_law_1108 : decode cL_law 1108 = .ok (.iaload, 1) := dk_46 (dk_at dksL_law_42 0 rfl rfl)
theorem dL_law_1109 : decode cL_law 1109 = .ok (.invokevirtual 150, 3) := dk_182 0 150 (dk_at dksL_law_42 1 rfl rfl)
theorem dL_law_1112 : decode cL_law 1112 = .ok (.aload_n 2, 1) := dk_44 (dk_at dksL_law_42 4 rfl rfl)
theorem dL_law_1113 : decode cL_law 1113 = .ok (.aload_n 0, 1) := dk_42 (dk_at dksL_law_42 5 rfl rfl)
theorem dL_law_1114 : decode cL_law 1114 = .ok (.iload_n 3, 1) := dk_29 (dk_at dksL_law_42 6 rfl rfl)
theorem dL_law_1115 : decode cL_law 1115 = .ok (.iconst 1, 1) := dk_4 (dk_at dksL_law_42 7 rfl rfl)
theorem dL_law_1116 : decode cL_law 1116 = .ok (.iadd, 1) := dk_96 (dk_at dksL_law_42 8 rfl rfl)
theorem dL_law_1117 : decode cL_law 1117 = .ok (.iaload, 1) := dk_46 (dk_at dksL_law_42 9 rfl rfl)
theorem dL_law_1118 : decode cL_law 1118 = .ok (.invokevirtual 153, 3) := dk_182 0 153 (dk_at dksL_law_42 10 rfl rfl)
theorem dL_law_1121 : decode cL_law 1121 = .ok (.if_icmp .eq 5, 3) := dk_159 0 5 (dk_at dksL_law_42 13 rfl rfl)
theorem dL_law_1124 : decode cL_law 1124 = .ok (.iconst 0, 1) := dk_3 (dk_at dksL_law_42 16 rfl rfl)
theorem dL_law_1125 : decode cL_law 1125 = .ok (.ireturn, 1) := dk_172 (dk_at dksL_law_42 17 rfl rfl)
theorem dL_law_1126 : decode cL_law 1126 = .ok (.iinc 3 5, 3) := dk_132 3 5 (dk_at dksL_law_42 18 rfl rfl)
theorem dL_law_1129 : decode cL_law 1129 = .ok (.goto (-1111), 3) := dk_167 251 169 (dk_at dksL_law_42 21 rfl rfl)
theorem dL_law_1132 : decode cL_law 1132 = .ok (.iconst 1, 1) := dk_4 (dk_at dksL_law_43 0 rfl rfl)
theorem dL_law_1133 : decode cL_law 1133 = .ok (.ireturn, 1) := dk_172 (dk_at dksL_law_43 1 rfl rfl)
