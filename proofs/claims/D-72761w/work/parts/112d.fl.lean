/-! leaves of the start's condition, by their places -/
set_option maxRecDepth 20000 in
theorem fq557 : Cond.interfaceMethod "java/util/NavigableMap" "java/util/Map" "put" "(Ljava/lang/Object;Ljava/lang/Object;)Ljava/lang/Object;" ∈ fl1 := List.mem_of_getElem? (i := 557) (by rfl)
set_option maxRecDepth 20000 in
theorem fq558 : Cond.methodLink "java/util/TreeSet" (69 : Nat) ({ cls := "java/util/NavigableMap", name := "put", desc := "(Ljava/lang/Object;Ljava/lang/Object;)Ljava/lang/Object;" } : MethodName) ∈ fl1 := List.mem_of_getElem? (i := 558) (by rfl)
set_option maxRecDepth 20000 in
theorem fq559 : Cond.interfaceMethod "java/util/NavigableMap" "java/util/Map" "size" "()I" ∈ fl1 := List.mem_of_getElem? (i := 559) (by rfl)
set_option maxRecDepth 20000 in
theorem fq560 : Cond.methodLink "java/util/TreeSet" (53 : Nat) ({ cls := "java/util/NavigableMap", name := "size", desc := "()I" } : MethodName) ∈ fl1 := List.mem_of_getElem? (i := 560) (by rfl)
set_option maxRecDepth 20000 in
theorem fq561 : Cond.methodLink "java/util/TreeMap$KeySet" (26 : Nat) ({ cls := "java/util/NavigableMap", name := "size", desc := "()I" } : MethodName) ∈ fl1 := List.mem_of_getElem? (i := 561) (by rfl)
set_option maxRecDepth 20000 in
theorem fq562 : Cond.interfaceMethod "java/util/NavigableMap" "java/util/SortedMap" "lastKey" "()Ljava/lang/Object;" ∈ fl1 := List.mem_of_getElem? (i := 562) (by rfl)
set_option maxRecDepth 20000 in
theorem fq563 : Cond.methodLink "java/util/TreeSet" (122 : Nat) ({ cls := "java/util/NavigableMap", name := "lastKey", desc := "()Ljava/lang/Object;" } : MethodName) ∈ fl1 := List.mem_of_getElem? (i := 563) (by rfl)
set_option maxRecDepth 20000 in
theorem fq564 : Cond.interfaceMethod "java/util/SortedSet" "java/util/Collection" "size" "()I" ∈ fl1 := List.mem_of_getElem? (i := 564) (by rfl)
set_option maxRecDepth 20000 in
theorem fq565 : Cond.methodLink "SignalWaves" (318 : Nat) ({ cls := "java/util/SortedSet", name := "size", desc := "()I" } : MethodName) ∈ fl1 := List.mem_of_getElem? (i := 565) (by rfl)
set_option maxRecDepth 20000 in
theorem fq85 : Cond.not (Cond.castable "SignalWaves$Node" "SignalWaves$Scope") ∈ fl1 := List.mem_of_getElem? (i := 85) (by rfl)
set_option maxRecDepth 20000 in
theorem fq104 : Cond.not (Cond.castable "SignalWaves$Scope" "SignalWaves$Node") ∈ fl1 := List.mem_of_getElem? (i := 104) (by rfl)
set_option maxRecDepth 20000 in
theorem fq264 : Cond.not (Cond.castable "java/util/TreeMap$AscendingSubMap" "java/util/TreeMap") ∈ fl1 := List.mem_of_getElem? (i := 264) (by rfl)
