/-! TABLES: each class and method as the rules want them (by program out of the names) -/
abbrev dfX0 : List Value := [.null, .null, .null, vI 0, .null, .null, .null, vI 0, .null, vI 0, .null, .null, .null, vI 0]
theorem dfkX0 : ∀ j, j < 14 → defaultValue (tyX0 j) = vp_V dfX0 j := by decide +kernel
theorem okX0 : ClsOk 0 RX0 TX0 14 tyX0 dfX0 := ⟨rfl, in_X0, tyX0_ok, nmX0, dfkX0⟩
abbrev dfX1 : List Value := [.null, .null, .null]
theorem dfkX1 : ∀ j, j < 3 → defaultValue (tyX1 j) = vp_V dfX1 j := by decide +kernel
theorem okX1 : ClsOk 1 RX1 TX1 3 tyX1 dfX1 := ⟨rfl, in_X1, tyX1_ok, nmX1, dfkX1⟩
abbrev dfX3 : List Value := [vI 0, .null, vI 0, .null]
theorem dfkX3 : ∀ j, j < 4 → defaultValue (tyX3 j) = vp_V dfX3 j := by decide +kernel
theorem okX3 : ClsOk 2 RX3 TX3 4 tyX3 dfX3 := ⟨rfl, in_X3, tyX3_ok, nmX3, dfkX3⟩
abbrev dfX4 : List Value := [vI 0, vI 0, vI 0, vI 0, vI 0, .null, .null, .null]
theorem dfkX4 : ∀ j, j < 8 → defaultValue (tyX4 j) = vp_V dfX4 j := by decide +kernel
theorem okX4 : ClsOk 3 RX4 TX4 8 tyX4 dfX4 := ⟨rfl, in_X4, tyX4_ok, nmX4, dfkX4⟩
abbrev dfX6 : List Value := [vI 0, vI 0, .null, vI 0, .null]
theorem dfkX6 : ∀ j, j < 5 → defaultValue (tyX6 j) = vp_V dfX6 j := by decide +kernel
theorem okX6 : ClsOk 4 RX6 TX6 5 tyX6 dfX6 := ⟨rfl, in_X6, tyX6_ok, nmX6, dfkX6⟩
abbrev dfX7 : List Value := [.null, vI 0, vI 0, vI 0, .null, .null, vI 0, .null, .null, .null, .null, vI 0, .null, .null, .null, vI 0, vI 0, vI 0, vI 0, vI 0, vI 0, .null, vI 0, vI 0, vI 0, .null, .null, vI 0, .null, .null, vI 0, vI 0, .null, vI 0, vI 0, vI 0, .null, .null, .null, .null, .null, .null, .null, .null, .null, vI 0, .null, vI 0, .null, vI 0]
theorem dfkX7 : ∀ j, j < 50 → defaultValue (tyX7 j) = vp_V dfX7 j := by decide +kernel
theorem okX7 : ClsOk 5 RX7 TX7 50 tyX7 dfX7 := ⟨rfl, in_X7, tyX7_ok, nmX7, dfkX7⟩
abbrev dfX8 : List Value := [vI 0, vI 0, vI 0, vI 0, vI 0, vI 0, vI 0, .null, .null, .null]
theorem dfkX8 : ∀ j, j < 10 → defaultValue (tyX8 j) = vp_V dfX8 j := by decide +kernel
theorem okX8 : ClsOk 6 RX8 TX8 10 tyX8 dfX8 := ⟨rfl, in_X8, tyX8_ok, nmX8, dfkX8⟩
abbrev dfX9 : List Value := [.null, .null, .null, .null, .null, vI 0, vI 0]
theorem dfkX9 : ∀ j, j < 7 → defaultValue (tyX9 j) = vp_V dfX9 j := by decide +kernel
theorem okX9 : ClsOk 7 RX9 TX9 7 tyX9 dfX9 := ⟨rfl, in_X9, tyX9_ok, nmX9, dfkX9⟩
abbrev dfX10 : List Value := [vI 0, .null, vI 0, vI 0, vI 0, .null, .null]
theorem dfkX10 : ∀ j, j < 7 → defaultValue (tyX10 j) = vp_V dfX10 j := by decide +kernel
theorem okX10 : ClsOk 8 RX10 TX10 7 tyX10 dfX10 := ⟨rfl, in_X10, tyX10_ok, nmX10, dfkX10⟩
abbrev dfX12 : List Value := [.null]
theorem dfkX12 : ∀ j, j < 1 → defaultValue (tyX12 j) = vp_V dfX12 j := by decide +kernel
theorem okX12 : ClsOk 9 RX12 TX12 1 tyX12 dfX12 := ⟨rfl, in_X12, tyX12_ok, nmX12, dfkX12⟩
abbrev dfX13 : List Value := [vI 0]
theorem dfkX13 : ∀ j, j < 1 → defaultValue (tyX13 j) = vp_V dfX13 j := by decide +kernel
theorem okX13 : ClsOk 10 RX13 TX13 1 tyX13 dfX13 := ⟨rfl, in_X13, tyX13_ok, nmX13, dfkX13⟩
abbrev dfX14 : List Value := [.null]
theorem dfkX14 : ∀ j, j < 1 → defaultValue (tyX14 j) = vp_V dfX14 j := by decide +kernel
theorem okX14 : ClsOk 11 RX14 TX14 1 tyX14 dfX14 := ⟨rfl, in_X14, tyX14_ok, nmX14, dfkX14⟩
abbrev dfX15 : List Value := [vI 0, .null, .null]
theorem dfkX15 : ∀ j, j < 3 → defaultValue (tyX15 j) = vp_V dfX15 j := by decide +kernel
theorem okX15 : ClsOk 12 RX15 TX15 3 tyX15 dfX15 := ⟨rfl, in_X15, tyX15_ok, nmX15, dfkX15⟩
abbrev dfX16 : List Value := [vI 0, vI 0, vI 0]
theorem dfkX16 : ∀ j, j < 3 → defaultValue (tyX16 j) = vp_V dfX16 j := by decide +kernel
theorem okX16 : ClsOk 13 RX16 TX16 3 tyX16 dfX16 := ⟨rfl, in_X16, tyX16_ok, nmX16, dfkX16⟩
abbrev dfX17 : List Value := [.null, vI 0, .null]
theorem dfkX17 : ∀ j, j < 3 → defaultValue (tyX17 j) = vp_V dfX17 j := by decide +kernel
theorem okX17 : ClsOk 14 RX17 TX17 3 tyX17 dfX17 := ⟨rfl, in_X17, tyX17_ok, nmX17, dfkX17⟩
abbrev dfJ1 : List Value := [.null, .null, .null, .null, vI 0, vI 0, .null, .null, .null]
theorem dfkJ1 : ∀ j, j < 9 → defaultValue (tyJ1 j) = vp_V dfJ1 j := by decide +kernel
theorem okJ1 : ClsOk 15 RJ1 TJ1 9 tyJ1 dfJ1 := ⟨rfl, in_J1, tyJ1_ok, nmJ1, dfkJ1⟩
abbrev dfJ16 : List Value := [.null, .null, .null, .null, .null, vI 0]
theorem dfkJ16 : ∀ j, j < 6 → defaultValue (tyJ16 j) = vp_V dfJ16 j := by decide +kernel
theorem okJ16 : ClsOk 16 RJ16 TJ16 6 tyJ16 dfJ16 := ⟨rfl, in_J16, tyJ16_ok, nmJ16, dfkJ16⟩
abbrev dfJ21 : List Value := [.null, .null, .null, vI 0, .null]
theorem dfkJ21 : ∀ j, j < 5 → defaultValue (tyJ21 j) = vp_V dfJ21 j := by decide +kernel
theorem okJ21 : ClsOk 18 RJ21 TJ21 5 tyJ21 dfJ21 := ⟨rfl, in_J21, tyJ21_ok, nmJ21, dfkJ21⟩
abbrev dfJ23 : List Value := [.null, .null]
theorem dfkJ23 : ∀ j, j < 2 → defaultValue (tyJ23 j) = vp_V dfJ23 j := by decide +kernel
theorem okJ23 : ClsOk 19 RJ23 TJ23 2 tyJ23 dfJ23 := ⟨rfl, in_J23, tyJ23_ok, nmJ23, dfkJ23⟩
abbrev dfJ30 : List Value := [vI 0, vI 0, vI 0, .null]
theorem dfkJ30 : ∀ j, j < 4 → defaultValue (tyJ30 j) = vp_V dfJ30 j := by decide +kernel
theorem okJ30 : ClsOk 20 RJ30 TJ30 4 tyJ30 dfJ30 := ⟨rfl, in_J30, tyJ30_ok, nmJ30, dfkJ30⟩
abbrev dfJ31 : List Value := [.null]
theorem dfkJ31 : ∀ j, j < 1 → defaultValue (tyJ31 j) = vp_V dfJ31 j := by decide +kernel
theorem okJ31 : ClsOk 21 RJ31 TJ31 1 tyJ31 dfJ31 := ⟨rfl, in_J31, tyJ31_ok, nmJ31, dfkJ31⟩
abbrev dfJ34 : List Value := [.null, .null, vI 0, .null]
theorem dfkJ34 : ∀ j, j < 4 → defaultValue (tyJ34 j) = vp_V dfJ34 j := by decide +kernel
theorem okJ34 : ClsOk 22 RJ34 TJ34 4 tyJ34 dfJ34 := ⟨rfl, in_J34, tyJ34_ok, nmJ34, dfkJ34⟩
abbrev dfJ36 : List Value := [.null, .null, vI 0, .null]
theorem dfkJ36 : ∀ j, j < 4 → defaultValue (tyJ36 j) = vp_V dfJ36 j := by decide +kernel
theorem okJ36 : ClsOk 23 RJ36 TJ36 4 tyJ36 dfJ36 := ⟨rfl, in_J36, tyJ36_ok, nmJ36, dfkJ36⟩
abbrev dfJ37 : List Value := [.null]
theorem dfkJ37 : ∀ j, j < 1 → defaultValue (tyJ37 j) = vp_V dfJ37 j := by decide +kernel
theorem okJ37 : ClsOk 24 RJ37 TJ37 1 tyJ37 dfJ37 := ⟨rfl, in_J37, tyJ37_ok, nmJ37, dfkJ37⟩
abbrev dfJ39 : List Value := [.null, vI 0, .null, vI 0]
theorem dfkJ39 : ∀ j, j < 4 → defaultValue (tyJ39 j) = vp_V dfJ39 j := by decide +kernel
theorem okJ39 : ClsOk 25 RJ39 TJ39 4 tyJ39 dfJ39 := ⟨rfl, in_J39, tyJ39_ok, nmJ39, dfkJ39⟩
abbrev dfJ4 : List Value := [vI 0, .null, vI 0]
theorem dfkJ4 : ∀ j, j < 3 → defaultValue (tyJ4 j) = vp_V dfJ4 j := by decide +kernel
theorem okJ4 : ClsOk 26 RJ4 TJ4 3 tyJ4 dfJ4 := ⟨rfl, in_J4, tyJ4_ok, nmJ4, dfkJ4⟩
abbrev dfJ41 : List Value := [.null, .null, .null, vI 0, vI 0, vI 0, vI 0, .null, .null, .null, .null, .null]
theorem dfkJ41 : ∀ j, j < 12 → defaultValue (tyJ41 j) = vp_V dfJ41 j := by decide +kernel
theorem okJ41 : ClsOk 27 RJ41 TJ41 12 tyJ41 dfJ41 := ⟨rfl, in_J41, tyJ41_ok, nmJ41, dfkJ41⟩
abbrev dfJ6 : List Value := [.null]
theorem dfkJ6 : ∀ j, j < 1 → defaultValue (tyJ6 j) = vp_V dfJ6 j := by decide +kernel
theorem okJ6 : ClsOk 28 RJ6 TJ6 1 tyJ6 dfJ6 := ⟨rfl, in_J6, tyJ6_ok, nmJ6, dfkJ6⟩
theorem dfkJ8 : ∀ j, j < 1 → defaultValue (tyJ8 j) = vp_V [vI 0] j := by decide +kernel
theorem okJ8 : ClsOk 32 RJ8 TJ8 1 tyJ8 [vI 0] := ⟨rfl, in_J8, tyJ8_ok, nmJ8, dfkJ8⟩
abbrev mJ0_init : Mt := (yJ0_init, cJ0_init, 1, none, [])
theorem okJ0_init : OkI mJ0_init 0 := ⟨q186, q98, q187, rfl, rfl, ⟨by decide +kernel, by decide +kernel, by decide +kernel⟩, by decide +kernel, rfl, by decide, by decide⟩
abbrev mJ1_init : Mt := (yJ1_init, cJ1_init, 1, none, [])
theorem okJ1_init : OkI mJ1_init 0 := ⟨q183, q99, q184, rfl, rfl, ⟨by decide +kernel, by decide +kernel, by decide +kernel⟩, by decide +kernel, rfl, by decide, by decide⟩
abbrev mJ1_init_2 : Mt := (yJ1_init_2, cJ1_init_2, 2, none, [])
theorem okJ1_init_2 : OkI mJ1_init_2 1 := ⟨q315, q99, q316, rfl, rfl, ⟨by decide +kernel, by decide +kernel, by decide +kernel⟩, by decide +kernel, rfl, by decide, by decide⟩
abbrev mJ1_put : Mt := (yJ1_put, cJ1_put, 3, some (.object "java/lang/Object"), [])
theorem okJ1_put : OkV mJ1_put 2 := ⟨q416, q3090, q99, q418, ⟨rfl, by decide +kernel, by decide +kernel, by decide +kernel⟩, by decide +kernel, rfl, by decide, by decide⟩
abbrev mJ1_put_2 : Mt := (yJ1_put_2, cJ1_put_2, 10, some (.object "java/lang/Object"), [])
theorem okJ1_put_2 : OkV mJ1_put_2 3 := ⟨q421, qs0, q99, q422, ⟨rfl, by decide +kernel, by decide +kernel, by decide +kernel⟩, by decide +kernel, rfl, by decide, by decide⟩
abbrev mJ1_addEntryToEmptyMap : Mt := (yJ1_addEntryToEmptyMap, cJ1_addEntryToEmptyMap, 3, none, [])
theorem okJ1_addEntryToEmptyMap : OkV mJ1_addEntryToEmptyMap 2 := ⟨q425, qs1, q99, q426, ⟨rfl, by decide +kernel, by decide +kernel, by decide +kernel⟩, by decide +kernel, rfl, by decide, by decide⟩
abbrev mJ1_compare : Mt := (yJ1_compare, cJ1_compare, 3, some .int, [])
theorem okJ1_compare : OkV mJ1_compare 2 := ⟨q428, q429, q99, q430, ⟨rfl, by decide +kernel, by decide +kernel, by decide +kernel⟩, by decide +kernel, rfl, by decide, by decide⟩
abbrev mJ1_addEntry : Mt := (yJ1_addEntry, cJ1_addEntry, 6, none, [])
theorem okJ1_addEntry : OkV mJ1_addEntry 4 := ⟨q684, qs2, q99, q685, ⟨rfl, by decide +kernel, by decide +kernel, by decide +kernel⟩, by decide +kernel, rfl, by decide, by decide⟩
abbrev mJ1_fixAfterInsertion : Mt := (yJ1_fixAfterInsertion, cJ1_fixAfterInsertion, 3, none, [])
theorem okJ1_fixAfterInsertion : OkV mJ1_fixAfterInsertion 1 := ⟨q688, qs3, q99, q689, ⟨rfl, by decide +kernel, by decide +kernel, by decide +kernel⟩, by decide +kernel, rfl, by decide, by decide⟩
abbrev mJ1_parentOf : Mt := (yJ1_parentOf, cJ1_parentOf, 1, some (.object "java/util/TreeMap$Entry"), [])
theorem okJ1_parentOf : OkS mJ1_parentOf 1 := ⟨q691, q99, q692, ⟨by decide +kernel, by decide +kernel, by decide +kernel⟩, by decide +kernel, rfl, by decide, by decide⟩
abbrev mJ1_leftOf : Mt := (yJ1_leftOf, cJ1_leftOf, 1, some (.object "java/util/TreeMap$Entry"), [])
theorem okJ1_leftOf : OkS mJ1_leftOf 1 := ⟨q694, q99, q695, ⟨by decide +kernel, by decide +kernel, by decide +kernel⟩, by decide +kernel, rfl, by decide, by decide⟩
abbrev mJ1_rightOf : Mt := (yJ1_rightOf, cJ1_rightOf, 1, some (.object "java/util/TreeMap$Entry"), [])
theorem okJ1_rightOf : OkS mJ1_rightOf 1 := ⟨q697, q99, q698, ⟨by decide +kernel, by decide +kernel, by decide +kernel⟩, by decide +kernel, rfl, by decide, by decide⟩
abbrev mJ1_colorOf : Mt := (yJ1_colorOf, cJ1_colorOf, 1, some .boolean, [])
theorem okJ1_colorOf : OkS mJ1_colorOf 1 := ⟨q700, q99, q701, ⟨by decide +kernel, by decide +kernel, by decide +kernel⟩, by decide +kernel, rfl, by decide, by decide⟩
abbrev mJ1_setColor : Mt := (yJ1_setColor, cJ1_setColor, 2, none, [])
theorem okJ1_setColor : OkS mJ1_setColor 2 := ⟨q703, q99, q704, ⟨by decide +kernel, by decide +kernel, by decide +kernel⟩, by decide +kernel, rfl, by decide, by decide⟩
abbrev mJ1_rotateLeft : Mt := (yJ1_rotateLeft, cJ1_rotateLeft, 3, none, [])
theorem okJ1_rotateLeft : OkV mJ1_rotateLeft 1 := ⟨q707, qs4, q99, q708, ⟨rfl, by decide +kernel, by decide +kernel, by decide +kernel⟩, by decide +kernel, rfl, by decide, by decide⟩
abbrev mJ1_rotateRight : Mt := (yJ1_rotateRight, cJ1_rotateRight, 3, none, [])
theorem okJ1_rotateRight : OkV mJ1_rotateRight 1 := ⟨q711, qs5, q99, q712, ⟨rfl, by decide +kernel, by decide +kernel, by decide +kernel⟩, by decide +kernel, rfl, by decide, by decide⟩
abbrev mJ1_size : Mt := (yJ1_size, cJ1_size, 1, some .int, [])
theorem okJ1_size : OkV mJ1_size 0 := ⟨q745, q3091, q99, q747, ⟨rfl, by decide +kernel, by decide +kernel, by decide +kernel⟩, by decide +kernel, rfl, by decide, by decide⟩
abbrev mJ1_getFirstEntry : Mt := (yJ1_getFirstEntry, cJ1_getFirstEntry, 2, some (.object "java/util/TreeMap$Entry"), [])
theorem okJ1_getFirstEntry : OkV mJ1_getFirstEntry 0 := ⟨q808, q809, q99, q810, ⟨rfl, by decide +kernel, by decide +kernel, by decide +kernel⟩, by decide +kernel, rfl, by decide, by decide⟩
abbrev mJ1_getCeilingEntry : Mt := (yJ1_getCeilingEntry, cJ1_getCeilingEntry, 6, some (.object "java/util/TreeMap$Entry"), [])
theorem okJ1_getCeilingEntry : OkV mJ1_getCeilingEntry 1 := ⟨q812, q813, q99, q814, ⟨rfl, by decide +kernel, by decide +kernel, by decide +kernel⟩, by decide +kernel, rfl, by decide, by decide⟩
abbrev mJ1_getHigherEntry : Mt := (yJ1_getHigherEntry, cJ1_getHigherEntry, 6, some (.object "java/util/TreeMap$Entry"), [])
theorem okJ1_getHigherEntry : OkV mJ1_getHigherEntry 1 := ⟨q816, q817, q99, q818, ⟨rfl, by decide +kernel, by decide +kernel, by decide +kernel⟩, by decide +kernel, rfl, by decide, by decide⟩
abbrev mJ1_successor : Mt := (yJ1_successor, cJ1_successor, 3, some (.object "java/util/TreeMap$Entry"), [])
theorem okJ1_successor : OkS mJ1_successor 1 := ⟨q932, q99, q933, ⟨by decide +kernel, by decide +kernel, by decide +kernel⟩, by decide +kernel, rfl, by decide, by decide⟩
abbrev mJ1_pollFirstEntry : Mt := (yJ1_pollFirstEntry, cJ1_pollFirstEntry, 3, some (.object "java/util/Map$Entry"), [])
-- J1_pollFirstEntry: words q99 q987 None
abbrev mJ1_exportEntry : Mt := (yJ1_exportEntry, cJ1_exportEntry, 1, some (.object "java/util/Map$Entry"), [])
theorem okJ1_exportEntry : OkS mJ1_exportEntry 1 := ⟨q992, q99, q993, ⟨by decide +kernel, by decide +kernel, by decide +kernel⟩, by decide +kernel, rfl, by decide, by decide⟩
abbrev mJ1_deleteEntry : Mt := (yJ1_deleteEntry, cJ1_deleteEntry, 3, none, [])
theorem okJ1_deleteEntry : OkV mJ1_deleteEntry 1 := ⟨q1039, qs6, q99, q1040, ⟨rfl, by decide +kernel, by decide +kernel, by decide +kernel⟩, by decide +kernel, rfl, by decide, by decide⟩
abbrev mJ1_fixAfterDeletion : Mt := (yJ1_fixAfterDeletion, cJ1_fixAfterDeletion, 3, none, [])
theorem okJ1_fixAfterDeletion : OkV mJ1_fixAfterDeletion 1 := ⟨q1044, qs7, q99, q1045, ⟨rfl, by decide +kernel, by decide +kernel, by decide +kernel⟩, by decide +kernel, rfl, by decide, by decide⟩
abbrev mJ1_get : Mt := (yJ1_get, cJ1_get, 3, some (.object "java/lang/Object"), [])
theorem okJ1_get : OkV mJ1_get 1 := ⟨q1368, q1369, q99, q1370, ⟨rfl, by decide +kernel, by decide +kernel, by decide +kernel⟩, by decide +kernel, rfl, by decide, by decide⟩
abbrev mJ1_getEntry : Mt := (yJ1_getEntry, cJ1_getEntry, 5, some (.object "java/util/TreeMap$Entry"), [])
theorem okJ1_getEntry : OkV mJ1_getEntry 1 := ⟨q1372, q1373, q99, q1374, ⟨rfl, by decide +kernel, by decide +kernel, by decide +kernel⟩, by decide +kernel, rfl, by decide, by decide⟩
abbrev mJ1_getEntryUsingComparator : Mt := (yJ1_getEntryUsingComparator, cJ1_getEntryUsingComparator, 6, some (.object "java/util/TreeMap$Entry"), [])
theorem okJ1_getEntryUsingComparator : OkV mJ1_getEntryUsingComparator 1 := ⟨q1376, q1377, q99, q1378, ⟨rfl, by decide +kernel, by decide +kernel, by decide +kernel⟩, by decide +kernel, rfl, by decide, by decide⟩
abbrev mJ1_values : Mt := (yJ1_values, cJ1_values, 2, some (.object "java/util/Collection"), [])
theorem okJ1_values : OkV mJ1_values 0 := ⟨q1787, q1788, q99, q1789, ⟨rfl, by decide +kernel, by decide +kernel, by decide +kernel⟩, by decide +kernel, rfl, by decide, by decide⟩
abbrev mJ1_keyIterator : Mt := (yJ1_keyIterator, cJ1_keyIterator, 1, some (.object "java/util/Iterator"), [])
theorem okJ1_keyIterator : OkV mJ1_keyIterator 0 := ⟨q1849, q1850, q99, q1851, ⟨rfl, by decide +kernel, by decide +kernel, by decide +kernel⟩, by decide +kernel, rfl, by decide, by decide⟩
abbrev mJ1_navigableKeySet : Mt := (yJ1_navigableKeySet, cJ1_navigableKeySet, 2, some (.object "java/util/NavigableSet"), [])
-- J1_navigableKeySet: words q99 q1927 None
abbrev mJ1_lastKey : Mt := (yJ1_lastKey, cJ1_lastKey, 1, some (.object "java/lang/Object"), [])
-- J1_lastKey: words q99 q2076 None
abbrev mJ1_getLastEntry : Mt := (yJ1_getLastEntry, cJ1_getLastEntry, 2, some (.object "java/util/TreeMap$Entry"), [])
theorem okJ1_getLastEntry : OkV mJ1_getLastEntry 0 := ⟨q2080, q2081, q99, q2082, ⟨rfl, by decide +kernel, by decide +kernel, by decide +kernel⟩, by decide +kernel, rfl, by decide, by decide⟩
abbrev mJ1_key : Mt := (yJ1_key, cJ1_key, 1, some (.object "java/lang/Object"), [])
theorem okJ1_key : OkS mJ1_key 1 := ⟨q2084, q99, q2085, ⟨by decide +kernel, by decide +kernel, by decide +kernel⟩, by decide +kernel, rfl, by decide, by decide⟩
abbrev mJ1_getFloorEntry : Mt := (yJ1_getFloorEntry, cJ1_getFloorEntry, 6, some (.object "java/util/TreeMap$Entry"), [])
theorem okJ1_getFloorEntry : OkV mJ1_getFloorEntry 1 := ⟨q2105, q2106, q99, q2107, ⟨rfl, by decide +kernel, by decide +kernel, by decide +kernel⟩, by decide +kernel, rfl, by decide, by decide⟩
abbrev mJ1_getLowerEntry : Mt := (yJ1_getLowerEntry, cJ1_getLowerEntry, 6, some (.object "java/util/TreeMap$Entry"), [])
theorem okJ1_getLowerEntry : OkV mJ1_getLowerEntry 1 := ⟨q2109, q2110, q99, q2111, ⟨rfl, by decide +kernel, by decide +kernel, by decide +kernel⟩, by decide +kernel, rfl, by decide, by decide⟩
abbrev mJ1_floorKey : Mt := (yJ1_floorKey, cJ1_floorKey, 2, some (.object "java/lang/Object"), [])
-- J1_floorKey: words q99 q2184 None
abbrev mJ1_keyOrNull : Mt := (yJ1_keyOrNull, cJ1_keyOrNull, 1, some (.object "java/lang/Object"), [])
theorem okJ1_keyOrNull : OkS mJ1_keyOrNull 1 := ⟨q2189, q99, q2190, ⟨by decide +kernel, by decide +kernel, by decide +kernel⟩, by decide +kernel, rfl, by decide, by decide⟩
abbrev mJ1_headMap : Mt := (yJ1_headMap, cJ1_headMap, 3, some (.object "java/util/NavigableMap"), [])
-- J1_headMap: words q99 q2383 None
abbrev mJ10_compareTo : Mt := (yJ10_compareTo, cJ10_compareTo, 4, some .int, [])
theorem okJ10_compareTo : OkS mJ10_compareTo 2 := ⟨q480, q111, q481, ⟨by decide +kernel, by decide +kernel, by decide +kernel⟩, by decide +kernel, rfl, by decide, by decide⟩
abbrev mJ10_compareTo_2 : Mt := (yJ10_compareTo_2, cJ10_compareTo_2, 6, some .int, [])
theorem okJ10_compareTo_2 : OkS mJ10_compareTo_2 4 := ⟨q483, q111, q484, ⟨by decide +kernel, by decide +kernel, by decide +kernel⟩, by decide +kernel, rfl, by decide, by decide⟩
abbrev mJ10_getChar : Mt := (yJ10_getChar, cJ10_getChar, 2, some .char, [])
theorem okJ10_getChar : OkS mJ10_getChar 2 := ⟨q593, q111, q594, ⟨by decide +kernel, by decide +kernel, by decide +kernel⟩, by decide +kernel, rfl, by decide, by decide⟩
abbrev mJ10_compareToUTF16 : Mt := (yJ10_compareToUTF16, cJ10_compareToUTF16, 4, some .int, [])
theorem okJ10_compareToUTF16 : OkS mJ10_compareToUTF16 2 := ⟨q615, q111, q616, ⟨by decide +kernel, by decide +kernel, by decide +kernel⟩, by decide +kernel, rfl, by decide, by decide⟩
abbrev mJ10_length : Mt := (yJ10_length, cJ10_length, 1, some .int, [])
theorem okJ10_length : OkS mJ10_length 1 := ⟨q618, q111, q619, ⟨by decide +kernel, by decide +kernel, by decide +kernel⟩, by decide +kernel, rfl, by decide, by decide⟩
abbrev mJ10_compareToUTF16Values : Mt := (yJ10_compareToUTF16Values, cJ10_compareToUTF16Values, 8, some .int, [])
theorem okJ10_compareToUTF16Values : OkS mJ10_compareToUTF16Values 4 := ⟨q622, q111, q623, ⟨by decide +kernel, by decide +kernel, by decide +kernel⟩, by decide +kernel, rfl, by decide, by decide⟩
abbrev mJ10_indexOf : Mt := (yJ10_indexOf, cJ10_indexOf, 4, some .int, [])
theorem okJ10_indexOf : OkS mJ10_indexOf 4 := ⟨q1199, q111, q1200, ⟨by decide +kernel, by decide +kernel, by decide +kernel⟩, by decide +kernel, rfl, by decide, by decide⟩
abbrev mJ10_canEncode : Mt := (yJ10_canEncode, cJ10_canEncode, 1, some .boolean, [])
theorem okJ10_canEncode : OkS mJ10_canEncode 1 := ⟨q1202, q111, q1203, ⟨by decide +kernel, by decide +kernel, by decide +kernel⟩, by decide +kernel, rfl, by decide, by decide⟩
abbrev mJ10_indexOfChar : Mt := (yJ10_indexOfChar, cJ10_indexOfChar, 6, some .int, [])
theorem okJ10_indexOfChar : OkS mJ10_indexOfChar 4 := ⟨q1208, q111, q1209, ⟨by decide +kernel, by decide +kernel, by decide +kernel⟩, by decide +kernel, rfl, by decide, by decide⟩
abbrev mJ10_equals : Mt := (yJ10_equals, cJ10_equals, 3, some .boolean, [])
theorem okJ10_equals : OkS mJ10_equals 2 := ⟨q1699, q111, q1700, ⟨by decide +kernel, by decide +kernel, by decide +kernel⟩, by decide +kernel, rfl, by decide, by decide⟩
abbrev mJ12_mismatch : Mt := (yJ12_mismatch, cJ12_mismatch, 4, some .int, [])
theorem okJ12_mismatch : OkS mJ12_mismatch 3 := ⟨q489, q113, q490, ⟨by decide +kernel, by decide +kernel, by decide +kernel⟩, by decide +kernel, rfl, by decide, by decide⟩
abbrev mJ12_vectorizedMismatch : Mt := (yJ12_vectorizedMismatch, cJ12_vectorizedMismatch, 19, some .int, [])
theorem okJ12_vectorizedMismatch : OkS mJ12_vectorizedMismatch 6 := ⟨q496, q113, q497, ⟨by decide +kernel, by decide +kernel, by decide +kernel⟩, by decide +kernel, rfl, by decide, by decide⟩
abbrev mJ12_newLength : Mt := (yJ12_newLength, cJ12_newLength, 4, some .int, [])
theorem okJ12_newLength : OkS mJ12_newLength 3 := ⟨q1414, q113, q1415, ⟨by decide +kernel, by decide +kernel, by decide +kernel⟩, by decide +kernel, rfl, by decide, by decide⟩
abbrev mJ12_hugeLength : Mt := (yJ12_hugeLength, cJ12_hugeLength, 3, some .int, [])
theorem okJ12_hugeLength : OkS mJ12_hugeLength 2 := ⟨q1419, q113, q1420, ⟨by decide +kernel, by decide +kernel, by decide +kernel⟩, by decide +kernel, rfl, by decide, by decide⟩
abbrev mJ16_init : Mt := (yJ16_init, cJ16_init, 4, none, [])
theorem okJ16_init : OkI mJ16_init 3 := ⟨q648, q118, q649, rfl, rfl, ⟨by decide +kernel, by decide +kernel, by decide +kernel⟩, by decide +kernel, rfl, by decide, by decide⟩
abbrev mJ16_getKey : Mt := (yJ16_getKey, cJ16_getKey, 1, some (.object "java/lang/Object"), [])
-- J16_getKey: words q118 q1013 None
abbrev mJ16_getValue : Mt := (yJ16_getValue, cJ16_getValue, 1, some (.object "java/lang/Object"), [])
-- J16_getValue: words q118 q1027 None
abbrev mJ17_requireNonNull : Mt := (yJ17_requireNonNull, cJ17_requireNonNull, 1, some (.object "java/lang/Object"), [])
theorem okJ17_requireNonNull : OkS mJ17_requireNonNull 1 := ⟨q680, q119, q681, ⟨by decide +kernel, by decide +kernel, by decide +kernel⟩, by decide +kernel, rfl, by decide, by decide⟩
abbrev mJ17_equals : Mt := (yJ17_equals, cJ17_equals, 2, some .boolean, [])
theorem okJ17_equals : OkS mJ17_equals 2 := ⟨q1666, q119, q1667, ⟨by decide +kernel, by decide +kernel, by decide +kernel⟩, by decide +kernel, rfl, by decide, by decide⟩
abbrev mJ17_checkIndex : Mt := (yJ17_checkIndex, cJ17_checkIndex, 2, some .int, [])
theorem okJ17_checkIndex : OkS mJ17_checkIndex 2 := ⟨q1737, q119, q1738, ⟨by decide +kernel, by decide +kernel, by decide +kernel⟩, by decide +kernel, rfl, by decide, by decide⟩
abbrev mJ18_init : Mt := (yJ18_init, cJ18_init, 2, none, [])
theorem okJ18_init : OkI mJ18_init 1 := ⟨q766, q120, q767, rfl, rfl, ⟨by decide +kernel, by decide +kernel, by decide +kernel⟩, by decide +kernel, rfl, by decide, by decide⟩
abbrev mJ18_size : Mt := (yJ18_size, cJ18_size, 2, some .int, [])
-- J18_size: words q120 q789 None
abbrev mJ19_init : Mt := (yJ19_init, cJ19_init, 2, none, [])
theorem okJ19_init : OkI mJ19_init 1 := ⟨q763, q121, q764, rfl, rfl, ⟨by decide +kernel, by decide +kernel, by decide +kernel⟩, by decide +kernel, rfl, by decide, by decide⟩
abbrev mJ19_iterator : Mt := (yJ19_iterator, cJ19_iterator, 1, some (.object "java/util/Iterator"), [])
-- J19_iterator: words q121 q797 None
abbrev mJ2_init : Mt := (yJ2_init, cJ2_init, 1, none, [])
theorem okJ2_init : OkI mJ2_init 0 := ⟨q258, q100, q259, rfl, rfl, ⟨by decide +kernel, by decide +kernel, by decide +kernel⟩, by decide +kernel, rfl, by decide, by decide⟩
abbrev mJ2_toArray : Mt := (yJ2_toArray, cJ2_toArray, 4, some (.array (.object "java/lang/Object")), [])
-- J2_toArray: words q100 q2028 None
abbrev mJ2_finishToArray : Mt := (yJ2_finishToArray, cJ2_finishToArray, 4, some (.array (.object "java/lang/Object")), [])
theorem okJ2_finishToArray : OkS mJ2_finishToArray 2 := ⟨q2053, q100, q2054, ⟨by decide +kernel, by decide +kernel, by decide +kernel⟩, by decide +kernel, rfl, by decide, by decide⟩
abbrev mJ2_isEmpty : Mt := (yJ2_isEmpty, cJ2_isEmpty, 1, some .boolean, [])
-- J2_isEmpty: words q100 q2344 None
abbrev mJ20_init : Mt := (yJ20_init, cJ20_init, 4, none, [])
theorem okJ20_init : OkI mJ20_init 3 := ⟨q829, q122, q830, rfl, rfl, ⟨by decide +kernel, by decide +kernel, by decide +kernel⟩, by decide +kernel, rfl, by decide, by decide⟩
abbrev mJ20_hasNext : Mt := (yJ20_hasNext, cJ20_hasNext, 1, some .boolean, [])
-- J20_hasNext: words q122 q879 None
abbrev mJ20_nextEntry : Mt := (yJ20_nextEntry, cJ20_nextEntry, 2, some (.object "java/util/TreeMap$Entry"), [])
-- J20_nextEntry: words q122 q947 None
abbrev mJ21_init : Mt := (yJ21_init, cJ21_init, 4, none, [])
theorem okJ21_init : OkI mJ21_init 3 := ⟨q826, q123, q827, rfl, rfl, ⟨by decide +kernel, by decide +kernel, by decide +kernel⟩, by decide +kernel, rfl, by decide, by decide⟩
abbrev mJ21_next : Mt := (yJ21_next, cJ21_next, 1, some (.object "java/lang/Object"), [])
-- J21_next: words q123 q936 None
abbrev mJ21_next_2 : Mt := (yJ21_next_2, cJ21_next_2, 1, some (.object "java/util/Map$Entry"), [])
theorem okJ21_next_2 : OkV mJ21_next_2 0 := ⟨q940, q941, q123, q942, ⟨rfl, by decide +kernel, by decide +kernel, by decide +kernel⟩, by decide +kernel, rfl, by decide, by decide⟩
abbrev mJ23_init : Mt := (yJ23_init, cJ23_init, 2, none, [])
theorem okJ23_init : OkI mJ23_init 1 := ⟨q997, q125, q998, rfl, rfl, ⟨by decide +kernel, by decide +kernel, by decide +kernel⟩, by decide +kernel, rfl, by decide, by decide⟩
abbrev mJ23_getKey : Mt := (yJ23_getKey, cJ23_getKey, 1, some (.object "java/lang/Object"), [])
-- J23_getKey: words q125 q1007 None
abbrev mJ23_getValue : Mt := (yJ23_getValue, cJ23_getValue, 1, some (.object "java/lang/Object"), [])
-- J23_getValue: words q125 q1022 None
abbrev mJ26_init : Mt := (yJ26_init, cJ26_init, 1, none, [])
theorem okJ26_init : OkI mJ26_init 0 := ⟨q1294, q130, q1295, rfl, rfl, ⟨by decide +kernel, by decide +kernel, by decide +kernel⟩, by decide +kernel, rfl, by decide, by decide⟩
abbrev mJ26_init_2 : Mt := (yJ26_init_2, cJ26_init_2, 2, none, [])
theorem okJ26_init_2 : OkI mJ26_init_2 1 := ⟨q1321, q130, q1322, rfl, rfl, ⟨by decide +kernel, by decide +kernel, by decide +kernel⟩, by decide +kernel, rfl, by decide, by decide⟩
abbrev mJ27_init : Mt := (yJ27_init, cJ27_init, 2, none, [])
theorem okJ27_init : OkI mJ27_init 1 := ⟨q1318, q131, q1319, rfl, rfl, ⟨by decide +kernel, by decide +kernel, by decide +kernel⟩, by decide +kernel, rfl, by decide, by decide⟩
abbrev mJ28_init : Mt := (yJ28_init, cJ28_init, 2, none, [])
theorem okJ28_init : OkI mJ28_init 1 := ⟨q1315, q132, q1316, rfl, rfl, ⟨by decide +kernel, by decide +kernel, by decide +kernel⟩, by decide +kernel, rfl, by decide, by decide⟩
abbrev mJ29_copyOf : Mt := (yJ29_copyOf, cJ29_copyOf, 2, some (.array (.object "java/lang/Object")), [])
theorem okJ29_copyOf : OkS mJ29_copyOf 2 := ⟨q1422, q135, q1423, ⟨by decide +kernel, by decide +kernel, by decide +kernel⟩, by decide +kernel, rfl, by decide, by decide⟩
abbrev mJ29_copyOf_2 : Mt := (yJ29_copyOf_2, cJ29_copyOf_2, 4, some (.array (.object "java/lang/Object")), [])
theorem okJ29_copyOf_2 : OkS mJ29_copyOf_2 3 := ⟨q1463, q135, q1464, ⟨by decide +kernel, by decide +kernel, by decide +kernel⟩, by decide +kernel, rfl, by decide, by decide⟩
abbrev mJ3_init : Mt := (yJ3_init, cJ3_init, 1, none, [])
theorem okJ3_init : OkI mJ3_init 0 := ⟨q255, q101, q256, rfl, rfl, ⟨by decide +kernel, by decide +kernel, by decide +kernel⟩, by decide +kernel, rfl, by decide, by decide⟩
abbrev mJ30_hasNext : Mt := (yJ30_hasNext, cJ30_hasNext, 1, some .boolean, [])
-- J30_hasNext: words q137 q857 None
abbrev mJ30_next : Mt := (yJ30_next, cJ30_next, 3, some (.object "java/lang/Object"), [])
-- J30_next: words q137 q894 None
abbrev mJ30_checkForComodification : Mt := (yJ30_checkForComodification, cJ30_checkForComodification, 1, none, [])
theorem okJ30_checkForComodification : OkV mJ30_checkForComodification 0 := ⟨q898, q899, q137, q900, ⟨rfl, by decide +kernel, by decide +kernel, by decide +kernel⟩, by decide +kernel, rfl, by decide, by decide⟩
abbrev mJ30_init : Mt := (yJ30_init, cJ30_init, 2, none, [])
theorem okJ30_init : OkI mJ30_init 1 := ⟨q1496, q137, q1497, rfl, rfl, ⟨by decide +kernel, by decide +kernel, by decide +kernel⟩, by decide +kernel, rfl, by decide, by decide⟩
abbrev mJ31_init : Mt := (yJ31_init, cJ31_init, 2, none, [])
theorem okJ31_init : OkI mJ31_init 1 := ⟨q1793, q144, q1794, rfl, rfl, ⟨by decide +kernel, by decide +kernel, by decide +kernel⟩, by decide +kernel, rfl, by decide, by decide⟩
abbrev mJ31_iterator : Mt := (yJ31_iterator, cJ31_iterator, 1, some (.object "java/util/Iterator"), [])
-- J31_iterator: words q144 q1900 None
abbrev mJ31_size : Mt := (yJ31_size, cJ31_size, 1, some .int, [])
-- J31_size: words q144 q2041 None
abbrev mJ33_hasNext : Mt := (yJ33_hasNext, cJ33_hasNext, 1, some .boolean, [])
-- J33_hasNext: words q146 q873 None
abbrev mJ33_nextEntry : Mt := (yJ33_nextEntry, cJ33_nextEntry, 2, some (.object "java/util/TreeMap$Entry"), [])
-- J33_nextEntry: words q146 q929 None
abbrev mJ33_init : Mt := (yJ33_init, cJ33_init, 3, none, [])
theorem okJ33_init : OkI mJ33_init 2 := ⟨q1858, q146, q1859, rfl, rfl, ⟨by decide +kernel, by decide +kernel, by decide +kernel⟩, by decide +kernel, rfl, by decide, by decide⟩
abbrev mJ34_next : Mt := (yJ34_next, cJ34_next, 1, some (.object "java/lang/Object"), [])
-- J34_next: words q147 q922 None
abbrev mJ34_init : Mt := (yJ34_init, cJ34_init, 3, none, [])
theorem okJ34_init : OkI mJ34_init 2 := ⟨q1855, q147, q1856, rfl, rfl, ⟨by decide +kernel, by decide +kernel, by decide +kernel⟩, by decide +kernel, rfl, by decide, by decide⟩
abbrev mJ35_next : Mt := (yJ35_next, cJ35_next, 1, some (.object "java/lang/Object"), [])
-- J35_next: words q148 q952 None
abbrev mJ35_init : Mt := (yJ35_init, cJ35_init, 4, none, [])
theorem okJ35_init : OkI mJ35_init 3 := ⟨q1885, q148, q1886, rfl, rfl, ⟨by decide +kernel, by decide +kernel, by decide +kernel⟩, by decide +kernel, rfl, by decide, by decide⟩
abbrev mJ36_next : Mt := (yJ36_next, cJ36_next, 1, some (.object "java/lang/Object"), [])
-- J36_next: words q149 q960 None
abbrev mJ36_init : Mt := (yJ36_init, cJ36_init, 3, none, [])
theorem okJ36_init : OkI mJ36_init 2 := ⟨q1907, q149, q1908, rfl, rfl, ⟨by decide +kernel, by decide +kernel, by decide +kernel⟩, by decide +kernel, rfl, by decide, by decide⟩
abbrev mJ37_size : Mt := (yJ37_size, cJ37_size, 1, some .int, [])
-- J37_size: words q150 q969 None
abbrev mJ37_iterator : Mt := (yJ37_iterator, cJ37_iterator, 1, some (.object "java/util/Iterator"), [])
-- J37_iterator: words q150 q1844 None
abbrev mJ37_init : Mt := (yJ37_init, cJ37_init, 2, none, [])
theorem okJ37_init : OkI mJ37_init 1 := ⟨q1933, q150, q1934, rfl, rfl, ⟨by decide +kernel, by decide +kernel, by decide +kernel⟩, by decide +kernel, rfl, by decide, by decide⟩
abbrev mJ38_init : Mt := (yJ38_init, cJ38_init, 1, none, [])
theorem okJ38_init : OkI mJ38_init 0 := ⟨q2262, q152, q2263, rfl, rfl, ⟨by decide +kernel, by decide +kernel, by decide +kernel⟩, by decide +kernel, rfl, by decide, by decide⟩
abbrev mJ39_iterator : Mt := (yJ39_iterator, cJ39_iterator, 1, some (.object "java/util/Iterator"), [])
-- J39_iterator: words q153 q1809 None
abbrev mJ39_toArray : Mt := (yJ39_toArray, cJ39_toArray, 1, some (.array (.object "java/lang/Object")), [])
-- J39_toArray: words q153 q2022 None
abbrev mJ39_size : Mt := (yJ39_size, cJ39_size, 1, some .int, [])
-- J39_size: words q153 q2036 None
abbrev mJ39_init : Mt := (yJ39_init, cJ39_init, 1, none, [])
theorem okJ39_init : OkI mJ39_init 0 := ⟨q2256, q153, q2257, rfl, rfl, ⟨by decide +kernel, by decide +kernel, by decide +kernel⟩, by decide +kernel, rfl, by decide, by decide⟩
abbrev mJ39_init_2 : Mt := (yJ39_init_2, cJ39_init_2, 3, none, [])
theorem okJ39_init_2 : OkI mJ39_init_2 2 := ⟨q2259, q153, q2260, rfl, rfl, ⟨by decide +kernel, by decide +kernel, by decide +kernel⟩, by decide +kernel, rfl, by decide, by decide⟩
abbrev mJ39_add : Mt := (yJ39_add, cJ39_add, 2, some .boolean, [])
theorem okJ39_add : OkV mJ39_add 1 := ⟨q2313, q2314, q153, q2315, ⟨rfl, by decide +kernel, by decide +kernel, by decide +kernel⟩, by decide +kernel, rfl, by decide, by decide⟩
abbrev mJ39_offer : Mt := (yJ39_offer, cJ39_offer, 3, some .boolean, [])
theorem okJ39_offer : OkV mJ39_offer 1 := ⟨q2317, q2318, q153, q2319, ⟨rfl, by decide +kernel, by decide +kernel, by decide +kernel⟩, by decide +kernel, rfl, by decide, by decide⟩
abbrev mJ39_grow : Mt := (yJ39_grow, cJ39_grow, 4, none, [])
theorem okJ39_grow : OkV mJ39_grow 1 := ⟨q2322, qs35, q153, q2323, ⟨rfl, by decide +kernel, by decide +kernel, by decide +kernel⟩, by decide +kernel, rfl, by decide, by decide⟩
abbrev mJ39_siftUp : Mt := (yJ39_siftUp, cJ39_siftUp, 3, none, [])
theorem okJ39_siftUp : OkV mJ39_siftUp 2 := ⟨q2327, qs36, q153, q2328, ⟨rfl, by decide +kernel, by decide +kernel, by decide +kernel⟩, by decide +kernel, rfl, by decide, by decide⟩
abbrev mJ39_siftUpUsingComparator : Mt := (yJ39_siftUpUsingComparator, cJ39_siftUpUsingComparator, 6, none, [])
theorem okJ39_siftUpUsingComparator : OkS mJ39_siftUpUsingComparator 4 := ⟨q2330, q153, q2331, ⟨by decide +kernel, by decide +kernel, by decide +kernel⟩, by decide +kernel, rfl, by decide, by decide⟩
abbrev mJ39_siftUpComparable : Mt := (yJ39_siftUpComparable, cJ39_siftUpComparable, 6, none, [])
theorem okJ39_siftUpComparable : OkS mJ39_siftUpComparable 3 := ⟨q2335, q153, q2336, ⟨by decide +kernel, by decide +kernel, by decide +kernel⟩, by decide +kernel, rfl, by decide, by decide⟩
abbrev mJ39_poll : Mt := (yJ39_poll, cJ39_poll, 6, some (.object "java/lang/Object"), [])
theorem okJ39_poll : OkV mJ39_poll 0 := ⟨q2347, q2348, q153, q2349, ⟨rfl, by decide +kernel, by decide +kernel, by decide +kernel⟩, by decide +kernel, rfl, by decide, by decide⟩
abbrev mJ39_siftDownComparable : Mt := (yJ39_siftDownComparable, cJ39_siftDownComparable, 9, none, [])
theorem okJ39_siftDownComparable : OkS mJ39_siftDownComparable 4 := ⟨q2351, q153, q2352, ⟨by decide +kernel, by decide +kernel, by decide +kernel⟩, by decide +kernel, rfl, by decide, by decide⟩
abbrev mJ39_siftDownUsingComparator : Mt := (yJ39_siftDownUsingComparator, cJ39_siftDownUsingComparator, 9, none, [])
theorem okJ39_siftDownUsingComparator : OkS mJ39_siftDownUsingComparator 5 := ⟨q2354, q153, q2355, ⟨by decide +kernel, by decide +kernel, by decide +kernel⟩, by decide +kernel, rfl, by decide, by decide⟩
abbrev mJ4_init : Mt := (yJ4_init, cJ4_init, 1, none, [])
theorem okJ4_init : OkI mJ4_init 0 := ⟨q252, q102, q253, rfl, rfl, ⟨by decide +kernel, by decide +kernel, by decide +kernel⟩, by decide +kernel, rfl, by decide, by decide⟩
abbrev mJ4_size : Mt := (yJ4_size, cJ4_size, 1, some .int, [])
-- J4_size: words q102 q1387 None
abbrev mJ4_add : Mt := (yJ4_add, cJ4_add, 2, some .boolean, [])
-- J4_add: words q102 q1398 None
abbrev mJ4_add_2 : Mt := (yJ4_add_2, cJ4_add_2, 4, none, [])
theorem okJ4_add_2 : OkV mJ4_add_2 3 := ⟨q1403, qs17, q102, q1404, ⟨rfl, by decide +kernel, by decide +kernel, by decide +kernel⟩, by decide +kernel, rfl, by decide, by decide⟩
abbrev mJ4_grow : Mt := (yJ4_grow, cJ4_grow, 1, some (.array (.object "java/lang/Object")), [])
theorem okJ4_grow : OkV mJ4_grow 0 := ⟨q1407, qs18, q102, q1408, ⟨rfl, by decide +kernel, by decide +kernel, by decide +kernel⟩, by decide +kernel, rfl, by decide, by decide⟩
abbrev mJ4_grow_2 : Mt := (yJ4_grow_2, cJ4_grow_2, 4, some (.array (.object "java/lang/Object")), [])
theorem okJ4_grow_2 : OkV mJ4_grow_2 1 := ⟨q1411, qs19, q102, q1412, ⟨rfl, by decide +kernel, by decide +kernel, by decide +kernel⟩, by decide +kernel, rfl, by decide, by decide⟩
abbrev mJ4_iterator : Mt := (yJ4_iterator, cJ4_iterator, 1, some (.object "java/util/Iterator"), [])
-- J4_iterator: words q102 q1490 None
abbrev mJ4_equals : Mt := (yJ4_equals, cJ4_equals, 4, some .boolean, [])
-- J4_equals: words q102 q1655 None
abbrev mJ4_equalsArrayList : Mt := (yJ4_equalsArrayList, cJ4_equalsArrayList, 8, some .boolean, [])
theorem okJ4_equalsArrayList : OkV mJ4_equalsArrayList 1 := ⟨q1663, qs24, q102, q1664, ⟨rfl, by decide +kernel, by decide +kernel, by decide +kernel⟩, by decide +kernel, rfl, by decide, by decide⟩
abbrev mJ4_checkForComodification : Mt := (yJ4_checkForComodification, cJ4_checkForComodification, 2, none, [])
theorem okJ4_checkForComodification : OkV mJ4_checkForComodification 1 := ⟨q1705, qs25, q102, q1706, ⟨rfl, by decide +kernel, by decide +kernel, by decide +kernel⟩, by decide +kernel, rfl, by decide, by decide⟩
abbrev mJ4_equalsRange : Mt := (yJ4_equalsRange, cJ4_equalsRange, 6, some .boolean, [])
theorem okJ4_equalsRange : OkV mJ4_equalsRange 3 := ⟨q1708, q1709, q102, q1710, ⟨rfl, by decide +kernel, by decide +kernel, by decide +kernel⟩, by decide +kernel, rfl, by decide, by decide⟩
abbrev mJ4_get : Mt := (yJ4_get, cJ4_get, 2, some (.object "java/lang/Object"), [])
-- J4_get: words q102 q1733 None
abbrev mJ4_elementData : Mt := (yJ4_elementData, cJ4_elementData, 2, some (.object "java/lang/Object"), [])
theorem okJ4_elementData : OkV mJ4_elementData 1 := ⟨q1743, q1744, q102, q1745, ⟨rfl, by decide +kernel, by decide +kernel, by decide +kernel⟩, by decide +kernel, rfl, by decide, by decide⟩
abbrev mJ4_addAll : Mt := (yJ4_addAll, cJ4_addAll, 6, some .boolean, [])
-- J4_addAll: words q102 q2008 None
abbrev mJ4_toArray : Mt := (yJ4_toArray, cJ4_toArray, 1, some (.array (.object "java/lang/Object")), [])
-- J4_toArray: words q102 q2017 None
abbrev mJ4_init_2 : Mt := (yJ4_init_2, cJ4_init_2, 3, none, [])
theorem okJ4_init_2 : OkI mJ4_init_2 1 := ⟨q2479, q102, q2480, rfl, rfl, ⟨by decide +kernel, by decide +kernel, by decide +kernel⟩, by decide +kernel, rfl, by decide, by decide⟩
abbrev mJ4_clear : Mt := (yJ4_clear, cJ4_clear, 4, none, [])
-- J4_clear: words q102 q2542 None
abbrev mJ40_put : Mt := (yJ40_put, cJ40_put, 3, some (.object "java/lang/Object"), [])
-- J40_put: words q155 q716 None
abbrev mJ40_inRange : Mt := (yJ40_inRange, cJ40_inRange, 2, some .boolean, [])
-- J40_inRange: words q155 q720 None
abbrev mJ40_tooLow : Mt := (yJ40_tooLow, cJ40_tooLow, 3, some .boolean, [])
-- J40_tooLow: words q155 q725 None
abbrev mJ40_tooHigh : Mt := (yJ40_tooHigh, cJ40_tooHigh, 3, some .boolean, [])
-- J40_tooHigh: words q155 q731 None
abbrev mJ40_size : Mt := (yJ40_size, cJ40_size, 1, some .int, [])
-- J40_size: words q155 q750 None
abbrev mJ40_absLowest : Mt := (yJ40_absLowest, cJ40_absLowest, 2, some (.object "java/util/TreeMap$Entry"), [])
-- J40_absLowest: words q155 q805 None
abbrev mJ40_absHighFence : Mt := (yJ40_absHighFence, cJ40_absHighFence, 1, some (.object "java/util/TreeMap$Entry"), [])
-- J40_absHighFence: words q155 q823 None
abbrev mJ40_pollFirstEntry : Mt := (yJ40_pollFirstEntry, cJ40_pollFirstEntry, 3, some (.object "java/util/Map$Entry"), [])
-- J40_pollFirstEntry: words q155 q1048 None
abbrev mJ40_navigableKeySet : Mt := (yJ40_navigableKeySet, cJ40_navigableKeySet, 2, some (.object "java/util/NavigableSet"), [])
-- J40_navigableKeySet: words q155 q1942 None
abbrev mJ40_lastKey : Mt := (yJ40_lastKey, cJ40_lastKey, 1, some (.object "java/lang/Object"), [])
-- J40_lastKey: words q155 q2088 None
abbrev mJ40_absHighest : Mt := (yJ40_absHighest, cJ40_absHighest, 2, some (.object "java/util/TreeMap$Entry"), [])
-- J40_absHighest: words q155 q2101 None
abbrev mJ40_floorKey : Mt := (yJ40_floorKey, cJ40_floorKey, 2, some (.object "java/lang/Object"), [])
-- J40_floorKey: words q155 q2193 None
abbrev mJ40_absFloor : Mt := (yJ40_absFloor, cJ40_absFloor, 3, some (.object "java/util/TreeMap$Entry"), [])
-- J40_absFloor: words q155 q2206 None
abbrev mJ40_init : Mt := (yJ40_init, cJ40_init, 8, none, [])
theorem okJ40_init : OkI mJ40_init 7 := ⟨q2392, q155, q2393, rfl, rfl, ⟨by decide +kernel, by decide +kernel, by decide +kernel⟩, by decide +kernel, rfl, by decide, by decide⟩
abbrev mJ40_inRange_2 : Mt := (yJ40_inRange_2, cJ40_inRange_2, 3, some .boolean, [])
-- J40_inRange_2: words q155 q2449 None
abbrev mJ40_inClosedRange : Mt := (yJ40_inClosedRange, cJ40_inClosedRange, 2, some .boolean, [])
-- J40_inClosedRange: words q155 q2452 None
abbrev mJ41_entrySet : Mt := (yJ41_entrySet, cJ41_entrySet, 2, some (.object "java/util/Set"), [])
-- J41_entrySet: words q156 q758 None
abbrev mJ41_subLowest : Mt := (yJ41_subLowest, cJ41_subLowest, 1, some (.object "java/util/TreeMap$Entry"), [])
-- J41_subLowest: words q156 q1055 None
abbrev mJ41_keyIterator : Mt := (yJ41_keyIterator, cJ41_keyIterator, 1, some (.object "java/util/Iterator"), [])
-- J41_keyIterator: words q156 q1879 None
abbrev mJ41_subHighest : Mt := (yJ41_subHighest, cJ41_subHighest, 1, some (.object "java/util/TreeMap$Entry"), [])
-- J41_subHighest: words q156 q2095 None
abbrev mJ41_subFloor : Mt := (yJ41_subFloor, cJ41_subFloor, 2, some (.object "java/util/TreeMap$Entry"), [])
-- J41_subFloor: words q156 q2200 None
abbrev mJ41_init : Mt := (yJ41_init, cJ41_init, 8, none, [])
theorem okJ41_init : OkI mJ41_init 7 := ⟨q2389, q156, q2390, rfl, rfl, ⟨by decide +kernel, by decide +kernel, by decide +kernel⟩, by decide +kernel, rfl, by decide, by decide⟩
abbrev mJ41_headMap : Mt := (yJ41_headMap, cJ41_headMap, 3, some (.object "java/util/NavigableMap"), [])
-- J41_headMap: words q156 q2442 None
abbrev mJ5_init : Mt := (yJ5_init, cJ5_init, 1, none, [])
theorem okJ5_init : OkI mJ5_init 0 := ⟨q321, q104, q322, rfl, rfl, ⟨by decide +kernel, by decide +kernel, by decide +kernel⟩, by decide +kernel, rfl, by decide, by decide⟩
abbrev mJ6_init : Mt := (yJ6_init, cJ6_init, 2, none, [])
theorem okJ6_init : OkI mJ6_init 1 := ⟨q311, q105, q312, rfl, rfl, ⟨by decide +kernel, by decide +kernel, by decide +kernel⟩, by decide +kernel, rfl, by decide, by decide⟩
abbrev mJ6_init_2 : Mt := (yJ6_init_2, cJ6_init_2, 2, none, [])
theorem okJ6_init_2 : OkI mJ6_init_2 1 := ⟨q318, q105, q319, rfl, rfl, ⟨by decide +kernel, by decide +kernel, by decide +kernel⟩, by decide +kernel, rfl, by decide, by decide⟩
abbrev mJ6_add : Mt := (yJ6_add, cJ6_add, 2, some .boolean, [])
theorem okJ6_add : OkV mJ6_add 1 := ⟨q405, q406, q105, q407, ⟨rfl, by decide +kernel, by decide +kernel, by decide +kernel⟩, by decide +kernel, rfl, by decide, by decide⟩
abbrev mJ6_size : Mt := (yJ6_size, cJ6_size, 1, some .int, [])
theorem okJ6_size : OkV mJ6_size 0 := ⟨q737, q738, q105, q739, ⟨rfl, by decide +kernel, by decide +kernel, by decide +kernel⟩, by decide +kernel, rfl, by decide, by decide⟩
abbrev mJ6_pollFirst : Mt := (yJ6_pollFirst, cJ6_pollFirst, 2, some (.object "java/lang/Object"), [])
theorem okJ6_pollFirst : OkV mJ6_pollFirst 0 := ⟨q978, q979, q105, q980, ⟨rfl, by decide +kernel, by decide +kernel, by decide +kernel⟩, by decide +kernel, rfl, by decide, by decide⟩
abbrev mJ6_iterator : Mt := (yJ6_iterator, cJ6_iterator, 1, some (.object "java/util/Iterator"), [])
theorem okJ6_iterator : OkV mJ6_iterator 0 := ⟨q1918, q3093, q105, q1920, ⟨rfl, by decide +kernel, by decide +kernel, by decide +kernel⟩, by decide +kernel, rfl, by decide, by decide⟩
abbrev mJ6_last : Mt := (yJ6_last, cJ6_last, 1, some (.object "java/lang/Object"), [])
theorem okJ6_last : OkV mJ6_last 0 := ⟨q2068, q2069, q105, q2070, ⟨rfl, by decide +kernel, by decide +kernel, by decide +kernel⟩, by decide +kernel, rfl, by decide, by decide⟩
abbrev mJ6_floor : Mt := (yJ6_floor, cJ6_floor, 2, some (.object "java/lang/Object"), [])
theorem okJ6_floor : OkV mJ6_floor 1 := ⟨q2175, q2176, q105, q2177, ⟨rfl, by decide +kernel, by decide +kernel, by decide +kernel⟩, by decide +kernel, rfl, by decide, by decide⟩
abbrev mJ6_headSet : Mt := (yJ6_headSet, cJ6_headSet, 2, some (.object "java/util/SortedSet"), [])
theorem okJ6_headSet : OkV mJ6_headSet 1 := ⟨q2369, q2370, q105, q2371, ⟨rfl, by decide +kernel, by decide +kernel, by decide +kernel⟩, by decide +kernel, rfl, by decide, by decide⟩
abbrev mJ6_headSet_2 : Mt := (yJ6_headSet_2, cJ6_headSet_2, 3, some (.object "java/util/NavigableSet"), [])
theorem okJ6_headSet_2 : OkV mJ6_headSet_2 2 := ⟨q2373, q2374, q105, q2375, ⟨rfl, by decide +kernel, by decide +kernel, by decide +kernel⟩, by decide +kernel, rfl, by decide, by decide⟩
abbrev mJ7_init : Mt := (yJ7_init, cJ7_init, 1, none, [])
theorem okJ7_init : OkI mJ7_init 0 := ⟨q1360, q108, q1361, rfl, rfl, ⟨by decide +kernel, by decide +kernel, by decide +kernel⟩, by decide +kernel, rfl, by decide, by decide⟩
abbrev mJ8_compare : Mt := (yJ8_compare, cJ8_compare, 2, some .int, [])
theorem okJ8_compare : OkS mJ8_compare 2 := ⟨q448, q109, q449, ⟨by decide +kernel, by decide +kernel, by decide +kernel⟩, by decide +kernel, rfl, by decide, by decide⟩
abbrev mJ8_compareTo : Mt := (yJ8_compareTo, cJ8_compareTo, 2, some .int, [])
-- J8_compareTo: words q109 q453 None
abbrev mJ8_compareTo_2 : Mt := (yJ8_compareTo_2, cJ8_compareTo_2, 2, some .int, [])
theorem okJ8_compareTo_2 : OkV mJ8_compareTo_2 1 := ⟨q458, q459, q109, q460, ⟨rfl, by decide +kernel, by decide +kernel, by decide +kernel⟩, by decide +kernel, rfl, by decide, by decide⟩
abbrev mJ8_numberOfLeadingZeros : Mt := (yJ8_numberOfLeadingZeros, cJ8_numberOfLeadingZeros, 2, some .int, [])
theorem okJ8_numberOfLeadingZeros : OkS mJ8_numberOfLeadingZeros 1 := ⟨q560, q109, q561, ⟨by decide +kernel, by decide +kernel, by decide +kernel⟩, by decide +kernel, rfl, by decide, by decide⟩
abbrev mJ8_numberOfTrailingZeros : Mt := (yJ8_numberOfTrailingZeros, cJ8_numberOfTrailingZeros, 2, some .int, [])
theorem okJ8_numberOfTrailingZeros : OkS mJ8_numberOfTrailingZeros 1 := ⟨q569, q109, q570, ⟨by decide +kernel, by decide +kernel, by decide +kernel⟩, by decide +kernel, rfl, by decide, by decide⟩
abbrev mJ8_valueOf : Mt := (yJ8_valueOf, cJ8_valueOf, 1, some (.object "java/lang/Integer"), [])
theorem okJ8_valueOf : OkS mJ8_valueOf 1 := ⟨q1349, q109, q1350, ⟨by decide +kernel, by decide +kernel, by decide +kernel⟩, by decide +kernel, rfl, by decide, by decide⟩
abbrev mJ8_init : Mt := (yJ8_init, cJ8_init, 2, none, [])
theorem okJ8_init : OkI mJ8_init 1 := ⟨q1357, q109, q1358, rfl, rfl, ⟨by decide +kernel, by decide +kernel, by decide +kernel⟩, by decide +kernel, rfl, by decide, by decide⟩
abbrev mJ8_equals : Mt := (yJ8_equals, cJ8_equals, 2, some .boolean, [])
-- J8_equals: words q109 q1689 None
abbrev mJ8_intValue : Mt := (yJ8_intValue, cJ8_intValue, 1, some .int, [])
theorem okJ8_intValue : OkV mJ8_intValue 0 := ⟨q1692, q1693, q109, q1694, ⟨rfl, by decide +kernel, by decide +kernel, by decide +kernel⟩, by decide +kernel, rfl, by decide, by decide⟩
abbrev mJ8_bitCount : Mt := (yJ8_bitCount, cJ8_bitCount, 1, some .int, [])
theorem okJ8_bitCount : OkS mJ8_bitCount 1 := ⟨q2568, q109, q2569, ⟨by decide +kernel, by decide +kernel, by decide +kernel⟩, by decide +kernel, rfl, by decide, by decide⟩
abbrev mJ9_compareTo : Mt := (yJ9_compareTo, cJ9_compareTo, 2, some .int, [])
-- J9_compareTo: words q110 q465 None
abbrev mJ9_compareTo_2 : Mt := (yJ9_compareTo_2, cJ9_compareTo_2, 5, some .int, [])
theorem okJ9_compareTo_2 : OkV mJ9_compareTo_2 1 := ⟨q470, q471, q110, q472, ⟨rfl, by decide +kernel, by decide +kernel, by decide +kernel⟩, by decide +kernel, rfl, by decide, by decide⟩
abbrev mJ9_coder : Mt := (yJ9_coder, cJ9_coder, 1, some .byte, [])
theorem okJ9_coder : OkV mJ9_coder 0 := ⟨q474, q475, q110, q476, ⟨rfl, by decide +kernel, by decide +kernel, by decide +kernel⟩, by decide +kernel, rfl, by decide, by decide⟩
abbrev mJ9_indexOf : Mt := (yJ9_indexOf, cJ9_indexOf, 2, some .int, [])
theorem okJ9_indexOf : OkV mJ9_indexOf 1 := ⟨q1183, q1184, q110, q1185, ⟨rfl, by decide +kernel, by decide +kernel, by decide +kernel⟩, by decide +kernel, rfl, by decide, by decide⟩
abbrev mJ9_indexOf_2 : Mt := (yJ9_indexOf_2, cJ9_indexOf_2, 3, some .int, [])
theorem okJ9_indexOf_2 : OkV mJ9_indexOf_2 2 := ⟨q1187, q1188, q110, q1189, ⟨rfl, by decide +kernel, by decide +kernel, by decide +kernel⟩, by decide +kernel, rfl, by decide, by decide⟩
abbrev mJ9_isLatin1 : Mt := (yJ9_isLatin1, cJ9_isLatin1, 1, some .boolean, [])
theorem okJ9_isLatin1 : OkV mJ9_isLatin1 0 := ⟨q1191, q1192, q110, q1193, ⟨rfl, by decide +kernel, by decide +kernel, by decide +kernel⟩, by decide +kernel, rfl, by decide, by decide⟩
abbrev mJ9_length : Mt := (yJ9_length, cJ9_length, 1, some .int, [])
theorem okJ9_length : OkV mJ9_length 0 := ⟨q1195, q1196, q110, q1197, ⟨rfl, by decide +kernel, by decide +kernel, by decide +kernel⟩, by decide +kernel, rfl, by decide, by decide⟩
abbrev mJ9_checkBoundsBeginEnd : Mt := (yJ9_checkBoundsBeginEnd, cJ9_checkBoundsBeginEnd, 3, none, [])
theorem okJ9_checkBoundsBeginEnd : OkS mJ9_checkBoundsBeginEnd 3 := ⟨q1222, q110, q1223, ⟨by decide +kernel, by decide +kernel, by decide +kernel⟩, by decide +kernel, rfl, by decide, by decide⟩
abbrev mJ9_equals : Mt := (yJ9_equals, cJ9_equals, 3, some .boolean, [])
-- J9_equals: words q110 q1696 None
abbrev mX0_init : Mt := (yX0_init, cX0_init, 1, none, [])
theorem okX0_init : OkI mX0_init 0 := ⟨q160, q94, q161, rfl, rfl, ⟨by decide +kernel, by decide +kernel, by decide +kernel⟩, by decide +kernel, rfl, by decide, by decide⟩
abbrev mX0_type : Mt := (yX0_type, cX0_type, 2, some .int, [])
theorem okX0_type : OkV mX0_type 1 := ⟨q1112, q1113, q94, q1114, ⟨rfl, by decide +kernel, by decide +kernel, by decide +kernel⟩, by decide +kernel, rfl, by decide, by decide⟩
abbrev mX0_in : Mt := (yX0_in, cX0_in, 3, some .boolean, [])
theorem okX0_in : OkS mX0_in 3 := ⟨q1116, q94, q1117, ⟨by decide +kernel, by decide +kernel, by decide +kernel⟩, by decide +kernel, rfl, by decide, by decide⟩
abbrev mX0_clear : Mt := (yX0_clear, cX0_clear, 2, some .int, [])
theorem okX0_clear : OkV mX0_clear 0 := ⟨q1119, q1120, q94, q1121, ⟨rfl, by decide +kernel, by decide +kernel, by decide +kernel⟩, by decide +kernel, rfl, by decide, by decide⟩
abbrev mX0_about : Mt := (yX0_about, cX0_about, 5, some .int, [])
theorem okX0_about : OkV mX0_about 2 := ⟨q1718, q1719, q94, q1720, ⟨rfl, by decide +kernel, by decide +kernel, by decide +kernel⟩, by decide +kernel, rfl, by decide, by decide⟩
abbrev mX0_isNode : Mt := (yX0_isNode, cX0_isNode, 2, some .boolean, [])
theorem okX0_isNode : OkV mX0_isNode 1 := ⟨q1723, qs26, q94, q1724, ⟨rfl, by decide +kernel, by decide +kernel, by decide +kernel⟩, by decide +kernel, rfl, by decide, by decide⟩
abbrev mX0_scope : Mt := (yX0_scope, cX0_scope, 4, some .int, [])
theorem okX0_scope : OkV mX0_scope 2 := ⟨q1778, q1779, q94, q1780, ⟨rfl, by decide +kernel, by decide +kernel, by decide +kernel⟩, by decide +kernel, rfl, by decide, by decide⟩
abbrev mX0_listed : Mt := (yX0_listed, cX0_listed, 6, some .int, [])
theorem okX0_listed : OkV mX0_listed 2 := ⟨q1783, q1784, q94, q1785, ⟨rfl, by decide +kernel, by decide +kernel, by decide +kernel⟩, by decide +kernel, rfl, by decide, by decide⟩
abbrev mX0_path : Mt := (yX0_path, cX0_path, 4, some .int, [])
theorem okX0_path : OkV mX0_path 2 := ⟨q1966, q1967, q94, q1968, ⟨rfl, by decide +kernel, by decide +kernel, by decide +kernel⟩, by decide +kernel, rfl, by decide, by decide⟩
abbrev mX0_sets : Mt := (yX0_sets, cX0_sets, 3, some .int, [])
theorem okX0_sets : OkV mX0_sets 2 := ⟨q1972, q1973, q94, q1974, ⟨rfl, by decide +kernel, by decide +kernel, by decide +kernel⟩, by decide +kernel, rfl, by decide, by decide⟩
abbrev mX0_isWire : Mt := (yX0_isWire, cX0_isWire, 2, some .boolean, [])
theorem okX0_isWire : OkV mX0_isWire 1 := ⟨q1977, qs27, q94, q1978, ⟨rfl, by decide +kernel, by decide +kernel, by decide +kernel⟩, by decide +kernel, rfl, by decide, by decide⟩
abbrev mX0_notes : Mt := (yX0_notes, cX0_notes, 1, none, [])
theorem okX0_notes : OkV mX0_notes 0 := ⟨q1981, qs28, q94, q1982, ⟨rfl, by decide +kernel, by decide +kernel, by decide +kernel⟩, by decide +kernel, rfl, by decide, by decide⟩
abbrev mX0_passes : Mt := (yX0_passes, cX0_passes, 2, some .int, [])
theorem okX0_passes : OkV mX0_passes 1 := ⟨q2138, q2139, q94, q2140, ⟨rfl, by decide +kernel, by decide +kernel, by decide +kernel⟩, by decide +kernel, rfl, by decide, by decide⟩
abbrev mX0_dumps : Mt := (yX0_dumps, cX0_dumps, 2, some .int, [])
theorem okX0_dumps : OkV mX0_dumps 1 := ⟨q2142, q2143, q94, q2144, ⟨rfl, by decide +kernel, by decide +kernel, by decide +kernel⟩, by decide +kernel, rfl, by decide, by decide⟩
abbrev mX0_sizes : Mt := (yX0_sizes, cX0_sizes, 3, some .int, [])
theorem okX0_sizes : OkV mX0_sizes 1 := ⟨q2151, q2152, q94, q2153, ⟨rfl, by decide +kernel, by decide +kernel, by decide +kernel⟩, by decide +kernel, rfl, by decide, by decide⟩
abbrev mX0_undo : Mt := (yX0_undo, cX0_undo, 1, some .int, [])
theorem okX0_undo : OkV mX0_undo 0 := ⟨q2155, q2156, q94, q2157, ⟨rfl, by decide +kernel, by decide +kernel, by decide +kernel⟩, by decide +kernel, rfl, by decide, by decide⟩
abbrev mX0_at : Mt := (yX0_at, cX0_at, 3, some .int, [])
theorem okX0_at : OkV mX0_at 2 := ⟨q2159, q2160, q94, q2161, ⟨rfl, by decide +kernel, by decide +kernel, by decide +kernel⟩, by decide +kernel, rfl, by decide, by decide⟩
abbrev mX0_isTime : Mt := (yX0_isTime, cX0_isTime, 2, some .boolean, [])
theorem okX0_isTime : OkV mX0_isTime 1 := ⟨q2164, qs29, q94, q2165, ⟨rfl, by decide +kernel, by decide +kernel, by decide +kernel⟩, by decide +kernel, rfl, by decide, by decide⟩
abbrev mX0_rowAt : Mt := (yX0_rowAt, cX0_rowAt, 5, some (.array .int), [])
theorem okX0_rowAt : OkV mX0_rowAt 1 := ⟨q2168, qs30, q94, q2169, ⟨rfl, by decide +kernel, by decide +kernel, by decide +kernel⟩, by decide +kernel, rfl, by decide, by decide⟩
abbrev mX0_edges : Mt := (yX0_edges, cX0_edges, 8, some .int, [])
theorem okX0_edges : OkV mX0_edges 4 := ⟨q2212, q2213, q94, q2214, ⟨rfl, by decide +kernel, by decide +kernel, by decide +kernel⟩, by decide +kernel, rfl, by decide, by decide⟩
abbrev mX0_isKind : Mt := (yX0_isKind, cX0_isKind, 1, some .boolean, [])
theorem okX0_isKind : OkS mX0_isKind 1 := ⟨q2216, q94, q2217, ⟨by decide +kernel, by decide +kernel, by decide +kernel⟩, by decide +kernel, rfl, by decide, by decide⟩
abbrev mX0_wave : Mt := (yX0_wave, cX0_wave, 4, some (.array .int), [])
theorem okX0_wave : OkV mX0_wave 1 := ⟨q2220, qs31, q94, q2221, ⟨rfl, by decide +kernel, by decide +kernel, by decide +kernel⟩, by decide +kernel, rfl, by decide, by decide⟩
abbrev mX0_isEdge : Mt := (yX0_isEdge, cX0_isEdge, 4, some .boolean, [])
theorem okX0_isEdge : OkV mX0_isEdge 3 := ⟨q2224, qs32, q94, q2225, ⟨rfl, by decide +kernel, by decide +kernel, by decide +kernel⟩, by decide +kernel, rfl, by decide, by decide⟩
abbrev mX0_next : Mt := (yX0_next, cX0_next, 4, some .int, [])
theorem okX0_next : OkV mX0_next 3 := ⟨q2227, q2228, q94, q2229, ⟨rfl, by decide +kernel, by decide +kernel, by decide +kernel⟩, by decide +kernel, rfl, by decide, by decide⟩
abbrev mX0_edgeFrom : Mt := (yX0_edgeFrom, cX0_edgeFrom, 5, some .int, [])
theorem okX0_edgeFrom : OkV mX0_edgeFrom 3 := ⟨q2232, qs33, q94, q2233, ⟨rfl, by decide +kernel, by decide +kernel, by decide +kernel⟩, by decide +kernel, rfl, by decide, by decide⟩
abbrev mX0_previous : Mt := (yX0_previous, cX0_previous, 6, some .int, [])
theorem okX0_previous : OkV mX0_previous 3 := ⟨q2235, q2236, q94, q2237, ⟨rfl, by decide +kernel, by decide +kernel, by decide +kernel⟩, by decide +kernel, rfl, by decide, by decide⟩
abbrev mX0_first : Mt := (yX0_first, cX0_first, 6, some .int, [])
theorem okX0_first : OkV mX0_first 3 := ⟨q2239, q2240, q94, q2241, ⟨rfl, by decide +kernel, by decide +kernel, by decide +kernel⟩, by decide +kernel, rfl, by decide, by decide⟩
abbrev mX0_isValue : Mt := (yX0_isValue, cX0_isValue, 1, some .boolean, [])
theorem okX0_isValue : OkS mX0_isValue 1 := ⟨q2243, q94, q2244, ⟨by decide +kernel, by decide +kernel, by decide +kernel⟩, by decide +kernel, rfl, by decide, by decide⟩
abbrev mX0_holds : Mt := (yX0_holds, cX0_holds, 7, some .int, [])
theorem okX0_holds : OkV mX0_holds 3 := ⟨q2246, q2247, q94, q2248, ⟨rfl, by decide +kernel, by decide +kernel, by decide +kernel⟩, by decide +kernel, rfl, by decide, by decide⟩
abbrev mX0_ticks : Mt := (yX0_ticks, cX0_ticks, 7, some .int, [])
theorem okX0_ticks : OkV mX0_ticks 2 := ⟨q2250, q2251, q94, q2252, ⟨rfl, by decide +kernel, by decide +kernel, by decide +kernel⟩, by decide +kernel, rfl, by decide, by decide⟩
abbrev mX0_has : Mt := (yX0_has, cX0_has, 2, some .boolean, [])
theorem okX0_has : OkS mX0_has 2 := ⟨q2283, q94, q2284, ⟨by decide +kernel, by decide +kernel, by decide +kernel⟩, by decide +kernel, rfl, by decide, by decide⟩
abbrev mX0_waits : Mt := (yX0_waits, cX0_waits, 3, none, [])
theorem okX0_waits : OkV mX0_waits 2 := ⟨q2310, qs34, q94, q2311, ⟨rfl, by decide +kernel, by decide +kernel, by decide +kernel⟩, by decide +kernel, rfl, by decide, by decide⟩
abbrev mX0_delay : Mt := (yX0_delay, cX0_delay, 6, some .int, [])
theorem okX0_delay : OkV mX0_delay 2 := ⟨q2357, q2358, q94, q2359, ⟨rfl, by decide +kernel, by decide +kernel, by decide +kernel⟩, by decide +kernel, rfl, by decide, by decide⟩
abbrev mX0_follows : Mt := (yX0_follows, cX0_follows, 6, some .boolean, [])
theorem okX0_follows : OkV mX0_follows 3 := ⟨q2362, qs37, q94, q2363, ⟨rfl, by decide +kernel, by decide +kernel, by decide +kernel⟩, by decide +kernel, rfl, by decide, by decide⟩
abbrev mX0_jump : Mt := (yX0_jump, cX0_jump, 3, some .int, [])
theorem okX0_jump : OkV mX0_jump 1 := ⟨q2365, q2366, q94, q2367, ⟨rfl, by decide +kernel, by decide +kernel, by decide +kernel⟩, by decide +kernel, rfl, by decide, by decide⟩
abbrev mX0_block : Mt := (yX0_block, cX0_block, 4, some .int, [])
theorem okX0_block : OkV mX0_block 2 := ⟨q2466, q2467, q94, q2468, ⟨rfl, by decide +kernel, by decide +kernel, by decide +kernel⟩, by decide +kernel, rfl, by decide, by decide⟩
abbrev mX0_isBlock : Mt := (yX0_isBlock, cX0_isBlock, 2, some .boolean, [])
theorem okX0_isBlock : OkV mX0_isBlock 1 := ⟨q2471, qs38, q94, q2472, ⟨rfl, by decide +kernel, by decide +kernel, by decide +kernel⟩, by decide +kernel, rfl, by decide, by decide⟩
abbrev mX0_row : Mt := (yX0_row, cX0_row, 1, some (.object "java/util/List"), [])
theorem okX0_row : OkV mX0_row 0 := ⟨q2475, qs39, q94, q2476, ⟨rfl, by decide +kernel, by decide +kernel, by decide +kernel⟩, by decide +kernel, rfl, by decide, by decide⟩
abbrev mX0_roomOf : Mt := (yX0_roomOf, cX0_roomOf, 2, some .int, [])
theorem okX0_roomOf : OkV mX0_roomOf 1 := ⟨q2499, qs40, q94, q2500, ⟨rfl, by decide +kernel, by decide +kernel, by decide +kernel⟩, by decide +kernel, rfl, by decide, by decide⟩
abbrev mX0_roomOf_2 : Mt := (yX0_roomOf_2, cX0_roomOf_2, 10, some .int, [])
theorem okX0_roomOf_2 : OkV mX0_roomOf_2 4 := ⟨q2503, qs41, q94, q2504, ⟨rfl, by decide +kernel, by decide +kernel, by decide +kernel⟩, by decide +kernel, rfl, by decide, by decide⟩
abbrev mX0_place : Mt := (yX0_place, cX0_place, 3, some .int, [])
theorem okX0_place : OkV mX0_place 1 := ⟨q2508, qs42, q94, q2509, ⟨rfl, by decide +kernel, by decide +kernel, by decide +kernel⟩, by decide +kernel, rfl, by decide, by decide⟩
abbrev mX0_frame : Mt := (yX0_frame, cX0_frame, 3, some .int, [])
theorem okX0_frame : OkV mX0_frame 2 := ⟨q2511, q2512, q94, q2513, ⟨rfl, by decide +kernel, by decide +kernel, by decide +kernel⟩, by decide +kernel, rfl, by decide, by decide⟩
abbrev mX0_change : Mt := (yX0_change, cX0_change, 6, some .int, [])
theorem okX0_change : OkV mX0_change 3 := ⟨q2515, q2516, q94, q2517, ⟨rfl, by decide +kernel, by decide +kernel, by decide +kernel⟩, by decide +kernel, rfl, by decide, by decide⟩
abbrev mX0_packed : Mt := (yX0_packed, cX0_packed, 2, some .int, [])
theorem okX0_packed : OkV mX0_packed 1 := ⟨q2519, q2520, q94, q2521, ⟨rfl, by decide +kernel, by decide +kernel, by decide +kernel⟩, by decide +kernel, rfl, by decide, by decide⟩
abbrev mX0_packedRoom : Mt := (yX0_packedRoom, cX0_packedRoom, 7, some .int, [])
theorem okX0_packedRoom : OkV mX0_packedRoom 1 := ⟨q2524, qs43, q94, q2525, ⟨rfl, by decide +kernel, by decide +kernel, by decide +kernel⟩, by decide +kernel, rfl, by decide, by decide⟩
abbrev mX0_partedRoom : Mt := (yX0_partedRoom, cX0_partedRoom, 7, some .int, [])
theorem okX0_partedRoom : OkV mX0_partedRoom 3 := ⟨q2533, qs44, q94, q2534, ⟨rfl, by decide +kernel, by decide +kernel, by decide +kernel⟩, by decide +kernel, rfl, by decide, by decide⟩
abbrev mX0_best : Mt := (yX0_best, cX0_best, 5, some .int, [])
theorem okX0_best : OkV mX0_best 0 := ⟨q2546, q2547, q94, q2548, ⟨rfl, by decide +kernel, by decide +kernel, by decide +kernel⟩, by decide +kernel, rfl, by decide, by decide⟩
abbrev mX0_sees : Mt := (yX0_sees, cX0_sees, 3, some .int, [])
theorem okX0_sees : OkV mX0_sees 2 := ⟨q2551, q2552, q94, q2553, ⟨rfl, by decide +kernel, by decide +kernel, by decide +kernel⟩, by decide +kernel, rfl, by decide, by decide⟩
abbrev mX0_forget : Mt := (yX0_forget, cX0_forget, 2, some .int, [])
theorem okX0_forget : OkV mX0_forget 0 := ⟨q2555, q2556, q94, q2557, ⟨rfl, by decide +kernel, by decide +kernel, by decide +kernel⟩, by decide +kernel, rfl, by decide, by decide⟩
abbrev mX0_which : Mt := (yX0_which, cX0_which, 7, some .int, [])
theorem okX0_which : OkV mX0_which 0 := ⟨q2559, q2560, q94, q2561, ⟨rfl, by decide +kernel, by decide +kernel, by decide +kernel⟩, by decide +kernel, rfl, by decide, by decide⟩
abbrev mX0_look : Mt := (yX0_look, cX0_look, 6, some .int, [])
theorem okX0_look : OkV mX0_look 0 := ⟨q2563, q2564, q94, q2565, ⟨rfl, by decide +kernel, by decide +kernel, by decide +kernel⟩, by decide +kernel, rfl, by decide, by decide⟩
abbrev mX0_mostAlike : Mt := (yX0_mostAlike, cX0_mostAlike, 6, some .int, [])
theorem okX0_mostAlike : OkS mX0_mostAlike 2 := ⟨q2574, q94, q2575, ⟨by decide +kernel, by decide +kernel, by decide +kernel⟩, by decide +kernel, rfl, by decide, by decide⟩
abbrev mX0_keep : Mt := (yX0_keep, cX0_keep, 2, some .int, [])
theorem okX0_keep : OkV mX0_keep 1 := ⟨q2578, q2579, q94, q2580, ⟨rfl, by decide +kernel, by decide +kernel, by decide +kernel⟩, by decide +kernel, rfl, by decide, by decide⟩
abbrev mX0_back : Mt := (yX0_back, cX0_back, 2, some .int, [])
theorem okX0_back : OkV mX0_back 1 := ⟨q2582, q2583, q94, q2584, ⟨rfl, by decide +kernel, by decide +kernel, by decide +kernel⟩, by decide +kernel, rfl, by decide, by decide⟩
abbrev mX0_count : Mt := (yX0_count, cX0_count, 5, some .int, [])
theorem okX0_count : OkV mX0_count 1 := ⟨q2586, q2587, q94, q2588, ⟨rfl, by decide +kernel, by decide +kernel, by decide +kernel⟩, by decide +kernel, rfl, by decide, by decide⟩
abbrev mX1_init : Mt := (yX1_init, cX1_init, 1, none, [])
theorem okX1_init : OkI mX1_init 0 := ⟨q168, q95, q169, rfl, rfl, ⟨by decide +kernel, by decide +kernel, by decide +kernel⟩, by decide +kernel, rfl, by decide, by decide⟩
abbrev mX1_many : Mt := (yX1_many, cX1_many, 5, some .int, [])
theorem okX1_many : OkV mX1_many 1 := ⟨q1481, q1482, q95, q1483, ⟨rfl, by decide +kernel, by decide +kernel, by decide +kernel⟩, by decide +kernel, rfl, by decide, by decide⟩
abbrev mX1_works : Mt := (yX1_works, cX1_works, 4, none, [])
theorem okX1_works : OkV mX1_works 1 := ⟨q1753, q1754, q95, q1755, ⟨rfl, by decide +kernel, by decide +kernel, by decide +kernel⟩, by decide +kernel, rfl, by decide, by decide⟩
abbrev mX10_wire : Mt := (yX10_wire, cX10_wire, 4, some (.object "SignalWaves$Node"), [])
theorem okX10_wire : OkS mX10_wire 4 := ⟨q1518, q138, q1519, ⟨by decide +kernel, by decide +kernel, by decide +kernel⟩, by decide +kernel, rfl, by decide, by decide⟩
abbrev mX10_init : Mt := (yX10_init, cX10_init, 8, none, [])
theorem okX10_init : OkI mX10_init 7 := ⟨q1523, q138, q1524, rfl, rfl, ⟨by decide +kernel, by decide +kernel, by decide +kernel⟩, by decide +kernel, rfl, by decide, by decide⟩
abbrev mX10_alias : Mt := (yX10_alias, cX10_alias, 4, some (.object "SignalWaves$Node"), [])
theorem okX10_alias : OkS mX10_alias 4 := ⟨q1553, q138, q1554, ⟨by decide +kernel, by decide +kernel, by decide +kernel⟩, by decide +kernel, rfl, by decide, by decide⟩
abbrev mX10_derived : Mt := (yX10_derived, cX10_derived, 4, some (.object "SignalWaves$Node"), [])
theorem okX10_derived : OkS mX10_derived 4 := ⟨q1615, q138, q1616, ⟨by decide +kernel, by decide +kernel, by decide +kernel⟩, by decide +kernel, rfl, by decide, by decide⟩
abbrev mX10_listed : Mt := (yX10_listed, cX10_listed, 1, some .int, [])
-- X10_listed: words q138 q1960 None
abbrev mX11_init : Mt := (yX11_init, cX11_init, 1, none, [])
theorem okX11_init : OkI mX11_init 0 := ⟨q1561, q139, q1562, rfl, rfl, ⟨by decide +kernel, by decide +kernel, by decide +kernel⟩, by decide +kernel, rfl, by decide, by decide⟩
abbrev mX12_init : Mt := (yX12_init, cX12_init, 2, none, [])
theorem okX12_init : OkI mX12_init 1 := ⟨q1558, q140, q1559, rfl, rfl, ⟨by decide +kernel, by decide +kernel, by decide +kernel⟩, by decide +kernel, rfl, by decide, by decide⟩
abbrev mX12_worked : Mt := (yX12_worked, cX12_worked, 2, some .int, [])
-- X12_worked: words q140 q1770 None
abbrev mX13_init : Mt := (yX13_init, cX13_init, 2, none, [])
theorem okX13_init : OkI mX13_init 1 := ⟨q1579, q141, q1580, rfl, rfl, ⟨by decide +kernel, by decide +kernel, by decide +kernel⟩, by decide +kernel, rfl, by decide, by decide⟩
abbrev mX13_worked : Mt := (yX13_worked, cX13_worked, 2, some .int, [])
-- X13_worked: words q141 q1772 None
abbrev mX14_init : Mt := (yX14_init, cX14_init, 2, none, [])
theorem okX14_init : OkI mX14_init 1 := ⟨q1589, q142, q1590, rfl, rfl, ⟨by decide +kernel, by decide +kernel, by decide +kernel⟩, by decide +kernel, rfl, by decide, by decide⟩
abbrev mX14_worked : Mt := (yX14_worked, cX14_worked, 3, some .int, [])
-- X14_worked: words q142 q1767 None
abbrev mX15_init : Mt := (yX15_init, cX15_init, 4, none, [])
theorem okX15_init : OkI mX15_init 3 := ⟨q1601, q143, q1602, rfl, rfl, ⟨by decide +kernel, by decide +kernel, by decide +kernel⟩, by decide +kernel, rfl, by decide, by decide⟩
abbrev mX15_worked : Mt := (yX15_worked, cX15_worked, 4, some .int, [])
-- X15_worked: words q143 q1764 None
abbrev mX16_init : Mt := (yX16_init, cX16_init, 4, none, [])
theorem okX16_init : OkI mX16_init 3 := ⟨q2119, q151, q2120, rfl, rfl, ⟨by decide +kernel, by decide +kernel, by decide +kernel⟩, by decide +kernel, rfl, by decide, by decide⟩
abbrev mX17_compareTo : Mt := (yX17_compareTo, cX17_compareTo, 2, some .int, [])
-- X17_compareTo: words q154 q439 None
abbrev mX17_compareTo_2 : Mt := (yX17_compareTo_2, cX17_compareTo_2, 2, some .int, [])
theorem okX17_compareTo_2 : OkV mX17_compareTo_2 1 := ⟨q444, q445, q154, q446, ⟨rfl, by decide +kernel, by decide +kernel, by decide +kernel⟩, by decide +kernel, rfl, by decide, by decide⟩
abbrev mX17_init : Mt := (yX17_init, cX17_init, 4, none, [])
theorem okX17_init : OkI mX17_init 3 := ⟨q2288, q154, q2289, rfl, rfl, ⟨by decide +kernel, by decide +kernel, by decide +kernel⟩, by decide +kernel, rfl, by decide, by decide⟩
abbrev mX17_next : Mt := (yX17_next, cX17_next, 2, some (.object "SignalWaves$Tick"), [])
theorem okX17_next : OkV mX17_next 0 := ⟨q2303, q2304, q154, q2305, ⟨rfl, by decide +kernel, by decide +kernel, by decide +kernel⟩, by decide +kernel, rfl, by decide, by decide⟩
abbrev mX2_init : Mt := (yX2_init, cX2_init, 4, none, [])
theorem okX2_init : OkI mX2_init 3 := ⟨q177, q96, q178, rfl, rfl, ⟨by decide +kernel, by decide +kernel, by decide +kernel⟩, by decide +kernel, rfl, by decide, by decide⟩
abbrev mX2_names : Mt := (yX2_names, cX2_names, 2, some (.object "java/util/List"), [])
-- X2_names: words q96 q1638 None
abbrev mX3_init : Mt := (yX3_init, cX3_init, 4, none, [])
theorem okX3_init : OkI mX3_init 3 := ⟨q174, q97, q175, rfl, rfl, ⟨by decide +kernel, by decide +kernel, by decide +kernel⟩, by decide +kernel, rfl, by decide, by decide⟩
abbrev mX3_deep : Mt := (yX3_deep, cX3_deep, 1, some .int, [])
theorem okX3_deep : OkV mX3_deep 0 := ⟨q1259, q1260, q97, q1261, ⟨rfl, by decide +kernel, by decide +kernel, by decide +kernel⟩, by decide +kernel, rfl, by decide, by decide⟩
abbrev mX3_isTop : Mt := (yX3_isTop, cX3_isTop, 1, some .boolean, [])
theorem okX3_isTop : OkV mX3_isTop 0 := ⟨q1263, q1264, q97, q1265, ⟨rfl, by decide +kernel, by decide +kernel, by decide +kernel⟩, by decide +kernel, rfl, by decide, by decide⟩
abbrev mX3_numberOrNone : Mt := (yX3_numberOrNone, cX3_numberOrNone, 1, some .int, [])
theorem okX3_numberOrNone : OkV mX3_numberOrNone 0 := ⟨q1747, q1748, q97, q1749, ⟨rfl, by decide +kernel, by decide +kernel, by decide +kernel⟩, by decide +kernel, rfl, by decide, by decide⟩
abbrev mX3_listed : Mt := (yX3_listed, cX3_listed, 1, some .int, [])
-- X3_listed: words q97 q1963 None
abbrev mX4_init : Mt := (yX4_init, cX4_init, 1, none, [])
theorem okX4_init : OkI mX4_init 0 := ⟨q297, q103, q298, rfl, rfl, ⟨by decide +kernel, by decide +kernel, by decide +kernel⟩, by decide +kernel, rfl, by decide, by decide⟩
abbrev mX4_begins : Mt := (yX4_begins, cX4_begins, 1, some (.object "SignalWaves$Wave"), [])
theorem okX4_begins : OkV mX4_begins 0 := ⟨q394, q395, q103, q396, ⟨rfl, by decide +kernel, by decide +kernel, by decide +kernel⟩, by decide +kernel, rfl, by decide, by decide⟩
abbrev mX4_copy : Mt := (yX4_copy, cX4_copy, 4, some (.object "SignalWaves$Wave"), [])
theorem okX4_copy : OkV mX4_copy 0 := ⟨q1985, q1986, q103, q1987, ⟨rfl, by decide +kernel, by decide +kernel, by decide +kernel⟩, by decide +kernel, rfl, by decide, by decide⟩
abbrev mX4_changes : Mt := (yX4_changes, cX4_changes, 3, none, [])
theorem okX4_changes : OkV mX4_changes 2 := ⟨q2064, q2065, q103, q2066, ⟨rfl, by decide +kernel, by decide +kernel, by decide +kernel⟩, by decide +kernel, rfl, by decide, by decide⟩
abbrev mX4_goesOff : Mt := (yX4_goesOff, cX4_goesOff, 1, none, [])
theorem okX4_goesOff : OkV mX4_goesOff 0 := ⟨q2146, q2147, q103, q2148, ⟨rfl, by decide +kernel, by decide +kernel, by decide +kernel⟩, by decide +kernel, rfl, by decide, by decide⟩
abbrev mX4_by : Mt := (yX4_by, cX4_by, 3, some (.object "SignalWaves$Block"), [])
theorem okX4_by : OkV mX4_by 1 := ⟨q2171, q2172, q103, q2173, ⟨rfl, by decide +kernel, by decide +kernel, by decide +kernel⟩, by decide +kernel, rfl, by decide, by decide⟩
abbrev mX5_init : Mt := (yX5_init, cX5_init, 1, none, [])
theorem okX5_init : OkI mX5_init 0 := ⟨q305, q106, q306, rfl, rfl, ⟨by decide +kernel, by decide +kernel, by decide +kernel⟩, by decide +kernel, rfl, by decide, by decide⟩
abbrev mX5_compare : Mt := (yX5_compare, cX5_compare, 3, some .int, [])
-- X5_compare: words q106 q636 None
abbrev mX5_compare_2 : Mt := (yX5_compare_2, cX5_compare_2, 3, some .int, [])
theorem okX5_compare_2 : OkV mX5_compare_2 2 := ⟨q641, q642, q106, q643, ⟨rfl, by decide +kernel, by decide +kernel, by decide +kernel⟩, by decide +kernel, rfl, by decide, by decide⟩
abbrev mX6_init : Mt := (yX6_init, cX6_init, 4, none, [])
theorem okX6_init : OkI mX6_init 3 := ⟨q332, q107, q333, rfl, rfl, ⟨by decide +kernel, by decide +kernel, by decide +kernel⟩, by decide +kernel, rfl, by decide, by decide⟩
abbrev mX6_copy : Mt := (yX6_copy, cX6_copy, 2, some (.object "SignalWaves$Block"), [])
theorem okX6_copy : OkV mX6_copy 0 := ⟨q1997, q1998, q107, q1999, ⟨rfl, by decide +kernel, by decide +kernel, by decide +kernel⟩, by decide +kernel, rfl, by decide, by decide⟩
abbrev mX7_init : Mt := (yX7_init, cX7_init, 1, none, [])
theorem okX7_init : OkI mX7_init 0 := ⟨q2592, q126, q2593, rfl, rfl, ⟨by decide +kernel, by decide +kernel, by decide +kernel⟩, by decide +kernel, rfl, by decide, by decide⟩
abbrev mX7_begins : Mt := (yX7_begins, cX7_begins, 2, none, [])
theorem okX7_begins : OkV mX7_begins 0 := ⟨q2597, qs45, q126, q2598, ⟨rfl, by decide +kernel, by decide +kernel, by decide +kernel⟩, by decide +kernel, rfl, by decide, by decide⟩
abbrev mX7_blockBegins : Mt := (yX7_blockBegins, cX7_blockBegins, 3, none, [])
theorem okX7_blockBegins : OkV mX7_blockBegins 0 := ⟨q2601, qs46, q126, q2602, ⟨rfl, by decide +kernel, by decide +kernel, by decide +kernel⟩, by decide +kernel, rfl, by decide, by decide⟩
abbrev mX7_block0 : Mt := (yX7_block0, cX7_block0, 1, some .int, [])
theorem okX7_block0 : OkS mX7_block0 1 := ⟨q2604, q126, q2605, ⟨by decide +kernel, by decide +kernel, by decide +kernel⟩, by decide +kernel, rfl, by decide, by decide⟩
abbrev mX7_type : Mt := (yX7_type, cX7_type, 2, some .int, [])
theorem okX7_type : OkV mX7_type 1 := ⟨q2759, q2760, q126, q2761, ⟨rfl, by decide +kernel, by decide +kernel, by decide +kernel⟩, by decide +kernel, rfl, by decide, by decide⟩
abbrev mX7_in : Mt := (yX7_in, cX7_in, 3, some .boolean, [])
theorem okX7_in : OkS mX7_in 3 := ⟨q2763, q126, q2764, ⟨by decide +kernel, by decide +kernel, by decide +kernel⟩, by decide +kernel, rfl, by decide, by decide⟩
abbrev mX7_clear : Mt := (yX7_clear, cX7_clear, 2, some .int, [])
theorem okX7_clear : OkV mX7_clear 0 := ⟨q2766, q2767, q126, q2768, ⟨rfl, by decide +kernel, by decide +kernel, by decide +kernel⟩, by decide +kernel, rfl, by decide, by decide⟩
abbrev mX7_tells : Mt := (yX7_tells, cX7_tells, 2, some .int, [])
theorem okX7_tells : OkV mX7_tells 0 := ⟨q2770, q2771, q126, q2772, ⟨rfl, by decide +kernel, by decide +kernel, by decide +kernel⟩, by decide +kernel, rfl, by decide, by decide⟩
abbrev mX7_next : Mt := (yX7_next, cX7_next, 2, none, [])
theorem okX7_next : OkV mX7_next 0 := ⟨q2775, qs47, q126, q2776, ⟨rfl, by decide +kernel, by decide +kernel, by decide +kernel⟩, by decide +kernel, rfl, by decide, by decide⟩
abbrev mX7_isFigure : Mt := (yX7_isFigure, cX7_isFigure, 2, some .boolean, [])
theorem okX7_isFigure : OkV mX7_isFigure 1 := ⟨q2779, qs48, q126, q2780, ⟨rfl, by decide +kernel, by decide +kernel, by decide +kernel⟩, by decide +kernel, rfl, by decide, by decide⟩
abbrev mX7_isSign : Mt := (yX7_isSign, cX7_isSign, 1, some .boolean, [])
theorem okX7_isSign : OkS mX7_isSign 1 := ⟨q2782, q126, q2783, ⟨by decide +kernel, by decide +kernel, by decide +kernel⟩, by decide +kernel, rfl, by decide, by decide⟩
abbrev mX7_readsItem : Mt := (yX7_readsItem, cX7_readsItem, 1, none, [])
theorem okX7_readsItem : OkV mX7_readsItem 0 := ⟨q2786, qs49, q126, q2787, ⟨rfl, by decide +kernel, by decide +kernel, by decide +kernel⟩, by decide +kernel, rfl, by decide, by decide⟩
abbrev mX7_is : Mt := (yX7_is, cX7_is, 2, some .boolean, [])
theorem okX7_is : OkV mX7_is 1 := ⟨q2790, qs50, q126, q2791, ⟨rfl, by decide +kernel, by decide +kernel, by decide +kernel⟩, by decide +kernel, rfl, by decide, by decide⟩
abbrev mX7_opens : Mt := (yX7_opens, cX7_opens, 2, none, [])
theorem okX7_opens : OkV mX7_opens 0 := ⟨q2794, qs51, q126, q2795, ⟨rfl, by decide +kernel, by decide +kernel, by decide +kernel⟩, by decide +kernel, rfl, by decide, by decide⟩
abbrev mX7_due : Mt := (yX7_due, cX7_due, 2, none, [])
theorem okX7_due : OkV mX7_due 1 := ⟨q2798, qs52, q126, q2799, ⟨rfl, by decide +kernel, by decide +kernel, by decide +kernel⟩, by decide +kernel, rfl, by decide, by decide⟩
abbrev mX7_passes : Mt := (yX7_passes, cX7_passes, 2, none, [])
theorem okX7_passes : OkV mX7_passes 1 := ⟨q2802, qs53, q126, q2803, ⟨rfl, by decide +kernel, by decide +kernel, by decide +kernel⟩, by decide +kernel, rfl, by decide, by decide⟩
abbrev mX7_newNodeBy : Mt := (yX7_newNodeBy, cX7_newNodeBy, 5, some .int, [])
theorem okX7_newNodeBy : OkV mX7_newNodeBy 2 := ⟨q2806, qs54, q126, q2807, ⟨rfl, by decide +kernel, by decide +kernel, by decide +kernel⟩, by decide +kernel, rfl, by decide, by decide⟩
abbrev mX7_newScopeBy : Mt := (yX7_newScopeBy, cX7_newScopeBy, 5, some .int, [])
theorem okX7_newScopeBy : OkV mX7_newScopeBy 2 := ⟨q2810, qs55, q126, q2811, ⟨rfl, by decide +kernel, by decide +kernel, by decide +kernel⟩, by decide +kernel, rfl, by decide, by decide⟩
abbrev mX7_closes : Mt := (yX7_closes, cX7_closes, 1, none, [])
theorem okX7_closes : OkV mX7_closes 0 := ⟨q2814, qs56, q126, q2815, ⟨rfl, by decide +kernel, by decide +kernel, by decide +kernel⟩, by decide +kernel, rfl, by decide, by decide⟩
abbrev mX7_readsNode : Mt := (yX7_readsNode, cX7_readsNode, 5, none, [])
theorem okX7_readsNode : OkV mX7_readsNode 0 := ⟨q2818, qs57, q126, q2819, ⟨rfl, by decide +kernel, by decide +kernel, by decide +kernel⟩, by decide +kernel, rfl, by decide, by decide⟩
abbrev mX7_readsPath : Mt := (yX7_readsPath, cX7_readsPath, 4, some .int, [])
theorem okX7_readsPath : OkV mX7_readsPath 0 := ⟨q2822, qs58, q126, q2823, ⟨rfl, by decide +kernel, by decide +kernel, by decide +kernel⟩, by decide +kernel, rfl, by decide, by decide⟩
abbrev mX7_readsExpression : Mt := (yX7_readsExpression, cX7_readsExpression, 2, none, [])
theorem okX7_readsExpression : OkV mX7_readsExpression 0 := ⟨q2826, qs59, q126, q2827, ⟨rfl, by decide +kernel, by decide +kernel, by decide +kernel⟩, by decide +kernel, rfl, by decide, by decide⟩
abbrev mX7_beginsTerm : Mt := (yX7_beginsTerm, cX7_beginsTerm, 2, none, [])
theorem okX7_beginsTerm : OkV mX7_beginsTerm 0 := ⟨q2830, qs60, q126, q2831, ⟨rfl, by decide +kernel, by decide +kernel, by decide +kernel⟩, by decide +kernel, rfl, by decide, by decide⟩
abbrev mX7_waitsFor : Mt := (yX7_waitsFor, cX7_waitsFor, 2, none, [])
theorem okX7_waitsFor : OkV mX7_waitsFor 1 := ⟨q2834, qs61, q126, q2835, ⟨rfl, by decide +kernel, by decide +kernel, by decide +kernel⟩, by decide +kernel, rfl, by decide, by decide⟩
abbrev mX7_emits : Mt := (yX7_emits, cX7_emits, 4, none, [])
theorem okX7_emits : OkV mX7_emits 2 := ⟨q2838, qs62, q126, q2839, ⟨rfl, by decide +kernel, by decide +kernel, by decide +kernel⟩, by decide +kernel, rfl, by decide, by decide⟩
abbrev mX7_wholeTerm : Mt := (yX7_wholeTerm, cX7_wholeTerm, 1, none, [])
theorem okX7_wholeTerm : OkV mX7_wholeTerm 0 := ⟨q2842, qs63, q126, q2843, ⟨rfl, by decide +kernel, by decide +kernel, by decide +kernel⟩, by decide +kernel, rfl, by decide, by decide⟩
abbrev mX7_isBetween : Mt := (yX7_isBetween, cX7_isBetween, 1, some .boolean, [])
theorem okX7_isBetween : OkV mX7_isBetween 0 := ⟨q2846, qs64, q126, q2847, ⟨rfl, by decide +kernel, by decide +kernel, by decide +kernel⟩, by decide +kernel, rfl, by decide, by decide⟩
abbrev mX7_takesOver : Mt := (yX7_takesOver, cX7_takesOver, 2, none, [])
theorem okX7_takesOver : OkV mX7_takesOver 0 := ⟨q2850, qs65, q126, q2851, ⟨rfl, by decide +kernel, by decide +kernel, by decide +kernel⟩, by decide +kernel, rfl, by decide, by decide⟩
abbrev mX7_node : Mt := (yX7_node, cX7_node, 6, some .int, [])
theorem okX7_node : OkV mX7_node 0 := ⟨q2853, q2854, q126, q2855, ⟨rfl, by decide +kernel, by decide +kernel, by decide +kernel⟩, by decide +kernel, rfl, by decide, by decide⟩
abbrev mX7_nodeBy : Mt := (yX7_nodeBy, cX7_nodeBy, 5, some .int, [])
theorem okX7_nodeBy : OkV mX7_nodeBy 2 := ⟨q2858, qs66, q126, q2859, ⟨rfl, by decide +kernel, by decide +kernel, by decide +kernel⟩, by decide +kernel, rfl, by decide, by decide⟩
abbrev mX7_of : Mt := (yX7_of, cX7_of, 3, some .int, [])
theorem okX7_of : OkV mX7_of 2 := ⟨q2862, qs67, q126, q2863, ⟨rfl, by decide +kernel, by decide +kernel, by decide +kernel⟩, by decide +kernel, rfl, by decide, by decide⟩
abbrev mX7_scopeBy : Mt := (yX7_scopeBy, cX7_scopeBy, 5, some .int, [])
theorem okX7_scopeBy : OkV mX7_scopeBy 2 := ⟨q2866, qs68, q126, q2867, ⟨rfl, by decide +kernel, by decide +kernel, by decide +kernel⟩, by decide +kernel, rfl, by decide, by decide⟩
abbrev mX7_about : Mt := (yX7_about, cX7_about, 4, some .int, [])
theorem okX7_about : OkV mX7_about 2 := ⟨q2869, q2870, q126, q2871, ⟨rfl, by decide +kernel, by decide +kernel, by decide +kernel⟩, by decide +kernel, rfl, by decide, by decide⟩
abbrev mX7_isNode : Mt := (yX7_isNode, cX7_isNode, 2, some .boolean, [])
theorem okX7_isNode : OkV mX7_isNode 1 := ⟨q2874, qs69, q126, q2875, ⟨rfl, by decide +kernel, by decide +kernel, by decide +kernel⟩, by decide +kernel, rfl, by decide, by decide⟩
abbrev mX7_laysNodes : Mt := (yX7_laysNodes, cX7_laysNodes, 2, none, [])
theorem okX7_laysNodes : OkV mX7_laysNodes 0 := ⟨q2878, qs70, q126, q2879, ⟨rfl, by decide +kernel, by decide +kernel, by decide +kernel⟩, by decide +kernel, rfl, by decide, by decide⟩
abbrev mX7_expressed : Mt := (yX7_expressed, cX7_expressed, 7, some .int, [])
theorem okX7_expressed : OkV mX7_expressed 1 := ⟨q2882, qs71, q126, q2883, ⟨rfl, by decide +kernel, by decide +kernel, by decide +kernel⟩, by decide +kernel, rfl, by decide, by decide⟩
abbrev mX7_worked : Mt := (yX7_worked, cX7_worked, 3, some .int, [])
theorem okX7_worked : OkS mX7_worked 3 := ⟨q2885, q126, q2886, ⟨by decide +kernel, by decide +kernel, by decide +kernel⟩, by decide +kernel, rfl, by decide, by decide⟩
abbrev mX7_scope : Mt := (yX7_scope, cX7_scope, 3, some .int, [])
theorem okX7_scope : OkV mX7_scope 2 := ⟨q2888, q2889, q126, q2890, ⟨rfl, by decide +kernel, by decide +kernel, by decide +kernel⟩, by decide +kernel, rfl, by decide, by decide⟩
abbrev mX7_listed : Mt := (yX7_listed, cX7_listed, 8, some .int, [])
theorem okX7_listed : OkV mX7_listed 2 := ⟨q2892, q2893, q126, q2894, ⟨rfl, by decide +kernel, by decide +kernel, by decide +kernel⟩, by decide +kernel, rfl, by decide, by decide⟩
abbrev mX7_path : Mt := (yX7_path, cX7_path, 7, some .int, [])
theorem okX7_path : OkV mX7_path 2 := ⟨q2896, q2897, q126, q2898, ⟨rfl, by decide +kernel, by decide +kernel, by decide +kernel⟩, by decide +kernel, rfl, by decide, by decide⟩
abbrev mX7_sets : Mt := (yX7_sets, cX7_sets, 6, some .int, [])
theorem okX7_sets : OkV mX7_sets 2 := ⟨q2900, q2901, q126, q2902, ⟨rfl, by decide +kernel, by decide +kernel, by decide +kernel⟩, by decide +kernel, rfl, by decide, by decide⟩
abbrev mX7_isWire : Mt := (yX7_isWire, cX7_isWire, 2, some .boolean, [])
theorem okX7_isWire : OkV mX7_isWire 1 := ⟨q2905, qs72, q126, q2906, ⟨rfl, by decide +kernel, by decide +kernel, by decide +kernel⟩, by decide +kernel, rfl, by decide, by decide⟩
abbrev mX7_notes : Mt := (yX7_notes, cX7_notes, 2, none, [])
theorem okX7_notes : OkV mX7_notes 0 := ⟨q2909, qs73, q126, q2910, ⟨rfl, by decide +kernel, by decide +kernel, by decide +kernel⟩, by decide +kernel, rfl, by decide, by decide⟩
abbrev mX7_passes_2 : Mt := (yX7_passes_2, cX7_passes_2, 2, some .int, [])
theorem okX7_passes_2 : OkV mX7_passes_2 1 := ⟨q2912, q2913, q126, q2914, ⟨rfl, by decide +kernel, by decide +kernel, by decide +kernel⟩, by decide +kernel, rfl, by decide, by decide⟩
abbrev mX7_dumps : Mt := (yX7_dumps, cX7_dumps, 2, some .int, [])
theorem okX7_dumps : OkV mX7_dumps 1 := ⟨q2916, q2917, q126, q2918, ⟨rfl, by decide +kernel, by decide +kernel, by decide +kernel⟩, by decide +kernel, rfl, by decide, by decide⟩
abbrev mX7_sizes : Mt := (yX7_sizes, cX7_sizes, 3, some .int, [])
theorem okX7_sizes : OkV mX7_sizes 1 := ⟨q2920, q2921, q126, q2922, ⟨rfl, by decide +kernel, by decide +kernel, by decide +kernel⟩, by decide +kernel, rfl, by decide, by decide⟩
abbrev mX7_undo : Mt := (yX7_undo, cX7_undo, 2, some .int, [])
theorem okX7_undo : OkV mX7_undo 0 := ⟨q2924, q2925, q126, q2926, ⟨rfl, by decide +kernel, by decide +kernel, by decide +kernel⟩, by decide +kernel, rfl, by decide, by decide⟩
abbrev mX7_at : Mt := (yX7_at, cX7_at, 3, some .int, [])
theorem okX7_at : OkV mX7_at 2 := ⟨q2928, q2929, q126, q2930, ⟨rfl, by decide +kernel, by decide +kernel, by decide +kernel⟩, by decide +kernel, rfl, by decide, by decide⟩
abbrev mX7_isTime : Mt := (yX7_isTime, cX7_isTime, 2, some .boolean, [])
theorem okX7_isTime : OkV mX7_isTime 1 := ⟨q2933, qs74, q126, q2934, ⟨rfl, by decide +kernel, by decide +kernel, by decide +kernel⟩, by decide +kernel, rfl, by decide, by decide⟩
abbrev mX7_laysAt : Mt := (yX7_laysAt, cX7_laysAt, 5, none, [])
theorem okX7_laysAt : OkV mX7_laysAt 1 := ⟨q2937, qs75, q126, q2938, ⟨rfl, by decide +kernel, by decide +kernel, by decide +kernel⟩, by decide +kernel, rfl, by decide, by decide⟩
abbrev mX7_blockAt : Mt := (yX7_blockAt, cX7_blockAt, 4, some .int, [])
theorem okX7_blockAt : OkV mX7_blockAt 1 := ⟨q2941, qs76, q126, q2942, ⟨rfl, by decide +kernel, by decide +kernel, by decide +kernel⟩, by decide +kernel, rfl, by decide, by decide⟩
abbrev mX7_edges : Mt := (yX7_edges, cX7_edges, 7, some .int, [])
theorem okX7_edges : OkV mX7_edges 4 := ⟨q2944, q2945, q126, q2946, ⟨rfl, by decide +kernel, by decide +kernel, by decide +kernel⟩, by decide +kernel, rfl, by decide, by decide⟩
abbrev mX7_isKind : Mt := (yX7_isKind, cX7_isKind, 1, some .boolean, [])
theorem okX7_isKind : OkS mX7_isKind 1 := ⟨q2948, q126, q2949, ⟨by decide +kernel, by decide +kernel, by decide +kernel⟩, by decide +kernel, rfl, by decide, by decide⟩
abbrev mX7_laysLine : Mt := (yX7_laysLine, cX7_laysLine, 3, none, [])
theorem okX7_laysLine : OkV mX7_laysLine 1 := ⟨q2952, qs77, q126, q2953, ⟨rfl, by decide +kernel, by decide +kernel, by decide +kernel⟩, by decide +kernel, rfl, by decide, by decide⟩
abbrev mX7_laysTurns : Mt := (yX7_laysTurns, cX7_laysTurns, 4, none, [])
theorem okX7_laysTurns : OkV mX7_laysTurns 0 := ⟨q2956, qs78, q126, q2957, ⟨rfl, by decide +kernel, by decide +kernel, by decide +kernel⟩, by decide +kernel, rfl, by decide, by decide⟩
abbrev mX7_isEdge : Mt := (yX7_isEdge, cX7_isEdge, 3, some .boolean, [])
theorem okX7_isEdge : OkV mX7_isEdge 2 := ⟨q2960, qs79, q126, q2961, ⟨rfl, by decide +kernel, by decide +kernel, by decide +kernel⟩, by decide +kernel, rfl, by decide, by decide⟩
abbrev mX7_next_2 : Mt := (yX7_next_2, cX7_next_2, 5, some .int, [])
theorem okX7_next_2 : OkV mX7_next_2 3 := ⟨q2963, q2964, q126, q2965, ⟨rfl, by decide +kernel, by decide +kernel, by decide +kernel⟩, by decide +kernel, rfl, by decide, by decide⟩
abbrev mX7_previous : Mt := (yX7_previous, cX7_previous, 5, some .int, [])
theorem okX7_previous : OkV mX7_previous 3 := ⟨q2967, q2968, q126, q2969, ⟨rfl, by decide +kernel, by decide +kernel, by decide +kernel⟩, by decide +kernel, rfl, by decide, by decide⟩
abbrev mX7_first : Mt := (yX7_first, cX7_first, 5, some .int, [])
theorem okX7_first : OkV mX7_first 3 := ⟨q2971, q2972, q126, q2973, ⟨rfl, by decide +kernel, by decide +kernel, by decide +kernel⟩, by decide +kernel, rfl, by decide, by decide⟩
abbrev mX7_holds : Mt := (yX7_holds, cX7_holds, 6, some .int, [])
theorem okX7_holds : OkV mX7_holds 3 := ⟨q2975, q2976, q126, q2977, ⟨rfl, by decide +kernel, by decide +kernel, by decide +kernel⟩, by decide +kernel, rfl, by decide, by decide⟩
abbrev mX7_ticks : Mt := (yX7_ticks, cX7_ticks, 6, some .int, [])
theorem okX7_ticks : OkV mX7_ticks 2 := ⟨q2979, q2980, q126, q2981, ⟨rfl, by decide +kernel, by decide +kernel, by decide +kernel⟩, by decide +kernel, rfl, by decide, by decide⟩
abbrev mX7_isTick : Mt := (yX7_isTick, cX7_isTick, 4, some .boolean, [])
theorem okX7_isTick : OkV mX7_isTick 1 := ⟨q2984, qs80, q126, q2985, ⟨rfl, by decide +kernel, by decide +kernel, by decide +kernel⟩, by decide +kernel, rfl, by decide, by decide⟩
abbrev mX7_delay : Mt := (yX7_delay, cX7_delay, 7, some .int, [])
theorem okX7_delay : OkV mX7_delay 2 := ⟨q2987, q2988, q126, q2989, ⟨rfl, by decide +kernel, by decide +kernel, by decide +kernel⟩, by decide +kernel, rfl, by decide, by decide⟩
abbrev mX7_jump : Mt := (yX7_jump, cX7_jump, 2, some .int, [])
theorem okX7_jump : OkV mX7_jump 1 := ⟨q2991, q2992, q126, q2993, ⟨rfl, by decide +kernel, by decide +kernel, by decide +kernel⟩, by decide +kernel, rfl, by decide, by decide⟩
abbrev mX7_block : Mt := (yX7_block, cX7_block, 4, some .int, [])
theorem okX7_block : OkV mX7_block 2 := ⟨q2995, q2996, q126, q2997, ⟨rfl, by decide +kernel, by decide +kernel, by decide +kernel⟩, by decide +kernel, rfl, by decide, by decide⟩
abbrev mX7_isBlock : Mt := (yX7_isBlock, cX7_isBlock, 2, some .boolean, [])
theorem okX7_isBlock : OkV mX7_isBlock 1 := ⟨q3000, qs81, q126, q3001, ⟨rfl, by decide +kernel, by decide +kernel, by decide +kernel⟩, by decide +kernel, rfl, by decide, by decide⟩
abbrev mX7_roomOfBlock : Mt := (yX7_roomOfBlock, cX7_roomOfBlock, 2, some .int, [])
theorem okX7_roomOfBlock : OkV mX7_roomOfBlock 1 := ⟨q3004, qs82, q126, q3005, ⟨rfl, by decide +kernel, by decide +kernel, by decide +kernel⟩, by decide +kernel, rfl, by decide, by decide⟩
abbrev mX7_addsRow : Mt := (yX7_addsRow, cX7_addsRow, 3, none, [])
theorem okX7_addsRow : OkV mX7_addsRow 1 := ⟨q3008, qs83, q126, q3009, ⟨rfl, by decide +kernel, by decide +kernel, by decide +kernel⟩, by decide +kernel, rfl, by decide, by decide⟩
abbrev mX7_roomOf : Mt := (yX7_roomOf, cX7_roomOf, 8, some .int, [])
theorem okX7_roomOf : OkV mX7_roomOf 3 := ⟨q3012, qs84, q126, q3013, ⟨rfl, by decide +kernel, by decide +kernel, by decide +kernel⟩, by decide +kernel, rfl, by decide, by decide⟩
abbrev mX7_placeOf : Mt := (yX7_placeOf, cX7_placeOf, 3, some .int, [])
theorem okX7_placeOf : OkV mX7_placeOf 1 := ⟨q3016, qs85, q126, q3017, ⟨rfl, by decide +kernel, by decide +kernel, by decide +kernel⟩, by decide +kernel, rfl, by decide, by decide⟩
abbrev mX7_frame : Mt := (yX7_frame, cX7_frame, 3, some .int, [])
theorem okX7_frame : OkV mX7_frame 2 := ⟨q3019, q3020, q126, q3021, ⟨rfl, by decide +kernel, by decide +kernel, by decide +kernel⟩, by decide +kernel, rfl, by decide, by decide⟩
abbrev mX7_change : Mt := (yX7_change, cX7_change, 5, some .int, [])
theorem okX7_change : OkV mX7_change 3 := ⟨q3023, q3024, q126, q3025, ⟨rfl, by decide +kernel, by decide +kernel, by decide +kernel⟩, by decide +kernel, rfl, by decide, by decide⟩
abbrev mX7_nodeOfWire : Mt := (yX7_nodeOfWire, cX7_nodeOfWire, 4, some .int, [])
theorem okX7_nodeOfWire : OkV mX7_nodeOfWire 1 := ⟨q3028, qs86, q126, q3029, ⟨rfl, by decide +kernel, by decide +kernel, by decide +kernel⟩, by decide +kernel, rfl, by decide, by decide⟩
abbrev mX7_packed : Mt := (yX7_packed, cX7_packed, 2, some .int, [])
theorem okX7_packed : OkV mX7_packed 1 := ⟨q3031, q3032, q126, q3033, ⟨rfl, by decide +kernel, by decide +kernel, by decide +kernel⟩, by decide +kernel, rfl, by decide, by decide⟩
abbrev mX7_packedBy : Mt := (yX7_packedBy, cX7_packedBy, 5, some .int, [])
theorem okX7_packedBy : OkV mX7_packedBy 1 := ⟨q3036, qs87, q126, q3037, ⟨rfl, by decide +kernel, by decide +kernel, by decide +kernel⟩, by decide +kernel, rfl, by decide, by decide⟩
abbrev mX7_roomParted : Mt := (yX7_roomParted, cX7_roomParted, 6, some .int, [])
theorem okX7_roomParted : OkV mX7_roomParted 2 := ⟨q3040, qs88, q126, q3041, ⟨rfl, by decide +kernel, by decide +kernel, by decide +kernel⟩, by decide +kernel, rfl, by decide, by decide⟩
abbrev mX7_best : Mt := (yX7_best, cX7_best, 3, some .int, [])
theorem okX7_best : OkV mX7_best 0 := ⟨q3043, q3044, q126, q3045, ⟨rfl, by decide +kernel, by decide +kernel, by decide +kernel⟩, by decide +kernel, rfl, by decide, by decide⟩
abbrev mX7_sees : Mt := (yX7_sees, cX7_sees, 3, some .int, [])
theorem okX7_sees : OkV mX7_sees 2 := ⟨q3047, q3048, q126, q3049, ⟨rfl, by decide +kernel, by decide +kernel, by decide +kernel⟩, by decide +kernel, rfl, by decide, by decide⟩
abbrev mX7_forget : Mt := (yX7_forget, cX7_forget, 2, some .int, [])
theorem okX7_forget : OkV mX7_forget 0 := ⟨q3051, q3052, q126, q3053, ⟨rfl, by decide +kernel, by decide +kernel, by decide +kernel⟩, by decide +kernel, rfl, by decide, by decide⟩
abbrev mX7_which : Mt := (yX7_which, cX7_which, 1, some .int, [])
theorem okX7_which : OkV mX7_which 0 := ⟨q3055, q3056, q126, q3057, ⟨rfl, by decide +kernel, by decide +kernel, by decide +kernel⟩, by decide +kernel, rfl, by decide, by decide⟩
abbrev mX7_seen : Mt := (yX7_seen, cX7_seen, 5, some .int, [])
theorem okX7_seen : OkV mX7_seen 0 := ⟨q3060, qs89, q126, q3061, ⟨rfl, by decide +kernel, by decide +kernel, by decide +kernel⟩, by decide +kernel, rfl, by decide, by decide⟩
abbrev mX7_look : Mt := (yX7_look, cX7_look, 6, some .int, [])
theorem okX7_look : OkV mX7_look 0 := ⟨q3063, q3064, q126, q3065, ⟨rfl, by decide +kernel, by decide +kernel, by decide +kernel⟩, by decide +kernel, rfl, by decide, by decide⟩
abbrev mX7_mostAlike : Mt := (yX7_mostAlike, cX7_mostAlike, 6, some .int, [])
theorem okX7_mostAlike : OkV mX7_mostAlike 1 := ⟨q3068, qs90, q126, q3069, ⟨rfl, by decide +kernel, by decide +kernel, by decide +kernel⟩, by decide +kernel, rfl, by decide, by decide⟩
abbrev mX7_keep : Mt := (yX7_keep, cX7_keep, 3, some .int, [])
theorem okX7_keep : OkV mX7_keep 1 := ⟨q3071, q3072, q126, q3073, ⟨rfl, by decide +kernel, by decide +kernel, by decide +kernel⟩, by decide +kernel, rfl, by decide, by decide⟩
abbrev mX7_back : Mt := (yX7_back, cX7_back, 3, some .int, [])
theorem okX7_back : OkV mX7_back 1 := ⟨q3075, q3076, q126, q3077, ⟨rfl, by decide +kernel, by decide +kernel, by decide +kernel⟩, by decide +kernel, rfl, by decide, by decide⟩
abbrev mX7_count : Mt := (yX7_count, cX7_count, 2, some .int, [])
theorem okX7_count : OkV mX7_count 1 := ⟨q3079, q3080, q126, q3081, ⟨rfl, by decide +kernel, by decide +kernel, by decide +kernel⟩, by decide +kernel, rfl, by decide, by decide⟩
abbrev mX7_changes : Mt := (yX7_changes, cX7_changes, 3, some .int, [])
theorem okX7_changes : OkV mX7_changes 0 := ⟨q3084, qs91, q126, q3085, ⟨rfl, by decide +kernel, by decide +kernel, by decide +kernel⟩, by decide +kernel, rfl, by decide, by decide⟩
abbrev mX7_roomOfAll : Mt := (yX7_roomOfAll, cX7_roomOfAll, 3, some .int, [])
theorem okX7_roomOfAll : OkV mX7_roomOfAll 0 := ⟨q3088, qs92, q126, q3089, ⟨rfl, by decide +kernel, by decide +kernel, by decide +kernel⟩, by decide +kernel, rfl, by decide, by decide⟩
abbrev mX8_init : Mt := (yX8_init, cX8_init, 2, none, [])
theorem okX8_init : OkI mX8_init 1 := ⟨q1130, q127, q1131, rfl, rfl, ⟨by decide +kernel, by decide +kernel, by decide +kernel⟩, by decide +kernel, rfl, by decide, by decide⟩
abbrev mX8_read : Mt := (yX8_read, cX8_read, 1, some (.object "SignalWaves$Book"), [])
theorem okX8_read : OkV mX8_read 0 := ⟨q1168, q1169, q127, q1170, ⟨rfl, by decide +kernel, by decide +kernel, by decide +kernel⟩, by decide +kernel, rfl, by decide, by decide⟩
abbrev mX8_step : Mt := (yX8_step, cX8_step, 2, none, [])
theorem okX8_step : OkV mX8_step 0 := ⟨q1173, qs8, q127, q1174, ⟨rfl, by decide +kernel, by decide +kernel, by decide +kernel⟩, by decide +kernel, rfl, by decide, by decide⟩
abbrev mX8_here : Mt := (yX8_here, cX8_here, 1, some .int, [])
theorem okX8_here : OkV mX8_here 0 := ⟨q1177, qs9, q127, q1178, ⟨rfl, by decide +kernel, by decide +kernel, by decide +kernel⟩, by decide +kernel, rfl, by decide, by decide⟩
abbrev mX8_item : Mt := (yX8_item, cX8_item, 4, none, [])
theorem okX8_item : OkV mX8_item 0 := ⟨q1248, qs10, q127, q1249, ⟨rfl, by decide +kernel, by decide +kernel, by decide +kernel⟩, by decide +kernel, rfl, by decide, by decide⟩
abbrev mX8_is : Mt := (yX8_is, cX8_is, 2, some .boolean, [])
theorem okX8_is : OkV mX8_is 1 := ⟨q1252, qs11, q127, q1253, ⟨rfl, by decide +kernel, by decide +kernel, by decide +kernel⟩, by decide +kernel, rfl, by decide, by decide⟩
abbrev mX8_opens : Mt := (yX8_opens, cX8_opens, 3, none, [])
theorem okX8_opens : OkV mX8_opens 0 := ⟨q1256, qs12, q127, q1257, ⟨rfl, by decide +kernel, by decide +kernel, by decide +kernel⟩, by decide +kernel, rfl, by decide, by decide⟩
abbrev mX8_due : Mt := (yX8_due, cX8_due, 3, some .int, [])
theorem okX8_due : OkV mX8_due 1 := ⟨q1269, qs13, q127, q1270, ⟨rfl, by decide +kernel, by decide +kernel, by decide +kernel⟩, by decide +kernel, rfl, by decide, by decide⟩
abbrev mX8_found : Mt := (yX8_found, cX8_found, 2, some (.object "SignalWaves$Named"), [])
theorem okX8_found : OkV mX8_found 1 := ⟨q1342, qs15, q127, q1343, ⟨rfl, by decide +kernel, by decide +kernel, by decide +kernel⟩, by decide +kernel, rfl, by decide, by decide⟩
abbrev mX8_isName : Mt := (yX8_isName, cX8_isName, 1, some .boolean, [])
theorem okX8_isName : OkV mX8_isName 0 := ⟨q1346, qs16, q127, q1347, ⟨rfl, by decide +kernel, by decide +kernel, by decide +kernel⟩, by decide +kernel, rfl, by decide, by decide⟩
abbrev mX8_told : Mt := (yX8_told, cX8_told, 3, some (.object "SignalWaves$Node"), [])
theorem okX8_told : OkV mX8_told 2 := ⟨q1478, qs20, q127, q1479, ⟨rfl, by decide +kernel, by decide +kernel, by decide +kernel⟩, by decide +kernel, rfl, by decide, by decide⟩
abbrev mX8_path : Mt := (yX8_path, cX8_path, 3, some (.object "SignalWaves$Node"), [])
theorem okX8_path : OkV mX8_path 0 := ⟨q1549, qs21, q127, q1550, ⟨rfl, by decide +kernel, by decide +kernel, by decide +kernel⟩, by decide +kernel, rfl, by decide, by decide⟩
abbrev mX8_expr : Mt := (yX8_expr, cX8_expr, 3, some (.object "SignalWaves$Expr"), [])
theorem okX8_expr : OkV mX8_expr 0 := ⟨q1570, qs22, q127, q1571, ⟨rfl, by decide +kernel, by decide +kernel, by decide +kernel⟩, by decide +kernel, rfl, by decide, by decide⟩
abbrev mX8_term : Mt := (yX8_term, cX8_term, 3, some (.object "SignalWaves$Expr"), [])
theorem okX8_term : OkV mX8_term 0 := ⟨q1574, qs23, q127, q1575, ⟨rfl, by decide +kernel, by decide +kernel, by decide +kernel⟩, by decide +kernel, rfl, by decide, by decide⟩
abbrev mX8_names : Mt := (yX8_names, cX8_names, 2, some (.object "java/util/List"), [])
theorem okX8_names : OkV mX8_names 0 := ⟨q1622, q1623, q127, q1624, ⟨rfl, by decide +kernel, by decide +kernel, by decide +kernel⟩, by decide +kernel, rfl, by decide, by decide⟩
abbrev mX9_init : Mt := (yX9_init, cX9_init, 2, none, [])
theorem okX9_init : OkI mX9_init 1 := ⟨q1311, q133, q1312, rfl, rfl, ⟨by decide +kernel, by decide +kernel, by decide +kernel⟩, by decide +kernel, rfl, by decide, by decide⟩
