/-! THE REFERENCE'S METHODS, part 28: blocks as they are asked for -/
def chsN (s : Int → Int) (b : Int) : Nat → List (Int × Int)
  | 0 => []
  | n + 1 => chsN s b n ++ [(s (11 + 33 * b + 9 + 3 * (n : Int)), s (11 + 33 * b + 9 + 3 * (n : Int) + 2))]
/-- a block's changes: times, values -/
def chs (s : Int → Int) (b : Int) : List (Int × Int) := chsN s b (s (11 + 33 * b + 2)).toNat
theorem chsN_len {s : Int → Int} {b : Int} : ∀ n, (chsN s b n).length = n := by
  intro n
  induction n with
  | zero => rfl
  | succ n ih => unfold chsN; rw [List.length_append, ih]; rfl
theorem chsN_at {s : Int → Int} {b : Int} : ∀ n, ∀ x ∈ chsN s b n, ∃ i : Int, 0 ≤ i ∧ i < n ∧ x = (s (11 + 33 * b + 9 + 3 * i), s (11 + 33 * b + 9 + 3 * i + 2)) := by
  intro n
  induction n with
  | zero => intro x h; cases h
  | succ n ih =>
    intro x h
    unfold chsN at h
    rcases List.mem_append.1 h with q | q
    · obtain ⟨i, i1, i2, i3⟩ := ih x q
      exact ⟨i, i1, by omega, i3⟩
    · exact ⟨n, by omega, by omega, List.mem_singleton.1 q⟩
def Sr (g g' : MG) : Prop := (∀ k, (k < 43 ∨ 47 < k) → g' k = g k) ∧ Rng g'
theorem Sr.sm {g g' : MG} (h : Sr g g') : Sm g g' := ⟨fun k hk => h.1 k (by omega), h.2⟩
theorem Sr.tr {g g' g'' : MG} (h : Sr g g') (h' : Sr g' g'') : Sr g g'' := ⟨fun k h1 => (h'.1 k h1).trans (h.1 k h1), h'.2⟩
theorem Sw.sr {g g' : MG} (h : Sw g g') : Sr g g' := ⟨fun k hk => h.1 k (by omega) (by omega), h.2⟩
theorem Sr.up {g g' : MG} (h : Sr g g') {k : Nat} {i v : Int} (hk : 43 ≤ k ∧ k ≤ 47) (hv : inr v) : Sr g (gup g' k i v) := ⟨fun j hj => by rw [gup_ne (by omega)]; exact h.1 j hj, h.2.up hv⟩
def RL (g : MG) (l : List (Int × Int)) : Prop := g 45 0 = l.length ∧ SEG g 0 l
theorem SEG.snoc {g g' : MG} {n t v : Int} (e : g' 43 = aup (g 43) n t) (e' : g' 44 = aup (g 44) n v) : ∀ (l : List (Int × Int)) (i : Int), i + l.length = n → SEG g i l → SEG g' i (l ++ [(t, v)]) := by
  intro l
  induction l with
  | nil =>
    intro i hi _
    have : i = n := by simpa using hi
    refine ⟨?_, ?_, trivial⟩
    · rw [e, this, aup_eq]
    · rw [e', this, aup_eq]
  | cons x r ih =>
    intro i hi h
    rw [List.length_cons] at hi
    refine ⟨?_, ?_, ih (i + 1) (by omega) h.2.2⟩
    · rw [e, aup_nn (by omega)]; exact h.1
    · rw [e', aup_nn (by omega)]; exact h.2.1
/-- room of a block -/
def rmB (g : MG) (b : Int) : Int := rmL (chs (g 9) b) (g 9 (11 + 33 * b)) [] (2 + g 2 0)
def wdB (g : MG) (b : Int) : List Int := rwL (chs (g 9) b) []
def aBlock (g : MG) (b w : Int) : Int := if (0 ≤ b ∧ b < g 9 3) ∧ (0 ≤ w ∧ w ≤ 4) then (if w < 3 then g 9 (11 + 33 * b + w) else if w = 3 then (wdB g b).length else rmB g b) else -1
def aFrame (g : MG) (b n : Int) : Int := if (0 ≤ b ∧ b < g 9 3) ∧ ((0 ≤ n ∧ n < g 1 0) ∧ g 0 (6 * n + 0) = 0) then g 9 (11 + 33 * b + 3 + g 0 (6 * n + 5)) else -1
/-- the node of a wire -/
def nOfW (g : MG) (w : Int) : Int := lastI (fun n => decide (g 0 (6 * n + 0) = 0 ∧ g 0 (6 * n + 5) = w)) (g 1 0)
def aChange (g : MG) (b i w : Int) : Int := if (0 ≤ b ∧ b < g 9 3) ∧ 0 ≤ i ∧ (0 ≤ w ∧ w ≤ 3) then (if g 9 (11 + 33 * b + 2) ≤ i then -9 else if w = 3 then plc (g 9 (11 + 33 * b + 9 + 3 * i + 2)) (wdB g b) else if w = 1 then nOfW g (g 9 (11 + 33 * b + 9 + 3 * i + 1)) else g 9 (11 + 33 * b + 9 + 3 * i + w)) else -1
section M28
variable {E : Ev} {am : Nat} {B : Nat → Nat} {h0 h : AH} {g : MG} {Q : Value → AH → Prop} {X : Nat → AH → Prop}
theorem c_X7_addsRow (hB : MB am B) (hr_g : Rng g) {b c : Int} (hw : WI c (g 9)) (hb : 0 ≤ b ∧ b < g 9 3) {l : List (Int × Int)} (hl : l.length ≤ 40) (hR : RL g l) (K : ∀ g', Sr g g' → RL g' (l ++ chs (g 9) b) → Q .null (mkM am B h0 g')) : V E mX7_addsRow 2 0 0 [some (.ref am), some (vI b), none] [] (mkM am B h0 g) Q X := by
  obtain ⟨w0, w1, w2, w3, w4, w5, w6⟩ := hw
  have wb := w6 b hb.1 hb.2
  have wb2 := wb.2.2.1
  have L : ∀ (m n : Nat) (g1 : MG), (n + m : Int) = g 9 (11 + 33 * b + 2) → Sr g g1 → RL g1 (l ++ chsN (g 9) b n) → V E mX7_addsRow 2 0 2 [some (.ref am), some (vI b), some (vI n)] [] (mkM am B h0 g1) Q X := by
    intro m
    induction m with
    | zero =>
      intro n g1 hn hs hR1
      have hr_g1 := hs.2
      have e9 : g1 9 = g 9 := hs.1 9 (by omega)
      have e92 : g1 9 (11 + 33 * b + 2) = g 9 (11 + 33 * b + 2) := by rw [e9]
      refine V_iload_n dX7_addsRow_2 rfl ?_
      refine V_aload_n dX7_addsRow_3 rfl ?_
      refine VM_geta 9 dX7_addsRow_4 q2615 (by decide) rfl ?_
      refine V_iload_n dX7_addsRow_7 rfl ?_
      refine VS_c1 (M' := mX7_block0) okX7_block0 dX7_addsRow_8 q2603 rfl rfl (Nat.le_of_ble_eq_true rfl) (d' := 1) (b1 := 0) (by decide) (by decide) (c_X7_block0 ?_)
      refine V_iconst dX7_addsRow_11 ?_
      refine V_iadd dX7_addsRow_12 ?_
      refine VM_ialdE 9 (g1 9 ((11 + 33 * b) + 2)) hB dX7_addsRow_13 mar9 rfl (by first | omega | (simp [gup, aup]; omega)) (by show _ < (209 : Int); first | omega | (simp [gup, aup]; omega)) (by decide) rfl ?_
      refine V_icmp_ge 85 dX7_addsRow_14 (by decide) (by first | omega | exact hr_g1 _ _ | decide) (by first | omega | exact hr_g1 _ _ | decide) (fun c_14 => ?_) (fun c_14 => by exfalso; omega)
      exact V_vret dX7_addsRow_85 rfl (by refine K g1 hs ?_; unfold chs; rw [show (g 9 (11 + 33 * b + 2)).toNat = n by omega]; exact hR1)
    | succ m ih =>
      intro n g1 hn hs hR1
      have hr_g1 := hs.2
      have e9 : g1 9 = g 9 := hs.1 9 (by omega)
      have e92 : g1 9 (11 + 33 * b + 2) = g 9 (11 + 33 * b + 2) := by rw [e9]
      have hR10 := hR1.1
      have hlen : ((l ++ chsN (g 9) b n).length : Int) = l.length + n := by rw [List.length_append, chsN_len]; omega
      have L2 : ∀ g2, g2 43 = aup (g1 43) (g1 45 0) (g1 9 (11 + 33 * b + 9 + 3 * (n : Int))) → g2 44 = aup (g1 44) (g1 45 0) (g1 9 (11 + 33 * b + 9 + 3 * (n : Int) + 2)) → g2 45 0 = g1 45 0 + 1 → Sr g g2 → V E mX7_addsRow 2 0 2 [some (.ref am), some (vI b), some (vI ((n : Int) + 1))] [] (mkM am B h0 g2) Q X := by
        intro g2 f43 f44 f45 hs2
        refine ih (n + 1) g2 (by omega) hs2 ?_
        unfold chsN
        rw [← List.append_assoc]
        refine ⟨?_, ?_⟩
        · rw [f45, hR10]; simp only [List.length_append, List.length_singleton]; omega
        · rw [e9] at f43 f44
          exact SEG.snoc f43 f44 _ 0 (by omega) hR1.2
      refine V_iload_n dX7_addsRow_2 rfl ?_
      refine V_aload_n dX7_addsRow_3 rfl ?_
      refine VM_geta 9 dX7_addsRow_4 q2615 (by decide) rfl ?_
      refine V_iload_n dX7_addsRow_7 rfl ?_
      refine VS_c1 (M' := mX7_block0) okX7_block0 dX7_addsRow_8 q2603 rfl rfl (Nat.le_of_ble_eq_true rfl) (d' := 1) (b1 := 0) (by decide) (by decide) (c_X7_block0 ?_)
      refine V_iconst dX7_addsRow_11 ?_
      refine V_iadd dX7_addsRow_12 ?_
      refine VM_ialdE 9 (g1 9 ((11 + 33 * b) + 2)) hB dX7_addsRow_13 mar9 rfl (by first | omega | (simp [gup, aup]; omega)) (by show _ < (209 : Int); first | omega | (simp [gup, aup]; omega)) (by decide) rfl ?_
      refine V_icmp_ge 85 dX7_addsRow_14 (by decide) (by first | omega | exact hr_g1 _ _ | decide) (by first | omega | exact hr_g1 _ _ | decide) (fun c_14 => by exfalso; omega) (fun c_14 => ?_)
      refine V_aload_n dX7_addsRow_17 rfl ?_
      refine VM_geta 43 dX7_addsRow_18 q2649 (by decide) rfl ?_
      refine V_aload_n dX7_addsRow_21 rfl ?_
      refine VM_getiE 45 (g1 45 0) dX7_addsRow_22 q2651 (by decide) rfl rfl ?_
      refine V_aload_n dX7_addsRow_25 rfl ?_
      refine VM_geta 9 dX7_addsRow_26 q2615 (by decide) rfl ?_
      refine V_iload_n dX7_addsRow_29 rfl ?_
      refine VS_c1 (M' := mX7_block0) okX7_block0 dX7_addsRow_30 q2603 rfl rfl (Nat.le_of_ble_eq_true rfl) (d' := 1) (b1 := 0) (by decide) (by decide) (c_X7_block0 ?_)
      refine V_bipush dX7_addsRow_33 (by decide) ?_
      refine V_iadd dX7_addsRow_35 ?_
      refine V_iconst dX7_addsRow_36 ?_
      refine V_iload_n dX7_addsRow_37 rfl ?_
      refine V_imul dX7_addsRow_38 ?_
      refine V_iadd dX7_addsRow_39 ?_
      refine VM_ialdE 9 (g1 9 (((11 + 33 * b) + 9) + (3 * ((n : Int))))) hB dX7_addsRow_40 mar9 rfl (by first | omega | (simp [gup, aup]; omega)) (by show _ < (209 : Int); first | omega | (simp [gup, aup]; omega)) (by decide) rfl ?_
      refine VM_iast 43 hB dX7_addsRow_41 mar43 rfl mfa43 (by first | omega | (simp [gup, aup]; omega)) (by show _ < (48 : Int); first | omega | (simp [gup, aup]; omega)) (by decide) ?_
      refine V_aload_n dX7_addsRow_42 rfl ?_
      refine VM_geta 44 dX7_addsRow_43 q2650 (by decide) rfl ?_
      refine V_aload_n dX7_addsRow_46 rfl ?_
      refine VM_getiE 45 (g1 45 0) dX7_addsRow_47 q2651 (by decide) rfl rfl ?_
      refine V_aload_n dX7_addsRow_50 rfl ?_
      refine VM_geta 9 dX7_addsRow_51 q2615 (by decide) rfl ?_
      refine V_iload_n dX7_addsRow_54 rfl ?_
      refine VS_c1 (M' := mX7_block0) okX7_block0 dX7_addsRow_55 q2603 rfl rfl (Nat.le_of_ble_eq_true rfl) (d' := 1) (b1 := 0) (by decide) (by decide) (c_X7_block0 ?_)
      refine V_bipush dX7_addsRow_58 (by decide) ?_
      refine V_iadd dX7_addsRow_60 ?_
      refine V_iconst dX7_addsRow_61 ?_
      refine V_iload_n dX7_addsRow_62 rfl ?_
      refine V_imul dX7_addsRow_63 ?_
      refine V_iadd dX7_addsRow_64 ?_
      refine V_iconst dX7_addsRow_65 ?_
      refine V_iadd dX7_addsRow_66 ?_
      refine VM_ialdE 9 (g1 9 ((((11 + 33 * b) + 9) + (3 * ((n : Int)))) + 2)) hB dX7_addsRow_67 mar9 rfl (by first | omega | (simp [gup, aup]; omega)) (by show _ < (209 : Int); first | omega | (simp [gup, aup]; omega)) (by decide) rfl ?_
      refine VM_iast 44 hB dX7_addsRow_68 mar44 rfl mfa44 (by first | omega | (simp [gup, aup]; omega)) (by show _ < (48 : Int); first | omega | (simp [gup, aup]; omega)) (by decide) ?_
      refine V_aload_n dX7_addsRow_69 rfl ?_
      refine V_dup dX7_addsRow_70 rfl ?_
      refine VM_getiE 45 (g1 45 0) dX7_addsRow_71 q2651 (by decide) rfl rfl ?_
      refine V_iconst dX7_addsRow_74 ?_
      refine V_iadd dX7_addsRow_75 ?_
      refine VM_puti 45 dX7_addsRow_76 q2651 (by decide) rfl rfl mfs45 mna45 ?_
      refine V_iinc dX7_addsRow_79 rfl (by decide) ?_
      refine V_goto 2 dX7_addsRow_82 (by decide) ?_
      exact L2 _ (by rw [gup_ne (by omega), gup_ne (by omega), gup_k]) (by rw [gup_ne (by omega), gup_k, gup_ne (by omega)]) rfl (((hs.up (by omega) (hr_g1 _ _)).up (by omega) (hr_g1 _ _)).up (by omega) (by constructor <;> omega))
  refine V_iconst dX7_addsRow_0 ?_
  refine V_istore_n dX7_addsRow_1 (by decide) ?_
  exact L (g 9 (11 + 33 * b + 2)).toNat 0 g (by omega) ⟨fun _ _ => rfl, hr_g⟩ (by unfold chsN; rw [List.append_nil]; exact hR)
theorem chs_t {s : Int → Int} {c b : Int} (hw : WI c s) (hb : 0 ≤ b ∧ b < s 3) : (chs s b).length ≤ 8 ∧ (∀ x ∈ chs s b, 0 ≤ x.1 ∧ x.1 ≤ 999) ∧ ((chs s b).length : Int) = s (11 + 33 * b + 2) := by
  obtain ⟨w0, w1, w2, w3, w4, w5, w6⟩ := hw
  have wb := w6 b hb.1 hb.2
  have wb2 := wb.2.2.1
  have hl : (chs s b).length = (s (11 + 33 * b + 2)).toNat := chsN_len _
  refine ⟨by omega, fun x hx => ?_, by omega⟩
  obtain ⟨i, i1, i2, i3⟩ := chsN_at _ x hx
  have := wb.2.2.2.2 i i1 (by omega)
  have wb1 := wb.1
  rw [i3]
  dsimp only
  omega
theorem c_X7_roomOfBlock (hB : MB am B) (hr_g : Rng g) {b c : Int} (hw : WI c (g 9)) (hg2 : 0 ≤ g 2 0 ∧ g 2 0 ≤ 6) (hb : 0 ≤ b ∧ b < g 9 3) (K : ∀ g', Sr g g' → RL g' (chs (g 9) b) → g' 47 0 = (wdB g b).length → WSG g' 0 (wdB g b) → Q (vI (rmB g b)) (mkM am B h0 g')) : V E mX7_roomOfBlock 3 0 0 [some (.ref am), some (vI b)] [] (mkM am B h0 g) Q X := by
  obtain ⟨t1, t2, t3⟩ := chs_t hw hb
  have wb1 := (hw.2.2.2.2.2.2 b hb.1 hb.2).1
  have w0 := hw.1
  have w3 := hw.2.2.2.1
  have L : ∀ g1, Sr g g1 → RL g1 (chs (g 9) b) → V E mX7_roomOfBlock 3 0 10 [some (.ref am), some (vI b)] [] (mkM am B h0 g1) Q X := by
    intro g1 hs hR
    have hr_g1 := hs.2
    have e9 : g1 9 = g 9 := hs.1 9 (by omega)
    have e9b : g1 9 (11 + 33 * b) = g 9 (11 + 33 * b) := by rw [e9]
    have e2 : g1 2 0 = g 2 0 := by rw [hs.1 2 (by omega)]
    have hR0 := hR.1
    refine V_aload_n dX7_roomOfBlock_10 rfl ?_
    refine V_iconst dX7_roomOfBlock_11 ?_
    refine V_aload_n dX7_roomOfBlock_12 rfl ?_
    refine VM_getiE 45 (g1 45 0) dX7_roomOfBlock_13 q2651 (by decide) rfl rfl ?_
    refine V_aload_n dX7_roomOfBlock_16 rfl ?_
    refine VM_geta 9 dX7_roomOfBlock_17 q2615 (by decide) rfl ?_
    refine V_iload_n dX7_roomOfBlock_20 rfl ?_
    refine VS_c1 (M' := mX7_block0) okX7_block0 dX7_roomOfBlock_21 q2603 rfl rfl (Nat.le_of_ble_eq_true rfl) (d' := 1) (b1 := 0) (by decide) (by decide) (c_X7_block0 ?_)
    refine VM_ialdE 9 (g1 9 (11 + 33 * b)) hB dX7_roomOfBlock_24 mar9 rfl (by first | omega | (simp [gup, aup]; omega)) (by show _ < (209 : Int); first | omega | (simp [gup, aup]; omega)) (by decide) rfl ?_
    refine VM_c3 (M' := mX7_roomOf) okX7_roomOf rfl dX7_roomOfBlock_25 q3010 rfl rfl (Nat.le_of_ble_eq_true rfl) (d' := 2) (b1 := 0) (by decide) (by decide) (c_X7_roomOf hB hr_g1 (l := chs (g 9) b) (by omega) hR0 t1 hR.2 (by omega) (by omega) t2 (fun g2 hs2 q1 q2 => ?_))
    exact V_iret dX7_roomOfBlock_28 rfl (by rw [e9b, e2]; exact K g2 (hs.tr hs2.sr) ⟨by rw [hs2.1 45 (by omega) (by omega)]; exact hR0, SEG.same (hs2.1 43 (by omega) (by omega)) (hs2.1 44 (by omega) (by omega)) _ _ hR.2⟩ q1 q2)
  refine V_aload_n dX7_roomOfBlock_0 rfl ?_
  refine V_iconst dX7_roomOfBlock_1 ?_
  refine VM_puti 45 dX7_roomOfBlock_2 q2651 (by decide) rfl rfl mfs45 mna45 ?_
  refine V_aload_n dX7_roomOfBlock_5 rfl ?_
  refine V_iload_n dX7_roomOfBlock_6 rfl ?_
  refine VM_v1 (M' := mX7_addsRow) okX7_addsRow rfl dX7_roomOfBlock_7 q3006 rfl rfl (Nat.le_of_ble_eq_true rfl) (d' := 2) (b1 := 0) (by decide) (by decide) (c_X7_addsRow hB (Rng.up (v := 0) hr_g (by first | omega | exact hr_g _ _ | decide)) (c := c) (l := []) hw hb (by simp) ⟨rfl, trivial⟩ (fun g1 hs hR => ?_))
  exact L g1 ((Sr.up (g := g) ⟨fun _ _ => rfl, hr_g⟩ (by omega) (by decide)).tr hs) hR
theorem c_X7_block (hB : MB am B) (hr_g : Rng g) {b w c : Int} (hbi : inr b) (hwi : inr w) (hb : BI g) (hw : WI c (g 9)) (K : ∀ g', Sm g g' → Q (vI (aBlock g b w)) (mkM am B h0 g')) : V E mX7_block 4 0 0 [some (.ref am), some (vI b), some (vI w), none] [] (mkM am B h0 g) Q X := by
  have hb2 := hb.2.1
  have w3 := hw.2.2.2.1
  unfold aBlock at K
  have K0 := K g (Sm.rfl' hr_g)
  by_cases cc : (0 ≤ b ∧ b < g 9 3) ∧ (0 ≤ w ∧ w ≤ 4)
  · simp only [if_pos cc] at K K0
    refine V_aload_n dX7_block_0 rfl ?_
    refine V_iload_n dX7_block_1 rfl ?_
    refine VM_c1 (M' := mX7_isBlock) okX7_isBlock rfl dX7_block_2 q2998 rfl rfl (Nat.le_of_ble_eq_true rfl) (d' := 2) (b1 := 0) (by decide) (by decide) (c_X7_isBlock hB hr_g (by first | omega | exact hr_g _ _ | decide) (by first | omega | (simp [gup, aup]; omega)) (fun c_2 => ?_) (fun c_2 => ?_))
    · refine V_if_eq 17 dX7_block_5 (by decide) (by first | omega | exact hr_g _ _ | decide) (fun c_5 => absurd c_5 (by decide)) (fun c_5 => ?_)
      refine V_iload_n dX7_block_8 rfl ?_
      refine V_iconst dX7_block_9 ?_
      refine V_iconst dX7_block_10 ?_
      refine VS_c3 (M' := mX7_in) okX7_in dX7_block_11 q2762 rfl rfl (Nat.le_of_ble_eq_true rfl) (d' := 1) (b1 := 0) (by decide) (by decide) (c_X7_in (by first | omega | exact hr_g _ _ | decide) (by first | omega | exact hr_g _ _ | decide) (by first | omega | exact hr_g _ _ | decide) (fun c_11 => ?_) (fun c_11 => ?_))
      · refine V_if_ne 19 dX7_block_14 (by decide) (by first | omega | exact hr_g _ _ | decide) (fun c_14 => ?_) (fun c_14 => absurd c_14 (by decide))
        refine V_iload_n dX7_block_19 rfl ?_
        refine V_iconst dX7_block_20 ?_
        refine V_icmp_ge 36 dX7_block_21 (by decide) (by first | omega | exact hr_g _ _ | decide) (by first | omega | exact hr_g _ _ | decide) (fun c_21 => ?_) (fun c_21 => ?_)
        · refine V_aload_n dX7_block_36 rfl ?_
          refine V_iload_n dX7_block_37 rfl ?_
          refine VM_c1 (M' := mX7_roomOfBlock) okX7_roomOfBlock rfl dX7_block_38 q3002 rfl rfl (Nat.le_of_ble_eq_true rfl) (d' := 3) (b1 := 0) (by decide) (by decide) (c_X7_roomOfBlock hB hr_g hw hb2 (by omega) (fun g1 hs q1 q2 q3 => ?_))
          refine V_istore_n dX7_block_41 (by decide) ?_
          refine V_iload_n dX7_block_42 rfl ?_
          refine V_iconst dX7_block_43 ?_
          refine V_icmp_ne 54 dX7_block_44 (by decide) (by first | omega | exact hr_g _ _ | decide) (by first | omega | exact hr_g _ _ | decide) (fun c_44 => ?_) (fun c_44 => ?_)
          · refine V_iload_n dX7_block_54 rfl ?_
            exact V_iret dX7_block_55 rfl (by have K1 := K g1 hs.sm; first | (rw [if_neg (by omega), if_pos (by omega)] at K1; rw [q2]; exact K1) | (rw [if_neg (by omega), if_neg (by omega)] at K1; exact K1))
          · refine V_aload_n dX7_block_47 rfl ?_
            refine VM_getiE 47 (((g1)) 47 0) dX7_block_48 q2653 (by decide) rfl rfl ?_
            refine V_goto 55 dX7_block_51 (by decide) ?_
            exact V_iret dX7_block_55 rfl (by have K1 := K g1 hs.sm; first | (rw [if_neg (by omega), if_pos (by omega)] at K1; rw [q2]; exact K1) | (rw [if_neg (by omega), if_neg (by omega)] at K1; exact K1))
        · refine V_aload_n dX7_block_24 rfl ?_
          refine VM_geta 9 dX7_block_25 q2615 (by decide) rfl ?_
          refine V_iload_n dX7_block_28 rfl ?_
          refine VS_c1 (M' := mX7_block0) okX7_block0 dX7_block_29 q2603 rfl rfl (Nat.le_of_ble_eq_true rfl) (d' := 1) (b1 := 0) (by decide) (by decide) (c_X7_block0 ?_)
          refine V_iload_n dX7_block_32 rfl ?_
          refine V_iadd dX7_block_33 ?_
          refine VM_ialdE 9 (g 9 ((11 + 33 * b) + w)) hB dX7_block_34 mar9 rfl (by first | omega | (simp [gup, aup]; omega)) (by show _ < (209 : Int); first | omega | (simp [gup, aup]; omega)) (by decide) rfl ?_
          exact V_iret dX7_block_35 rfl (by rw [if_pos (by omega)] at K0; exact K0)
      · refine V_if_ne 19 dX7_block_14 (by decide) (by first | omega | exact hr_g _ _ | decide) (fun c_14 => absurd c_14 (by decide)) (fun c_14 => ?_)
        exfalso; omega
    · refine V_if_eq 17 dX7_block_5 (by decide) (by first | omega | exact hr_g _ _ | decide) (fun c_5 => ?_) (fun c_5 => absurd c_5 (by decide))
      exfalso; omega
  · simp only [if_neg cc] at K0
    refine V_aload_n dX7_block_0 rfl ?_
    refine V_iload_n dX7_block_1 rfl ?_
    refine VM_c1 (M' := mX7_isBlock) okX7_isBlock rfl dX7_block_2 q2998 rfl rfl (Nat.le_of_ble_eq_true rfl) (d' := 2) (b1 := 0) (by decide) (by decide) (c_X7_isBlock hB hr_g (by first | omega | exact hr_g _ _ | decide) (by first | omega | (simp [gup, aup]; omega)) (fun c_2 => ?_) (fun c_2 => ?_))
    · refine V_if_eq 17 dX7_block_5 (by decide) (by first | omega | exact hr_g _ _ | decide) (fun c_5 => absurd c_5 (by decide)) (fun c_5 => ?_)
      refine V_iload_n dX7_block_8 rfl ?_
      refine V_iconst dX7_block_9 ?_
      refine V_iconst dX7_block_10 ?_
      refine VS_c3 (M' := mX7_in) okX7_in dX7_block_11 q2762 rfl rfl (Nat.le_of_ble_eq_true rfl) (d' := 1) (b1 := 0) (by decide) (by decide) (c_X7_in (by first | omega | exact hr_g _ _ | decide) (by first | omega | exact hr_g _ _ | decide) (by first | omega | exact hr_g _ _ | decide) (fun c_11 => ?_) (fun c_11 => ?_))
      · refine V_if_ne 19 dX7_block_14 (by decide) (by first | omega | exact hr_g _ _ | decide) (fun c_14 => ?_) (fun c_14 => absurd c_14 (by decide))
        exfalso; omega
      · refine V_if_ne 19 dX7_block_14 (by decide) (by first | omega | exact hr_g _ _ | decide) (fun c_14 => absurd c_14 (by decide)) (fun c_14 => ?_)
        refine V_iconst dX7_block_17 ?_
        exact V_iret dX7_block_18 rfl (by exact K0)
    · refine V_if_eq 17 dX7_block_5 (by decide) (by first | omega | exact hr_g _ _ | decide) (fun c_5 => ?_) (fun c_5 => absurd c_5 (by decide))
      refine V_iconst dX7_block_17 ?_
      exact V_iret dX7_block_18 rfl (by exact K0)
theorem c_X7_frame (hB : MB am B) (hr_g : Rng g) {b n c : Int} (hbi : inr b) (hni : inr n) (hb : BI g) (hw : WI c (g 9)) (K : Q (vI (aFrame g b n)) (mkM am B h0 g)) : V E mX7_frame 4 0 0 [some (.ref am), some (vI b), some (vI n)] [] (mkM am B h0 g) Q X := by
  have hb1 := hb.1
  have w3 := hw.2.2.2.1
  unfold aFrame at K
  by_cases cc : (0 ≤ b ∧ b < g 9 3) ∧ ((0 ≤ n ∧ n < g 1 0) ∧ g 0 (6 * n + 0) = 0)
  · rw [if_pos cc] at K
    have hk := (hb.2.2.2.1 n cc.2.1.1 cc.2.1.2).1
    have hk1 : 0 ≤ g 0 (6 * n + 5) ∧ g 0 (6 * n + 5) < 6 := by rcases hk with a | a | a <;> omega
    refine V_aload_n dX7_frame_0 rfl ?_
    refine V_iload_n dX7_frame_1 rfl ?_
    refine VM_c1 (M' := mX7_isBlock) okX7_isBlock rfl dX7_frame_2 q2998 rfl rfl (Nat.le_of_ble_eq_true rfl) (d' := 2) (b1 := 0) (by decide) (by decide) (c_X7_isBlock hB hr_g (by first | omega | exact hr_g _ _ | decide) (by first | omega | (simp [gup, aup]; omega)) (fun c_2 => ?_) (fun c_2 => ?_))
    · refine V_if_eq 37 dX7_frame_5 (by decide) (by first | omega | exact hr_g _ _ | decide) (fun c_5 => absurd c_5 (by decide)) (fun c_5 => ?_)
      refine V_aload_n dX7_frame_8 rfl ?_
      refine V_iload_n dX7_frame_9 rfl ?_
      refine VM_c1 (M' := mX7_isWire) okX7_isWire rfl dX7_frame_10 q2903 rfl rfl (Nat.le_of_ble_eq_true rfl) (d' := 3) (b1 := 0) (by decide) (by decide) (c_X7_isWire hB hr_g (by first | omega | exact hr_g _ _ | decide) (by first | omega | (simp [gup, aup]; omega)) (fun c_10 => ?_) (fun c_10 => ?_))
      · refine V_if_eq 37 dX7_frame_13 (by decide) (by first | omega | exact hr_g _ _ | decide) (fun c_13 => absurd c_13 (by decide)) (fun c_13 => ?_)
        refine V_aload_n dX7_frame_16 rfl ?_
        refine VM_geta 9 dX7_frame_17 q2615 (by decide) rfl ?_
        refine V_iload_n dX7_frame_20 rfl ?_
        refine VS_c1 (M' := mX7_block0) okX7_block0 dX7_frame_21 q2603 rfl rfl (Nat.le_of_ble_eq_true rfl) (d' := 1) (b1 := 0) (by decide) (by decide) (c_X7_block0 ?_)
        refine V_iconst dX7_frame_24 ?_
        refine V_iadd dX7_frame_25 ?_
        refine V_aload_n dX7_frame_26 rfl ?_
        refine V_iload_n dX7_frame_27 rfl ?_
        refine V_iconst dX7_frame_28 ?_
        refine VM_c2 (M' := mX7_of) okX7_of rfl dX7_frame_29 q2860 rfl rfl (Nat.le_of_ble_eq_true rfl) (d' := 1) (b1 := 0) (by decide) (by decide) (c_X7_of hB (by first | omega | (simp [gup, aup]; omega)) (by first | omega | (simp [gup, aup]; omega)) ?_)
        refine V_top (g 0 (6 * n + 5)) (by exact rfl) ?_
        refine V_iadd dX7_frame_32 ?_
        refine VM_ialdE 9 (g 9 (((11 + 33 * b) + 3) + (g 0 (6 * n + 5)))) hB dX7_frame_33 mar9 rfl (by first | omega | (simp [gup, aup]; omega)) (by show _ < (209 : Int); first | omega | (simp [gup, aup]; omega)) (by decide) rfl ?_
        refine V_goto 38 dX7_frame_34 (by decide) ?_
        exact V_iret dX7_frame_38 rfl (by exact K)
      · refine V_if_eq 37 dX7_frame_13 (by decide) (by first | omega | exact hr_g _ _ | decide) (fun c_13 => ?_) (fun c_13 => absurd c_13 (by decide))
        exfalso; omega
    · refine V_if_eq 37 dX7_frame_5 (by decide) (by first | omega | exact hr_g _ _ | decide) (fun c_5 => ?_) (fun c_5 => absurd c_5 (by decide))
      exfalso; omega
  · rw [if_neg cc] at K
    refine V_aload_n dX7_frame_0 rfl ?_
    refine V_iload_n dX7_frame_1 rfl ?_
    refine VM_c1 (M' := mX7_isBlock) okX7_isBlock rfl dX7_frame_2 q2998 rfl rfl (Nat.le_of_ble_eq_true rfl) (d' := 2) (b1 := 0) (by decide) (by decide) (c_X7_isBlock hB hr_g (by first | omega | exact hr_g _ _ | decide) (by first | omega | (simp [gup, aup]; omega)) (fun c_2 => ?_) (fun c_2 => ?_))
    · refine V_if_eq 37 dX7_frame_5 (by decide) (by first | omega | exact hr_g _ _ | decide) (fun c_5 => absurd c_5 (by decide)) (fun c_5 => ?_)
      refine V_aload_n dX7_frame_8 rfl ?_
      refine V_iload_n dX7_frame_9 rfl ?_
      refine VM_c1 (M' := mX7_isWire) okX7_isWire rfl dX7_frame_10 q2903 rfl rfl (Nat.le_of_ble_eq_true rfl) (d' := 3) (b1 := 0) (by decide) (by decide) (c_X7_isWire hB hr_g (by first | omega | exact hr_g _ _ | decide) (by first | omega | (simp [gup, aup]; omega)) (fun c_10 => ?_) (fun c_10 => ?_))
      · refine V_if_eq 37 dX7_frame_13 (by decide) (by first | omega | exact hr_g _ _ | decide) (fun c_13 => absurd c_13 (by decide)) (fun c_13 => ?_)
        exfalso; omega
      · refine V_if_eq 37 dX7_frame_13 (by decide) (by first | omega | exact hr_g _ _ | decide) (fun c_13 => ?_) (fun c_13 => absurd c_13 (by decide))
        refine V_iconst dX7_frame_37 ?_
        exact V_iret dX7_frame_38 rfl (by exact K)
    · refine V_if_eq 37 dX7_frame_5 (by decide) (by first | omega | exact hr_g _ _ | decide) (fun c_5 => ?_) (fun c_5 => absurd c_5 (by decide))
      refine V_iconst dX7_frame_37 ?_
      exact V_iret dX7_frame_38 rfl (by exact K)
theorem c_X7_nodeOfWire (hB : MB am B) (hr_g : Rng g) {w : Int} (hw : inr w) (hn : 0 ≤ g 1 0 ∧ g 1 0 ≤ 12) (K : Q (vI (nOfW g w)) (mkM am B h0 g)) : V E mX7_nodeOfWire 2 0 0 [some (.ref am), some (vI w), none, none] [] (mkM am B h0 g) Q X := by
  unfold nOfW at K
  have L : V E mX7_nodeOfWire 2 0 5 [some (.ref am), some (vI w), some (vI (lastI (fun n => decide (g 0 (6 * n + 0) = 0 ∧ g 0 (6 * n + 5) = w)) 0)), some (vI 0)] [] (mkM am B h0 g) Q X := by
    refine loop_upI (P := fun i => V E mX7_nodeOfWire 2 0 5 [some (.ref am), some (vI w), some (vI (lastI (fun n => decide (g 0 (6 * n + 0) = 0 ∧ g 0 (6 * n + 5) = w)) i)), some (vI i)] [] (mkM am B h0 g) Q X) 0 (g 1 0) (fun i h1 h2 ih => ?_) hn.1
    by_cases hi : i = g 1 0
    · subst hi
      refine V_iload_n dX7_nodeOfWire_5 rfl ?_
      refine V_aload_n dX7_nodeOfWire_6 rfl ?_
      refine VM_getiE 1 (g 1 0) dX7_nodeOfWire_7 q2607 (by decide) rfl rfl ?_
      refine V_icmp_ge 44 dX7_nodeOfWire_10 (by decide) (by first | omega | exact hr_g _ _ | decide) (by first | omega | exact hr_g _ _ | decide) (fun c_10 => ?_) (fun c_10 => by exfalso; omega)
      refine V_iload_n dX7_nodeOfWire_44 rfl ?_
      exact V_iret dX7_nodeOfWire_45 rfl (by exact K)
    · have ih := ih (by omega)
      rw [lastI_s h1] at ih
      generalize lastI (fun n => decide (g 0 (6 * n + 0) = 0 ∧ g 0 (6 * n + 5) = w)) i = f at *
      by_cases c : g 0 (6 * i + 0) = 0 ∧ g 0 (6 * i + 5) = w
      · rw [if_pos (decide_eq_true c)] at ih
        refine V_iload_n dX7_nodeOfWire_5 rfl ?_
        refine V_aload_n dX7_nodeOfWire_6 rfl ?_
        refine VM_getiE 1 (g 1 0) dX7_nodeOfWire_7 q2607 (by decide) rfl rfl ?_
        refine V_icmp_ge 44 dX7_nodeOfWire_10 (by decide) (by first | omega | exact hr_g _ _ | decide) (by first | omega | exact hr_g _ _ | decide) (fun c_10 => by exfalso; omega) (fun c_10 => ?_)
        refine V_aload_n dX7_nodeOfWire_13 rfl ?_
        refine V_iload_n dX7_nodeOfWire_14 rfl ?_
        refine V_iconst dX7_nodeOfWire_15 ?_
        refine VM_c2 (M' := mX7_of) okX7_of rfl dX7_nodeOfWire_16 q2860 rfl rfl (Nat.le_of_ble_eq_true rfl) (d' := 1) (b1 := 0) (by decide) (by decide) (c_X7_of hB (by first | omega | (simp [gup, aup]; omega)) (by first | omega | (simp [gup, aup]; omega)) ?_)
        refine V_top (g 0 (6 * i + 0)) (by exact rfl) ?_
        refine V_if_ne 36 dX7_nodeOfWire_19 (by decide) (by first | omega | exact hr_g _ _ | decide) (fun c_19 => by exfalso; omega) (fun c_19 => ?_)
        refine V_aload_n dX7_nodeOfWire_22 rfl ?_
        refine V_iload_n dX7_nodeOfWire_23 rfl ?_
        refine V_iconst dX7_nodeOfWire_24 ?_
        refine VM_c2 (M' := mX7_of) okX7_of rfl dX7_nodeOfWire_25 q2860 rfl rfl (Nat.le_of_ble_eq_true rfl) (d' := 1) (b1 := 0) (by decide) (by decide) (c_X7_of hB (by first | omega | (simp [gup, aup]; omega)) (by first | omega | (simp [gup, aup]; omega)) ?_)
        refine V_top (g 0 (6 * i + 5)) (by exact rfl) ?_
        refine V_iload_n dX7_nodeOfWire_28 rfl ?_
        refine V_icmp_ne 36 dX7_nodeOfWire_29 (by decide) (by first | omega | exact hr_g _ _ | decide) (by first | omega | exact hr_g _ _ | decide) (fun c_29 => by exfalso; omega) (fun c_29 => ?_)
        refine V_iload_n dX7_nodeOfWire_32 rfl ?_
        refine V_goto 37 dX7_nodeOfWire_33 (by decide) ?_
        refine V_istore_n dX7_nodeOfWire_37 (by decide) ?_
        refine V_iinc dX7_nodeOfWire_38 rfl (by decide) ?_
        refine V_goto 5 dX7_nodeOfWire_41 (by decide) ?_
        exact ih
      · rw [if_neg (by simpa using c)] at ih
        refine V_iload_n dX7_nodeOfWire_5 rfl ?_
        refine V_aload_n dX7_nodeOfWire_6 rfl ?_
        refine VM_getiE 1 (g 1 0) dX7_nodeOfWire_7 q2607 (by decide) rfl rfl ?_
        refine V_icmp_ge 44 dX7_nodeOfWire_10 (by decide) (by first | omega | exact hr_g _ _ | decide) (by first | omega | exact hr_g _ _ | decide) (fun c_10 => by exfalso; omega) (fun c_10 => ?_)
        refine V_aload_n dX7_nodeOfWire_13 rfl ?_
        refine V_iload_n dX7_nodeOfWire_14 rfl ?_
        refine V_iconst dX7_nodeOfWire_15 ?_
        refine VM_c2 (M' := mX7_of) okX7_of rfl dX7_nodeOfWire_16 q2860 rfl rfl (Nat.le_of_ble_eq_true rfl) (d' := 1) (b1 := 0) (by decide) (by decide) (c_X7_of hB (by first | omega | (simp [gup, aup]; omega)) (by first | omega | (simp [gup, aup]; omega)) ?_)
        refine V_top (g 0 (6 * i + 0)) (by exact rfl) ?_
        refine V_if_ne 36 dX7_nodeOfWire_19 (by decide) (by first | omega | exact hr_g _ _ | decide) (fun c_19 => ?_) (fun c_19 => ?_)
        · refine V_iload_n dX7_nodeOfWire_36 rfl ?_
          refine V_istore_n dX7_nodeOfWire_37 (by decide) ?_
          refine V_iinc dX7_nodeOfWire_38 rfl (by decide) ?_
          refine V_goto 5 dX7_nodeOfWire_41 (by decide) ?_
          exact ih
        · refine V_aload_n dX7_nodeOfWire_22 rfl ?_
          refine V_iload_n dX7_nodeOfWire_23 rfl ?_
          refine V_iconst dX7_nodeOfWire_24 ?_
          refine VM_c2 (M' := mX7_of) okX7_of rfl dX7_nodeOfWire_25 q2860 rfl rfl (Nat.le_of_ble_eq_true rfl) (d' := 1) (b1 := 0) (by decide) (by decide) (c_X7_of hB (by first | omega | (simp [gup, aup]; omega)) (by first | omega | (simp [gup, aup]; omega)) ?_)
          refine V_top (g 0 (6 * i + 5)) (by exact rfl) ?_
          refine V_iload_n dX7_nodeOfWire_28 rfl ?_
          refine V_icmp_ne 36 dX7_nodeOfWire_29 (by decide) (by first | omega | exact hr_g _ _ | decide) (by first | omega | exact hr_g _ _ | decide) (fun c_29 => ?_) (fun c_29 => ?_)
          · refine V_iload_n dX7_nodeOfWire_36 rfl ?_
            refine V_istore_n dX7_nodeOfWire_37 (by decide) ?_
            refine V_iinc dX7_nodeOfWire_38 rfl (by decide) ?_
            refine V_goto 5 dX7_nodeOfWire_41 (by decide) ?_
            exact ih
          · exfalso; omega
  refine V_bipush dX7_nodeOfWire_0 (by decide) ?_
  refine V_istore_n dX7_nodeOfWire_2 (by decide) ?_
  refine V_iconst dX7_nodeOfWire_3 ?_
  refine V_istore_n dX7_nodeOfWire_4 (by decide) ?_
  exact L
theorem plc_mem {v : Int} : ∀ W : List Int, v ∈ W → plc v W < W.length := by
  intro W
  induction W with
  | nil => intro h; cases h
  | cons w r ih =>
    intro h
    rw [plc_c, List.length_cons]
    have := plc_in v r
    by_cases c : w = v
    · rw [if_pos c]; omega
    · rw [if_neg c]
      have := ih ((List.mem_cons.1 h).resolve_left (fun q => c q.symm))
      omega
theorem plW_mem {v : Int} (W : List Int) : v ∈ plW v W := by
  unfold plW
  split
  · simp
  · rename_i h
    refine Classical.byContradiction (fun q => h ?_)
    clear h
    induction W with
    | nil => rfl
    | cons w r ih =>
      rw [plc_c, if_neg (fun e => q (by rw [e]; exact List.mem_cons_self)), ih (fun e => q (List.mem_cons_of_mem _ e)), List.length_cons]
      omega
theorem plW_sub {u v : Int} {W : List Int} (h : u ∈ W) : u ∈ plW v W := by
  unfold plW
  split
  · exact List.mem_append_left _ h
  · exact h
theorem rwL_sub {u : Int} : ∀ (l : List (Int × Int)) (W : List Int), u ∈ W → u ∈ rwL l W := by
  intro l
  induction l with
  | nil => intro W h; exact h
  | cons x r ih => intro W h; exact ih _ (plW_sub h)
theorem rwL_mem : ∀ (l : List (Int × Int)) (W : List Int) (x : Int × Int), x ∈ l → x.2 ∈ rwL l W := by
  intro l
  induction l with
  | nil => intro W x h; cases h
  | cons y r ih =>
    intro W x h
    rcases List.mem_cons.1 h with q | q
    · rw [q]; exact rwL_sub r _ (plW_mem _)
    · exact ih _ x q
theorem chsN_mem {s : Int → Int} {b : Int} : ∀ (n : Nat) (i : Int), 0 ≤ i → i < n → (s (11 + 33 * b + 9 + 3 * i), s (11 + 33 * b + 9 + 3 * i + 2)) ∈ chsN s b n := by
  intro n
  induction n with
  | zero => intro i h1 h2; omega
  | succ n ih =>
    intro i h1 h2
    unfold chsN
    by_cases c : i = n
    · subst c; exact List.mem_append_right _ (List.mem_singleton.2 rfl)
    · exact List.mem_append_left _ (ih i h1 (by omega))
theorem SEG_at {g : MG} {s : Int → Int} {b : Int} : ∀ (n : Nat), SEG g 0 (chsN s b n) → ∀ i : Int, 0 ≤ i → i < n → g 44 i = s (11 + 33 * b + 9 + 3 * i + 2) := by
  intro n
  induction n with
  | zero => intro _ i h1 h2; omega
  | succ n ih =>
    intro h i h1 h2
    unfold chsN at h
    rw [SEG.app, chsN_len, Int.zero_add] at h
    by_cases c : i = n
    · subst c; exact h.2.2.1
    · exact ih h.1 i h1 (by omega)
theorem c_X7_change (hB : MB am B) (hr_g : Rng g) {b i w c : Int} (hbi : inr b) (hii : inr i) (hwi : inr w) (hb : BI g) (hw : WI c (g 9)) (K : ∀ g', Sm g g' → Q (vI (aChange g b i w)) (mkM am B h0 g')) : V E mX7_change 4 0 0 [some (.ref am), some (vI b), some (vI i), some (vI w), none] [] (mkM am B h0 g) Q X := by
  have hb1 := hb.1
  have hb2 := hb.2.1
  have w3 := hw.2.2.2.1
  unfold aChange at K
  have K0 := K g (Sm.rfl' hr_g)
  by_cases cc : (0 ≤ b ∧ b < g 9 3) ∧ 0 ≤ i ∧ (0 ≤ w ∧ w ≤ 3)
  · simp only [if_pos cc] at K K0
    have wb := hw.2.2.2.2.2.2 b cc.1.1 cc.1.2
    have wb2 := wb.2.2.1
    by_cases ci : g 9 (11 + 33 * b + 2) ≤ i
    · simp only [if_pos ci] at K0
      refine V_aload_n dX7_change_0 rfl ?_
      refine V_iload_n dX7_change_1 rfl ?_
      refine VM_c1 (M' := mX7_isBlock) okX7_isBlock rfl dX7_change_2 q2998 rfl rfl (Nat.le_of_ble_eq_true rfl) (d' := 2) (b1 := 0) (by decide) (by decide) (c_X7_isBlock hB hr_g (by first | omega | exact hr_g _ _ | decide) (by first | omega | (simp [gup, aup]; omega)) (fun c_2 => ?_) (fun c_2 => ?_))
      · refine V_if_eq 21 dX7_change_5 (by decide) (by first | omega | exact hr_g _ _ | decide) (fun c_5 => absurd c_5 (by decide)) (fun c_5 => ?_)
        refine V_iload_n dX7_change_8 rfl ?_
        refine V_if_lt 21 dX7_change_9 (by decide) (by first | omega | exact hr_g _ _ | decide) (fun c_9 => ?_) (fun c_9 => ?_)
        · exfalso; omega
        · refine V_iload_n dX7_change_12 rfl ?_
          refine V_iconst dX7_change_13 ?_
          refine V_iconst dX7_change_14 ?_
          refine VS_c3 (M' := mX7_in) okX7_in dX7_change_15 q2762 rfl rfl (Nat.le_of_ble_eq_true rfl) (d' := 1) (b1 := 0) (by decide) (by decide) (c_X7_in (by first | omega | exact hr_g _ _ | decide) (by first | omega | exact hr_g _ _ | decide) (by first | omega | exact hr_g _ _ | decide) (fun c_15 => ?_) (fun c_15 => ?_))
          · refine V_if_ne 23 dX7_change_18 (by decide) (by first | omega | exact hr_g _ _ | decide) (fun c_18 => ?_) (fun c_18 => absurd c_18 (by decide))
            refine V_iload_n dX7_change_23 rfl ?_
            refine V_aload_n dX7_change_24 rfl ?_
            refine VM_geta 9 dX7_change_25 q2615 (by decide) rfl ?_
            refine V_iload_n dX7_change_28 rfl ?_
            refine VS_c1 (M' := mX7_block0) okX7_block0 dX7_change_29 q2603 rfl rfl (Nat.le_of_ble_eq_true rfl) (d' := 1) (b1 := 0) (by decide) (by decide) (c_X7_block0 ?_)
            refine V_iconst dX7_change_32 ?_
            refine V_iadd dX7_change_33 ?_
            refine VM_ialdE 9 (g 9 ((11 + 33 * b) + 2)) hB dX7_change_34 mar9 rfl (by first | omega | (simp [gup, aup]; omega)) (by show _ < (209 : Int); first | omega | (simp [gup, aup]; omega)) (by decide) rfl ?_
            refine V_icmp_lt 41 dX7_change_35 (by decide) (by first | omega | exact hr_g _ _ | decide) (by first | omega | exact hr_g _ _ | decide) (fun c_35 => by exfalso; omega) (fun c_35 => ?_)
            refine V_bipush dX7_change_38 (by decide) ?_
            exact V_iret dX7_change_40 rfl (by exact K0)
          · refine V_if_ne 23 dX7_change_18 (by decide) (by first | omega | exact hr_g _ _ | decide) (fun c_18 => absurd c_18 (by decide)) (fun c_18 => ?_)
            exfalso; omega
      · refine V_if_eq 21 dX7_change_5 (by decide) (by first | omega | exact hr_g _ _ | decide) (fun c_5 => ?_) (fun c_5 => absurd c_5 (by decide))
        exfalso; omega
    · simp only [if_neg ci] at K K0
      by_cases c3 : w = 3
      · simp only [if_pos c3] at K
        have L : ∀ g1, Sr g g1 → RL g1 (chs (g 9) b) → g1 47 0 = (wdB g b).length → WSG g1 0 (wdB g b) → V E mX7_change 4 0 52 [some (.ref am), some (vI b), some (vI i), some (vI w), none] [] (mkM am B h0 g1) Q X := by
          intro g1 hs q1 q2 q3
          have hr_g1 := hs.2
          obtain ⟨t1, t2, t3⟩ := chs_t hw cc.1
          have hv : g1 44 i = g 9 (11 + 33 * b + 9 + 3 * i + 2) := SEG_at _ q1.2 i cc.2.1 (by omega)
          have hm : g1 44 i ∈ wdB g b := by
            rw [hv]
            exact rwL_mem (chs (g 9) b) [] _ (chsN_mem _ i cc.2.1 (by omega))
          have hlt := plc_mem _ hm
          have hlw := rwL_len (chs (g 9) b) []
          rw [List.length_nil] at hlw
          refine V_aload_n dX7_change_52 rfl ?_
          refine V_aload_n dX7_change_53 rfl ?_
          refine VM_geta 44 dX7_change_54 q2650 (by decide) rfl ?_
          refine V_iload_n dX7_change_57 rfl ?_
          refine VM_ialdE 44 (g1 44 i) hB dX7_change_58 mar44 rfl (by first | omega | (simp [gup, aup]; omega)) (by show _ < (48 : Int); first | omega | (simp [gup, aup]; omega)) (by decide) rfl ?_
          refine VM_c1 (M' := mX7_placeOf) okX7_placeOf rfl dX7_change_59 q3014 rfl rfl (Nat.le_of_ble_eq_true rfl) (d' := 1) (b1 := 0) (by decide) (by decide) (c_X7_placeOf hB hr_g1 (W := wdB g b) (hr_g1 _ _) q2 (by unfold wdB; omega) (fun z => by omega) q3 (fun g2 hs2 _ _ => ?_))
          exact V_iret dX7_change_62 rfl (by rw [hv]; exact K g2 (hs.tr hs2.sr).sm)
        refine V_aload_n dX7_change_0 rfl ?_
        refine V_iload_n dX7_change_1 rfl ?_
        refine VM_c1 (M' := mX7_isBlock) okX7_isBlock rfl dX7_change_2 q2998 rfl rfl (Nat.le_of_ble_eq_true rfl) (d' := 2) (b1 := 0) (by decide) (by decide) (c_X7_isBlock hB hr_g (by first | omega | exact hr_g _ _ | decide) (by first | omega | (simp [gup, aup]; omega)) (fun c_2 => ?_) (fun c_2 => ?_))
        · refine V_if_eq 21 dX7_change_5 (by decide) (by first | omega | exact hr_g _ _ | decide) (fun c_5 => absurd c_5 (by decide)) (fun c_5 => ?_)
          refine V_iload_n dX7_change_8 rfl ?_
          refine V_if_lt 21 dX7_change_9 (by decide) (by first | omega | exact hr_g _ _ | decide) (fun c_9 => ?_) (fun c_9 => ?_)
          · exfalso; omega
          · refine V_iload_n dX7_change_12 rfl ?_
            refine V_iconst dX7_change_13 ?_
            refine V_iconst dX7_change_14 ?_
            refine VS_c3 (M' := mX7_in) okX7_in dX7_change_15 q2762 rfl rfl (Nat.le_of_ble_eq_true rfl) (d' := 1) (b1 := 0) (by decide) (by decide) (c_X7_in (by first | omega | exact hr_g _ _ | decide) (by first | omega | exact hr_g _ _ | decide) (by first | omega | exact hr_g _ _ | decide) (fun c_15 => ?_) (fun c_15 => ?_))
            · refine V_if_ne 23 dX7_change_18 (by decide) (by first | omega | exact hr_g _ _ | decide) (fun c_18 => ?_) (fun c_18 => absurd c_18 (by decide))
              refine V_iload_n dX7_change_23 rfl ?_
              refine V_aload_n dX7_change_24 rfl ?_
              refine VM_geta 9 dX7_change_25 q2615 (by decide) rfl ?_
              refine V_iload_n dX7_change_28 rfl ?_
              refine VS_c1 (M' := mX7_block0) okX7_block0 dX7_change_29 q2603 rfl rfl (Nat.le_of_ble_eq_true rfl) (d' := 1) (b1 := 0) (by decide) (by decide) (c_X7_block0 ?_)
              refine V_iconst dX7_change_32 ?_
              refine V_iadd dX7_change_33 ?_
              refine VM_ialdE 9 (g 9 ((11 + 33 * b) + 2)) hB dX7_change_34 mar9 rfl (by first | omega | (simp [gup, aup]; omega)) (by show _ < (209 : Int); first | omega | (simp [gup, aup]; omega)) (by decide) rfl ?_
              refine V_icmp_lt 41 dX7_change_35 (by decide) (by first | omega | exact hr_g _ _ | decide) (by first | omega | exact hr_g _ _ | decide) (fun c_35 => ?_) (fun c_35 => by exfalso; omega)
              refine V_iload_n dX7_change_41 rfl ?_
              refine V_iconst dX7_change_42 ?_
              refine V_icmp_ne 63 dX7_change_43 (by decide) (by first | omega | exact hr_g _ _ | decide) (by first | omega | exact hr_g _ _ | decide) (fun c_43 => by exfalso; omega) (fun c_43 => ?_)
              refine V_aload_n dX7_change_46 rfl ?_
              refine V_iload_n dX7_change_47 rfl ?_
              refine VM_c1 (M' := mX7_roomOfBlock) okX7_roomOfBlock rfl dX7_change_48 q3002 rfl rfl (Nat.le_of_ble_eq_true rfl) (d' := 3) (b1 := 0) (by decide) (by decide) (c_X7_roomOfBlock hB hr_g hw hb2 (by omega) (fun g1 hs q1 q2 q3 => ?_))
              refine V_pop dX7_change_51 rfl ?_
              exact L g1 hs q1 q2 q3
            · refine V_if_ne 23 dX7_change_18 (by decide) (by first | omega | exact hr_g _ _ | decide) (fun c_18 => absurd c_18 (by decide)) (fun c_18 => ?_)
              exfalso; omega
        · refine V_if_eq 21 dX7_change_5 (by decide) (by first | omega | exact hr_g _ _ | decide) (fun c_5 => ?_) (fun c_5 => absurd c_5 (by decide))
          exfalso; omega
      · simp only [if_neg c3] at K0
        have wc := wb.2.2.2.2 i cc.2.1 (by omega)
        by_cases c1 : w = 1
        · subst c1
          rw [if_pos rfl] at K0
          refine V_aload_n dX7_change_0 rfl ?_
          refine V_iload_n dX7_change_1 rfl ?_
          refine VM_c1 (M' := mX7_isBlock) okX7_isBlock rfl dX7_change_2 q2998 rfl rfl (Nat.le_of_ble_eq_true rfl) (d' := 2) (b1 := 0) (by decide) (by decide) (c_X7_isBlock hB hr_g (by first | omega | exact hr_g _ _ | decide) (by first | omega | (simp [gup, aup]; omega)) (fun c_2 => ?_) (fun c_2 => ?_))
          · refine V_if_eq 21 dX7_change_5 (by decide) (by first | omega | exact hr_g _ _ | decide) (fun c_5 => absurd c_5 (by decide)) (fun c_5 => ?_)
            refine V_iload_n dX7_change_8 rfl ?_
            refine V_if_lt 21 dX7_change_9 (by decide) (by first | omega | exact hr_g _ _ | decide) (fun c_9 => ?_) (fun c_9 => ?_)
            · exfalso; omega
            · refine V_iload_n dX7_change_12 rfl ?_
              refine V_iconst dX7_change_13 ?_
              refine V_iconst dX7_change_14 ?_
              refine VS_c3 (M' := mX7_in) okX7_in dX7_change_15 q2762 rfl rfl (Nat.le_of_ble_eq_true rfl) (d' := 1) (b1 := 0) (by decide) (by decide) (c_X7_in (by first | omega | exact hr_g _ _ | decide) (by first | omega | exact hr_g _ _ | decide) (by first | omega | exact hr_g _ _ | decide) (fun c_15 => ?_) (fun c_15 => ?_))
              · refine V_if_ne 23 dX7_change_18 (by decide) (by first | omega | exact hr_g _ _ | decide) (fun c_18 => ?_) (fun c_18 => absurd c_18 (by decide))
                refine V_iload_n dX7_change_23 rfl ?_
                refine V_aload_n dX7_change_24 rfl ?_
                refine VM_geta 9 dX7_change_25 q2615 (by decide) rfl ?_
                refine V_iload_n dX7_change_28 rfl ?_
                refine VS_c1 (M' := mX7_block0) okX7_block0 dX7_change_29 q2603 rfl rfl (Nat.le_of_ble_eq_true rfl) (d' := 1) (b1 := 0) (by decide) (by decide) (c_X7_block0 ?_)
                refine V_iconst dX7_change_32 ?_
                refine V_iadd dX7_change_33 ?_
                refine VM_ialdE 9 (g 9 ((11 + 33 * b) + 2)) hB dX7_change_34 mar9 rfl (by first | omega | (simp [gup, aup]; omega)) (by show _ < (209 : Int); first | omega | (simp [gup, aup]; omega)) (by decide) rfl ?_
                refine V_icmp_lt 41 dX7_change_35 (by decide) (by first | omega | exact hr_g _ _ | decide) (by first | omega | exact hr_g _ _ | decide) (fun c_35 => ?_) (fun c_35 => by exfalso; omega)
                refine V_iload_n dX7_change_41 rfl ?_
                refine V_iconst dX7_change_42 ?_
                refine V_icmp_ne 63 dX7_change_43 (by decide) (by first | omega | exact hr_g _ _ | decide) (by first | omega | exact hr_g _ _ | decide) (fun c_43 => ?_) (fun c_43 => absurd c_43 (by decide))
                refine V_aload_n dX7_change_63 rfl ?_
                refine VM_geta 9 dX7_change_64 q2615 (by decide) rfl ?_
                refine V_iload_n dX7_change_67 rfl ?_
                refine VS_c1 (M' := mX7_block0) okX7_block0 dX7_change_68 q2603 rfl rfl (Nat.le_of_ble_eq_true rfl) (d' := 1) (b1 := 0) (by decide) (by decide) (c_X7_block0 ?_)
                refine V_bipush dX7_change_71 (by decide) ?_
                refine V_iadd dX7_change_73 ?_
                refine V_iconst dX7_change_74 ?_
                refine V_iload_n dX7_change_75 rfl ?_
                refine V_imul dX7_change_76 ?_
                refine V_iadd dX7_change_77 ?_
                refine V_iload_n dX7_change_78 rfl ?_
                refine V_iadd dX7_change_79 ?_
                refine VM_ialdE 9 (g 9 ((((11 + 33 * b) + 9) + (3 * i)) + 1)) hB dX7_change_80 mar9 rfl (by first | omega | (simp [gup, aup]; omega)) (by show _ < (209 : Int); first | omega | (simp [gup, aup]; omega)) (by decide) rfl ?_
                refine V_istore dX7_change_81 (by decide) ?_
                refine V_iload_n dX7_change_83 rfl ?_
                refine V_iconst dX7_change_84 ?_
                refine V_icmp_ne 97 dX7_change_85 (by decide) (by first | omega | exact hr_g _ _ | decide) (by first | omega | exact hr_g _ _ | decide) (fun c_85 => absurd c_85 (by decide)) (fun c_85 => ?_)
                refine V_aload_n dX7_change_88 rfl ?_
                refine V_iload dX7_change_89 rfl ?_
                refine VM_c1 (M' := mX7_nodeOfWire) okX7_nodeOfWire rfl dX7_change_91 q3026 rfl rfl (Nat.le_of_ble_eq_true rfl) (d' := 2) (b1 := 0) (by decide) (by decide) (c_X7_nodeOfWire hB hr_g (hr_g _ _) hb1 ?_)
                refine V_goto 99 dX7_change_94 (by decide) ?_
                exact V_iret dX7_change_99 rfl (by exact K0)
              · refine V_if_ne 23 dX7_change_18 (by decide) (by first | omega | exact hr_g _ _ | decide) (fun c_18 => absurd c_18 (by decide)) (fun c_18 => ?_)
                exfalso; omega
          · refine V_if_eq 21 dX7_change_5 (by decide) (by first | omega | exact hr_g _ _ | decide) (fun c_5 => ?_) (fun c_5 => absurd c_5 (by decide))
            exfalso; omega
        · rw [if_neg c1] at K0
          refine V_aload_n dX7_change_0 rfl ?_
          refine V_iload_n dX7_change_1 rfl ?_
          refine VM_c1 (M' := mX7_isBlock) okX7_isBlock rfl dX7_change_2 q2998 rfl rfl (Nat.le_of_ble_eq_true rfl) (d' := 2) (b1 := 0) (by decide) (by decide) (c_X7_isBlock hB hr_g (by first | omega | exact hr_g _ _ | decide) (by first | omega | (simp [gup, aup]; omega)) (fun c_2 => ?_) (fun c_2 => ?_))
          · refine V_if_eq 21 dX7_change_5 (by decide) (by first | omega | exact hr_g _ _ | decide) (fun c_5 => absurd c_5 (by decide)) (fun c_5 => ?_)
            refine V_iload_n dX7_change_8 rfl ?_
            refine V_if_lt 21 dX7_change_9 (by decide) (by first | omega | exact hr_g _ _ | decide) (fun c_9 => ?_) (fun c_9 => ?_)
            · exfalso; omega
            · refine V_iload_n dX7_change_12 rfl ?_
              refine V_iconst dX7_change_13 ?_
              refine V_iconst dX7_change_14 ?_
              refine VS_c3 (M' := mX7_in) okX7_in dX7_change_15 q2762 rfl rfl (Nat.le_of_ble_eq_true rfl) (d' := 1) (b1 := 0) (by decide) (by decide) (c_X7_in (by first | omega | exact hr_g _ _ | decide) (by first | omega | exact hr_g _ _ | decide) (by first | omega | exact hr_g _ _ | decide) (fun c_15 => ?_) (fun c_15 => ?_))
              · refine V_if_ne 23 dX7_change_18 (by decide) (by first | omega | exact hr_g _ _ | decide) (fun c_18 => ?_) (fun c_18 => absurd c_18 (by decide))
                refine V_iload_n dX7_change_23 rfl ?_
                refine V_aload_n dX7_change_24 rfl ?_
                refine VM_geta 9 dX7_change_25 q2615 (by decide) rfl ?_
                refine V_iload_n dX7_change_28 rfl ?_
                refine VS_c1 (M' := mX7_block0) okX7_block0 dX7_change_29 q2603 rfl rfl (Nat.le_of_ble_eq_true rfl) (d' := 1) (b1 := 0) (by decide) (by decide) (c_X7_block0 ?_)
                refine V_iconst dX7_change_32 ?_
                refine V_iadd dX7_change_33 ?_
                refine VM_ialdE 9 (g 9 ((11 + 33 * b) + 2)) hB dX7_change_34 mar9 rfl (by first | omega | (simp [gup, aup]; omega)) (by show _ < (209 : Int); first | omega | (simp [gup, aup]; omega)) (by decide) rfl ?_
                refine V_icmp_lt 41 dX7_change_35 (by decide) (by first | omega | exact hr_g _ _ | decide) (by first | omega | exact hr_g _ _ | decide) (fun c_35 => ?_) (fun c_35 => by exfalso; omega)
                refine V_iload_n dX7_change_41 rfl ?_
                refine V_iconst dX7_change_42 ?_
                refine V_icmp_ne 63 dX7_change_43 (by decide) (by first | omega | exact hr_g _ _ | decide) (by first | omega | exact hr_g _ _ | decide) (fun c_43 => ?_) (fun c_43 => by exfalso; omega)
                refine V_aload_n dX7_change_63 rfl ?_
                refine VM_geta 9 dX7_change_64 q2615 (by decide) rfl ?_
                refine V_iload_n dX7_change_67 rfl ?_
                refine VS_c1 (M' := mX7_block0) okX7_block0 dX7_change_68 q2603 rfl rfl (Nat.le_of_ble_eq_true rfl) (d' := 1) (b1 := 0) (by decide) (by decide) (c_X7_block0 ?_)
                refine V_bipush dX7_change_71 (by decide) ?_
                refine V_iadd dX7_change_73 ?_
                refine V_iconst dX7_change_74 ?_
                refine V_iload_n dX7_change_75 rfl ?_
                refine V_imul dX7_change_76 ?_
                refine V_iadd dX7_change_77 ?_
                refine V_iload_n dX7_change_78 rfl ?_
                refine V_iadd dX7_change_79 ?_
                refine VM_ialdE 9 (g 9 ((((11 + 33 * b) + 9) + (3 * i)) + w)) hB dX7_change_80 mar9 rfl (by first | omega | (simp [gup, aup]; omega)) (by show _ < (209 : Int); first | omega | (simp [gup, aup]; omega)) (by decide) rfl ?_
                refine V_istore dX7_change_81 (by decide) ?_
                refine V_iload_n dX7_change_83 rfl ?_
                refine V_iconst dX7_change_84 ?_
                refine V_icmp_ne 97 dX7_change_85 (by decide) (by first | omega | exact hr_g _ _ | decide) (by first | omega | exact hr_g _ _ | decide) (fun c_85 => ?_) (fun c_85 => by exfalso; omega)
                refine V_iload dX7_change_97 rfl ?_
                exact V_iret dX7_change_99 rfl (by exact K0)
              · refine V_if_ne 23 dX7_change_18 (by decide) (by first | omega | exact hr_g _ _ | decide) (fun c_18 => absurd c_18 (by decide)) (fun c_18 => ?_)
                exfalso; omega
          · refine V_if_eq 21 dX7_change_5 (by decide) (by first | omega | exact hr_g _ _ | decide) (fun c_5 => ?_) (fun c_5 => absurd c_5 (by decide))
            exfalso; omega
  · simp only [if_neg cc] at K0
    refine V_aload_n dX7_change_0 rfl ?_
    refine V_iload_n dX7_change_1 rfl ?_
    refine VM_c1 (M' := mX7_isBlock) okX7_isBlock rfl dX7_change_2 q2998 rfl rfl (Nat.le_of_ble_eq_true rfl) (d' := 2) (b1 := 0) (by decide) (by decide) (c_X7_isBlock hB hr_g (by first | omega | exact hr_g _ _ | decide) (by first | omega | (simp [gup, aup]; omega)) (fun c_2 => ?_) (fun c_2 => ?_))
    · refine V_if_eq 21 dX7_change_5 (by decide) (by first | omega | exact hr_g _ _ | decide) (fun c_5 => absurd c_5 (by decide)) (fun c_5 => ?_)
      refine V_iload_n dX7_change_8 rfl ?_
      refine V_if_lt 21 dX7_change_9 (by decide) (by first | omega | exact hr_g _ _ | decide) (fun c_9 => ?_) (fun c_9 => ?_)
      · refine V_iconst dX7_change_21 ?_
        exact V_iret dX7_change_22 rfl (by exact K0)
      · refine V_iload_n dX7_change_12 rfl ?_
        refine V_iconst dX7_change_13 ?_
        refine V_iconst dX7_change_14 ?_
        refine VS_c3 (M' := mX7_in) okX7_in dX7_change_15 q2762 rfl rfl (Nat.le_of_ble_eq_true rfl) (d' := 1) (b1 := 0) (by decide) (by decide) (c_X7_in (by first | omega | exact hr_g _ _ | decide) (by first | omega | exact hr_g _ _ | decide) (by first | omega | exact hr_g _ _ | decide) (fun c_15 => ?_) (fun c_15 => ?_))
        · refine V_if_ne 23 dX7_change_18 (by decide) (by first | omega | exact hr_g _ _ | decide) (fun c_18 => ?_) (fun c_18 => absurd c_18 (by decide))
          exfalso; omega
        · refine V_if_ne 23 dX7_change_18 (by decide) (by first | omega | exact hr_g _ _ | decide) (fun c_18 => absurd c_18 (by decide)) (fun c_18 => ?_)
          refine V_iconst dX7_change_21 ?_
          exact V_iret dX7_change_22 rfl (by exact K0)
    · refine V_if_eq 21 dX7_change_5 (by decide) (by first | omega | exact hr_g _ _ | decide) (fun c_5 => ?_) (fun c_5 => absurd c_5 (by decide))
      refine V_iconst dX7_change_21 ?_
      exact V_iret dX7_change_22 rfl (by exact K0)
end M28
