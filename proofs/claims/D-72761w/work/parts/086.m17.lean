/-! THE REFERENCE'S METHODS, part 17: a node by its path; a path's names -/
theorem tN_lt {g : MG} (h : TI g) (h4 : pNext g 18 0 ≠ 4) : g 16 0 < pNext g 16 0 := by
  obtain ⟨h1, h2, h3, h5⟩ := h
  have a1 := tkS_in (tx := g 14) h3
  have a2 := tkEnd_in (tx := g 14) a1.2 (by omega)
  rw [pN_16]
  rw [pN_18] at h4
  have : tkS (g 14) (g 15 0) (g 16 0) ≠ g 15 0 := by
    intro e
    apply h4
    unfold tkSort
    rw [pIf_t e]
  omega
theorem TI.next' {g : MG} (h : TI g) : TI (pNext g) := by
  obtain ⟨h1, h2, h3, h5⟩ := h
  have a1 := tkS_in (tx := g 14) h3
  have a2 := tkEnd_in (tx := g 14) a1.2 (by omega)
  refine ⟨rng_pNext h1 ⟨h2, h3, h5⟩, ?_, ?_, ?_⟩
  · rw [pN_16]; omega
  · rw [pN_16, pN_ne (by omega)]; omega
  · rw [pN_ne (by omega)]; omega
theorem tN_le {g : MG} (h : TI g) : g 16 0 ≤ pNext g 16 0 := by
  obtain ⟨h1, h2, h3, h5⟩ := h
  have a1 := tkS_in (tx := g 14) h3
  have a2 := tkEnd_in (tx := g 14) a1.2 (by omega)
  rw [pN_16]
  omega
theorem t17 {g : MG} (h : TI g) : 0 ≤ pNext g 17 0 := by
  have a1 := tkS_in (tx := g 14) h.2.2.1
  rw [pN_17]
  have := h.2.1
  omega
theorem BI.next {g : MG} (h : BI g) : BI (pNext g) := h.same (fun k hk => by rw [pN_ne (by omega)])
/-- a path's steps: what is found, whether it is lost -/
noncomputable def qN (b : MG) : Nat → MG → Int → Int → Int → MG × Int × Int
  | 0, g, _, f, l => (g, f, l)
  | k + 1, g, sc, f, l =>
    pIf (g 18 0 ≠ 1) (pFault g, -9, 1)
      (pIf (l = 1 ∨ f ≠ -9) (pIf (pNext g 18 0 = 3 ∧ pNext g 19 0 = 46) (qN b k (pNext (pNext g)) (-9) (-9) 1) (pNext g, -9, 1))
        (pIf (pNext g 18 0 = 3 ∧ pNext g 19 0 = 46) (qN b k (pNext (pNext g)) (oSB b sc (g 19 0)) (oNB b sc (g 19 0)) (if oNB b sc (g 19 0) = -9 ∧ oSB b sc (g 19 0) = -9 then 1 else 0)) (pNext g, oNB b sc (g 19 0), (if oNB b sc (g 19 0) = -9 ∧ oSB b sc (g 19 0) = -9 then 1 else 0))))
noncomputable def qEnd (g : MG) : MG := pIf (g 20 0 = -9 ∧ g 18 0 ≠ 4) (pFault g) g
/-- where it begins -/
def qStart (g : MG) : MG := gup (gup g 16 0 0) 20 0 (-9)
noncomputable def qAll (g : MG) : MG × Int × Int := qN g 162 (pNext (qStart g)) (-9) (-9) 0
noncomputable def aNode (g : MG) : Int := pIf (qEnd (qAll g).1 20 0 = -9) (if (qAll g).2.2 = 1 then -9 else (qAll g).2.1) (-10 - qEnd (qAll g).1 20 0)
noncomputable def pNodeQ (g : MG) : MG := pIf (qEnd (qAll g).1 20 0 = -9) (gup (qEnd (qAll g).1) 15 0 0) (qEnd (qAll g).1)
section M17
variable {E : Ev} {am : Nat} {B : Nat → Nat} {h0 h : AH} {g : MG} {Q : Value → AH → Prop} {X : Nat → AH → Prop}
theorem c_node190 (hB : MB am B) {v1 v4 v5 : Option Value} {f l : Int} (hr_g : Rng g) (hl : l = 0 ∨ l = 1) (Kb : qEnd g 20 0 ≠ -9 → Q (vI (-10 - qEnd g 20 0)) (mkM am B h0 (qEnd g))) (Kg : qEnd g 20 0 = -9 → Q (vI (if l = 1 then -9 else f)) (mkM am B h0 (gup (qEnd g) 15 0 0))) : V E mX7_node 5 0 190 [some (.ref am), v1, some (vI f), some (vI l), v4, v5] [] (mkM am B h0 g) Q X := by
  unfold qEnd at Kb Kg
  by_cases c1 : g 20 0 = -9
  · by_cases c2 : g 18 0 = 4
    · rw [pIf_f (by omega)] at Kb Kg
      have Kg := Kg c1
      refine V_aload_n dX7_node_190 rfl ?_
      refine V_aload_n dX7_node_191 rfl ?_
      refine VM_getiE 18 (g 18 0) dX7_node_192 q2624 (by decide) rfl rfl ?_
      refine V_iconst dX7_node_195 ?_
      refine V_icmp_ne 203 dX7_node_196 (by decide) (by first | omega | exact hr_g _ _ | decide) (by first | omega | exact hr_g _ _ | decide) (fun c_196 => by exfalso; omega) (fun c_196 => ?_)
      refine V_iconst dX7_node_199 ?_
      refine V_goto 204 dX7_node_200 (by decide) ?_
      refine VM_v1 (M' := mX7_due) okX7_due rfl dX7_node_204 q2796 rfl rfl (Nat.le_of_ble_eq_true rfl) (d' := 1) (b1 := 0) (by decide) (by decide) (c_X7_due1 hB hr_g ?_)
      refine V_aload_n dX7_node_207 rfl ?_
      refine VM_getiE 20 (g 20 0) dX7_node_208 q2626 (by decide) rfl rfl ?_
      refine V_bipush dX7_node_211 (by decide) ?_
      refine V_icmp_eq 224 dX7_node_213 (by decide) (by first | omega | exact hr_g _ _ | decide) (by first | omega | exact hr_g _ _ | decide) (fun c_213 => ?_) (fun c_213 => by exfalso; omega)
      refine V_aload_n dX7_node_224 rfl ?_
      refine V_iconst dX7_node_225 ?_
      refine VM_puti 15 dX7_node_226 q2621 (by decide) rfl rfl mfs15 mna15 ?_
      refine V_iload_n dX7_node_229 rfl ?_
      refine V_if_eq 238 dX7_node_230 (by decide) (by first | omega | exact hr_g _ _ | decide) (fun c_230 => ?_) (fun c_230 => ?_)
      · refine V_iload_n dX7_node_238 rfl ?_
        exact V_iret dX7_node_239 rfl (by first | (rw [if_pos (by omega)] at Kg; exact Kg) | (rw [if_neg (by omega)] at Kg; exact Kg))
      · refine V_bipush dX7_node_233 (by decide) ?_
        refine V_goto 239 dX7_node_235 (by decide) ?_
        exact V_iret dX7_node_239 rfl (by first | (rw [if_pos (by omega)] at Kg; exact Kg) | (rw [if_neg (by omega)] at Kg; exact Kg))
    · rw [pIf_t ⟨c1, c2⟩] at Kb Kg
      by_cases c3 : g 17 0 = -9
      · have Kg := Kg c3
        refine V_aload_n dX7_node_190 rfl ?_
        refine V_aload_n dX7_node_191 rfl ?_
        refine VM_getiE 18 (g 18 0) dX7_node_192 q2624 (by decide) rfl rfl ?_
        refine V_iconst dX7_node_195 ?_
        refine V_icmp_ne 203 dX7_node_196 (by decide) (by first | omega | exact hr_g _ _ | decide) (by first | omega | exact hr_g _ _ | decide) (fun c_196 => ?_) (fun c_196 => by exfalso; omega)
        refine V_iconst dX7_node_203 ?_
        refine VM_v1 (M' := mX7_due) okX7_due rfl dX7_node_204 q2796 rfl rfl (Nat.le_of_ble_eq_true rfl) (d' := 1) (b1 := 0) (by decide) (by decide) (c_X7_due0 hB hr_g (by first | omega | (simp [gup, aup]; omega)) ?_)
        refine V_aload_n dX7_node_207 rfl ?_
        refine VM_getiE 20 (g 17 0) dX7_node_208 q2626 (by decide) rfl rfl ?_
        refine V_bipush dX7_node_211 (by decide) ?_
        refine V_icmp_eq 224 dX7_node_213 (by decide) (by first | omega | exact hr_g _ _ | decide) (by first | omega | exact hr_g _ _ | decide) (fun c_213 => ?_) (fun c_213 => by exfalso; omega)
        refine V_aload_n dX7_node_224 rfl ?_
        refine V_iconst dX7_node_225 ?_
        refine VM_puti 15 dX7_node_226 q2621 (by decide) rfl rfl mfs15 mna15 ?_
        refine V_iload_n dX7_node_229 rfl ?_
        refine V_if_eq 238 dX7_node_230 (by decide) (by first | omega | exact hr_g _ _ | decide) (fun c_230 => ?_) (fun c_230 => ?_)
        · refine V_iload_n dX7_node_238 rfl ?_
          exact V_iret dX7_node_239 rfl (by first | (rw [if_pos (by omega)] at Kg; exact Kg) | (rw [if_neg (by omega)] at Kg; exact Kg))
        · refine V_bipush dX7_node_233 (by decide) ?_
          refine V_goto 239 dX7_node_235 (by decide) ?_
          exact V_iret dX7_node_239 rfl (by first | (rw [if_pos (by omega)] at Kg; exact Kg) | (rw [if_neg (by omega)] at Kg; exact Kg))
      · have Kb := Kb c3
        refine V_aload_n dX7_node_190 rfl ?_
        refine V_aload_n dX7_node_191 rfl ?_
        refine VM_getiE 18 (g 18 0) dX7_node_192 q2624 (by decide) rfl rfl ?_
        refine V_iconst dX7_node_195 ?_
        refine V_icmp_ne 203 dX7_node_196 (by decide) (by first | omega | exact hr_g _ _ | decide) (by first | omega | exact hr_g _ _ | decide) (fun c_196 => ?_) (fun c_196 => by exfalso; omega)
        refine V_iconst dX7_node_203 ?_
        refine VM_v1 (M' := mX7_due) okX7_due rfl dX7_node_204 q2796 rfl rfl (Nat.le_of_ble_eq_true rfl) (d' := 1) (b1 := 0) (by decide) (by decide) (c_X7_due0 hB hr_g (by first | omega | (simp [gup, aup]; omega)) ?_)
        refine V_aload_n dX7_node_207 rfl ?_
        refine VM_getiE 20 (g 17 0) dX7_node_208 q2626 (by decide) rfl rfl ?_
        refine V_bipush dX7_node_211 (by decide) ?_
        refine V_icmp_eq 224 dX7_node_213 (by decide) (by first | omega | exact hr_g _ _ | decide) (by first | omega | exact hr_g _ _ | decide) (fun c_213 => by exfalso; omega) (fun c_213 => ?_)
        refine V_bipush dX7_node_216 (by decide) ?_
        refine V_aload_n dX7_node_218 rfl ?_
        refine VM_getiE 20 (g 17 0) dX7_node_219 q2626 (by decide) rfl rfl ?_
        refine V_isub dX7_node_222 ?_
        exact V_iret dX7_node_223 rfl (by exact Kb)
  · rw [pIf_f (by omega)] at Kb Kg
    have Kb := Kb c1
    refine V_aload_n dX7_node_190 rfl ?_
    refine V_aload_n dX7_node_191 rfl ?_
    refine VM_getiE 18 (g 18 0) dX7_node_192 q2624 (by decide) rfl rfl ?_
    refine V_iconst dX7_node_195 ?_
    refine V_icmp_ne 203 dX7_node_196 (by decide) (by first | omega | exact hr_g _ _ | decide) (by first | omega | exact hr_g _ _ | decide) (fun c_196 => ?_) (fun c_196 => ?_)
    · refine V_iconst dX7_node_203 ?_
      refine VM_v1 (M' := mX7_due) okX7_due rfl dX7_node_204 q2796 rfl rfl (Nat.le_of_ble_eq_true rfl) (d' := 1) (b1 := 0) (by decide) (by decide) (c_X7_dueB hB hr_g (by first | omega | exact hr_g _ _ | decide) (by first | omega | (simp [gup, aup]; omega)) ?_)
      refine V_aload_n dX7_node_207 rfl ?_
      refine VM_getiE 20 (g 20 0) dX7_node_208 q2626 (by decide) rfl rfl ?_
      refine V_bipush dX7_node_211 (by decide) ?_
      refine V_icmp_eq 224 dX7_node_213 (by decide) (by first | omega | exact hr_g _ _ | decide) (by first | omega | exact hr_g _ _ | decide) (fun c_213 => by exfalso; omega) (fun c_213 => ?_)
      refine V_bipush dX7_node_216 (by decide) ?_
      refine V_aload_n dX7_node_218 rfl ?_
      refine VM_getiE 20 (g 20 0) dX7_node_219 q2626 (by decide) rfl rfl ?_
      refine V_isub dX7_node_222 ?_
      exact V_iret dX7_node_223 rfl (by exact Kb)
    · refine V_iconst dX7_node_199 ?_
      refine V_goto 204 dX7_node_200 (by decide) ?_
      refine VM_v1 (M' := mX7_due) okX7_due rfl dX7_node_204 q2796 rfl rfl (Nat.le_of_ble_eq_true rfl) (d' := 1) (b1 := 0) (by decide) (by decide) (c_X7_dueB hB hr_g (by first | omega | exact hr_g _ _ | decide) (by first | omega | (simp [gup, aup]; omega)) ?_)
      refine V_aload_n dX7_node_207 rfl ?_
      refine VM_getiE 20 (g 20 0) dX7_node_208 q2626 (by decide) rfl rfl ?_
      refine V_bipush dX7_node_211 (by decide) ?_
      refine V_icmp_eq 224 dX7_node_213 (by decide) (by first | omega | exact hr_g _ _ | decide) (by first | omega | exact hr_g _ _ | decide) (fun c_213 => by exfalso; omega) (fun c_213 => ?_)
      refine V_bipush dX7_node_216 (by decide) ?_
      refine V_aload_n dX7_node_218 rfl ?_
      refine VM_getiE 20 (g 20 0) dX7_node_219 q2626 (by decide) rfl rfl ?_
      refine V_isub dX7_node_222 ?_
      exact V_iret dX7_node_223 rfl (by exact Kb)
theorem c_node26E (hB : MB am B) {v1 v2 v3 v5 : Option Value} (hr_g : Rng g) (hf : g 20 0 = -9) (K : V E mX7_node 5 0 190 [some (.ref am), v1, v2, v3, some (vI 0), v5] [] (mkM am B h0 g) Q X) : V E mX7_node 5 0 26 [some (.ref am), v1, v2, v3, some (vI 0), v5] [] (mkM am B h0 g) Q X := by
  refine V_aload_n dX7_node_26 rfl ?_
  refine VM_getiE 20 (g 20 0) dX7_node_27 q2626 (by decide) rfl rfl ?_
  refine V_bipush dX7_node_30 (by decide) ?_
  refine V_icmp_ne 190 dX7_node_32 (by decide) (by first | omega | exact hr_g _ _ | decide) (by first | omega | exact hr_g _ _ | decide) (fun c_32 => by exfalso; omega) (fun c_32 => ?_)
  refine V_iload dX7_node_35 rfl ?_
  refine V_if_eq 190 dX7_node_37 (by decide) (by first | omega | exact hr_g _ _ | decide) (fun c_37 => ?_) (fun c_37 => absurd c_37 (by decide))
  exact K
theorem c_node26B (hB : MB am B) {v1 v2 v3 v4 v5 : Option Value} (hr_g : Rng g) (hf : g 20 0 ≠ -9) (K : V E mX7_node 5 0 190 [some (.ref am), v1, v2, v3, v4, v5] [] (mkM am B h0 g) Q X) : V E mX7_node 5 0 26 [some (.ref am), v1, v2, v3, v4, v5] [] (mkM am B h0 g) Q X := by
  refine V_aload_n dX7_node_26 rfl ?_
  refine VM_getiE 20 (g 20 0) dX7_node_27 q2626 (by decide) rfl rfl ?_
  refine V_bipush dX7_node_30 (by decide) ?_
  refine V_icmp_ne 190 dX7_node_32 (by decide) (by first | omega | exact hr_g _ _ | decide) (by first | omega | exact hr_g _ _ | decide) (fun c_32 => ?_) (fun c_32 => by exfalso; omega)
  exact K
/-- behind a fault -/
theorem c_node57 (hB : MB am B) {sc f l : Int} {v4 v5 : Option Value} (hr_g : Rng g) (hfi : inr f) (hl : l = 0 ∨ l = 1) (hf : g 20 0 ≠ -9) (K : ∀ v4, V E mX7_node 5 0 190 [some (.ref am), some (vI (-9)), some (vI (-9)), some (vI 1), v4, some (vI (-9))] [] (mkM am B h0 g) Q X) : V E mX7_node 5 0 57 [some (.ref am), some (vI sc), some (vI f), some (vI l), v4, v5] [] (mkM am B h0 g) Q X := by
  have L : ∀ z : Int, z = 0 ∨ z = 1 → V E mX7_node 5 0 73 [some (.ref am), some (vI sc), some (vI f), some (vI z), v4, v5] [] (mkM am B h0 g) Q X := by
    intro z hz
    refine V_iload_n dX7_node_73 rfl ?_
    refine V_if_ne 86 dX7_node_74 (by decide) (by first | omega | exact hr_g _ _ | decide) (fun c_74 => ?_) (fun c_74 => ?_)
    · refine V_bipush dX7_node_86 (by decide) ?_
      refine V_goto 100 dX7_node_88 (by decide) ?_
      refine V_istore_n dX7_node_100 (by decide) ?_
      refine V_iload_n dX7_node_101 rfl ?_
      refine V_if_ne 114 dX7_node_102 (by decide) (by first | omega | exact hr_g _ _ | decide) (fun c_102 => ?_) (fun c_102 => ?_)
      · refine V_bipush dX7_node_114 (by decide) ?_
        refine V_goto 128 dX7_node_116 (by decide) ?_
        refine V_istore dX7_node_128 (by decide) ?_
        refine V_iload_n dX7_node_130 rfl ?_
        refine V_if_ne 147 dX7_node_131 (by decide) (by first | omega | exact hr_g _ _ | decide) (fun c_131 => ?_) (fun c_131 => ?_)
        · refine V_iconst dX7_node_147 ?_
          refine V_goto 152 dX7_node_148 (by decide) ?_
          refine V_istore_n dX7_node_152 (by decide) ?_
          refine V_iload dX7_node_153 rfl ?_
          refine V_istore_n dX7_node_155 (by decide) ?_
          refine V_aload_n dX7_node_156 rfl ?_
          refine V_iconst dX7_node_157 ?_
          refine VM_v1 (M' := mX7_passes) okX7_passes rfl dX7_node_158 q2800 rfl rfl (Nat.le_of_ble_eq_true rfl) (d' := 4) (b1 := 0) (by decide) (by decide) (c_X7_passesB hB hr_g (by first | omega | exact hr_g _ _ | decide) (by first | omega | (simp [gup, aup]; omega)) ?_)
          refine V_aload_n dX7_node_161 rfl ?_
          refine V_bipush dX7_node_162 (by decide) ?_
          refine VM_c1 (M' := mX7_is) okX7_is rfl dX7_node_164 q2788 rfl rfl (Nat.le_of_ble_eq_true rfl) (d' := 1) (b1 := 0) (by decide) (by decide) (c_X7_is hB hr_g (by first | omega | exact hr_g _ _ | decide) (fun c_164 => ?_) (fun c_164 => ?_))
          · refine V_istore dX7_node_167 (by decide) ?_
            refine V_aload_n dX7_node_169 rfl ?_
            refine VM_getiE 20 (g 20 0) dX7_node_170 q2626 (by decide) rfl rfl ?_
            refine V_bipush dX7_node_173 (by decide) ?_
            refine V_icmp_ne 187 dX7_node_175 (by decide) (by first | omega | exact hr_g _ _ | decide) (by first | omega | exact hr_g _ _ | decide) (fun c_175 => ?_) (fun c_175 => by exfalso; omega)
            refine V_goto 26 dX7_node_187 (by decide) ?_
            exact c_node26B hB hr_g hf (K _)
          · refine V_istore dX7_node_167 (by decide) ?_
            refine V_aload_n dX7_node_169 rfl ?_
            refine VM_getiE 20 (g 20 0) dX7_node_170 q2626 (by decide) rfl rfl ?_
            refine V_bipush dX7_node_173 (by decide) ?_
            refine V_icmp_ne 187 dX7_node_175 (by decide) (by first | omega | exact hr_g _ _ | decide) (by first | omega | exact hr_g _ _ | decide) (fun c_175 => ?_) (fun c_175 => by exfalso; omega)
            refine V_goto 26 dX7_node_187 (by decide) ?_
            exact c_node26B hB hr_g hf (K _)
        · refine V_iload_n dX7_node_134 rfl ?_
          refine V_bipush dX7_node_135 (by decide) ?_
          refine V_icmp_ne 151 dX7_node_137 (by decide) (by first | omega | exact hr_g _ _ | decide) (by first | omega | exact hr_g _ _ | decide) (fun c_137 => absurd c_137 (by decide)) (fun c_137 => ?_)
          refine V_iload dX7_node_140 rfl ?_
          refine V_bipush dX7_node_142 (by decide) ?_
          refine V_icmp_ne 151 dX7_node_144 (by decide) (by first | omega | exact hr_g _ _ | decide) (by first | omega | exact hr_g _ _ | decide) (fun c_144 => absurd c_144 (by decide)) (fun c_144 => ?_)
          refine V_iconst dX7_node_147 ?_
          refine V_goto 152 dX7_node_148 (by decide) ?_
          refine V_istore_n dX7_node_152 (by decide) ?_
          refine V_iload dX7_node_153 rfl ?_
          refine V_istore_n dX7_node_155 (by decide) ?_
          refine V_aload_n dX7_node_156 rfl ?_
          refine V_iconst dX7_node_157 ?_
          refine VM_v1 (M' := mX7_passes) okX7_passes rfl dX7_node_158 q2800 rfl rfl (Nat.le_of_ble_eq_true rfl) (d' := 4) (b1 := 0) (by decide) (by decide) (c_X7_passesB hB hr_g (by first | omega | exact hr_g _ _ | decide) (by first | omega | (simp [gup, aup]; omega)) ?_)
          refine V_aload_n dX7_node_161 rfl ?_
          refine V_bipush dX7_node_162 (by decide) ?_
          refine VM_c1 (M' := mX7_is) okX7_is rfl dX7_node_164 q2788 rfl rfl (Nat.le_of_ble_eq_true rfl) (d' := 1) (b1 := 0) (by decide) (by decide) (c_X7_is hB hr_g (by first | omega | exact hr_g _ _ | decide) (fun c_164 => ?_) (fun c_164 => ?_))
          · refine V_istore dX7_node_167 (by decide) ?_
            refine V_aload_n dX7_node_169 rfl ?_
            refine VM_getiE 20 (g 20 0) dX7_node_170 q2626 (by decide) rfl rfl ?_
            refine V_bipush dX7_node_173 (by decide) ?_
            refine V_icmp_ne 187 dX7_node_175 (by decide) (by first | omega | exact hr_g _ _ | decide) (by first | omega | exact hr_g _ _ | decide) (fun c_175 => ?_) (fun c_175 => by exfalso; omega)
            refine V_goto 26 dX7_node_187 (by decide) ?_
            exact c_node26B hB hr_g hf (K _)
          · refine V_istore dX7_node_167 (by decide) ?_
            refine V_aload_n dX7_node_169 rfl ?_
            refine VM_getiE 20 (g 20 0) dX7_node_170 q2626 (by decide) rfl rfl ?_
            refine V_bipush dX7_node_173 (by decide) ?_
            refine V_icmp_ne 187 dX7_node_175 (by decide) (by first | omega | exact hr_g _ _ | decide) (by first | omega | exact hr_g _ _ | decide) (fun c_175 => ?_) (fun c_175 => by exfalso; omega)
            refine V_goto 26 dX7_node_187 (by decide) ?_
            exact c_node26B hB hr_g hf (K _)
      · refine V_aload_n dX7_node_105 rfl ?_
        refine VM_getiE 20 (g 20 0) dX7_node_106 q2626 (by decide) rfl rfl ?_
        refine V_bipush dX7_node_109 (by decide) ?_
        refine V_icmp_eq 119 dX7_node_111 (by decide) (by first | omega | exact hr_g _ _ | decide) (by first | omega | exact hr_g _ _ | decide) (fun c_111 => by exfalso; omega) (fun c_111 => ?_)
        refine V_bipush dX7_node_114 (by decide) ?_
        refine V_goto 128 dX7_node_116 (by decide) ?_
        refine V_istore dX7_node_128 (by decide) ?_
        refine V_iload_n dX7_node_130 rfl ?_
        refine V_if_ne 147 dX7_node_131 (by decide) (by first | omega | exact hr_g _ _ | decide) (fun c_131 => ?_) (fun c_131 => ?_)
        · refine V_iconst dX7_node_147 ?_
          refine V_goto 152 dX7_node_148 (by decide) ?_
          refine V_istore_n dX7_node_152 (by decide) ?_
          refine V_iload dX7_node_153 rfl ?_
          refine V_istore_n dX7_node_155 (by decide) ?_
          refine V_aload_n dX7_node_156 rfl ?_
          refine V_iconst dX7_node_157 ?_
          refine VM_v1 (M' := mX7_passes) okX7_passes rfl dX7_node_158 q2800 rfl rfl (Nat.le_of_ble_eq_true rfl) (d' := 4) (b1 := 0) (by decide) (by decide) (c_X7_passesB hB hr_g (by first | omega | exact hr_g _ _ | decide) (by first | omega | (simp [gup, aup]; omega)) ?_)
          refine V_aload_n dX7_node_161 rfl ?_
          refine V_bipush dX7_node_162 (by decide) ?_
          refine VM_c1 (M' := mX7_is) okX7_is rfl dX7_node_164 q2788 rfl rfl (Nat.le_of_ble_eq_true rfl) (d' := 1) (b1 := 0) (by decide) (by decide) (c_X7_is hB hr_g (by first | omega | exact hr_g _ _ | decide) (fun c_164 => ?_) (fun c_164 => ?_))
          · refine V_istore dX7_node_167 (by decide) ?_
            refine V_aload_n dX7_node_169 rfl ?_
            refine VM_getiE 20 (g 20 0) dX7_node_170 q2626 (by decide) rfl rfl ?_
            refine V_bipush dX7_node_173 (by decide) ?_
            refine V_icmp_ne 187 dX7_node_175 (by decide) (by first | omega | exact hr_g _ _ | decide) (by first | omega | exact hr_g _ _ | decide) (fun c_175 => ?_) (fun c_175 => by exfalso; omega)
            refine V_goto 26 dX7_node_187 (by decide) ?_
            exact c_node26B hB hr_g hf (K _)
          · refine V_istore dX7_node_167 (by decide) ?_
            refine V_aload_n dX7_node_169 rfl ?_
            refine VM_getiE 20 (g 20 0) dX7_node_170 q2626 (by decide) rfl rfl ?_
            refine V_bipush dX7_node_173 (by decide) ?_
            refine V_icmp_ne 187 dX7_node_175 (by decide) (by first | omega | exact hr_g _ _ | decide) (by first | omega | exact hr_g _ _ | decide) (fun c_175 => ?_) (fun c_175 => by exfalso; omega)
            refine V_goto 26 dX7_node_187 (by decide) ?_
            exact c_node26B hB hr_g hf (K _)
        · refine V_iload_n dX7_node_134 rfl ?_
          refine V_bipush dX7_node_135 (by decide) ?_
          refine V_icmp_ne 151 dX7_node_137 (by decide) (by first | omega | exact hr_g _ _ | decide) (by first | omega | exact hr_g _ _ | decide) (fun c_137 => absurd c_137 (by decide)) (fun c_137 => ?_)
          refine V_iload dX7_node_140 rfl ?_
          refine V_bipush dX7_node_142 (by decide) ?_
          refine V_icmp_ne 151 dX7_node_144 (by decide) (by first | omega | exact hr_g _ _ | decide) (by first | omega | exact hr_g _ _ | decide) (fun c_144 => absurd c_144 (by decide)) (fun c_144 => ?_)
          refine V_iconst dX7_node_147 ?_
          refine V_goto 152 dX7_node_148 (by decide) ?_
          refine V_istore_n dX7_node_152 (by decide) ?_
          refine V_iload dX7_node_153 rfl ?_
          refine V_istore_n dX7_node_155 (by decide) ?_
          refine V_aload_n dX7_node_156 rfl ?_
          refine V_iconst dX7_node_157 ?_
          refine VM_v1 (M' := mX7_passes) okX7_passes rfl dX7_node_158 q2800 rfl rfl (Nat.le_of_ble_eq_true rfl) (d' := 4) (b1 := 0) (by decide) (by decide) (c_X7_passesB hB hr_g (by first | omega | exact hr_g _ _ | decide) (by first | omega | (simp [gup, aup]; omega)) ?_)
          refine V_aload_n dX7_node_161 rfl ?_
          refine V_bipush dX7_node_162 (by decide) ?_
          refine VM_c1 (M' := mX7_is) okX7_is rfl dX7_node_164 q2788 rfl rfl (Nat.le_of_ble_eq_true rfl) (d' := 1) (b1 := 0) (by decide) (by decide) (c_X7_is hB hr_g (by first | omega | exact hr_g _ _ | decide) (fun c_164 => ?_) (fun c_164 => ?_))
          · refine V_istore dX7_node_167 (by decide) ?_
            refine V_aload_n dX7_node_169 rfl ?_
            refine VM_getiE 20 (g 20 0) dX7_node_170 q2626 (by decide) rfl rfl ?_
            refine V_bipush dX7_node_173 (by decide) ?_
            refine V_icmp_ne 187 dX7_node_175 (by decide) (by first | omega | exact hr_g _ _ | decide) (by first | omega | exact hr_g _ _ | decide) (fun c_175 => ?_) (fun c_175 => by exfalso; omega)
            refine V_goto 26 dX7_node_187 (by decide) ?_
            exact c_node26B hB hr_g hf (K _)
          · refine V_istore dX7_node_167 (by decide) ?_
            refine V_aload_n dX7_node_169 rfl ?_
            refine VM_getiE 20 (g 20 0) dX7_node_170 q2626 (by decide) rfl rfl ?_
            refine V_bipush dX7_node_173 (by decide) ?_
            refine V_icmp_ne 187 dX7_node_175 (by decide) (by first | omega | exact hr_g _ _ | decide) (by first | omega | exact hr_g _ _ | decide) (fun c_175 => ?_) (fun c_175 => by exfalso; omega)
            refine V_goto 26 dX7_node_187 (by decide) ?_
            exact c_node26B hB hr_g hf (K _)
    · refine V_aload_n dX7_node_77 rfl ?_
      refine VM_getiE 20 (g 20 0) dX7_node_78 q2626 (by decide) rfl rfl ?_
      refine V_bipush dX7_node_81 (by decide) ?_
      refine V_icmp_eq 91 dX7_node_83 (by decide) (by first | omega | exact hr_g _ _ | decide) (by first | omega | exact hr_g _ _ | decide) (fun c_83 => by exfalso; omega) (fun c_83 => ?_)
      refine V_bipush dX7_node_86 (by decide) ?_
      refine V_goto 100 dX7_node_88 (by decide) ?_
      refine V_istore_n dX7_node_100 (by decide) ?_
      refine V_iload_n dX7_node_101 rfl ?_
      refine V_if_ne 114 dX7_node_102 (by decide) (by first | omega | exact hr_g _ _ | decide) (fun c_102 => ?_) (fun c_102 => ?_)
      · refine V_bipush dX7_node_114 (by decide) ?_
        refine V_goto 128 dX7_node_116 (by decide) ?_
        refine V_istore dX7_node_128 (by decide) ?_
        refine V_iload_n dX7_node_130 rfl ?_
        refine V_if_ne 147 dX7_node_131 (by decide) (by first | omega | exact hr_g _ _ | decide) (fun c_131 => ?_) (fun c_131 => ?_)
        · refine V_iconst dX7_node_147 ?_
          refine V_goto 152 dX7_node_148 (by decide) ?_
          refine V_istore_n dX7_node_152 (by decide) ?_
          refine V_iload dX7_node_153 rfl ?_
          refine V_istore_n dX7_node_155 (by decide) ?_
          refine V_aload_n dX7_node_156 rfl ?_
          refine V_iconst dX7_node_157 ?_
          refine VM_v1 (M' := mX7_passes) okX7_passes rfl dX7_node_158 q2800 rfl rfl (Nat.le_of_ble_eq_true rfl) (d' := 4) (b1 := 0) (by decide) (by decide) (c_X7_passesB hB hr_g (by first | omega | exact hr_g _ _ | decide) (by first | omega | (simp [gup, aup]; omega)) ?_)
          refine V_aload_n dX7_node_161 rfl ?_
          refine V_bipush dX7_node_162 (by decide) ?_
          refine VM_c1 (M' := mX7_is) okX7_is rfl dX7_node_164 q2788 rfl rfl (Nat.le_of_ble_eq_true rfl) (d' := 1) (b1 := 0) (by decide) (by decide) (c_X7_is hB hr_g (by first | omega | exact hr_g _ _ | decide) (fun c_164 => ?_) (fun c_164 => ?_))
          · refine V_istore dX7_node_167 (by decide) ?_
            refine V_aload_n dX7_node_169 rfl ?_
            refine VM_getiE 20 (g 20 0) dX7_node_170 q2626 (by decide) rfl rfl ?_
            refine V_bipush dX7_node_173 (by decide) ?_
            refine V_icmp_ne 187 dX7_node_175 (by decide) (by first | omega | exact hr_g _ _ | decide) (by first | omega | exact hr_g _ _ | decide) (fun c_175 => ?_) (fun c_175 => by exfalso; omega)
            refine V_goto 26 dX7_node_187 (by decide) ?_
            exact c_node26B hB hr_g hf (K _)
          · refine V_istore dX7_node_167 (by decide) ?_
            refine V_aload_n dX7_node_169 rfl ?_
            refine VM_getiE 20 (g 20 0) dX7_node_170 q2626 (by decide) rfl rfl ?_
            refine V_bipush dX7_node_173 (by decide) ?_
            refine V_icmp_ne 187 dX7_node_175 (by decide) (by first | omega | exact hr_g _ _ | decide) (by first | omega | exact hr_g _ _ | decide) (fun c_175 => ?_) (fun c_175 => by exfalso; omega)
            refine V_goto 26 dX7_node_187 (by decide) ?_
            exact c_node26B hB hr_g hf (K _)
        · refine V_iload_n dX7_node_134 rfl ?_
          refine V_bipush dX7_node_135 (by decide) ?_
          refine V_icmp_ne 151 dX7_node_137 (by decide) (by first | omega | exact hr_g _ _ | decide) (by first | omega | exact hr_g _ _ | decide) (fun c_137 => absurd c_137 (by decide)) (fun c_137 => ?_)
          refine V_iload dX7_node_140 rfl ?_
          refine V_bipush dX7_node_142 (by decide) ?_
          refine V_icmp_ne 151 dX7_node_144 (by decide) (by first | omega | exact hr_g _ _ | decide) (by first | omega | exact hr_g _ _ | decide) (fun c_144 => absurd c_144 (by decide)) (fun c_144 => ?_)
          refine V_iconst dX7_node_147 ?_
          refine V_goto 152 dX7_node_148 (by decide) ?_
          refine V_istore_n dX7_node_152 (by decide) ?_
          refine V_iload dX7_node_153 rfl ?_
          refine V_istore_n dX7_node_155 (by decide) ?_
          refine V_aload_n dX7_node_156 rfl ?_
          refine V_iconst dX7_node_157 ?_
          refine VM_v1 (M' := mX7_passes) okX7_passes rfl dX7_node_158 q2800 rfl rfl (Nat.le_of_ble_eq_true rfl) (d' := 4) (b1 := 0) (by decide) (by decide) (c_X7_passesB hB hr_g (by first | omega | exact hr_g _ _ | decide) (by first | omega | (simp [gup, aup]; omega)) ?_)
          refine V_aload_n dX7_node_161 rfl ?_
          refine V_bipush dX7_node_162 (by decide) ?_
          refine VM_c1 (M' := mX7_is) okX7_is rfl dX7_node_164 q2788 rfl rfl (Nat.le_of_ble_eq_true rfl) (d' := 1) (b1 := 0) (by decide) (by decide) (c_X7_is hB hr_g (by first | omega | exact hr_g _ _ | decide) (fun c_164 => ?_) (fun c_164 => ?_))
          · refine V_istore dX7_node_167 (by decide) ?_
            refine V_aload_n dX7_node_169 rfl ?_
            refine VM_getiE 20 (g 20 0) dX7_node_170 q2626 (by decide) rfl rfl ?_
            refine V_bipush dX7_node_173 (by decide) ?_
            refine V_icmp_ne 187 dX7_node_175 (by decide) (by first | omega | exact hr_g _ _ | decide) (by first | omega | exact hr_g _ _ | decide) (fun c_175 => ?_) (fun c_175 => by exfalso; omega)
            refine V_goto 26 dX7_node_187 (by decide) ?_
            exact c_node26B hB hr_g hf (K _)
          · refine V_istore dX7_node_167 (by decide) ?_
            refine V_aload_n dX7_node_169 rfl ?_
            refine VM_getiE 20 (g 20 0) dX7_node_170 q2626 (by decide) rfl rfl ?_
            refine V_bipush dX7_node_173 (by decide) ?_
            refine V_icmp_ne 187 dX7_node_175 (by decide) (by first | omega | exact hr_g _ _ | decide) (by first | omega | exact hr_g _ _ | decide) (fun c_175 => ?_) (fun c_175 => by exfalso; omega)
            refine V_goto 26 dX7_node_187 (by decide) ?_
            exact c_node26B hB hr_g hf (K _)
      · refine V_aload_n dX7_node_105 rfl ?_
        refine VM_getiE 20 (g 20 0) dX7_node_106 q2626 (by decide) rfl rfl ?_
        refine V_bipush dX7_node_109 (by decide) ?_
        refine V_icmp_eq 119 dX7_node_111 (by decide) (by first | omega | exact hr_g _ _ | decide) (by first | omega | exact hr_g _ _ | decide) (fun c_111 => by exfalso; omega) (fun c_111 => ?_)
        refine V_bipush dX7_node_114 (by decide) ?_
        refine V_goto 128 dX7_node_116 (by decide) ?_
        refine V_istore dX7_node_128 (by decide) ?_
        refine V_iload_n dX7_node_130 rfl ?_
        refine V_if_ne 147 dX7_node_131 (by decide) (by first | omega | exact hr_g _ _ | decide) (fun c_131 => ?_) (fun c_131 => ?_)
        · refine V_iconst dX7_node_147 ?_
          refine V_goto 152 dX7_node_148 (by decide) ?_
          refine V_istore_n dX7_node_152 (by decide) ?_
          refine V_iload dX7_node_153 rfl ?_
          refine V_istore_n dX7_node_155 (by decide) ?_
          refine V_aload_n dX7_node_156 rfl ?_
          refine V_iconst dX7_node_157 ?_
          refine VM_v1 (M' := mX7_passes) okX7_passes rfl dX7_node_158 q2800 rfl rfl (Nat.le_of_ble_eq_true rfl) (d' := 4) (b1 := 0) (by decide) (by decide) (c_X7_passesB hB hr_g (by first | omega | exact hr_g _ _ | decide) (by first | omega | (simp [gup, aup]; omega)) ?_)
          refine V_aload_n dX7_node_161 rfl ?_
          refine V_bipush dX7_node_162 (by decide) ?_
          refine VM_c1 (M' := mX7_is) okX7_is rfl dX7_node_164 q2788 rfl rfl (Nat.le_of_ble_eq_true rfl) (d' := 1) (b1 := 0) (by decide) (by decide) (c_X7_is hB hr_g (by first | omega | exact hr_g _ _ | decide) (fun c_164 => ?_) (fun c_164 => ?_))
          · refine V_istore dX7_node_167 (by decide) ?_
            refine V_aload_n dX7_node_169 rfl ?_
            refine VM_getiE 20 (g 20 0) dX7_node_170 q2626 (by decide) rfl rfl ?_
            refine V_bipush dX7_node_173 (by decide) ?_
            refine V_icmp_ne 187 dX7_node_175 (by decide) (by first | omega | exact hr_g _ _ | decide) (by first | omega | exact hr_g _ _ | decide) (fun c_175 => ?_) (fun c_175 => by exfalso; omega)
            refine V_goto 26 dX7_node_187 (by decide) ?_
            exact c_node26B hB hr_g hf (K _)
          · refine V_istore dX7_node_167 (by decide) ?_
            refine V_aload_n dX7_node_169 rfl ?_
            refine VM_getiE 20 (g 20 0) dX7_node_170 q2626 (by decide) rfl rfl ?_
            refine V_bipush dX7_node_173 (by decide) ?_
            refine V_icmp_ne 187 dX7_node_175 (by decide) (by first | omega | exact hr_g _ _ | decide) (by first | omega | exact hr_g _ _ | decide) (fun c_175 => ?_) (fun c_175 => by exfalso; omega)
            refine V_goto 26 dX7_node_187 (by decide) ?_
            exact c_node26B hB hr_g hf (K _)
        · refine V_iload_n dX7_node_134 rfl ?_
          refine V_bipush dX7_node_135 (by decide) ?_
          refine V_icmp_ne 151 dX7_node_137 (by decide) (by first | omega | exact hr_g _ _ | decide) (by first | omega | exact hr_g _ _ | decide) (fun c_137 => absurd c_137 (by decide)) (fun c_137 => ?_)
          refine V_iload dX7_node_140 rfl ?_
          refine V_bipush dX7_node_142 (by decide) ?_
          refine V_icmp_ne 151 dX7_node_144 (by decide) (by first | omega | exact hr_g _ _ | decide) (by first | omega | exact hr_g _ _ | decide) (fun c_144 => absurd c_144 (by decide)) (fun c_144 => ?_)
          refine V_iconst dX7_node_147 ?_
          refine V_goto 152 dX7_node_148 (by decide) ?_
          refine V_istore_n dX7_node_152 (by decide) ?_
          refine V_iload dX7_node_153 rfl ?_
          refine V_istore_n dX7_node_155 (by decide) ?_
          refine V_aload_n dX7_node_156 rfl ?_
          refine V_iconst dX7_node_157 ?_
          refine VM_v1 (M' := mX7_passes) okX7_passes rfl dX7_node_158 q2800 rfl rfl (Nat.le_of_ble_eq_true rfl) (d' := 4) (b1 := 0) (by decide) (by decide) (c_X7_passesB hB hr_g (by first | omega | exact hr_g _ _ | decide) (by first | omega | (simp [gup, aup]; omega)) ?_)
          refine V_aload_n dX7_node_161 rfl ?_
          refine V_bipush dX7_node_162 (by decide) ?_
          refine VM_c1 (M' := mX7_is) okX7_is rfl dX7_node_164 q2788 rfl rfl (Nat.le_of_ble_eq_true rfl) (d' := 1) (b1 := 0) (by decide) (by decide) (c_X7_is hB hr_g (by first | omega | exact hr_g _ _ | decide) (fun c_164 => ?_) (fun c_164 => ?_))
          · refine V_istore dX7_node_167 (by decide) ?_
            refine V_aload_n dX7_node_169 rfl ?_
            refine VM_getiE 20 (g 20 0) dX7_node_170 q2626 (by decide) rfl rfl ?_
            refine V_bipush dX7_node_173 (by decide) ?_
            refine V_icmp_ne 187 dX7_node_175 (by decide) (by first | omega | exact hr_g _ _ | decide) (by first | omega | exact hr_g _ _ | decide) (fun c_175 => ?_) (fun c_175 => by exfalso; omega)
            refine V_goto 26 dX7_node_187 (by decide) ?_
            exact c_node26B hB hr_g hf (K _)
          · refine V_istore dX7_node_167 (by decide) ?_
            refine V_aload_n dX7_node_169 rfl ?_
            refine VM_getiE 20 (g 20 0) dX7_node_170 q2626 (by decide) rfl rfl ?_
            refine V_bipush dX7_node_173 (by decide) ?_
            refine V_icmp_ne 187 dX7_node_175 (by decide) (by first | omega | exact hr_g _ _ | decide) (by first | omega | exact hr_g _ _ | decide) (fun c_175 => ?_) (fun c_175 => by exfalso; omega)
            refine V_goto 26 dX7_node_187 (by decide) ?_
            exact c_node26B hB hr_g hf (K _)
  refine V_iload_n dX7_node_57 rfl ?_
  refine V_if_ne 67 dX7_node_58 (by decide) (by first | omega | exact hr_g _ _ | decide) (fun c_58 => ?_) (fun c_58 => ?_)
  · refine V_iconst dX7_node_67 ?_
    refine V_goto 72 dX7_node_68 (by decide) ?_
    refine V_istore_n dX7_node_72 (by decide) ?_
    exact L _ (by omega)
  · refine V_iload_n dX7_node_61 rfl ?_
    refine V_bipush dX7_node_62 (by decide) ?_
    refine V_icmp_eq 71 dX7_node_64 (by decide) (by first | omega | exact hr_g _ _ | decide) (by first | omega | exact hr_g _ _ | decide) (fun c_64 => ?_) (fun c_64 => ?_)
    · refine V_iconst dX7_node_71 ?_
      refine V_istore_n dX7_node_72 (by decide) ?_
      exact L _ (by omega)
    · refine V_iconst dX7_node_67 ?_
      refine V_goto 72 dX7_node_68 (by decide) ?_
      refine V_istore_n dX7_node_72 (by decide) ?_
      exact L _ (by omega)
theorem c_node26 (hB : MB am B) {b : MG} (hbB : BI b) : ∀ (k : Nat) (g : MG) (sc f l : Int) (v5 : Option Value), TI g → 0 ≤ g 17 0 → (∀ j, j < 9 → g j = b j) → g 20 0 = -9 → g 15 0 - g 16 0 < k → inr sc → inr f → (l = 0 ∨ l = 1) → (∀ v1 v4 v5, Rng (qN b k g sc f l).1 → ((qN b k g sc f l).2.2 = 0 ∨ (qN b k g sc f l).2.2 = 1) → V E mX7_node 5 0 190 [some (.ref am), v1, some (vI (qN b k g sc f l).2.1), some (vI (qN b k g sc f l).2.2), v4, v5] [] (mkM am B h0 (qN b k g sc f l).1) Q X) → V E mX7_node 5 0 26 [some (.ref am), some (vI sc), some (vI f), some (vI l), some (vI 1), v5] [] (mkM am B h0 g) Q X := by
  intro k
  induction k with
  | zero =>
    intro g sc f l v5 hI h17 hbk hf hk
    have := hI.2.2
    omega
  | succ k ih =>
    intro g sc f l v5 hI h17 hbk hf hk hs hff hl K
    have hbg : BI g := hbB.same hbk
    have e1 : ∀ x y, oNB b x y = oNB g x y := fun x y => by unfold oNB; rw [hbk 0 (by omega), hbk 1 (by omega)]
    have e2 : ∀ x y, oSB b x y = oSB g x y := fun x y => by unfold oSB; rw [hbk 4 (by omega), hbk 5 (by omega), hbk 6 (by omega)]
    have o1 := fun x y => oNB_r hbg.1 (g := g) (sc := x) (nm := y)
    have o2 := fun x y => oSB_r hbg.2.2.1 (g := g) (sc := x) (nm := y)
    have hb1 := hbg.1
    have hb6 := hbg.2.2.1
    have hI' := hI
    obtain ⟨hr_g, h2, h3, h4⟩ := hI
    unfold qN at K
    simp only [e1, e2] at K
    have hn := hI'.next'
    have hr2 := hn.1
    have hn2 := hn.2
    have e20 : pNext g 20 0 = -9 := by rw [pN_ne (by omega)]; exact hf
    by_cases c1 : g 18 0 = 1
    · rw [pIf_f (by omega)] at K
      have c3' : ∀ {P : Prop}, (pNext g 18 0 = 3 ∧ pNext g 19 0 = 46 → pNext g 18 0 ≠ 4) := fun h => by omega
      have hkk : ∀ j, j < 9 → pNext (pNext g) j = b j := fun j hj => by rw [pN_ne (by omega), pN_ne (by omega)]; exact hbk j hj
      have e15 : pNext (pNext g) 15 0 = g 15 0 := by rw [pN_ne (by omega), pN_ne (by omega)]
      have e20' : pNext (pNext g) 20 0 = -9 := by rw [pN_ne (by omega)]; exact e20
      have l2 := tN_le hn
      have h17' : 0 ≤ pNext (pNext g) 17 0 := t17 hn
      by_cases c2 : l = 1 ∨ f ≠ -9
      · rw [pIf_t c2] at K
        by_cases c3 : pNext g 18 0 = 3 ∧ pNext g 19 0 = 46
        · rw [pIf_t c3] at K
          have l1 := tN_lt hI' (by omega)
          refine V_aload_n dX7_node_26 rfl ?_
          refine VM_getiE 20 (g 20 0) dX7_node_27 q2626 (by decide) rfl rfl ?_
          refine V_bipush dX7_node_30 (by decide) ?_
          refine V_icmp_ne 190 dX7_node_32 (by decide) (by first | omega | exact hr_g _ _ | decide) (by first | omega | exact hr_g _ _ | decide) (fun c_32 => by exfalso; omega) (fun c_32 => ?_)
          refine V_iload dX7_node_35 rfl ?_
          refine V_if_eq 190 dX7_node_37 (by decide) (by first | omega | exact hr_g _ _ | decide) (fun c_37 => absurd c_37 (by decide)) (fun c_37 => ?_)
          refine V_aload_n dX7_node_40 rfl ?_
          refine V_aload_n dX7_node_41 rfl ?_
          refine VM_getiE 18 (g 18 0) dX7_node_42 q2624 (by decide) rfl rfl ?_
          refine V_iconst dX7_node_45 ?_
          refine V_icmp_ne 53 dX7_node_46 (by decide) (by first | omega | exact hr_g _ _ | decide) (by first | omega | exact hr_g _ _ | decide) (fun c_46 => by exfalso; omega) (fun c_46 => ?_)
          refine V_iconst dX7_node_49 ?_
          refine V_goto 54 dX7_node_50 (by decide) ?_
          refine VM_v1 (M' := mX7_due) okX7_due rfl dX7_node_54 q2796 rfl rfl (Nat.le_of_ble_eq_true rfl) (d' := 1) (b1 := 0) (by decide) (by decide) (c_X7_due1 hB hr_g ?_)
          refine V_iload_n dX7_node_57 rfl ?_
          refine V_if_ne 67 dX7_node_58 (by decide) (by first | omega | exact hr_g _ _ | decide) (fun c_58 => ?_) (fun c_58 => ?_)
          · refine V_iconst dX7_node_67 ?_
            refine V_goto 72 dX7_node_68 (by decide) ?_
            refine V_istore_n dX7_node_72 (by decide) ?_
            refine V_iload_n dX7_node_73 rfl ?_
            refine V_if_ne 86 dX7_node_74 (by decide) (by first | omega | exact hr_g _ _ | decide) (fun c_74 => ?_) (fun c_74 => absurd c_74 (by decide))
            refine V_bipush dX7_node_86 (by decide) ?_
            refine V_goto 100 dX7_node_88 (by decide) ?_
            refine V_istore_n dX7_node_100 (by decide) ?_
            refine V_iload_n dX7_node_101 rfl ?_
            refine V_if_ne 114 dX7_node_102 (by decide) (by first | omega | exact hr_g _ _ | decide) (fun c_102 => ?_) (fun c_102 => absurd c_102 (by decide))
            refine V_bipush dX7_node_114 (by decide) ?_
            refine V_goto 128 dX7_node_116 (by decide) ?_
            refine V_istore dX7_node_128 (by decide) ?_
            refine V_iload_n dX7_node_130 rfl ?_
            refine V_if_ne 147 dX7_node_131 (by decide) (by first | omega | exact hr_g _ _ | decide) (fun c_131 => ?_) (fun c_131 => absurd c_131 (by decide))
            refine V_iconst dX7_node_147 ?_
            refine V_goto 152 dX7_node_148 (by decide) ?_
            refine V_istore_n dX7_node_152 (by decide) ?_
            refine V_iload dX7_node_153 rfl ?_
            refine V_istore_n dX7_node_155 (by decide) ?_
            refine V_aload_n dX7_node_156 rfl ?_
            refine V_iconst dX7_node_157 ?_
            refine VM_v1 (M' := mX7_passes) okX7_passes rfl dX7_node_158 q2800 rfl rfl (Nat.le_of_ble_eq_true rfl) (d' := 4) (b1 := 0) (by decide) (by decide) (c_X7_passes1 hB hr_g (by first | omega | (simp [gup, aup]; omega)) (by first | omega | (simp [gup, aup]; omega)) ?_)
            refine V_aload_n dX7_node_161 rfl ?_
            refine V_bipush dX7_node_162 (by decide) ?_
            refine VM_c1 (M' := mX7_is) okX7_is rfl dX7_node_164 q2788 rfl rfl (Nat.le_of_ble_eq_true rfl) (d' := 1) (b1 := 0) (by decide) (by decide) (c_X7_is hB (rng_pNext hr_g (by first | omega | (simp [gup, aup]; omega))) (by first | omega | exact hr_g _ _ | decide) (fun c_164 => ?_) (fun c_164 => absurd c3 c_164))
            refine V_istore dX7_node_167 (by decide) ?_
            refine V_aload_n dX7_node_169 rfl ?_
            refine VM_getiE 20 (((pNext g)) 20 0) dX7_node_170 q2626 (by decide) rfl rfl ?_
            refine V_bipush dX7_node_173 (by decide) ?_
            refine V_icmp_ne 187 dX7_node_175 (by decide) (by first | omega | exact hr_g _ _ | decide) (by first | omega | exact hr_g _ _ | decide) (fun c_175 => by exfalso; omega) (fun c_175 => ?_)
            refine V_iload dX7_node_178 rfl ?_
            refine V_if_eq 187 dX7_node_180 (by decide) (by first | omega | exact hr_g _ _ | decide) (fun c_180 => absurd c_180 (by decide)) (fun c_180 => ?_)
            refine V_aload_n dX7_node_183 rfl ?_
            refine VM_v0 (M' := mX7_next) okX7_next rfl dX7_node_184 q2773 rfl rfl (Nat.le_of_ble_eq_true rfl) (d' := 3) (b1 := 0) (by decide) (by decide) (c_X7_next hB (rng_pNext hr_g (by first | omega | (simp [gup, aup]; omega))) (by first | omega | (simp [gup, aup]; omega)) ?_)
            refine V_goto 26 dX7_node_187 (by decide) ?_
            exact ih _ _ _ _ _ hn.next' h17' hkk e20' (by omega) (by decide) (by decide) (Or.inr rfl) K
          · refine V_iload_n dX7_node_61 rfl ?_
            refine V_bipush dX7_node_62 (by decide) ?_
            refine V_icmp_eq 71 dX7_node_64 (by decide) (by first | omega | exact hr_g _ _ | decide) (by first | omega | exact hr_g _ _ | decide) (fun c_64 => ?_) (fun c_64 => ?_)
            · exfalso; omega
            · refine V_iconst dX7_node_67 ?_
              refine V_goto 72 dX7_node_68 (by decide) ?_
              refine V_istore_n dX7_node_72 (by decide) ?_
              refine V_iload_n dX7_node_73 rfl ?_
              refine V_if_ne 86 dX7_node_74 (by decide) (by first | omega | exact hr_g _ _ | decide) (fun c_74 => ?_) (fun c_74 => absurd c_74 (by decide))
              refine V_bipush dX7_node_86 (by decide) ?_
              refine V_goto 100 dX7_node_88 (by decide) ?_
              refine V_istore_n dX7_node_100 (by decide) ?_
              refine V_iload_n dX7_node_101 rfl ?_
              refine V_if_ne 114 dX7_node_102 (by decide) (by first | omega | exact hr_g _ _ | decide) (fun c_102 => ?_) (fun c_102 => absurd c_102 (by decide))
              refine V_bipush dX7_node_114 (by decide) ?_
              refine V_goto 128 dX7_node_116 (by decide) ?_
              refine V_istore dX7_node_128 (by decide) ?_
              refine V_iload_n dX7_node_130 rfl ?_
              refine V_if_ne 147 dX7_node_131 (by decide) (by first | omega | exact hr_g _ _ | decide) (fun c_131 => ?_) (fun c_131 => absurd c_131 (by decide))
              refine V_iconst dX7_node_147 ?_
              refine V_goto 152 dX7_node_148 (by decide) ?_
              refine V_istore_n dX7_node_152 (by decide) ?_
              refine V_iload dX7_node_153 rfl ?_
              refine V_istore_n dX7_node_155 (by decide) ?_
              refine V_aload_n dX7_node_156 rfl ?_
              refine V_iconst dX7_node_157 ?_
              refine VM_v1 (M' := mX7_passes) okX7_passes rfl dX7_node_158 q2800 rfl rfl (Nat.le_of_ble_eq_true rfl) (d' := 4) (b1 := 0) (by decide) (by decide) (c_X7_passes1 hB hr_g (by first | omega | (simp [gup, aup]; omega)) (by first | omega | (simp [gup, aup]; omega)) ?_)
              refine V_aload_n dX7_node_161 rfl ?_
              refine V_bipush dX7_node_162 (by decide) ?_
              refine VM_c1 (M' := mX7_is) okX7_is rfl dX7_node_164 q2788 rfl rfl (Nat.le_of_ble_eq_true rfl) (d' := 1) (b1 := 0) (by decide) (by decide) (c_X7_is hB (rng_pNext hr_g (by first | omega | (simp [gup, aup]; omega))) (by first | omega | exact hr_g _ _ | decide) (fun c_164 => ?_) (fun c_164 => absurd c3 c_164))
              refine V_istore dX7_node_167 (by decide) ?_
              refine V_aload_n dX7_node_169 rfl ?_
              refine VM_getiE 20 (((pNext g)) 20 0) dX7_node_170 q2626 (by decide) rfl rfl ?_
              refine V_bipush dX7_node_173 (by decide) ?_
              refine V_icmp_ne 187 dX7_node_175 (by decide) (by first | omega | exact hr_g _ _ | decide) (by first | omega | exact hr_g _ _ | decide) (fun c_175 => by exfalso; omega) (fun c_175 => ?_)
              refine V_iload dX7_node_178 rfl ?_
              refine V_if_eq 187 dX7_node_180 (by decide) (by first | omega | exact hr_g _ _ | decide) (fun c_180 => absurd c_180 (by decide)) (fun c_180 => ?_)
              refine V_aload_n dX7_node_183 rfl ?_
              refine VM_v0 (M' := mX7_next) okX7_next rfl dX7_node_184 q2773 rfl rfl (Nat.le_of_ble_eq_true rfl) (d' := 3) (b1 := 0) (by decide) (by decide) (c_X7_next hB (rng_pNext hr_g (by first | omega | (simp [gup, aup]; omega))) (by first | omega | (simp [gup, aup]; omega)) ?_)
              refine V_goto 26 dX7_node_187 (by decide) ?_
              exact ih _ _ _ _ _ hn.next' h17' hkk e20' (by omega) (by decide) (by decide) (Or.inr rfl) K
        · rw [pIf_f c3] at K
          refine V_aload_n dX7_node_26 rfl ?_
          refine VM_getiE 20 (g 20 0) dX7_node_27 q2626 (by decide) rfl rfl ?_
          refine V_bipush dX7_node_30 (by decide) ?_
          refine V_icmp_ne 190 dX7_node_32 (by decide) (by first | omega | exact hr_g _ _ | decide) (by first | omega | exact hr_g _ _ | decide) (fun c_32 => by exfalso; omega) (fun c_32 => ?_)
          refine V_iload dX7_node_35 rfl ?_
          refine V_if_eq 190 dX7_node_37 (by decide) (by first | omega | exact hr_g _ _ | decide) (fun c_37 => absurd c_37 (by decide)) (fun c_37 => ?_)
          refine V_aload_n dX7_node_40 rfl ?_
          refine V_aload_n dX7_node_41 rfl ?_
          refine VM_getiE 18 (g 18 0) dX7_node_42 q2624 (by decide) rfl rfl ?_
          refine V_iconst dX7_node_45 ?_
          refine V_icmp_ne 53 dX7_node_46 (by decide) (by first | omega | exact hr_g _ _ | decide) (by first | omega | exact hr_g _ _ | decide) (fun c_46 => by exfalso; omega) (fun c_46 => ?_)
          refine V_iconst dX7_node_49 ?_
          refine V_goto 54 dX7_node_50 (by decide) ?_
          refine VM_v1 (M' := mX7_due) okX7_due rfl dX7_node_54 q2796 rfl rfl (Nat.le_of_ble_eq_true rfl) (d' := 1) (b1 := 0) (by decide) (by decide) (c_X7_due1 hB hr_g ?_)
          refine V_iload_n dX7_node_57 rfl ?_
          refine V_if_ne 67 dX7_node_58 (by decide) (by first | omega | exact hr_g _ _ | decide) (fun c_58 => ?_) (fun c_58 => ?_)
          · refine V_iconst dX7_node_67 ?_
            refine V_goto 72 dX7_node_68 (by decide) ?_
            refine V_istore_n dX7_node_72 (by decide) ?_
            refine V_iload_n dX7_node_73 rfl ?_
            refine V_if_ne 86 dX7_node_74 (by decide) (by first | omega | exact hr_g _ _ | decide) (fun c_74 => ?_) (fun c_74 => absurd c_74 (by decide))
            refine V_bipush dX7_node_86 (by decide) ?_
            refine V_goto 100 dX7_node_88 (by decide) ?_
            refine V_istore_n dX7_node_100 (by decide) ?_
            refine V_iload_n dX7_node_101 rfl ?_
            refine V_if_ne 114 dX7_node_102 (by decide) (by first | omega | exact hr_g _ _ | decide) (fun c_102 => ?_) (fun c_102 => absurd c_102 (by decide))
            refine V_bipush dX7_node_114 (by decide) ?_
            refine V_goto 128 dX7_node_116 (by decide) ?_
            refine V_istore dX7_node_128 (by decide) ?_
            refine V_iload_n dX7_node_130 rfl ?_
            refine V_if_ne 147 dX7_node_131 (by decide) (by first | omega | exact hr_g _ _ | decide) (fun c_131 => ?_) (fun c_131 => absurd c_131 (by decide))
            refine V_iconst dX7_node_147 ?_
            refine V_goto 152 dX7_node_148 (by decide) ?_
            refine V_istore_n dX7_node_152 (by decide) ?_
            refine V_iload dX7_node_153 rfl ?_
            refine V_istore_n dX7_node_155 (by decide) ?_
            refine V_aload_n dX7_node_156 rfl ?_
            refine V_iconst dX7_node_157 ?_
            refine VM_v1 (M' := mX7_passes) okX7_passes rfl dX7_node_158 q2800 rfl rfl (Nat.le_of_ble_eq_true rfl) (d' := 4) (b1 := 0) (by decide) (by decide) (c_X7_passes1 hB hr_g (by first | omega | (simp [gup, aup]; omega)) (by first | omega | (simp [gup, aup]; omega)) ?_)
            refine V_aload_n dX7_node_161 rfl ?_
            refine V_bipush dX7_node_162 (by decide) ?_
            refine VM_c1 (M' := mX7_is) okX7_is rfl dX7_node_164 q2788 rfl rfl (Nat.le_of_ble_eq_true rfl) (d' := 1) (b1 := 0) (by decide) (by decide) (c_X7_is hB (rng_pNext hr_g (by first | omega | (simp [gup, aup]; omega))) (by first | omega | exact hr_g _ _ | decide) (fun c_164 => absurd c_164 c3) (fun c_164 => ?_))
            refine V_istore dX7_node_167 (by decide) ?_
            refine V_aload_n dX7_node_169 rfl ?_
            refine VM_getiE 20 (((pNext g)) 20 0) dX7_node_170 q2626 (by decide) rfl rfl ?_
            refine V_bipush dX7_node_173 (by decide) ?_
            refine V_icmp_ne 187 dX7_node_175 (by decide) (by first | omega | exact hr_g _ _ | decide) (by first | omega | exact hr_g _ _ | decide) (fun c_175 => by exfalso; omega) (fun c_175 => ?_)
            refine V_iload dX7_node_178 rfl ?_
            refine V_if_eq 187 dX7_node_180 (by decide) (by first | omega | exact hr_g _ _ | decide) (fun c_180 => ?_) (fun c_180 => absurd c_180 (by decide))
            exact V_goto 26 dX7_node_187 (by decide) (c_node26E hB hr2 e20 (K _ _ _ hr2 (Or.inr rfl)))
            skip
          · refine V_iload_n dX7_node_61 rfl ?_
            refine V_bipush dX7_node_62 (by decide) ?_
            refine V_icmp_eq 71 dX7_node_64 (by decide) (by first | omega | exact hr_g _ _ | decide) (by first | omega | exact hr_g _ _ | decide) (fun c_64 => ?_) (fun c_64 => ?_)
            · exfalso; omega
            · refine V_iconst dX7_node_67 ?_
              refine V_goto 72 dX7_node_68 (by decide) ?_
              refine V_istore_n dX7_node_72 (by decide) ?_
              refine V_iload_n dX7_node_73 rfl ?_
              refine V_if_ne 86 dX7_node_74 (by decide) (by first | omega | exact hr_g _ _ | decide) (fun c_74 => ?_) (fun c_74 => absurd c_74 (by decide))
              refine V_bipush dX7_node_86 (by decide) ?_
              refine V_goto 100 dX7_node_88 (by decide) ?_
              refine V_istore_n dX7_node_100 (by decide) ?_
              refine V_iload_n dX7_node_101 rfl ?_
              refine V_if_ne 114 dX7_node_102 (by decide) (by first | omega | exact hr_g _ _ | decide) (fun c_102 => ?_) (fun c_102 => absurd c_102 (by decide))
              refine V_bipush dX7_node_114 (by decide) ?_
              refine V_goto 128 dX7_node_116 (by decide) ?_
              refine V_istore dX7_node_128 (by decide) ?_
              refine V_iload_n dX7_node_130 rfl ?_
              refine V_if_ne 147 dX7_node_131 (by decide) (by first | omega | exact hr_g _ _ | decide) (fun c_131 => ?_) (fun c_131 => absurd c_131 (by decide))
              refine V_iconst dX7_node_147 ?_
              refine V_goto 152 dX7_node_148 (by decide) ?_
              refine V_istore_n dX7_node_152 (by decide) ?_
              refine V_iload dX7_node_153 rfl ?_
              refine V_istore_n dX7_node_155 (by decide) ?_
              refine V_aload_n dX7_node_156 rfl ?_
              refine V_iconst dX7_node_157 ?_
              refine VM_v1 (M' := mX7_passes) okX7_passes rfl dX7_node_158 q2800 rfl rfl (Nat.le_of_ble_eq_true rfl) (d' := 4) (b1 := 0) (by decide) (by decide) (c_X7_passes1 hB hr_g (by first | omega | (simp [gup, aup]; omega)) (by first | omega | (simp [gup, aup]; omega)) ?_)
              refine V_aload_n dX7_node_161 rfl ?_
              refine V_bipush dX7_node_162 (by decide) ?_
              refine VM_c1 (M' := mX7_is) okX7_is rfl dX7_node_164 q2788 rfl rfl (Nat.le_of_ble_eq_true rfl) (d' := 1) (b1 := 0) (by decide) (by decide) (c_X7_is hB (rng_pNext hr_g (by first | omega | (simp [gup, aup]; omega))) (by first | omega | exact hr_g _ _ | decide) (fun c_164 => absurd c_164 c3) (fun c_164 => ?_))
              refine V_istore dX7_node_167 (by decide) ?_
              refine V_aload_n dX7_node_169 rfl ?_
              refine VM_getiE 20 (((pNext g)) 20 0) dX7_node_170 q2626 (by decide) rfl rfl ?_
              refine V_bipush dX7_node_173 (by decide) ?_
              refine V_icmp_ne 187 dX7_node_175 (by decide) (by first | omega | exact hr_g _ _ | decide) (by first | omega | exact hr_g _ _ | decide) (fun c_175 => by exfalso; omega) (fun c_175 => ?_)
              refine V_iload dX7_node_178 rfl ?_
              refine V_if_eq 187 dX7_node_180 (by decide) (by first | omega | exact hr_g _ _ | decide) (fun c_180 => ?_) (fun c_180 => absurd c_180 (by decide))
              exact V_goto 26 dX7_node_187 (by decide) (c_node26E hB hr2 e20 (K _ _ _ hr2 (Or.inr rfl)))
              skip
      · rw [pIf_f c2] at K
        have hl0 : l = 0 := by omega
        have hf9 : f = -9 := by omega
        subst hl0 hf9
        have o1' := o1 sc (g 19 0)
        have o2' := o2 sc (g 19 0)
        have kL : ∀ z : Int, (if oNB g sc (g 19 0) = -9 ∧ oSB g sc (g 19 0) = -9 then (1 : Int) else 0) = z → (z = 0 ∨ z = 1) := fun z hz => by
          rw [← hz]; split <;> simp
        by_cases c3 : pNext g 18 0 = 3 ∧ pNext g 19 0 = 46
        · rw [pIf_t c3] at K
          have l1 := tN_lt hI' (by omega)
          refine V_aload_n dX7_node_26 rfl ?_
          refine VM_getiE 20 (g 20 0) dX7_node_27 q2626 (by decide) rfl rfl ?_
          refine V_bipush dX7_node_30 (by decide) ?_
          refine V_icmp_ne 190 dX7_node_32 (by decide) (by first | omega | exact hr_g _ _ | decide) (by first | omega | exact hr_g _ _ | decide) (fun c_32 => by exfalso; omega) (fun c_32 => ?_)
          refine V_iload dX7_node_35 rfl ?_
          refine V_if_eq 190 dX7_node_37 (by decide) (by first | omega | exact hr_g _ _ | decide) (fun c_37 => absurd c_37 (by decide)) (fun c_37 => ?_)
          refine V_aload_n dX7_node_40 rfl ?_
          refine V_aload_n dX7_node_41 rfl ?_
          refine VM_getiE 18 (g 18 0) dX7_node_42 q2624 (by decide) rfl rfl ?_
          refine V_iconst dX7_node_45 ?_
          refine V_icmp_ne 53 dX7_node_46 (by decide) (by first | omega | exact hr_g _ _ | decide) (by first | omega | exact hr_g _ _ | decide) (fun c_46 => by exfalso; omega) (fun c_46 => ?_)
          refine V_iconst dX7_node_49 ?_
          refine V_goto 54 dX7_node_50 (by decide) ?_
          refine VM_v1 (M' := mX7_due) okX7_due rfl dX7_node_54 q2796 rfl rfl (Nat.le_of_ble_eq_true rfl) (d' := 1) (b1 := 0) (by decide) (by decide) (c_X7_due1 hB hr_g ?_)
          refine V_iload_n dX7_node_57 rfl ?_
          refine V_if_ne 67 dX7_node_58 (by decide) (by first | omega | exact hr_g _ _ | decide) (fun c_58 => absurd c_58 (by decide)) (fun c_58 => ?_)
          refine V_iload_n dX7_node_61 rfl ?_
          refine V_bipush dX7_node_62 (by decide) ?_
          refine V_icmp_eq 71 dX7_node_64 (by decide) (by first | omega | exact hr_g _ _ | decide) (by first | omega | exact hr_g _ _ | decide) (fun c_64 => ?_) (fun c_64 => by exfalso; omega)
          refine V_iconst dX7_node_71 ?_
          refine V_istore_n dX7_node_72 (by decide) ?_
          refine V_iload_n dX7_node_73 rfl ?_
          refine V_if_ne 86 dX7_node_74 (by decide) (by first | omega | exact hr_g _ _ | decide) (fun c_74 => absurd c_74 (by decide)) (fun c_74 => ?_)
          refine V_aload_n dX7_node_77 rfl ?_
          refine VM_getiE 20 (g 20 0) dX7_node_78 q2626 (by decide) rfl rfl ?_
          refine V_bipush dX7_node_81 (by decide) ?_
          refine V_icmp_eq 91 dX7_node_83 (by decide) (by first | omega | exact hr_g _ _ | decide) (by first | omega | exact hr_g _ _ | decide) (fun c_83 => ?_) (fun c_83 => by exfalso; omega)
          refine V_aload_n dX7_node_91 rfl ?_
          refine V_iload_n dX7_node_92 rfl ?_
          refine V_aload_n dX7_node_93 rfl ?_
          refine VM_getiE 19 (g 19 0) dX7_node_94 q2625 (by decide) rfl rfl ?_
          refine VM_c2 (M' := mX7_nodeBy) okX7_nodeBy rfl dX7_node_97 q2856 rfl rfl (Nat.le_of_ble_eq_true rfl) (d' := 2) (b1 := 0) (by decide) (by decide) (c_X7_nodeBy hB hr_g (by first | omega | exact hr_g _ _ | decide) (by first | omega | exact hr_g _ _ | decide) (by first | omega | (simp [gup, aup]; omega)) ?_)
          refine V_top (oNB g sc (g 19 0)) (by exact rfl) ?_
          refine V_istore_n dX7_node_100 (by decide) ?_
          refine V_iload_n dX7_node_101 rfl ?_
          refine V_if_ne 114 dX7_node_102 (by decide) (by first | omega | exact hr_g _ _ | decide) (fun c_102 => absurd c_102 (by decide)) (fun c_102 => ?_)
          refine V_aload_n dX7_node_105 rfl ?_
          refine VM_getiE 20 (g 20 0) dX7_node_106 q2626 (by decide) rfl rfl ?_
          refine V_bipush dX7_node_109 (by decide) ?_
          refine V_icmp_eq 119 dX7_node_111 (by decide) (by first | omega | exact hr_g _ _ | decide) (by first | omega | exact hr_g _ _ | decide) (fun c_111 => ?_) (fun c_111 => by exfalso; omega)
          refine V_aload_n dX7_node_119 rfl ?_
          refine V_iload_n dX7_node_120 rfl ?_
          refine V_aload_n dX7_node_121 rfl ?_
          refine VM_getiE 19 (g 19 0) dX7_node_122 q2625 (by decide) rfl rfl ?_
          refine VM_c2 (M' := mX7_scopeBy) okX7_scopeBy rfl dX7_node_125 q2864 rfl rfl (Nat.le_of_ble_eq_true rfl) (d' := 2) (b1 := 0) (by decide) (by decide) (c_X7_scopeBy hB hr_g (by first | omega | exact hr_g _ _ | decide) (by first | omega | exact hr_g _ _ | decide) (by first | omega | (simp [gup, aup]; omega)) ?_)
          refine V_top (oSB g sc (g 19 0)) (by exact rfl) ?_
          refine V_istore dX7_node_128 (by decide) ?_
          refine V_iload_n dX7_node_130 rfl ?_
          refine V_if_ne 147 dX7_node_131 (by decide) (by first | omega | exact hr_g _ _ | decide) (fun c_131 => absurd c_131 (by decide)) (fun c_131 => ?_)
          refine V_iload_n dX7_node_134 rfl ?_
          refine V_bipush dX7_node_135 (by decide) ?_
          refine V_icmp_ne 151 dX7_node_137 (by decide) (by first | omega | exact hr_g _ _ | decide) (by first | omega | exact hr_g _ _ | decide) (fun c_137 => ?_) (fun c_137 => ?_)
          · refine V_iconst dX7_node_151 ?_
            refine V_istore_n dX7_node_152 (by decide) ?_
            refine V_iload dX7_node_153 rfl ?_
            refine V_istore_n dX7_node_155 (by decide) ?_
            refine V_aload_n dX7_node_156 rfl ?_
            refine V_iconst dX7_node_157 ?_
            refine VM_v1 (M' := mX7_passes) okX7_passes rfl dX7_node_158 q2800 rfl rfl (Nat.le_of_ble_eq_true rfl) (d' := 4) (b1 := 0) (by decide) (by decide) (c_X7_passes1 hB hr_g (by first | omega | (simp [gup, aup]; omega)) (by first | omega | (simp [gup, aup]; omega)) ?_)
            refine V_aload_n dX7_node_161 rfl ?_
            refine V_bipush dX7_node_162 (by decide) ?_
            refine VM_c1 (M' := mX7_is) okX7_is rfl dX7_node_164 q2788 rfl rfl (Nat.le_of_ble_eq_true rfl) (d' := 1) (b1 := 0) (by decide) (by decide) (c_X7_is hB (rng_pNext hr_g (by first | omega | (simp [gup, aup]; omega))) (by first | omega | exact hr_g _ _ | decide) (fun c_164 => ?_) (fun c_164 => absurd c3 c_164))
            refine V_istore dX7_node_167 (by decide) ?_
            refine V_aload_n dX7_node_169 rfl ?_
            refine VM_getiE 20 (((pNext g)) 20 0) dX7_node_170 q2626 (by decide) rfl rfl ?_
            refine V_bipush dX7_node_173 (by decide) ?_
            refine V_icmp_ne 187 dX7_node_175 (by decide) (by first | omega | exact hr_g _ _ | decide) (by first | omega | exact hr_g _ _ | decide) (fun c_175 => by exfalso; omega) (fun c_175 => ?_)
            refine V_iload dX7_node_178 rfl ?_
            refine V_if_eq 187 dX7_node_180 (by decide) (by first | omega | exact hr_g _ _ | decide) (fun c_180 => absurd c_180 (by decide)) (fun c_180 => ?_)
            refine V_aload_n dX7_node_183 rfl ?_
            refine VM_v0 (M' := mX7_next) okX7_next rfl dX7_node_184 q2773 rfl rfl (Nat.le_of_ble_eq_true rfl) (d' := 3) (b1 := 0) (by decide) (by decide) (c_X7_next hB (rng_pNext hr_g (by first | omega | (simp [gup, aup]; omega))) (by first | omega | (simp [gup, aup]; omega)) ?_)
            refine V_goto 26 dX7_node_187 (by decide) ?_
            first | (rw [if_pos (by omega)] at K; exact ih _ _ _ _ _ hn.next' h17' hkk e20' (by omega) (by constructor <;> omega) (by constructor <;> omega) (Or.inr rfl) K) | (rw [if_neg (by omega)] at K; exact ih _ _ _ _ _ hn.next' h17' hkk e20' (by omega) (by constructor <;> omega) (by constructor <;> omega) (Or.inl rfl) K)
          · refine V_iload dX7_node_140 rfl ?_
            refine V_bipush dX7_node_142 (by decide) ?_
            refine V_icmp_ne 151 dX7_node_144 (by decide) (by first | omega | exact hr_g _ _ | decide) (by first | omega | exact hr_g _ _ | decide) (fun c_144 => ?_) (fun c_144 => ?_)
            · refine V_iconst dX7_node_151 ?_
              refine V_istore_n dX7_node_152 (by decide) ?_
              refine V_iload dX7_node_153 rfl ?_
              refine V_istore_n dX7_node_155 (by decide) ?_
              refine V_aload_n dX7_node_156 rfl ?_
              refine V_iconst dX7_node_157 ?_
              refine VM_v1 (M' := mX7_passes) okX7_passes rfl dX7_node_158 q2800 rfl rfl (Nat.le_of_ble_eq_true rfl) (d' := 4) (b1 := 0) (by decide) (by decide) (c_X7_passes1 hB hr_g (by first | omega | (simp [gup, aup]; omega)) (by first | omega | (simp [gup, aup]; omega)) ?_)
              refine V_aload_n dX7_node_161 rfl ?_
              refine V_bipush dX7_node_162 (by decide) ?_
              refine VM_c1 (M' := mX7_is) okX7_is rfl dX7_node_164 q2788 rfl rfl (Nat.le_of_ble_eq_true rfl) (d' := 1) (b1 := 0) (by decide) (by decide) (c_X7_is hB (rng_pNext hr_g (by first | omega | (simp [gup, aup]; omega))) (by first | omega | exact hr_g _ _ | decide) (fun c_164 => ?_) (fun c_164 => absurd c3 c_164))
              refine V_istore dX7_node_167 (by decide) ?_
              refine V_aload_n dX7_node_169 rfl ?_
              refine VM_getiE 20 (((pNext g)) 20 0) dX7_node_170 q2626 (by decide) rfl rfl ?_
              refine V_bipush dX7_node_173 (by decide) ?_
              refine V_icmp_ne 187 dX7_node_175 (by decide) (by first | omega | exact hr_g _ _ | decide) (by first | omega | exact hr_g _ _ | decide) (fun c_175 => by exfalso; omega) (fun c_175 => ?_)
              refine V_iload dX7_node_178 rfl ?_
              refine V_if_eq 187 dX7_node_180 (by decide) (by first | omega | exact hr_g _ _ | decide) (fun c_180 => absurd c_180 (by decide)) (fun c_180 => ?_)
              refine V_aload_n dX7_node_183 rfl ?_
              refine VM_v0 (M' := mX7_next) okX7_next rfl dX7_node_184 q2773 rfl rfl (Nat.le_of_ble_eq_true rfl) (d' := 3) (b1 := 0) (by decide) (by decide) (c_X7_next hB (rng_pNext hr_g (by first | omega | (simp [gup, aup]; omega))) (by first | omega | (simp [gup, aup]; omega)) ?_)
              refine V_goto 26 dX7_node_187 (by decide) ?_
              first | (rw [if_pos (by omega)] at K; exact ih _ _ _ _ _ hn.next' h17' hkk e20' (by omega) (by constructor <;> omega) (by constructor <;> omega) (Or.inr rfl) K) | (rw [if_neg (by omega)] at K; exact ih _ _ _ _ _ hn.next' h17' hkk e20' (by omega) (by constructor <;> omega) (by constructor <;> omega) (Or.inl rfl) K)
            · refine V_iconst dX7_node_147 ?_
              refine V_goto 152 dX7_node_148 (by decide) ?_
              refine V_istore_n dX7_node_152 (by decide) ?_
              refine V_iload dX7_node_153 rfl ?_
              refine V_istore_n dX7_node_155 (by decide) ?_
              refine V_aload_n dX7_node_156 rfl ?_
              refine V_iconst dX7_node_157 ?_
              refine VM_v1 (M' := mX7_passes) okX7_passes rfl dX7_node_158 q2800 rfl rfl (Nat.le_of_ble_eq_true rfl) (d' := 4) (b1 := 0) (by decide) (by decide) (c_X7_passes1 hB hr_g (by first | omega | (simp [gup, aup]; omega)) (by first | omega | (simp [gup, aup]; omega)) ?_)
              refine V_aload_n dX7_node_161 rfl ?_
              refine V_bipush dX7_node_162 (by decide) ?_
              refine VM_c1 (M' := mX7_is) okX7_is rfl dX7_node_164 q2788 rfl rfl (Nat.le_of_ble_eq_true rfl) (d' := 1) (b1 := 0) (by decide) (by decide) (c_X7_is hB (rng_pNext hr_g (by first | omega | (simp [gup, aup]; omega))) (by first | omega | exact hr_g _ _ | decide) (fun c_164 => ?_) (fun c_164 => absurd c3 c_164))
              refine V_istore dX7_node_167 (by decide) ?_
              refine V_aload_n dX7_node_169 rfl ?_
              refine VM_getiE 20 (((pNext g)) 20 0) dX7_node_170 q2626 (by decide) rfl rfl ?_
              refine V_bipush dX7_node_173 (by decide) ?_
              refine V_icmp_ne 187 dX7_node_175 (by decide) (by first | omega | exact hr_g _ _ | decide) (by first | omega | exact hr_g _ _ | decide) (fun c_175 => by exfalso; omega) (fun c_175 => ?_)
              refine V_iload dX7_node_178 rfl ?_
              refine V_if_eq 187 dX7_node_180 (by decide) (by first | omega | exact hr_g _ _ | decide) (fun c_180 => absurd c_180 (by decide)) (fun c_180 => ?_)
              refine V_aload_n dX7_node_183 rfl ?_
              refine VM_v0 (M' := mX7_next) okX7_next rfl dX7_node_184 q2773 rfl rfl (Nat.le_of_ble_eq_true rfl) (d' := 3) (b1 := 0) (by decide) (by decide) (c_X7_next hB (rng_pNext hr_g (by first | omega | (simp [gup, aup]; omega))) (by first | omega | (simp [gup, aup]; omega)) ?_)
              refine V_goto 26 dX7_node_187 (by decide) ?_
              first | (rw [if_pos (by omega)] at K; exact ih _ _ _ _ _ hn.next' h17' hkk e20' (by omega) (by constructor <;> omega) (by constructor <;> omega) (Or.inr rfl) K) | (rw [if_neg (by omega)] at K; exact ih _ _ _ _ _ hn.next' h17' hkk e20' (by omega) (by constructor <;> omega) (by constructor <;> omega) (Or.inl rfl) K)
        · rw [pIf_f c3] at K
          refine V_aload_n dX7_node_26 rfl ?_
          refine VM_getiE 20 (g 20 0) dX7_node_27 q2626 (by decide) rfl rfl ?_
          refine V_bipush dX7_node_30 (by decide) ?_
          refine V_icmp_ne 190 dX7_node_32 (by decide) (by first | omega | exact hr_g _ _ | decide) (by first | omega | exact hr_g _ _ | decide) (fun c_32 => by exfalso; omega) (fun c_32 => ?_)
          refine V_iload dX7_node_35 rfl ?_
          refine V_if_eq 190 dX7_node_37 (by decide) (by first | omega | exact hr_g _ _ | decide) (fun c_37 => absurd c_37 (by decide)) (fun c_37 => ?_)
          refine V_aload_n dX7_node_40 rfl ?_
          refine V_aload_n dX7_node_41 rfl ?_
          refine VM_getiE 18 (g 18 0) dX7_node_42 q2624 (by decide) rfl rfl ?_
          refine V_iconst dX7_node_45 ?_
          refine V_icmp_ne 53 dX7_node_46 (by decide) (by first | omega | exact hr_g _ _ | decide) (by first | omega | exact hr_g _ _ | decide) (fun c_46 => by exfalso; omega) (fun c_46 => ?_)
          refine V_iconst dX7_node_49 ?_
          refine V_goto 54 dX7_node_50 (by decide) ?_
          refine VM_v1 (M' := mX7_due) okX7_due rfl dX7_node_54 q2796 rfl rfl (Nat.le_of_ble_eq_true rfl) (d' := 1) (b1 := 0) (by decide) (by decide) (c_X7_due1 hB hr_g ?_)
          refine V_iload_n dX7_node_57 rfl ?_
          refine V_if_ne 67 dX7_node_58 (by decide) (by first | omega | exact hr_g _ _ | decide) (fun c_58 => absurd c_58 (by decide)) (fun c_58 => ?_)
          refine V_iload_n dX7_node_61 rfl ?_
          refine V_bipush dX7_node_62 (by decide) ?_
          refine V_icmp_eq 71 dX7_node_64 (by decide) (by first | omega | exact hr_g _ _ | decide) (by first | omega | exact hr_g _ _ | decide) (fun c_64 => ?_) (fun c_64 => by exfalso; omega)
          refine V_iconst dX7_node_71 ?_
          refine V_istore_n dX7_node_72 (by decide) ?_
          refine V_iload_n dX7_node_73 rfl ?_
          refine V_if_ne 86 dX7_node_74 (by decide) (by first | omega | exact hr_g _ _ | decide) (fun c_74 => absurd c_74 (by decide)) (fun c_74 => ?_)
          refine V_aload_n dX7_node_77 rfl ?_
          refine VM_getiE 20 (g 20 0) dX7_node_78 q2626 (by decide) rfl rfl ?_
          refine V_bipush dX7_node_81 (by decide) ?_
          refine V_icmp_eq 91 dX7_node_83 (by decide) (by first | omega | exact hr_g _ _ | decide) (by first | omega | exact hr_g _ _ | decide) (fun c_83 => ?_) (fun c_83 => by exfalso; omega)
          refine V_aload_n dX7_node_91 rfl ?_
          refine V_iload_n dX7_node_92 rfl ?_
          refine V_aload_n dX7_node_93 rfl ?_
          refine VM_getiE 19 (g 19 0) dX7_node_94 q2625 (by decide) rfl rfl ?_
          refine VM_c2 (M' := mX7_nodeBy) okX7_nodeBy rfl dX7_node_97 q2856 rfl rfl (Nat.le_of_ble_eq_true rfl) (d' := 2) (b1 := 0) (by decide) (by decide) (c_X7_nodeBy hB hr_g (by first | omega | exact hr_g _ _ | decide) (by first | omega | exact hr_g _ _ | decide) (by first | omega | (simp [gup, aup]; omega)) ?_)
          refine V_top (oNB g sc (g 19 0)) (by exact rfl) ?_
          refine V_istore_n dX7_node_100 (by decide) ?_
          refine V_iload_n dX7_node_101 rfl ?_
          refine V_if_ne 114 dX7_node_102 (by decide) (by first | omega | exact hr_g _ _ | decide) (fun c_102 => absurd c_102 (by decide)) (fun c_102 => ?_)
          refine V_aload_n dX7_node_105 rfl ?_
          refine VM_getiE 20 (g 20 0) dX7_node_106 q2626 (by decide) rfl rfl ?_
          refine V_bipush dX7_node_109 (by decide) ?_
          refine V_icmp_eq 119 dX7_node_111 (by decide) (by first | omega | exact hr_g _ _ | decide) (by first | omega | exact hr_g _ _ | decide) (fun c_111 => ?_) (fun c_111 => by exfalso; omega)
          refine V_aload_n dX7_node_119 rfl ?_
          refine V_iload_n dX7_node_120 rfl ?_
          refine V_aload_n dX7_node_121 rfl ?_
          refine VM_getiE 19 (g 19 0) dX7_node_122 q2625 (by decide) rfl rfl ?_
          refine VM_c2 (M' := mX7_scopeBy) okX7_scopeBy rfl dX7_node_125 q2864 rfl rfl (Nat.le_of_ble_eq_true rfl) (d' := 2) (b1 := 0) (by decide) (by decide) (c_X7_scopeBy hB hr_g (by first | omega | exact hr_g _ _ | decide) (by first | omega | exact hr_g _ _ | decide) (by first | omega | (simp [gup, aup]; omega)) ?_)
          refine V_top (oSB g sc (g 19 0)) (by exact rfl) ?_
          refine V_istore dX7_node_128 (by decide) ?_
          refine V_iload_n dX7_node_130 rfl ?_
          refine V_if_ne 147 dX7_node_131 (by decide) (by first | omega | exact hr_g _ _ | decide) (fun c_131 => absurd c_131 (by decide)) (fun c_131 => ?_)
          refine V_iload_n dX7_node_134 rfl ?_
          refine V_bipush dX7_node_135 (by decide) ?_
          refine V_icmp_ne 151 dX7_node_137 (by decide) (by first | omega | exact hr_g _ _ | decide) (by first | omega | exact hr_g _ _ | decide) (fun c_137 => ?_) (fun c_137 => ?_)
          · refine V_iconst dX7_node_151 ?_
            refine V_istore_n dX7_node_152 (by decide) ?_
            refine V_iload dX7_node_153 rfl ?_
            refine V_istore_n dX7_node_155 (by decide) ?_
            refine V_aload_n dX7_node_156 rfl ?_
            refine V_iconst dX7_node_157 ?_
            refine VM_v1 (M' := mX7_passes) okX7_passes rfl dX7_node_158 q2800 rfl rfl (Nat.le_of_ble_eq_true rfl) (d' := 4) (b1 := 0) (by decide) (by decide) (c_X7_passes1 hB hr_g (by first | omega | (simp [gup, aup]; omega)) (by first | omega | (simp [gup, aup]; omega)) ?_)
            refine V_aload_n dX7_node_161 rfl ?_
            refine V_bipush dX7_node_162 (by decide) ?_
            refine VM_c1 (M' := mX7_is) okX7_is rfl dX7_node_164 q2788 rfl rfl (Nat.le_of_ble_eq_true rfl) (d' := 1) (b1 := 0) (by decide) (by decide) (c_X7_is hB (rng_pNext hr_g (by first | omega | (simp [gup, aup]; omega))) (by first | omega | exact hr_g _ _ | decide) (fun c_164 => absurd c_164 c3) (fun c_164 => ?_))
            refine V_istore dX7_node_167 (by decide) ?_
            refine V_aload_n dX7_node_169 rfl ?_
            refine VM_getiE 20 (((pNext g)) 20 0) dX7_node_170 q2626 (by decide) rfl rfl ?_
            refine V_bipush dX7_node_173 (by decide) ?_
            refine V_icmp_ne 187 dX7_node_175 (by decide) (by first | omega | exact hr_g _ _ | decide) (by first | omega | exact hr_g _ _ | decide) (fun c_175 => by exfalso; omega) (fun c_175 => ?_)
            refine V_iload dX7_node_178 rfl ?_
            refine V_if_eq 187 dX7_node_180 (by decide) (by first | omega | exact hr_g _ _ | decide) (fun c_180 => ?_) (fun c_180 => absurd c_180 (by decide))
            first | (rw [if_pos (by omega)] at K; exact V_goto 26 dX7_node_187 (by decide) (c_node26E hB hr2 e20 (K _ _ _ hr2 (Or.inr rfl)))) | (rw [if_neg (by omega)] at K; exact V_goto 26 dX7_node_187 (by decide) (c_node26E hB hr2 e20 (K _ _ _ hr2 (Or.inl rfl))))
            skip
          · refine V_iload dX7_node_140 rfl ?_
            refine V_bipush dX7_node_142 (by decide) ?_
            refine V_icmp_ne 151 dX7_node_144 (by decide) (by first | omega | exact hr_g _ _ | decide) (by first | omega | exact hr_g _ _ | decide) (fun c_144 => ?_) (fun c_144 => ?_)
            · refine V_iconst dX7_node_151 ?_
              refine V_istore_n dX7_node_152 (by decide) ?_
              refine V_iload dX7_node_153 rfl ?_
              refine V_istore_n dX7_node_155 (by decide) ?_
              refine V_aload_n dX7_node_156 rfl ?_
              refine V_iconst dX7_node_157 ?_
              refine VM_v1 (M' := mX7_passes) okX7_passes rfl dX7_node_158 q2800 rfl rfl (Nat.le_of_ble_eq_true rfl) (d' := 4) (b1 := 0) (by decide) (by decide) (c_X7_passes1 hB hr_g (by first | omega | (simp [gup, aup]; omega)) (by first | omega | (simp [gup, aup]; omega)) ?_)
              refine V_aload_n dX7_node_161 rfl ?_
              refine V_bipush dX7_node_162 (by decide) ?_
              refine VM_c1 (M' := mX7_is) okX7_is rfl dX7_node_164 q2788 rfl rfl (Nat.le_of_ble_eq_true rfl) (d' := 1) (b1 := 0) (by decide) (by decide) (c_X7_is hB (rng_pNext hr_g (by first | omega | (simp [gup, aup]; omega))) (by first | omega | exact hr_g _ _ | decide) (fun c_164 => absurd c_164 c3) (fun c_164 => ?_))
              refine V_istore dX7_node_167 (by decide) ?_
              refine V_aload_n dX7_node_169 rfl ?_
              refine VM_getiE 20 (((pNext g)) 20 0) dX7_node_170 q2626 (by decide) rfl rfl ?_
              refine V_bipush dX7_node_173 (by decide) ?_
              refine V_icmp_ne 187 dX7_node_175 (by decide) (by first | omega | exact hr_g _ _ | decide) (by first | omega | exact hr_g _ _ | decide) (fun c_175 => by exfalso; omega) (fun c_175 => ?_)
              refine V_iload dX7_node_178 rfl ?_
              refine V_if_eq 187 dX7_node_180 (by decide) (by first | omega | exact hr_g _ _ | decide) (fun c_180 => ?_) (fun c_180 => absurd c_180 (by decide))
              first | (rw [if_pos (by omega)] at K; exact V_goto 26 dX7_node_187 (by decide) (c_node26E hB hr2 e20 (K _ _ _ hr2 (Or.inr rfl)))) | (rw [if_neg (by omega)] at K; exact V_goto 26 dX7_node_187 (by decide) (c_node26E hB hr2 e20 (K _ _ _ hr2 (Or.inl rfl))))
              skip
            · refine V_iconst dX7_node_147 ?_
              refine V_goto 152 dX7_node_148 (by decide) ?_
              refine V_istore_n dX7_node_152 (by decide) ?_
              refine V_iload dX7_node_153 rfl ?_
              refine V_istore_n dX7_node_155 (by decide) ?_
              refine V_aload_n dX7_node_156 rfl ?_
              refine V_iconst dX7_node_157 ?_
              refine VM_v1 (M' := mX7_passes) okX7_passes rfl dX7_node_158 q2800 rfl rfl (Nat.le_of_ble_eq_true rfl) (d' := 4) (b1 := 0) (by decide) (by decide) (c_X7_passes1 hB hr_g (by first | omega | (simp [gup, aup]; omega)) (by first | omega | (simp [gup, aup]; omega)) ?_)
              refine V_aload_n dX7_node_161 rfl ?_
              refine V_bipush dX7_node_162 (by decide) ?_
              refine VM_c1 (M' := mX7_is) okX7_is rfl dX7_node_164 q2788 rfl rfl (Nat.le_of_ble_eq_true rfl) (d' := 1) (b1 := 0) (by decide) (by decide) (c_X7_is hB (rng_pNext hr_g (by first | omega | (simp [gup, aup]; omega))) (by first | omega | exact hr_g _ _ | decide) (fun c_164 => absurd c_164 c3) (fun c_164 => ?_))
              refine V_istore dX7_node_167 (by decide) ?_
              refine V_aload_n dX7_node_169 rfl ?_
              refine VM_getiE 20 (((pNext g)) 20 0) dX7_node_170 q2626 (by decide) rfl rfl ?_
              refine V_bipush dX7_node_173 (by decide) ?_
              refine V_icmp_ne 187 dX7_node_175 (by decide) (by first | omega | exact hr_g _ _ | decide) (by first | omega | exact hr_g _ _ | decide) (fun c_175 => by exfalso; omega) (fun c_175 => ?_)
              refine V_iload dX7_node_178 rfl ?_
              refine V_if_eq 187 dX7_node_180 (by decide) (by first | omega | exact hr_g _ _ | decide) (fun c_180 => ?_) (fun c_180 => absurd c_180 (by decide))
              first | (rw [if_pos (by omega)] at K; exact V_goto 26 dX7_node_187 (by decide) (c_node26E hB hr2 e20 (K _ _ _ hr2 (Or.inr rfl)))) | (rw [if_neg (by omega)] at K; exact V_goto 26 dX7_node_187 (by decide) (c_node26E hB hr2 e20 (K _ _ _ hr2 (Or.inl rfl))))
              skip
    · rw [pIf_t c1] at K
      have hrf : Rng (pFault g) := hr_g.up (hr_g _ _)
      have e9 : pFault g 20 0 ≠ -9 := by show g 17 0 ≠ -9; omega
      refine V_aload_n dX7_node_26 rfl ?_
      refine VM_getiE 20 (g 20 0) dX7_node_27 q2626 (by decide) rfl rfl ?_
      refine V_bipush dX7_node_30 (by decide) ?_
      refine V_icmp_ne 190 dX7_node_32 (by decide) (by first | omega | exact hr_g _ _ | decide) (by first | omega | exact hr_g _ _ | decide) (fun c_32 => by exfalso; omega) (fun c_32 => ?_)
      refine V_iload dX7_node_35 rfl ?_
      refine V_if_eq 190 dX7_node_37 (by decide) (by first | omega | exact hr_g _ _ | decide) (fun c_37 => absurd c_37 (by decide)) (fun c_37 => ?_)
      refine V_aload_n dX7_node_40 rfl ?_
      refine V_aload_n dX7_node_41 rfl ?_
      refine VM_getiE 18 (g 18 0) dX7_node_42 q2624 (by decide) rfl rfl ?_
      refine V_iconst dX7_node_45 ?_
      refine V_icmp_ne 53 dX7_node_46 (by decide) (by first | omega | exact hr_g _ _ | decide) (by first | omega | exact hr_g _ _ | decide) (fun c_46 => ?_) (fun c_46 => by exfalso; omega)
      refine V_iconst dX7_node_53 ?_
      refine VM_v1 (M' := mX7_due) okX7_due rfl dX7_node_54 q2796 rfl rfl (Nat.le_of_ble_eq_true rfl) (d' := 1) (b1 := 0) (by decide) (by decide) (c_X7_due0 hB hr_g (by first | omega | (simp [gup, aup]; omega)) ?_)
      exact c_node57 hB hrf hff hl e9 (fun v4 => K _ v4 _ hrf (Or.inr rfl))
theorem c_X7_node (hB : MB am B) (hr_g : Rng g) (hb : BI g) (h15 : 0 ≤ g 15 0 ∧ g 15 0 ≤ 160) (K : Q (vI (aNode g)) (mkM am B h0 (pNodeQ g))) : V E mX7_node 5 0 0 [some (.ref am), none, none, none, none, none] [] (mkM am B h0 g) Q X := by
  have hT : TI (qStart g) := ⟨(hr_g.up (by decide)).up (by decide), by show (0:Int) ≤ 0; omega, h15.1, h15.2⟩
  have hn := hT.next'
  have l2 := tN_le hT
  unfold aNode pNodeQ at K
  refine V_aload_n dX7_node_0 rfl ?_
  refine V_iconst dX7_node_1 ?_
  refine VM_puti 16 dX7_node_2 q2622 (by decide) rfl rfl mfs16 mna16 ?_
  refine V_aload_n dX7_node_5 rfl ?_
  refine V_bipush dX7_node_6 (by decide) ?_
  refine VM_puti 20 dX7_node_8 q2626 (by decide) rfl rfl mfs20 mna20 ?_
  refine V_bipush dX7_node_11 (by decide) ?_
  refine V_istore_n dX7_node_13 (by decide) ?_
  refine V_bipush dX7_node_14 (by decide) ?_
  refine V_istore_n dX7_node_16 (by decide) ?_
  refine V_iconst dX7_node_17 ?_
  refine V_istore_n dX7_node_18 (by decide) ?_
  refine V_aload_n dX7_node_19 rfl ?_
  refine VM_v0 (M' := mX7_next) okX7_next rfl dX7_node_20 q2773 rfl rfl (Nat.le_of_ble_eq_true rfl) (d' := 3) (b1 := 0) (by decide) (by decide) (c_X7_next hB (Rng.up (v := -9) (Rng.up (v := 0) hr_g (by first | omega | exact hr_g _ _ | decide)) (by first | omega | exact hr_g _ _ | decide)) (by first | omega | (simp [gup, aup]; omega)) ?_)
  refine V_iconst dX7_node_23 ?_
  refine V_istore dX7_node_24 (by decide) ?_
  refine c_node26 hB hb 162 _ _ _ _ _ hn (t17 hT) (fun j hj => by rw [pN_ne (by omega)]; show (gup (gup g 16 0 0) 20 0 (-9)) j = _; rw [gup_ne (by omega), gup_ne (by omega)]) (by rw [pN_ne (by omega)]; rfl) (by rw [pN_ne (by omega)]; show g 15 0 - pNext (qStart g) 16 0 < _; have hn2 := hn.2.1; omega) (by decide) (by decide) (Or.inl rfl) (fun v1 v4 v5 h1 h2 => c_node190 hB h1 h2 (fun e => ?_) (fun e => ?_)); (rw [pIf_f (show ¬ (qEnd (qAll g).1 20 0 = -9) from e), pIf_f (show ¬ (qEnd (qAll g).1 20 0 = -9) from e)] at K; exact K); (rw [pIf_t (show (qEnd (qAll g).1 20 0 = -9) from e), pIf_t (show (qEnd (qAll g).1 20 0 = -9) from e)] at K; exact K)
end M17
