/-! THE REFERENCE'S METHODS, part 11: nodes, items -/
def pAdd (g : MG) (kd bi of nm wh dw dd : Int) : MG := gup (gup (gup (gup (gup (gup (gup (gup (gup g 21 (6 * g 22 0 + 0) kd) 21 (6 * g 22 0 + 1) bi) 21 (6 * g 22 0 + 2) of) 21 (6 * g 22 0 + 3) (g 30 0)) 21 (6 * g 22 0 + 4) nm) 21 (6 * g 22 0 + 5) wh) 22 0 (g 22 0 + 1)) 23 0 (g 23 0 + dw)) 24 0 (g 24 0 + dd)
noncomputable def pNodeW (g : MG) (nm : Int) : MG := pIf (¬ (g 18 0 = 2 ∧ 1 ≤ g 19 0 ∧ g 19 0 ≤ 8)) (pFault g) (pAdd (pNext g) 0 (g 19 0) (-9) nm (g 23 0) 1 0)
noncomputable def pNodeA (g : MG) (nm : Int) : MG := pIf ((pPath g).1 20 0 = -9) (pAdd (pPath g).1 1 (-9) (pPath g).2 nm (g 24 0) 0 0) (pPath g).1
noncomputable def pNodeD (g : MG) (nm : Int) : MG := pIf (pExpr g 20 0 = -9) (pAdd (pExpr g) 2 (-9) (-9) nm (g 24 0) 0 1) (pExpr g)
noncomputable def pNode2 (g : MG) (nm : Int) : MG :=
  pIf (g 18 0 = 3 ∧ g 19 0 = 58) (pIf (¬ g 23 0 < 6) (pFault g) (pNodeW (pNext g) nm))
    (pIf (g 18 0 = 3 ∧ g 19 0 = 64) (pNodeA (pNext g) nm)
      (pIf (¬ (g 18 0 = 3 ∧ g 19 0 = 61 ∧ g 24 0 < 4)) (pFault g) (pNodeD (pNext g) nm)))
noncomputable def pNode (g : MG) : MG := pIf (¬ (g 22 0 < 12 ∧ nNB g (g 30 0) (g 19 0) = -9 ∧ nSB g (g 30 0) (g 19 0) = -9)) (pFault g) (pNode2 (pNext g) (g 19 0))
theorem pExN_ne {j : Nat} (h : (j < 16 ∨ 20 < j) ∧ j ≠ 28 ∧ j ≠ 29 ∧ j ≠ 32 ∧ j ≠ 33 ∧ j ≠ 34 ∧ j ≠ 35) : ∀ (k : Nat) (g : MG), pExprN k g j = g j := by
  intro k
  induction k with
  | zero => intro g; rfl
  | succ k ih =>
    intro g
    unfold pExprN
    have hb := pBg_ne h g
    have hc : pCls 20 (pWhole (pBegin g)) j = g j := by rw [pCls_ne (by omega), pWh_ne (by omega)]; exact hb
    by_cases c : pBegin g 20 0 = -9
    · rw [pIf_t c]
      by_cases cb : pBt (pCls 20 (pWhole (pBegin g)))
      · rw [pIf_t cb, ih, pN_ne (by omega), pW_ne (by omega)]; exact hc
      · rw [pIf_f cb]
        unfold pEnd
        by_cases ce : pCls 20 (pWhole (pBegin g)) 33 0 = 0 ∧ pCls 20 (pWhole (pBegin g)) 18 0 = 3 ∧ pCls 20 (pWhole (pBegin g)) 19 0 = 59
        · rw [pIf_t ce]; exact hc
        · rw [pIf_f ce]; exact (pF_ne (by omega)).trans hc
    · rw [pIf_f c]; exact hb
theorem pEx_ne {j : Nat} (h : (j < 16 ∨ 20 < j) ∧ j ≠ 28 ∧ j ≠ 29 ∧ j ≠ 32 ∧ j ≠ 33 ∧ j ≠ 34 ∧ j ≠ 35) (g : MG) : pExpr g j = g j := by
  unfold pExpr
  rw [pExN_ne h, gup_ne (by omega), gup_ne (by omega), gup_ne (by omega), gup_ne (by omega)]
theorem PI.exprN : ∀ (k : Nat) (g : MG), EI 0 g → g 20 0 = -9 → PI (pExprN k g) := by
  intro k
  induction k with
  | zero => intro g h _; exact h.1
  | succ k ih =>
    intro g h hf
    unfold pExprN
    have hb := h.begin
    by_cases c : pBegin g 20 0 = -9
    · rw [pIf_t c]
      have hc := EI.cls 20 _ ((hb.2 c).1.whole (by omega))
      have fc : pCls 20 (pWhole (pBegin g)) 20 0 = -9 := by rw [pCls_ne (by omega), pWh_ne (by omega)]; exact c
      by_cases cb : pBt (pCls 20 (pWhole (pBegin g)))
      · rw [pIf_t cb]
        exact ih _ (hc.sign (hc.1.1 _ _)).next (by rw [pN_ne (by omega), pW_ne (by omega)]; exact fc)
      · rw [pIf_f cb]
        unfold pEnd
        by_cases ce : pCls 20 (pWhole (pBegin g)) 33 0 = 0 ∧ pCls 20 (pWhole (pBegin g)) 18 0 = 3 ∧ pCls 20 (pWhole (pBegin g)) 19 0 = 59
        · rw [pIf_t ce]; exact hc.1
        · rw [pIf_f ce]; exact hc.1.fault
    · rw [pIf_f c]; exact hb.1
theorem EI.start {g : MG} (hI : PI g) (hd : 0 ≤ g 24 0 ∧ g 24 0 ≤ 3) : EI 0 (gup (gup (gup (gup g 33 0 0) 34 0 0) 35 0 0) 29 (g 24 0) 0) := by
  refine ⟨(((hI.up (by omega) (by decide)).up (by omega) (by decide)).up (by omega) (by decide)).up (by omega) (by decide), ?_⟩
  simp [gup_rd]
  omega
theorem PI.expr {g : MG} (hI : PI g) (hd : 0 ≤ g 24 0 ∧ g 24 0 ≤ 3) (hf : g 20 0 = -9) : PI (pExpr g) := PI.exprN 8 _ (EI.start hI hd) (by simp [gup_rd]; exact hf)
theorem PI.add {g : MG} (h : PI g) (hn : g 22 0 < 12) {kd bi of nm wh dw dd : Int} (h1 : inr kd) (h2 : inr bi) (h3 : inr of) (h4 : inr nm) (h5 : inr wh) (h6 : inr (g 23 0 + dw)) (h7 : inr (g 24 0 + dd)) : PI (pAdd g kd bi of nm wh dw dd) := by
  have a1 := ((((((h.up (k := 21) (i := 6 * g 22 0 + 0) (by omega) h1).up (k := 21) (i := 6 * g 22 0 + 1) (by omega) h2).up (k := 21) (i := 6 * g 22 0 + 2) (by omega) h3).up (k := 21) (i := 6 * g 22 0 + 3) (by omega) (h.1 30 0)).up (k := 21) (i := 6 * g 22 0 + 4) (by omega) h4).up (k := 21) (i := 6 * g 22 0 + 5) (by omega) h5)
  unfold pAdd
  refine PI.up (PI.up ?_ (by omega) h6) (by omega) h7
  obtain ⟨b1, b2, b3, b4, b5, b6, b7⟩ := a1
  refine ⟨b1.up ?_, ?_⟩
  · have := h.2.2.1; constructor <;> omega
  · rw [gup_ne (k := 22) (k' := 16) (by omega), gup_ne (k := 22) (k' := 15) (by omega), gup_ne (k := 22) (k' := 27) (by omega), gup_ne (k := 22) (k' := 17) (by omega), gup_ne (k := 22) (k' := 30) (by omega), gup_ne (k := 22) (k' := 25) (by omega)]
    refine ⟨b2, ?_, b4, b5, b6, b7⟩
    rw [gup_eq]
    have := h.2.2.1
    omega
section M11
variable {E : Ev} {am : Nat} {B : Nat → Nat} {h0 h : AH} {g : MG} {Q : Value → AH → Prop} {X : Nat → AH → Prop}
theorem c_node241_0 (hB : MB am B) {nm bi of : Int} (hI : PI g) (hf : g 20 0 = -9) (hn : g 22 0 < 12) (h23 : 0 ≤ g 23 0 ∧ g 23 0 ≤ 6) (h24 : 0 ≤ g 24 0 ∧ g 24 0 ≤ 4) (K : Q .null (mkM am B h0 (pAdd g 0 bi of nm (g 23 0) 1 0))) : V E mX7_readsNode 8 0 241 [some (.ref am), some (vI nm), some (vI 0), some (vI bi), some (vI of)] [] (mkM am B h0 g) Q X := by
  obtain ⟨hr_g, p2, p3, p4, p5, p6⟩ := hI
  refine V_aload_n dX7_readsNode_241 rfl ?_
  refine VM_getiE 20 (g 20 0) dX7_readsNode_242 q2626 (by decide) rfl rfl ?_
  refine V_bipush dX7_readsNode_245 (by decide) ?_
  refine V_icmp_ne 405 dX7_readsNode_247 (by decide) (by first | omega | exact hr_g _ _ | decide) (by first | omega | exact hr_g _ _ | decide) (fun c_247 => by exfalso; omega) (fun c_247 => ?_)
  refine V_aload_n dX7_readsNode_250 rfl ?_
  refine VM_geta 21 dX7_readsNode_251 q2627 (by decide) rfl ?_
  refine V_bipush dX7_readsNode_254 (by decide) ?_
  refine V_aload_n dX7_readsNode_256 rfl ?_
  refine VM_getiE 22 (g 22 0) dX7_readsNode_257 q2628 (by decide) rfl rfl ?_
  refine V_imul dX7_readsNode_260 ?_
  refine V_iconst dX7_readsNode_261 ?_
  refine V_iadd dX7_readsNode_262 ?_
  refine V_iload_n dX7_readsNode_263 rfl ?_
  refine VM_iast 21 hB dX7_readsNode_264 mar21 rfl mfa21 (by first | omega | (simp [gup, aup]; omega)) (by show _ < (72 : Int); first | omega | (simp [gup, aup]; omega)) (by decide) ?_
  refine V_aload_n dX7_readsNode_265 rfl ?_
  refine VM_geta 21 dX7_readsNode_266 q2627 (by decide) rfl ?_
  refine V_bipush dX7_readsNode_269 (by decide) ?_
  refine V_aload_n dX7_readsNode_271 rfl ?_
  refine VM_getiE 22 (g 22 0) dX7_readsNode_272 q2628 (by decide) rfl rfl ?_
  refine V_imul dX7_readsNode_275 ?_
  refine V_iconst dX7_readsNode_276 ?_
  refine V_iadd dX7_readsNode_277 ?_
  refine V_iload_n dX7_readsNode_278 rfl ?_
  refine VM_iast 21 hB dX7_readsNode_279 mar21 rfl mfa21 (by first | omega | (simp [gup, aup]; omega)) (by show _ < (72 : Int); first | omega | (simp [gup, aup]; omega)) (by decide) ?_
  refine V_aload_n dX7_readsNode_280 rfl ?_
  refine VM_geta 21 dX7_readsNode_281 q2627 (by decide) rfl ?_
  refine V_bipush dX7_readsNode_284 (by decide) ?_
  refine V_aload_n dX7_readsNode_286 rfl ?_
  refine VM_getiE 22 (g 22 0) dX7_readsNode_287 q2628 (by decide) rfl rfl ?_
  refine V_imul dX7_readsNode_290 ?_
  refine V_iconst dX7_readsNode_291 ?_
  refine V_iadd dX7_readsNode_292 ?_
  refine V_iload dX7_readsNode_293 rfl ?_
  refine VM_iast 21 hB dX7_readsNode_295 mar21 rfl mfa21 (by first | omega | (simp [gup, aup]; omega)) (by show _ < (72 : Int); first | omega | (simp [gup, aup]; omega)) (by decide) ?_
  refine V_aload_n dX7_readsNode_296 rfl ?_
  refine VM_geta 21 dX7_readsNode_297 q2627 (by decide) rfl ?_
  refine V_bipush dX7_readsNode_300 (by decide) ?_
  refine V_aload_n dX7_readsNode_302 rfl ?_
  refine VM_getiE 22 (g 22 0) dX7_readsNode_303 q2628 (by decide) rfl rfl ?_
  refine V_imul dX7_readsNode_306 ?_
  refine V_iconst dX7_readsNode_307 ?_
  refine V_iadd dX7_readsNode_308 ?_
  refine V_aload_n dX7_readsNode_309 rfl ?_
  refine VM_getiE 30 (g 30 0) dX7_readsNode_310 q2636 (by decide) rfl rfl ?_
  refine VM_iast 21 hB dX7_readsNode_313 mar21 rfl mfa21 (by first | omega | (simp [gup, aup]; omega)) (by show _ < (72 : Int); first | omega | (simp [gup, aup]; omega)) (by decide) ?_
  refine V_aload_n dX7_readsNode_314 rfl ?_
  refine VM_geta 21 dX7_readsNode_315 q2627 (by decide) rfl ?_
  refine V_bipush dX7_readsNode_318 (by decide) ?_
  refine V_aload_n dX7_readsNode_320 rfl ?_
  refine VM_getiE 22 (g 22 0) dX7_readsNode_321 q2628 (by decide) rfl rfl ?_
  refine V_imul dX7_readsNode_324 ?_
  refine V_iconst dX7_readsNode_325 ?_
  refine V_iadd dX7_readsNode_326 ?_
  refine V_iload_n dX7_readsNode_327 rfl ?_
  refine VM_iast 21 hB dX7_readsNode_328 mar21 rfl mfa21 (by first | omega | (simp [gup, aup]; omega)) (by show _ < (72 : Int); first | omega | (simp [gup, aup]; omega)) (by decide) ?_
  refine V_aload_n dX7_readsNode_329 rfl ?_
  refine VM_geta 21 dX7_readsNode_330 q2627 (by decide) rfl ?_
  refine V_bipush dX7_readsNode_333 (by decide) ?_
  refine V_aload_n dX7_readsNode_335 rfl ?_
  refine VM_getiE 22 (g 22 0) dX7_readsNode_336 q2628 (by decide) rfl rfl ?_
  refine V_imul dX7_readsNode_339 ?_
  refine V_iconst dX7_readsNode_340 ?_
  refine V_iadd dX7_readsNode_341 ?_
  refine V_iload_n dX7_readsNode_342 rfl ?_
  refine V_if_ne 353 dX7_readsNode_343 (by decide) (by first | omega | exact hr_g _ _ | decide) (fun c_343 => absurd c_343 (by decide)) (fun c_343 => ?_)
  refine V_aload_n dX7_readsNode_346 rfl ?_
  refine VM_getiE 23 (g 23 0) dX7_readsNode_347 q2629 (by decide) rfl rfl ?_
  refine V_goto 357 dX7_readsNode_350 (by decide) ?_
  refine VM_iast 21 hB dX7_readsNode_357 mar21 rfl mfa21 (by first | omega | (simp [gup, aup]; omega)) (by show _ < (72 : Int); first | omega | (simp [gup, aup]; omega)) (by decide) ?_
  refine V_aload_n dX7_readsNode_358 rfl ?_
  refine V_dup dX7_readsNode_359 rfl ?_
  refine VM_getiE 22 (g 22 0) dX7_readsNode_360 q2628 (by decide) rfl rfl ?_
  refine V_iconst dX7_readsNode_363 ?_
  refine V_iadd dX7_readsNode_364 ?_
  refine VM_puti 22 dX7_readsNode_365 q2628 (by decide) rfl rfl mfs22 mna22 ?_
  refine V_aload_n dX7_readsNode_368 rfl ?_
  refine V_dup dX7_readsNode_369 rfl ?_
  refine VM_getiE 23 (g 23 0) dX7_readsNode_370 q2629 (by decide) rfl rfl ?_
  refine V_iload_n dX7_readsNode_373 rfl ?_
  refine V_if_ne 381 dX7_readsNode_374 (by decide) (by first | omega | exact hr_g _ _ | decide) (fun c_374 => absurd c_374 (by decide)) (fun c_374 => ?_)
  refine V_iconst dX7_readsNode_377 ?_
  refine V_goto 382 dX7_readsNode_378 (by decide) ?_
  refine V_iadd dX7_readsNode_382 ?_
  refine VM_puti 23 dX7_readsNode_383 q2629 (by decide) rfl rfl mfs23 mna23 ?_
  refine V_aload_n dX7_readsNode_386 rfl ?_
  refine V_dup dX7_readsNode_387 rfl ?_
  refine VM_getiE 24 (g 24 0) dX7_readsNode_388 q2630 (by decide) rfl rfl ?_
  refine V_iload_n dX7_readsNode_391 rfl ?_
  refine V_iconst dX7_readsNode_392 ?_
  refine V_icmp_ne 400 dX7_readsNode_393 (by decide) (by first | omega | exact hr_g _ _ | decide) (by first | omega | exact hr_g _ _ | decide) (fun c_393 => ?_) (fun c_393 => absurd c_393 (by decide))
  refine V_iconst dX7_readsNode_400 ?_
  refine V_iadd dX7_readsNode_401 ?_
  refine VM_puti 24 dX7_readsNode_402 q2630 (by decide) rfl rfl mfs24 mna24 ?_
  exact V_vret dX7_readsNode_405 rfl (by exact K)
theorem c_node241_1 (hB : MB am B) {nm bi of : Int} (hI : PI g) (hf : g 20 0 = -9) (hn : g 22 0 < 12) (h23 : 0 ≤ g 23 0 ∧ g 23 0 ≤ 6) (h24 : 0 ≤ g 24 0 ∧ g 24 0 ≤ 4) (K : Q .null (mkM am B h0 (pAdd g 1 bi of nm (g 24 0) 0 0))) : V E mX7_readsNode 8 0 241 [some (.ref am), some (vI nm), some (vI 1), some (vI bi), some (vI of)] [] (mkM am B h0 g) Q X := by
  obtain ⟨hr_g, p2, p3, p4, p5, p6⟩ := hI
  refine V_aload_n dX7_readsNode_241 rfl ?_
  refine VM_getiE 20 (g 20 0) dX7_readsNode_242 q2626 (by decide) rfl rfl ?_
  refine V_bipush dX7_readsNode_245 (by decide) ?_
  refine V_icmp_ne 405 dX7_readsNode_247 (by decide) (by first | omega | exact hr_g _ _ | decide) (by first | omega | exact hr_g _ _ | decide) (fun c_247 => by exfalso; omega) (fun c_247 => ?_)
  refine V_aload_n dX7_readsNode_250 rfl ?_
  refine VM_geta 21 dX7_readsNode_251 q2627 (by decide) rfl ?_
  refine V_bipush dX7_readsNode_254 (by decide) ?_
  refine V_aload_n dX7_readsNode_256 rfl ?_
  refine VM_getiE 22 (g 22 0) dX7_readsNode_257 q2628 (by decide) rfl rfl ?_
  refine V_imul dX7_readsNode_260 ?_
  refine V_iconst dX7_readsNode_261 ?_
  refine V_iadd dX7_readsNode_262 ?_
  refine V_iload_n dX7_readsNode_263 rfl ?_
  refine VM_iast 21 hB dX7_readsNode_264 mar21 rfl mfa21 (by first | omega | (simp [gup, aup]; omega)) (by show _ < (72 : Int); first | omega | (simp [gup, aup]; omega)) (by decide) ?_
  refine V_aload_n dX7_readsNode_265 rfl ?_
  refine VM_geta 21 dX7_readsNode_266 q2627 (by decide) rfl ?_
  refine V_bipush dX7_readsNode_269 (by decide) ?_
  refine V_aload_n dX7_readsNode_271 rfl ?_
  refine VM_getiE 22 (g 22 0) dX7_readsNode_272 q2628 (by decide) rfl rfl ?_
  refine V_imul dX7_readsNode_275 ?_
  refine V_iconst dX7_readsNode_276 ?_
  refine V_iadd dX7_readsNode_277 ?_
  refine V_iload_n dX7_readsNode_278 rfl ?_
  refine VM_iast 21 hB dX7_readsNode_279 mar21 rfl mfa21 (by first | omega | (simp [gup, aup]; omega)) (by show _ < (72 : Int); first | omega | (simp [gup, aup]; omega)) (by decide) ?_
  refine V_aload_n dX7_readsNode_280 rfl ?_
  refine VM_geta 21 dX7_readsNode_281 q2627 (by decide) rfl ?_
  refine V_bipush dX7_readsNode_284 (by decide) ?_
  refine V_aload_n dX7_readsNode_286 rfl ?_
  refine VM_getiE 22 (g 22 0) dX7_readsNode_287 q2628 (by decide) rfl rfl ?_
  refine V_imul dX7_readsNode_290 ?_
  refine V_iconst dX7_readsNode_291 ?_
  refine V_iadd dX7_readsNode_292 ?_
  refine V_iload dX7_readsNode_293 rfl ?_
  refine VM_iast 21 hB dX7_readsNode_295 mar21 rfl mfa21 (by first | omega | (simp [gup, aup]; omega)) (by show _ < (72 : Int); first | omega | (simp [gup, aup]; omega)) (by decide) ?_
  refine V_aload_n dX7_readsNode_296 rfl ?_
  refine VM_geta 21 dX7_readsNode_297 q2627 (by decide) rfl ?_
  refine V_bipush dX7_readsNode_300 (by decide) ?_
  refine V_aload_n dX7_readsNode_302 rfl ?_
  refine VM_getiE 22 (g 22 0) dX7_readsNode_303 q2628 (by decide) rfl rfl ?_
  refine V_imul dX7_readsNode_306 ?_
  refine V_iconst dX7_readsNode_307 ?_
  refine V_iadd dX7_readsNode_308 ?_
  refine V_aload_n dX7_readsNode_309 rfl ?_
  refine VM_getiE 30 (g 30 0) dX7_readsNode_310 q2636 (by decide) rfl rfl ?_
  refine VM_iast 21 hB dX7_readsNode_313 mar21 rfl mfa21 (by first | omega | (simp [gup, aup]; omega)) (by show _ < (72 : Int); first | omega | (simp [gup, aup]; omega)) (by decide) ?_
  refine V_aload_n dX7_readsNode_314 rfl ?_
  refine VM_geta 21 dX7_readsNode_315 q2627 (by decide) rfl ?_
  refine V_bipush dX7_readsNode_318 (by decide) ?_
  refine V_aload_n dX7_readsNode_320 rfl ?_
  refine VM_getiE 22 (g 22 0) dX7_readsNode_321 q2628 (by decide) rfl rfl ?_
  refine V_imul dX7_readsNode_324 ?_
  refine V_iconst dX7_readsNode_325 ?_
  refine V_iadd dX7_readsNode_326 ?_
  refine V_iload_n dX7_readsNode_327 rfl ?_
  refine VM_iast 21 hB dX7_readsNode_328 mar21 rfl mfa21 (by first | omega | (simp [gup, aup]; omega)) (by show _ < (72 : Int); first | omega | (simp [gup, aup]; omega)) (by decide) ?_
  refine V_aload_n dX7_readsNode_329 rfl ?_
  refine VM_geta 21 dX7_readsNode_330 q2627 (by decide) rfl ?_
  refine V_bipush dX7_readsNode_333 (by decide) ?_
  refine V_aload_n dX7_readsNode_335 rfl ?_
  refine VM_getiE 22 (g 22 0) dX7_readsNode_336 q2628 (by decide) rfl rfl ?_
  refine V_imul dX7_readsNode_339 ?_
  refine V_iconst dX7_readsNode_340 ?_
  refine V_iadd dX7_readsNode_341 ?_
  refine V_iload_n dX7_readsNode_342 rfl ?_
  refine V_if_ne 353 dX7_readsNode_343 (by decide) (by first | omega | exact hr_g _ _ | decide) (fun c_343 => ?_) (fun c_343 => absurd c_343 (by decide))
  refine V_aload_n dX7_readsNode_353 rfl ?_
  refine VM_getiE 24 (g 24 0) dX7_readsNode_354 q2630 (by decide) rfl rfl ?_
  refine VM_iast 21 hB dX7_readsNode_357 mar21 rfl mfa21 (by first | omega | (simp [gup, aup]; omega)) (by show _ < (72 : Int); first | omega | (simp [gup, aup]; omega)) (by decide) ?_
  refine V_aload_n dX7_readsNode_358 rfl ?_
  refine V_dup dX7_readsNode_359 rfl ?_
  refine VM_getiE 22 (g 22 0) dX7_readsNode_360 q2628 (by decide) rfl rfl ?_
  refine V_iconst dX7_readsNode_363 ?_
  refine V_iadd dX7_readsNode_364 ?_
  refine VM_puti 22 dX7_readsNode_365 q2628 (by decide) rfl rfl mfs22 mna22 ?_
  refine V_aload_n dX7_readsNode_368 rfl ?_
  refine V_dup dX7_readsNode_369 rfl ?_
  refine VM_getiE 23 (g 23 0) dX7_readsNode_370 q2629 (by decide) rfl rfl ?_
  refine V_iload_n dX7_readsNode_373 rfl ?_
  refine V_if_ne 381 dX7_readsNode_374 (by decide) (by first | omega | exact hr_g _ _ | decide) (fun c_374 => ?_) (fun c_374 => absurd c_374 (by decide))
  refine V_iconst dX7_readsNode_381 ?_
  refine V_iadd dX7_readsNode_382 ?_
  refine VM_puti 23 dX7_readsNode_383 q2629 (by decide) rfl rfl mfs23 mna23 ?_
  refine V_aload_n dX7_readsNode_386 rfl ?_
  refine V_dup dX7_readsNode_387 rfl ?_
  refine VM_getiE 24 (g 24 0) dX7_readsNode_388 q2630 (by decide) rfl rfl ?_
  refine V_iload_n dX7_readsNode_391 rfl ?_
  refine V_iconst dX7_readsNode_392 ?_
  refine V_icmp_ne 400 dX7_readsNode_393 (by decide) (by first | omega | exact hr_g _ _ | decide) (by first | omega | exact hr_g _ _ | decide) (fun c_393 => ?_) (fun c_393 => absurd c_393 (by decide))
  refine V_iconst dX7_readsNode_400 ?_
  refine V_iadd dX7_readsNode_401 ?_
  refine VM_puti 24 dX7_readsNode_402 q2630 (by decide) rfl rfl mfs24 mna24 ?_
  exact V_vret dX7_readsNode_405 rfl (by exact K)
theorem c_node241_2 (hB : MB am B) {nm bi of : Int} (hI : PI g) (hf : g 20 0 = -9) (hn : g 22 0 < 12) (h23 : 0 ≤ g 23 0 ∧ g 23 0 ≤ 6) (h24 : 0 ≤ g 24 0 ∧ g 24 0 ≤ 4) (K : Q .null (mkM am B h0 (pAdd g 2 bi of nm (g 24 0) 0 1))) : V E mX7_readsNode 8 0 241 [some (.ref am), some (vI nm), some (vI 2), some (vI bi), some (vI of)] [] (mkM am B h0 g) Q X := by
  obtain ⟨hr_g, p2, p3, p4, p5, p6⟩ := hI
  refine V_aload_n dX7_readsNode_241 rfl ?_
  refine VM_getiE 20 (g 20 0) dX7_readsNode_242 q2626 (by decide) rfl rfl ?_
  refine V_bipush dX7_readsNode_245 (by decide) ?_
  refine V_icmp_ne 405 dX7_readsNode_247 (by decide) (by first | omega | exact hr_g _ _ | decide) (by first | omega | exact hr_g _ _ | decide) (fun c_247 => by exfalso; omega) (fun c_247 => ?_)
  refine V_aload_n dX7_readsNode_250 rfl ?_
  refine VM_geta 21 dX7_readsNode_251 q2627 (by decide) rfl ?_
  refine V_bipush dX7_readsNode_254 (by decide) ?_
  refine V_aload_n dX7_readsNode_256 rfl ?_
  refine VM_getiE 22 (g 22 0) dX7_readsNode_257 q2628 (by decide) rfl rfl ?_
  refine V_imul dX7_readsNode_260 ?_
  refine V_iconst dX7_readsNode_261 ?_
  refine V_iadd dX7_readsNode_262 ?_
  refine V_iload_n dX7_readsNode_263 rfl ?_
  refine VM_iast 21 hB dX7_readsNode_264 mar21 rfl mfa21 (by first | omega | (simp [gup, aup]; omega)) (by show _ < (72 : Int); first | omega | (simp [gup, aup]; omega)) (by decide) ?_
  refine V_aload_n dX7_readsNode_265 rfl ?_
  refine VM_geta 21 dX7_readsNode_266 q2627 (by decide) rfl ?_
  refine V_bipush dX7_readsNode_269 (by decide) ?_
  refine V_aload_n dX7_readsNode_271 rfl ?_
  refine VM_getiE 22 (g 22 0) dX7_readsNode_272 q2628 (by decide) rfl rfl ?_
  refine V_imul dX7_readsNode_275 ?_
  refine V_iconst dX7_readsNode_276 ?_
  refine V_iadd dX7_readsNode_277 ?_
  refine V_iload_n dX7_readsNode_278 rfl ?_
  refine VM_iast 21 hB dX7_readsNode_279 mar21 rfl mfa21 (by first | omega | (simp [gup, aup]; omega)) (by show _ < (72 : Int); first | omega | (simp [gup, aup]; omega)) (by decide) ?_
  refine V_aload_n dX7_readsNode_280 rfl ?_
  refine VM_geta 21 dX7_readsNode_281 q2627 (by decide) rfl ?_
  refine V_bipush dX7_readsNode_284 (by decide) ?_
  refine V_aload_n dX7_readsNode_286 rfl ?_
  refine VM_getiE 22 (g 22 0) dX7_readsNode_287 q2628 (by decide) rfl rfl ?_
  refine V_imul dX7_readsNode_290 ?_
  refine V_iconst dX7_readsNode_291 ?_
  refine V_iadd dX7_readsNode_292 ?_
  refine V_iload dX7_readsNode_293 rfl ?_
  refine VM_iast 21 hB dX7_readsNode_295 mar21 rfl mfa21 (by first | omega | (simp [gup, aup]; omega)) (by show _ < (72 : Int); first | omega | (simp [gup, aup]; omega)) (by decide) ?_
  refine V_aload_n dX7_readsNode_296 rfl ?_
  refine VM_geta 21 dX7_readsNode_297 q2627 (by decide) rfl ?_
  refine V_bipush dX7_readsNode_300 (by decide) ?_
  refine V_aload_n dX7_readsNode_302 rfl ?_
  refine VM_getiE 22 (g 22 0) dX7_readsNode_303 q2628 (by decide) rfl rfl ?_
  refine V_imul dX7_readsNode_306 ?_
  refine V_iconst dX7_readsNode_307 ?_
  refine V_iadd dX7_readsNode_308 ?_
  refine V_aload_n dX7_readsNode_309 rfl ?_
  refine VM_getiE 30 (g 30 0) dX7_readsNode_310 q2636 (by decide) rfl rfl ?_
  refine VM_iast 21 hB dX7_readsNode_313 mar21 rfl mfa21 (by first | omega | (simp [gup, aup]; omega)) (by show _ < (72 : Int); first | omega | (simp [gup, aup]; omega)) (by decide) ?_
  refine V_aload_n dX7_readsNode_314 rfl ?_
  refine VM_geta 21 dX7_readsNode_315 q2627 (by decide) rfl ?_
  refine V_bipush dX7_readsNode_318 (by decide) ?_
  refine V_aload_n dX7_readsNode_320 rfl ?_
  refine VM_getiE 22 (g 22 0) dX7_readsNode_321 q2628 (by decide) rfl rfl ?_
  refine V_imul dX7_readsNode_324 ?_
  refine V_iconst dX7_readsNode_325 ?_
  refine V_iadd dX7_readsNode_326 ?_
  refine V_iload_n dX7_readsNode_327 rfl ?_
  refine VM_iast 21 hB dX7_readsNode_328 mar21 rfl mfa21 (by first | omega | (simp [gup, aup]; omega)) (by show _ < (72 : Int); first | omega | (simp [gup, aup]; omega)) (by decide) ?_
  refine V_aload_n dX7_readsNode_329 rfl ?_
  refine VM_geta 21 dX7_readsNode_330 q2627 (by decide) rfl ?_
  refine V_bipush dX7_readsNode_333 (by decide) ?_
  refine V_aload_n dX7_readsNode_335 rfl ?_
  refine VM_getiE 22 (g 22 0) dX7_readsNode_336 q2628 (by decide) rfl rfl ?_
  refine V_imul dX7_readsNode_339 ?_
  refine V_iconst dX7_readsNode_340 ?_
  refine V_iadd dX7_readsNode_341 ?_
  refine V_iload_n dX7_readsNode_342 rfl ?_
  refine V_if_ne 353 dX7_readsNode_343 (by decide) (by first | omega | exact hr_g _ _ | decide) (fun c_343 => ?_) (fun c_343 => absurd c_343 (by decide))
  refine V_aload_n dX7_readsNode_353 rfl ?_
  refine VM_getiE 24 (g 24 0) dX7_readsNode_354 q2630 (by decide) rfl rfl ?_
  refine VM_iast 21 hB dX7_readsNode_357 mar21 rfl mfa21 (by first | omega | (simp [gup, aup]; omega)) (by show _ < (72 : Int); first | omega | (simp [gup, aup]; omega)) (by decide) ?_
  refine V_aload_n dX7_readsNode_358 rfl ?_
  refine V_dup dX7_readsNode_359 rfl ?_
  refine VM_getiE 22 (g 22 0) dX7_readsNode_360 q2628 (by decide) rfl rfl ?_
  refine V_iconst dX7_readsNode_363 ?_
  refine V_iadd dX7_readsNode_364 ?_
  refine VM_puti 22 dX7_readsNode_365 q2628 (by decide) rfl rfl mfs22 mna22 ?_
  refine V_aload_n dX7_readsNode_368 rfl ?_
  refine V_dup dX7_readsNode_369 rfl ?_
  refine VM_getiE 23 (g 23 0) dX7_readsNode_370 q2629 (by decide) rfl rfl ?_
  refine V_iload_n dX7_readsNode_373 rfl ?_
  refine V_if_ne 381 dX7_readsNode_374 (by decide) (by first | omega | exact hr_g _ _ | decide) (fun c_374 => ?_) (fun c_374 => absurd c_374 (by decide))
  refine V_iconst dX7_readsNode_381 ?_
  refine V_iadd dX7_readsNode_382 ?_
  refine VM_puti 23 dX7_readsNode_383 q2629 (by decide) rfl rfl mfs23 mna23 ?_
  refine V_aload_n dX7_readsNode_386 rfl ?_
  refine V_dup dX7_readsNode_387 rfl ?_
  refine VM_getiE 24 (g 24 0) dX7_readsNode_388 q2630 (by decide) rfl rfl ?_
  refine V_iload_n dX7_readsNode_391 rfl ?_
  refine V_iconst dX7_readsNode_392 ?_
  refine V_icmp_ne 400 dX7_readsNode_393 (by decide) (by first | omega | exact hr_g _ _ | decide) (by first | omega | exact hr_g _ _ | decide) (fun c_393 => absurd c_393 (by decide)) (fun c_393 => ?_)
  refine V_iconst dX7_readsNode_396 ?_
  refine V_goto 401 dX7_readsNode_397 (by decide) ?_
  refine V_iadd dX7_readsNode_401 ?_
  refine VM_puti 24 dX7_readsNode_402 q2630 (by decide) rfl rfl mfs24 mna24 ?_
  exact V_vret dX7_readsNode_405 rfl (by exact K)
theorem c_node142B (hB : MB am B) {v1 v3 v4 : Option Value} {sg : Int} (hs : inr sg) (hr_g : Rng g) (hf : g 20 0 ≠ -9) (K : Q .null (mkM am B h0 g)) : V E mX7_readsNode 8 0 142 [some (.ref am), v1, some (vI sg), v3, v4] [] (mkM am B h0 g) Q X := by
  refine V_bipush dX7_readsNode_142 (by decide) ?_
  refine V_istore_n dX7_readsNode_144 (by decide) ?_
  refine V_bipush dX7_readsNode_145 (by decide) ?_
  refine V_istore dX7_readsNode_147 (by decide) ?_
  refine V_aload_n dX7_readsNode_149 rfl ?_
  refine VM_getiE 20 (g 20 0) dX7_readsNode_150 q2626 (by decide) rfl rfl ?_
  refine V_bipush dX7_readsNode_153 (by decide) ?_
  refine V_icmp_ne 205 dX7_readsNode_155 (by decide) (by first | omega | exact hr_g _ _ | decide) (by first | omega | exact hr_g _ _ | decide) (fun c_155 => ?_) (fun c_155 => by exfalso; omega)
  refine V_aload_n dX7_readsNode_205 rfl ?_
  refine VM_getiE 20 (g 20 0) dX7_readsNode_206 q2626 (by decide) rfl rfl ?_
  refine V_bipush dX7_readsNode_209 (by decide) ?_
  refine V_icmp_ne 228 dX7_readsNode_211 (by decide) (by first | omega | exact hr_g _ _ | decide) (by first | omega | exact hr_g _ _ | decide) (fun c_211 => ?_) (fun c_211 => by exfalso; omega)
  refine V_aload_n dX7_readsNode_228 rfl ?_
  refine VM_getiE 20 (g 20 0) dX7_readsNode_229 q2626 (by decide) rfl rfl ?_
  refine V_bipush dX7_readsNode_232 (by decide) ?_
  refine V_icmp_ne 241 dX7_readsNode_234 (by decide) (by first | omega | exact hr_g _ _ | decide) (by first | omega | exact hr_g _ _ | decide) (fun c_234 => ?_) (fun c_234 => by exfalso; omega)
  refine V_aload_n dX7_readsNode_241 rfl ?_
  refine VM_getiE 20 (g 20 0) dX7_readsNode_242 q2626 (by decide) rfl rfl ?_
  refine V_bipush dX7_readsNode_245 (by decide) ?_
  refine V_icmp_ne 405 dX7_readsNode_247 (by decide) (by first | omega | exact hr_g _ _ | decide) (by first | omega | exact hr_g _ _ | decide) (fun c_247 => ?_) (fun c_247 => by exfalso; omega)
  exact V_vret dX7_readsNode_405 rfl (by exact K)
theorem c_node137B (hB : MB am B) {v1 v3 v4 : Option Value} {sg : Int} (hs : inr sg) (hr_g : Rng g) (hf : g 20 0 ≠ -9) (K : Q .null (mkM am B h0 g)) : V E mX7_readsNode 8 0 137 [some (.ref am), v1, some (vI sg), v3, v4] [] (mkM am B h0 g) Q X := by
  refine V_aload_n dX7_readsNode_137 rfl ?_
  refine V_iconst dX7_readsNode_138 ?_
  refine VM_v1 (M' := mX7_passes) okX7_passes rfl dX7_readsNode_139 q2800 rfl rfl (Nat.le_of_ble_eq_true rfl) (d' := 4) (b1 := 0) (by decide) (by decide) (c_X7_passesB hB hr_g (by first | omega | exact hr_g _ _ | decide) (by first | omega | (simp [gup, aup]; omega)) ?_)
  exact c_node142B hB hs hr_g hf K
theorem c_node84B (hB : MB am B) {v1 v3 v4 : Option Value} {sg : Int} (hs : inr sg) (hr_g : Rng g) (hf : g 20 0 ≠ -9) (K : Q .null (mkM am B h0 g)) : V E mX7_readsNode 8 0 84 [some (.ref am), v1, some (vI sg), v3, v4] [] (mkM am B h0 g) Q X := by
  refine V_aload_n dX7_readsNode_84 rfl ?_
  refine V_aload_n dX7_readsNode_85 rfl ?_
  refine V_bipush dX7_readsNode_86 (by decide) ?_
  refine VM_c1 (M' := mX7_is) okX7_is rfl dX7_readsNode_88 q2788 rfl rfl (Nat.le_of_ble_eq_true rfl) (d' := 1) (b1 := 0) (by decide) (by decide) (c_X7_is hB hr_g (by first | omega | exact hr_g _ _ | decide) (fun c_88 => ?_) (fun c_88 => ?_))
  · refine V_if_eq 103 dX7_readsNode_91 (by decide) (by first | omega | exact hr_g _ _ | decide) (fun c_91 => absurd c_91 (by decide)) (fun c_91 => ?_)
    refine V_aload_n dX7_readsNode_94 rfl ?_
    refine VM_getiE 23 (g 23 0) dX7_readsNode_95 q2629 (by decide) rfl rfl ?_
    refine V_bipush dX7_readsNode_98 (by decide) ?_
    refine V_icmp_lt 129 dX7_readsNode_100 (by decide) (by first | omega | exact hr_g _ _ | decide) (by first | omega | exact hr_g _ _ | decide) (fun c_100 => ?_) (fun c_100 => ?_)
    · refine V_iconst dX7_readsNode_129 ?_
      refine V_goto 134 dX7_readsNode_130 (by decide) ?_
      refine VM_v1 (M' := mX7_due) okX7_due rfl dX7_readsNode_134 q2796 rfl rfl (Nat.le_of_ble_eq_true rfl) (d' := 1) (b1 := 0) (by decide) (by decide) (c_X7_dueB hB hr_g (by first | omega | exact hr_g _ _ | decide) (by first | omega | (simp [gup, aup]; omega)) ?_)
      exact c_node137B hB hs hr_g hf K
    · refine V_aload_n dX7_readsNode_103 rfl ?_
      refine V_bipush dX7_readsNode_104 (by decide) ?_
      refine VM_c1 (M' := mX7_is) okX7_is rfl dX7_readsNode_106 q2788 rfl rfl (Nat.le_of_ble_eq_true rfl) (d' := 1) (b1 := 0) (by decide) (by decide) (c_X7_is hB hr_g (by first | omega | exact hr_g _ _ | decide) (fun c_106 => ?_) (fun c_106 => ?_))
      · refine V_if_ne 129 dX7_readsNode_109 (by decide) (by first | omega | exact hr_g _ _ | decide) (fun c_109 => ?_) (fun c_109 => absurd c_109 (by decide))
        refine V_iconst dX7_readsNode_129 ?_
        refine V_goto 134 dX7_readsNode_130 (by decide) ?_
        refine VM_v1 (M' := mX7_due) okX7_due rfl dX7_readsNode_134 q2796 rfl rfl (Nat.le_of_ble_eq_true rfl) (d' := 1) (b1 := 0) (by decide) (by decide) (c_X7_dueB hB hr_g (by first | omega | exact hr_g _ _ | decide) (by first | omega | (simp [gup, aup]; omega)) ?_)
        exact c_node137B hB hs hr_g hf K
      · refine V_if_ne 129 dX7_readsNode_109 (by decide) (by first | omega | exact hr_g _ _ | decide) (fun c_109 => absurd c_109 (by decide)) (fun c_109 => ?_)
        refine V_aload_n dX7_readsNode_112 rfl ?_
        refine V_bipush dX7_readsNode_113 (by decide) ?_
        refine VM_c1 (M' := mX7_is) okX7_is rfl dX7_readsNode_115 q2788 rfl rfl (Nat.le_of_ble_eq_true rfl) (d' := 1) (b1 := 0) (by decide) (by decide) (c_X7_is hB hr_g (by first | omega | exact hr_g _ _ | decide) (fun c_115 => ?_) (fun c_115 => ?_))
        · refine V_if_eq 133 dX7_readsNode_118 (by decide) (by first | omega | exact hr_g _ _ | decide) (fun c_118 => absurd c_118 (by decide)) (fun c_118 => ?_)
          refine V_aload_n dX7_readsNode_121 rfl ?_
          refine VM_getiE 24 (g 24 0) dX7_readsNode_122 q2630 (by decide) rfl rfl ?_
          refine V_iconst dX7_readsNode_125 ?_
          refine V_icmp_ge 133 dX7_readsNode_126 (by decide) (by first | omega | exact hr_g _ _ | decide) (by first | omega | exact hr_g _ _ | decide) (fun c_126 => ?_) (fun c_126 => ?_)
          · refine V_iconst dX7_readsNode_133 ?_
            refine VM_v1 (M' := mX7_due) okX7_due rfl dX7_readsNode_134 q2796 rfl rfl (Nat.le_of_ble_eq_true rfl) (d' := 1) (b1 := 0) (by decide) (by decide) (c_X7_dueB hB hr_g (by first | omega | exact hr_g _ _ | decide) (by first | omega | (simp [gup, aup]; omega)) ?_)
            exact c_node137B hB hs hr_g hf K
          · refine V_iconst dX7_readsNode_129 ?_
            refine V_goto 134 dX7_readsNode_130 (by decide) ?_
            refine VM_v1 (M' := mX7_due) okX7_due rfl dX7_readsNode_134 q2796 rfl rfl (Nat.le_of_ble_eq_true rfl) (d' := 1) (b1 := 0) (by decide) (by decide) (c_X7_dueB hB hr_g (by first | omega | exact hr_g _ _ | decide) (by first | omega | (simp [gup, aup]; omega)) ?_)
            exact c_node137B hB hs hr_g hf K
        · refine V_if_eq 133 dX7_readsNode_118 (by decide) (by first | omega | exact hr_g _ _ | decide) (fun c_118 => ?_) (fun c_118 => absurd c_118 (by decide))
          refine V_iconst dX7_readsNode_133 ?_
          refine VM_v1 (M' := mX7_due) okX7_due rfl dX7_readsNode_134 q2796 rfl rfl (Nat.le_of_ble_eq_true rfl) (d' := 1) (b1 := 0) (by decide) (by decide) (c_X7_dueB hB hr_g (by first | omega | exact hr_g _ _ | decide) (by first | omega | (simp [gup, aup]; omega)) ?_)
          exact c_node137B hB hs hr_g hf K
  · refine V_if_eq 103 dX7_readsNode_91 (by decide) (by first | omega | exact hr_g _ _ | decide) (fun c_91 => ?_) (fun c_91 => absurd c_91 (by decide))
    refine V_aload_n dX7_readsNode_103 rfl ?_
    refine V_bipush dX7_readsNode_104 (by decide) ?_
    refine VM_c1 (M' := mX7_is) okX7_is rfl dX7_readsNode_106 q2788 rfl rfl (Nat.le_of_ble_eq_true rfl) (d' := 1) (b1 := 0) (by decide) (by decide) (c_X7_is hB hr_g (by first | omega | exact hr_g _ _ | decide) (fun c_106 => ?_) (fun c_106 => ?_))
    · refine V_if_ne 129 dX7_readsNode_109 (by decide) (by first | omega | exact hr_g _ _ | decide) (fun c_109 => ?_) (fun c_109 => absurd c_109 (by decide))
      refine V_iconst dX7_readsNode_129 ?_
      refine V_goto 134 dX7_readsNode_130 (by decide) ?_
      refine VM_v1 (M' := mX7_due) okX7_due rfl dX7_readsNode_134 q2796 rfl rfl (Nat.le_of_ble_eq_true rfl) (d' := 1) (b1 := 0) (by decide) (by decide) (c_X7_dueB hB hr_g (by first | omega | exact hr_g _ _ | decide) (by first | omega | (simp [gup, aup]; omega)) ?_)
      exact c_node137B hB hs hr_g hf K
    · refine V_if_ne 129 dX7_readsNode_109 (by decide) (by first | omega | exact hr_g _ _ | decide) (fun c_109 => absurd c_109 (by decide)) (fun c_109 => ?_)
      refine V_aload_n dX7_readsNode_112 rfl ?_
      refine V_bipush dX7_readsNode_113 (by decide) ?_
      refine VM_c1 (M' := mX7_is) okX7_is rfl dX7_readsNode_115 q2788 rfl rfl (Nat.le_of_ble_eq_true rfl) (d' := 1) (b1 := 0) (by decide) (by decide) (c_X7_is hB hr_g (by first | omega | exact hr_g _ _ | decide) (fun c_115 => ?_) (fun c_115 => ?_))
      · refine V_if_eq 133 dX7_readsNode_118 (by decide) (by first | omega | exact hr_g _ _ | decide) (fun c_118 => absurd c_118 (by decide)) (fun c_118 => ?_)
        refine V_aload_n dX7_readsNode_121 rfl ?_
        refine VM_getiE 24 (g 24 0) dX7_readsNode_122 q2630 (by decide) rfl rfl ?_
        refine V_iconst dX7_readsNode_125 ?_
        refine V_icmp_ge 133 dX7_readsNode_126 (by decide) (by first | omega | exact hr_g _ _ | decide) (by first | omega | exact hr_g _ _ | decide) (fun c_126 => ?_) (fun c_126 => ?_)
        · refine V_iconst dX7_readsNode_133 ?_
          refine VM_v1 (M' := mX7_due) okX7_due rfl dX7_readsNode_134 q2796 rfl rfl (Nat.le_of_ble_eq_true rfl) (d' := 1) (b1 := 0) (by decide) (by decide) (c_X7_dueB hB hr_g (by first | omega | exact hr_g _ _ | decide) (by first | omega | (simp [gup, aup]; omega)) ?_)
          exact c_node137B hB hs hr_g hf K
        · refine V_iconst dX7_readsNode_129 ?_
          refine V_goto 134 dX7_readsNode_130 (by decide) ?_
          refine VM_v1 (M' := mX7_due) okX7_due rfl dX7_readsNode_134 q2796 rfl rfl (Nat.le_of_ble_eq_true rfl) (d' := 1) (b1 := 0) (by decide) (by decide) (c_X7_dueB hB hr_g (by first | omega | exact hr_g _ _ | decide) (by first | omega | (simp [gup, aup]; omega)) ?_)
          exact c_node137B hB hs hr_g hf K
      · refine V_if_eq 133 dX7_readsNode_118 (by decide) (by first | omega | exact hr_g _ _ | decide) (fun c_118 => ?_) (fun c_118 => absurd c_118 (by decide))
        refine V_iconst dX7_readsNode_133 ?_
        refine VM_v1 (M' := mX7_due) okX7_due rfl dX7_readsNode_134 q2796 rfl rfl (Nat.le_of_ble_eq_true rfl) (d' := 1) (b1 := 0) (by decide) (by decide) (c_X7_dueB hB hr_g (by first | omega | exact hr_g _ _ | decide) (by first | omega | (simp [gup, aup]; omega)) ?_)
        exact c_node137B hB hs hr_g hf K
theorem c_node51B (hB : MB am B) {v1 v2 v3 v4 : Option Value} (hr_g : Rng g) (hf : g 20 0 ≠ -9) (K : Q .null (mkM am B h0 g)) : V E mX7_readsNode 8 0 51 [some (.ref am), v1, v2, v3, v4] [] (mkM am B h0 g) Q X := by
  refine V_aload_n dX7_readsNode_51 rfl ?_
  refine V_iconst dX7_readsNode_52 ?_
  refine VM_v1 (M' := mX7_passes) okX7_passes rfl dX7_readsNode_53 q2800 rfl rfl (Nat.le_of_ble_eq_true rfl) (d' := 4) (b1 := 0) (by decide) (by decide) (c_X7_passesB hB hr_g (by first | omega | exact hr_g _ _ | decide) (by first | omega | (simp [gup, aup]; omega)) ?_)
  refine V_aload_n dX7_readsNode_56 rfl ?_
  refine V_bipush dX7_readsNode_57 (by decide) ?_
  refine VM_c1 (M' := mX7_is) okX7_is rfl dX7_readsNode_59 q2788 rfl rfl (Nat.le_of_ble_eq_true rfl) (d' := 1) (b1 := 0) (by decide) (by decide) (c_X7_is hB hr_g (by first | omega | exact hr_g _ _ | decide) (fun c_59 => ?_) (fun c_59 => ?_))
  · refine V_if_eq 69 dX7_readsNode_62 (by decide) (by first | omega | exact hr_g _ _ | decide) (fun c_62 => absurd c_62 (by decide)) (fun c_62 => ?_)
    refine V_iconst dX7_readsNode_65 ?_
    refine V_goto 83 dX7_readsNode_66 (by decide) ?_
    refine V_istore_n dX7_readsNode_83 (by decide) ?_
    exact c_node84B hB (by decide) hr_g hf K
  · refine V_if_eq 69 dX7_readsNode_62 (by decide) (by first | omega | exact hr_g _ _ | decide) (fun c_62 => ?_) (fun c_62 => absurd c_62 (by decide))
    refine V_aload_n dX7_readsNode_69 rfl ?_
    refine V_bipush dX7_readsNode_70 (by decide) ?_
    refine VM_c1 (M' := mX7_is) okX7_is rfl dX7_readsNode_72 q2788 rfl rfl (Nat.le_of_ble_eq_true rfl) (d' := 1) (b1 := 0) (by decide) (by decide) (c_X7_is hB hr_g (by first | omega | exact hr_g _ _ | decide) (fun c_72 => ?_) (fun c_72 => ?_))
    · refine V_if_eq 82 dX7_readsNode_75 (by decide) (by first | omega | exact hr_g _ _ | decide) (fun c_75 => absurd c_75 (by decide)) (fun c_75 => ?_)
      refine V_iconst dX7_readsNode_78 ?_
      refine V_goto 83 dX7_readsNode_79 (by decide) ?_
      refine V_istore_n dX7_readsNode_83 (by decide) ?_
      exact c_node84B hB (by decide) hr_g hf K
    · refine V_if_eq 82 dX7_readsNode_75 (by decide) (by first | omega | exact hr_g _ _ | decide) (fun c_75 => ?_) (fun c_75 => absurd c_75 (by decide))
      refine V_iconst dX7_readsNode_82 ?_
      refine V_istore_n dX7_readsNode_83 (by decide) ?_
      exact c_node84B hB (by decide) hr_g hf K
theorem c_node241B (hB : MB am B) {v1 v2 v3 v4 : Option Value} (hr_g : Rng g) (hf : g 20 0 ≠ -9) (K : Q .null (mkM am B h0 g)) : V E mX7_readsNode 8 0 241 [some (.ref am), v1, v2, v3, v4] [] (mkM am B h0 g) Q X := by
  refine V_aload_n dX7_readsNode_241 rfl ?_
  refine VM_getiE 20 (g 20 0) dX7_readsNode_242 q2626 (by decide) rfl rfl ?_
  refine V_bipush dX7_readsNode_245 (by decide) ?_
  refine V_icmp_ne 405 dX7_readsNode_247 (by decide) (by first | omega | exact hr_g _ _ | decide) (by first | omega | exact hr_g _ _ | decide) (fun c_247 => ?_) (fun c_247 => by exfalso; omega)
  exact V_vret dX7_readsNode_405 rfl (by exact K)
theorem c_node192B (hB : MB am B) {v1 v2 v3 v4 : Option Value} (hr_g : Rng g) (hf : g 20 0 ≠ -9) (K : Q .null (mkM am B h0 g)) : V E mX7_readsNode 8 0 192 [some (.ref am), v1, v2, v3, v4] [] (mkM am B h0 g) Q X := by
  refine V_aload_n dX7_readsNode_192 rfl ?_
  refine VM_getiE 19 (g 19 0) dX7_readsNode_193 q2625 (by decide) rfl rfl ?_
  refine V_istore_n dX7_readsNode_196 (by decide) ?_
  refine V_aload_n dX7_readsNode_197 rfl ?_
  refine V_iconst dX7_readsNode_198 ?_
  refine VM_v1 (M' := mX7_passes) okX7_passes rfl dX7_readsNode_199 q2800 rfl rfl (Nat.le_of_ble_eq_true rfl) (d' := 4) (b1 := 0) (by decide) (by decide) (c_X7_passesB hB hr_g (by first | omega | exact hr_g _ _ | decide) (by first | omega | (simp [gup, aup]; omega)) ?_)
  refine V_goto 241 dX7_readsNode_202 (by decide) ?_
  refine V_aload_n dX7_readsNode_241 rfl ?_
  refine VM_getiE 20 (g 20 0) dX7_readsNode_242 q2626 (by decide) rfl rfl ?_
  refine V_bipush dX7_readsNode_245 (by decide) ?_
  refine V_icmp_ne 405 dX7_readsNode_247 (by decide) (by first | omega | exact hr_g _ _ | decide) (by first | omega | exact hr_g _ _ | decide) (fun c_247 => ?_) (fun c_247 => by exfalso; omega)
  exact V_vret dX7_readsNode_405 rfl (by exact K)
/-- a wire, behind its colon -/
theorem c_node142W (hB : MB am B) {nm : Int} {v3 v4 : Option Value} (hI : PI g) (hf : g 20 0 = -9) (hnm : inr nm) (hn : g 22 0 < 12) (h23 : 0 ≤ g 23 0 ∧ g 23 0 < 6) (h24 : 0 ≤ g 24 0 ∧ g 24 0 ≤ 4) (K : Q .null (mkM am B h0 (pNodeW g nm))) : V E mX7_readsNode 8 0 142 [some (.ref am), some (vI nm), some (vI 0), v3, v4] [] (mkM am B h0 g) Q X := by
  have hI' := hI
  obtain ⟨hr_g, p2, p3, p4, p5, p6⟩ := hI
  unfold pNodeW at K
  by_cases c : g 18 0 = 2 ∧ 1 ≤ g 19 0 ∧ g 19 0 ≤ 8
  · rw [pIf_f (fun h9 => h9 c)] at K
    refine V_bipush dX7_readsNode_142 (by decide) ?_
    refine V_istore_n dX7_readsNode_144 (by decide) ?_
    refine V_bipush dX7_readsNode_145 (by decide) ?_
    refine V_istore dX7_readsNode_147 (by decide) ?_
    refine V_aload_n dX7_readsNode_149 rfl ?_
    refine VM_getiE 20 (g 20 0) dX7_readsNode_150 q2626 (by decide) rfl rfl ?_
    refine V_bipush dX7_readsNode_153 (by decide) ?_
    refine V_icmp_ne 205 dX7_readsNode_155 (by decide) (by first | omega | exact hr_g _ _ | decide) (by first | omega | exact hr_g _ _ | decide) (fun c_155 => by exfalso; omega) (fun c_155 => ?_)
    refine V_iload_n dX7_readsNode_158 rfl ?_
    refine V_if_ne 205 dX7_readsNode_159 (by decide) (by first | omega | exact hr_g _ _ | decide) (fun c_159 => absurd c_159 (by decide)) (fun c_159 => ?_)
    refine V_aload_n dX7_readsNode_162 rfl ?_
    refine V_aload_n dX7_readsNode_163 rfl ?_
    refine VM_getiE 18 (g 18 0) dX7_readsNode_164 q2624 (by decide) rfl rfl ?_
    refine V_iconst dX7_readsNode_167 ?_
    refine V_icmp_ne 188 dX7_readsNode_168 (by decide) (by first | omega | exact hr_g _ _ | decide) (by first | omega | exact hr_g _ _ | decide) (fun c_168 => by exfalso; omega) (fun c_168 => ?_)
    refine V_aload_n dX7_readsNode_171 rfl ?_
    refine VM_getiE 19 (g 19 0) dX7_readsNode_172 q2625 (by decide) rfl rfl ?_
    refine V_iconst dX7_readsNode_175 ?_
    refine V_bipush dX7_readsNode_176 (by decide) ?_
    refine VS_c3 (M' := mX7_in) okX7_in dX7_readsNode_178 q2762 rfl rfl (Nat.le_of_ble_eq_true rfl) (d' := 1) (b1 := 0) (by decide) (by decide) (c_X7_in (by first | omega | exact hr_g _ _ | decide) (by first | omega | exact hr_g _ _ | decide) (by first | omega | exact hr_g _ _ | decide) (fun _ => ?_) (fun c9 => absurd c.2 c9))
    refine V_if_eq 188 dX7_readsNode_181 (by decide) (by first | omega | exact hr_g _ _ | decide) (fun c_181 => absurd c_181 (by decide)) (fun c_181 => ?_)
    refine V_iconst dX7_readsNode_184 ?_
    refine V_goto 189 dX7_readsNode_185 (by decide) ?_
    refine VM_v1 (M' := mX7_due) okX7_due rfl dX7_readsNode_189 q2796 rfl rfl (Nat.le_of_ble_eq_true rfl) (d' := 1) (b1 := 0) (by decide) (by decide) (c_X7_due1 hB hr_g ?_)
    refine V_aload_n dX7_readsNode_192 rfl ?_
    refine VM_getiE 19 (g 19 0) dX7_readsNode_193 q2625 (by decide) rfl rfl ?_
    refine V_istore_n dX7_readsNode_196 (by decide) ?_
    refine V_aload_n dX7_readsNode_197 rfl ?_
    refine V_iconst dX7_readsNode_198 ?_
    refine VM_v1 (M' := mX7_passes) okX7_passes rfl dX7_readsNode_199 q2800 rfl rfl (Nat.le_of_ble_eq_true rfl) (d' := 4) (b1 := 0) (by decide) (by decide) (c_X7_passes1 hB hr_g (by first | omega | (simp [gup, aup]; omega)) (by first | omega | (simp [gup, aup]; omega)) ?_)
    refine V_goto 241 dX7_readsNode_202 (by decide) ?_
    exact c_node241_0 hB hI'.next (by rw [pN_ne (by omega)]; exact hf) (by rw [pN_ne (by omega)]; exact hn) (by rw [pN_ne (by omega)]; omega) (by rw [pN_ne (by omega)]; exact h24) (by rw [pN_ne (by omega)]; exact K)
  · rw [pIf_t c] at K
    refine V_bipush dX7_readsNode_142 (by decide) ?_
    refine V_istore_n dX7_readsNode_144 (by decide) ?_
    refine V_bipush dX7_readsNode_145 (by decide) ?_
    refine V_istore dX7_readsNode_147 (by decide) ?_
    refine V_aload_n dX7_readsNode_149 rfl ?_
    refine VM_getiE 20 (g 20 0) dX7_readsNode_150 q2626 (by decide) rfl rfl ?_
    refine V_bipush dX7_readsNode_153 (by decide) ?_
    refine V_icmp_ne 205 dX7_readsNode_155 (by decide) (by first | omega | exact hr_g _ _ | decide) (by first | omega | exact hr_g _ _ | decide) (fun c_155 => by exfalso; omega) (fun c_155 => ?_)
    refine V_iload_n dX7_readsNode_158 rfl ?_
    refine V_if_ne 205 dX7_readsNode_159 (by decide) (by first | omega | exact hr_g _ _ | decide) (fun c_159 => absurd c_159 (by decide)) (fun c_159 => ?_)
    refine V_aload_n dX7_readsNode_162 rfl ?_
    refine V_aload_n dX7_readsNode_163 rfl ?_
    refine VM_getiE 18 (g 18 0) dX7_readsNode_164 q2624 (by decide) rfl rfl ?_
    refine V_iconst dX7_readsNode_167 ?_
    refine V_icmp_ne 188 dX7_readsNode_168 (by decide) (by first | omega | exact hr_g _ _ | decide) (by first | omega | exact hr_g _ _ | decide) (fun c_168 => ?_) (fun c_168 => ?_)
    · refine V_iconst dX7_readsNode_188 ?_
      refine VM_v1 (M' := mX7_due) okX7_due rfl dX7_readsNode_189 q2796 rfl rfl (Nat.le_of_ble_eq_true rfl) (d' := 1) (b1 := 0) (by decide) (by decide) (c_X7_due0 hB hr_g (by first | omega | (simp [gup, aup]; omega)) ?_)
      exact c_node192B hB hI'.fault.1 (by simp [pFault, gup, aup]; omega) K
    · refine V_aload_n dX7_readsNode_171 rfl ?_
      refine VM_getiE 19 (g 19 0) dX7_readsNode_172 q2625 (by decide) rfl rfl ?_
      refine V_iconst dX7_readsNode_175 ?_
      refine V_bipush dX7_readsNode_176 (by decide) ?_
      refine VS_c3 (M' := mX7_in) okX7_in dX7_readsNode_178 q2762 rfl rfl (Nat.le_of_ble_eq_true rfl) (d' := 1) (b1 := 0) (by decide) (by decide) (c_X7_in (by first | omega | exact hr_g _ _ | decide) (by first | omega | exact hr_g _ _ | decide) (by first | omega | exact hr_g _ _ | decide) (fun c_178 => ?_) (fun c_178 => ?_))
      · refine V_if_eq 188 dX7_readsNode_181 (by decide) (by first | omega | exact hr_g _ _ | decide) (fun c_181 => absurd c_181 (by decide)) (fun c_181 => ?_)
        refine V_iconst dX7_readsNode_184 ?_
        refine V_goto 189 dX7_readsNode_185 (by decide) ?_
        refine VM_v1 (M' := mX7_due) okX7_due rfl dX7_readsNode_189 q2796 rfl rfl (Nat.le_of_ble_eq_true rfl) (d' := 1) (b1 := 0) (by decide) (by decide) (c_X7_due1 hB hr_g ?_)
        exact absurd ⟨by omega, by omega, by omega⟩ c
      · refine V_if_eq 188 dX7_readsNode_181 (by decide) (by first | omega | exact hr_g _ _ | decide) (fun c_181 => ?_) (fun c_181 => absurd c_181 (by decide))
        refine V_iconst dX7_readsNode_188 ?_
        refine VM_v1 (M' := mX7_due) okX7_due rfl dX7_readsNode_189 q2796 rfl rfl (Nat.le_of_ble_eq_true rfl) (d' := 1) (b1 := 0) (by decide) (by decide) (c_X7_due0 hB hr_g (by first | omega | (simp [gup, aup]; omega)) ?_)
        exact c_node192B hB hI'.fault.1 (by simp [pFault, gup, aup]; omega) K
/-- an alias, behind its sign -/
theorem c_node142A (hB : MB am B) {nm : Int} {v3 v4 : Option Value} (hI : PI g) (hf : g 20 0 = -9) (hnm : inr nm) (hn : g 22 0 < 12) (h23 : 0 ≤ g 23 0 ∧ g 23 0 ≤ 6) (h24 : 0 ≤ g 24 0 ∧ g 24 0 ≤ 4) (K : Q .null (mkM am B h0 (pNodeA g nm))) : V E mX7_readsNode 8 0 142 [some (.ref am), some (vI nm), some (vI 1), v3, v4] [] (mkM am B h0 g) Q X := by
  have hI' := hI
  obtain ⟨hr_g, p2, p3, p4, p5, p6⟩ := hI
  have hP : PI (pPath g).1 := PI.path _ _ _ hI'
  have hrp := hP.1
  have e22 : (pPath g).1 22 = g 22 := pP_ne (by omega) _ _ _
  have e23 : (pPath g).1 23 = g 23 := pP_ne (by omega) _ _ _
  have e24 : (pPath g).1 24 = g 24 := pP_ne (by omega) _ _ _
  unfold pNodeA at K
  by_cases c : (pPath g).1 20 0 = -9
  · rw [pIf_t c] at K
    refine V_bipush dX7_readsNode_142 (by decide) ?_
    refine V_istore_n dX7_readsNode_144 (by decide) ?_
    refine V_bipush dX7_readsNode_145 (by decide) ?_
    refine V_istore dX7_readsNode_147 (by decide) ?_
    refine V_aload_n dX7_readsNode_149 rfl ?_
    refine VM_getiE 20 (g 20 0) dX7_readsNode_150 q2626 (by decide) rfl rfl ?_
    refine V_bipush dX7_readsNode_153 (by decide) ?_
    refine V_icmp_ne 205 dX7_readsNode_155 (by decide) (by first | omega | exact hr_g _ _ | decide) (by first | omega | exact hr_g _ _ | decide) (fun c_155 => by exfalso; omega) (fun c_155 => ?_)
    refine V_iload_n dX7_readsNode_158 rfl ?_
    refine V_if_ne 205 dX7_readsNode_159 (by decide) (by first | omega | exact hr_g _ _ | decide) (fun c_159 => ?_) (fun c_159 => absurd c_159 (by decide))
    refine V_aload_n dX7_readsNode_205 rfl ?_
    refine VM_getiE 20 (g 20 0) dX7_readsNode_206 q2626 (by decide) rfl rfl ?_
    refine V_bipush dX7_readsNode_209 (by decide) ?_
    refine V_icmp_ne 228 dX7_readsNode_211 (by decide) (by first | omega | exact hr_g _ _ | decide) (by first | omega | exact hr_g _ _ | decide) (fun c_211 => by exfalso; omega) (fun c_211 => ?_)
    refine V_iload_n dX7_readsNode_214 rfl ?_
    refine V_iconst dX7_readsNode_215 ?_
    refine V_icmp_ne 228 dX7_readsNode_216 (by decide) (by first | omega | exact hr_g _ _ | decide) (by first | omega | exact hr_g _ _ | decide) (fun c_216 => absurd c_216 (by decide)) (fun c_216 => ?_)
    refine V_aload_n dX7_readsNode_219 rfl ?_
    refine VM_c0 (M' := mX7_readsPath) okX7_readsPath rfl dX7_readsNode_220 q2820 rfl rfl (Nat.le_of_ble_eq_true rfl) (d' := 5) (b1 := 0) (by decide) (by decide) (c_X7_readsPath hB hI' hf ?_)
    refine V_istore dX7_readsNode_223 (by decide) ?_
    refine V_goto 241 dX7_readsNode_225 (by decide) ?_
    exact c_node241_1 hB hP c (by rw [e22]; exact hn) (by rw [e23]; exact h23) (by rw [e24]; exact h24) (by rw [e24]; exact K)
  · rw [pIf_f c] at K
    refine V_bipush dX7_readsNode_142 (by decide) ?_
    refine V_istore_n dX7_readsNode_144 (by decide) ?_
    refine V_bipush dX7_readsNode_145 (by decide) ?_
    refine V_istore dX7_readsNode_147 (by decide) ?_
    refine V_aload_n dX7_readsNode_149 rfl ?_
    refine VM_getiE 20 (g 20 0) dX7_readsNode_150 q2626 (by decide) rfl rfl ?_
    refine V_bipush dX7_readsNode_153 (by decide) ?_
    refine V_icmp_ne 205 dX7_readsNode_155 (by decide) (by first | omega | exact hr_g _ _ | decide) (by first | omega | exact hr_g _ _ | decide) (fun c_155 => by exfalso; omega) (fun c_155 => ?_)
    refine V_iload_n dX7_readsNode_158 rfl ?_
    refine V_if_ne 205 dX7_readsNode_159 (by decide) (by first | omega | exact hr_g _ _ | decide) (fun c_159 => ?_) (fun c_159 => absurd c_159 (by decide))
    refine V_aload_n dX7_readsNode_205 rfl ?_
    refine VM_getiE 20 (g 20 0) dX7_readsNode_206 q2626 (by decide) rfl rfl ?_
    refine V_bipush dX7_readsNode_209 (by decide) ?_
    refine V_icmp_ne 228 dX7_readsNode_211 (by decide) (by first | omega | exact hr_g _ _ | decide) (by first | omega | exact hr_g _ _ | decide) (fun c_211 => by exfalso; omega) (fun c_211 => ?_)
    refine V_iload_n dX7_readsNode_214 rfl ?_
    refine V_iconst dX7_readsNode_215 ?_
    refine V_icmp_ne 228 dX7_readsNode_216 (by decide) (by first | omega | exact hr_g _ _ | decide) (by first | omega | exact hr_g _ _ | decide) (fun c_216 => absurd c_216 (by decide)) (fun c_216 => ?_)
    refine V_aload_n dX7_readsNode_219 rfl ?_
    refine VM_c0 (M' := mX7_readsPath) okX7_readsPath rfl dX7_readsNode_220 q2820 rfl rfl (Nat.le_of_ble_eq_true rfl) (d' := 5) (b1 := 0) (by decide) (by decide) (c_X7_readsPath hB hI' hf ?_)
    refine V_istore dX7_readsNode_223 (by decide) ?_
    refine V_goto 241 dX7_readsNode_225 (by decide) ?_
    exact c_node241B hB hrp c K
/-- a derived one, behind its sign -/
theorem c_node142D (hB : MB am B) {nm : Int} {v3 v4 : Option Value} (hI : PI g) (hf : g 20 0 = -9) (hnm : inr nm) (hn : g 22 0 < 12) (h23 : 0 ≤ g 23 0 ∧ g 23 0 ≤ 6) (h24 : 0 ≤ g 24 0 ∧ g 24 0 < 4) (K : Q .null (mkM am B h0 (pNodeD g nm))) : V E mX7_readsNode 8 0 142 [some (.ref am), some (vI nm), some (vI 2), v3, v4] [] (mkM am B h0 g) Q X := by
  have hI' := hI
  obtain ⟨hr_g, p2, p3, p4, p5, p6⟩ := hI
  have hP : PI (pExpr g) := PI.expr hI' (by omega) hf
  have hrp := hP.1
  have e22 : pExpr g 22 = g 22 := pEx_ne (by omega) _
  have e23 : pExpr g 23 = g 23 := pEx_ne (by omega) _
  have e24 : pExpr g 24 = g 24 := pEx_ne (by omega) _
  unfold pNodeD at K
  by_cases c : pExpr g 20 0 = -9
  · rw [pIf_t c] at K
    refine V_bipush dX7_readsNode_142 (by decide) ?_
    refine V_istore_n dX7_readsNode_144 (by decide) ?_
    refine V_bipush dX7_readsNode_145 (by decide) ?_
    refine V_istore dX7_readsNode_147 (by decide) ?_
    refine V_aload_n dX7_readsNode_149 rfl ?_
    refine VM_getiE 20 (g 20 0) dX7_readsNode_150 q2626 (by decide) rfl rfl ?_
    refine V_bipush dX7_readsNode_153 (by decide) ?_
    refine V_icmp_ne 205 dX7_readsNode_155 (by decide) (by first | omega | exact hr_g _ _ | decide) (by first | omega | exact hr_g _ _ | decide) (fun c_155 => by exfalso; omega) (fun c_155 => ?_)
    refine V_iload_n dX7_readsNode_158 rfl ?_
    refine V_if_ne 205 dX7_readsNode_159 (by decide) (by first | omega | exact hr_g _ _ | decide) (fun c_159 => ?_) (fun c_159 => absurd c_159 (by decide))
    refine V_aload_n dX7_readsNode_205 rfl ?_
    refine VM_getiE 20 (g 20 0) dX7_readsNode_206 q2626 (by decide) rfl rfl ?_
    refine V_bipush dX7_readsNode_209 (by decide) ?_
    refine V_icmp_ne 228 dX7_readsNode_211 (by decide) (by first | omega | exact hr_g _ _ | decide) (by first | omega | exact hr_g _ _ | decide) (fun c_211 => by exfalso; omega) (fun c_211 => ?_)
    refine V_iload_n dX7_readsNode_214 rfl ?_
    refine V_iconst dX7_readsNode_215 ?_
    refine V_icmp_ne 228 dX7_readsNode_216 (by decide) (by first | omega | exact hr_g _ _ | decide) (by first | omega | exact hr_g _ _ | decide) (fun c_216 => ?_) (fun c_216 => absurd c_216 (by decide))
    refine V_aload_n dX7_readsNode_228 rfl ?_
    refine VM_getiE 20 (g 20 0) dX7_readsNode_229 q2626 (by decide) rfl rfl ?_
    refine V_bipush dX7_readsNode_232 (by decide) ?_
    refine V_icmp_ne 241 dX7_readsNode_234 (by decide) (by first | omega | exact hr_g _ _ | decide) (by first | omega | exact hr_g _ _ | decide) (fun c_234 => by exfalso; omega) (fun c_234 => ?_)
    refine V_aload_n dX7_readsNode_237 rfl ?_
    refine VM_v0 (M' := mX7_readsExpression) okX7_readsExpression rfl dX7_readsNode_238 q2824 rfl rfl (Nat.le_of_ble_eq_true rfl) (d' := 7) (b1 := 0) (by decide) (by decide) (c_X7_readsExpression hB hI' (by omega) hf ?_)
    exact c_node241_2 hB hP c (by rw [e22]; exact hn) (by rw [e23]; exact h23) (by rw [e24]; omega) (by rw [e24]; exact K)
  · rw [pIf_f c] at K
    refine V_bipush dX7_readsNode_142 (by decide) ?_
    refine V_istore_n dX7_readsNode_144 (by decide) ?_
    refine V_bipush dX7_readsNode_145 (by decide) ?_
    refine V_istore dX7_readsNode_147 (by decide) ?_
    refine V_aload_n dX7_readsNode_149 rfl ?_
    refine VM_getiE 20 (g 20 0) dX7_readsNode_150 q2626 (by decide) rfl rfl ?_
    refine V_bipush dX7_readsNode_153 (by decide) ?_
    refine V_icmp_ne 205 dX7_readsNode_155 (by decide) (by first | omega | exact hr_g _ _ | decide) (by first | omega | exact hr_g _ _ | decide) (fun c_155 => by exfalso; omega) (fun c_155 => ?_)
    refine V_iload_n dX7_readsNode_158 rfl ?_
    refine V_if_ne 205 dX7_readsNode_159 (by decide) (by first | omega | exact hr_g _ _ | decide) (fun c_159 => ?_) (fun c_159 => absurd c_159 (by decide))
    refine V_aload_n dX7_readsNode_205 rfl ?_
    refine VM_getiE 20 (g 20 0) dX7_readsNode_206 q2626 (by decide) rfl rfl ?_
    refine V_bipush dX7_readsNode_209 (by decide) ?_
    refine V_icmp_ne 228 dX7_readsNode_211 (by decide) (by first | omega | exact hr_g _ _ | decide) (by first | omega | exact hr_g _ _ | decide) (fun c_211 => by exfalso; omega) (fun c_211 => ?_)
    refine V_iload_n dX7_readsNode_214 rfl ?_
    refine V_iconst dX7_readsNode_215 ?_
    refine V_icmp_ne 228 dX7_readsNode_216 (by decide) (by first | omega | exact hr_g _ _ | decide) (by first | omega | exact hr_g _ _ | decide) (fun c_216 => ?_) (fun c_216 => absurd c_216 (by decide))
    refine V_aload_n dX7_readsNode_228 rfl ?_
    refine VM_getiE 20 (g 20 0) dX7_readsNode_229 q2626 (by decide) rfl rfl ?_
    refine V_bipush dX7_readsNode_232 (by decide) ?_
    refine V_icmp_ne 241 dX7_readsNode_234 (by decide) (by first | omega | exact hr_g _ _ | decide) (by first | omega | exact hr_g _ _ | decide) (fun c_234 => by exfalso; omega) (fun c_234 => ?_)
    refine V_aload_n dX7_readsNode_237 rfl ?_
    refine VM_v0 (M' := mX7_readsExpression) okX7_readsExpression rfl dX7_readsNode_238 q2824 rfl rfl (Nat.le_of_ble_eq_true rfl) (d' := 7) (b1 := 0) (by decide) (by decide) (c_X7_readsExpression hB hI' (by omega) hf ?_)
    exact c_node241B hB hrp c K
theorem c_node56 (hB : MB am B) {nm : Int} {v2 v3 v4 : Option Value} (hI : PI g) (hf : g 20 0 = -9) (hnm : inr nm) (hn : g 22 0 < 12) (h23 : 0 ≤ g 23 0 ∧ g 23 0 ≤ 6) (h24 : 0 ≤ g 24 0 ∧ g 24 0 ≤ 4) (K : Q .null (mkM am B h0 (pNode2 g nm))) : V E mX7_readsNode 8 0 56 [some (.ref am), some (vI nm), v2, v3, v4] [] (mkM am B h0 g) Q X := by
  have hI' := hI
  obtain ⟨hr_g, p2, p3, p4, p5, p6⟩ := hI
  have n20 : pNext g 20 0 = -9 := by rw [pN_ne (by omega)]; exact hf
  have n22 : pNext g 22 = g 22 := pN_ne (by omega)
  have n23 : pNext g 23 = g 23 := pN_ne (by omega)
  have n24 : pNext g 24 = g 24 := pN_ne (by omega)
  unfold pNode2 at K
  by_cases c1 : g 18 0 = 3 ∧ g 19 0 = 58
  · rw [pIf_t c1] at K
    by_cases c2 : g 23 0 < 6
    · rw [pIf_f (fun h9 => h9 c2)] at K
      refine V_aload_n dX7_readsNode_56 rfl ?_
      refine V_bipush dX7_readsNode_57 (by decide) ?_
      refine VM_c1 (M' := mX7_is) okX7_is rfl dX7_readsNode_59 q2788 rfl rfl (Nat.le_of_ble_eq_true rfl) (d' := 1) (b1 := 0) (by decide) (by decide) (c_X7_is hB hr_g (by first | omega | exact hr_g _ _ | decide) (fun _ => ?_) (fun c9 => absurd c1 c9))
      refine V_if_eq 69 dX7_readsNode_62 (by decide) (by first | omega | exact hr_g _ _ | decide) (fun c_62 => absurd c_62 (by decide)) (fun c_62 => ?_)
      refine V_iconst dX7_readsNode_65 ?_
      refine V_goto 83 dX7_readsNode_66 (by decide) ?_
      refine V_istore_n dX7_readsNode_83 (by decide) ?_
      refine V_aload_n dX7_readsNode_84 rfl ?_
      refine V_aload_n dX7_readsNode_85 rfl ?_
      refine V_bipush dX7_readsNode_86 (by decide) ?_
      refine VM_c1 (M' := mX7_is) okX7_is rfl dX7_readsNode_88 q2788 rfl rfl (Nat.le_of_ble_eq_true rfl) (d' := 1) (b1 := 0) (by decide) (by decide) (c_X7_is hB hr_g (by first | omega | exact hr_g _ _ | decide) (fun _ => ?_) (fun c9 => absurd c1 c9))
      refine V_if_eq 103 dX7_readsNode_91 (by decide) (by first | omega | exact hr_g _ _ | decide) (fun c_91 => absurd c_91 (by decide)) (fun c_91 => ?_)
      refine V_aload_n dX7_readsNode_94 rfl ?_
      refine VM_getiE 23 (g 23 0) dX7_readsNode_95 q2629 (by decide) rfl rfl ?_
      refine V_bipush dX7_readsNode_98 (by decide) ?_
      refine V_icmp_lt 129 dX7_readsNode_100 (by decide) (by first | omega | exact hr_g _ _ | decide) (by first | omega | exact hr_g _ _ | decide) (fun c_100 => ?_) (fun c_100 => by exfalso; omega)
      refine V_iconst dX7_readsNode_129 ?_
      refine V_goto 134 dX7_readsNode_130 (by decide) ?_
      refine VM_v1 (M' := mX7_due) okX7_due rfl dX7_readsNode_134 q2796 rfl rfl (Nat.le_of_ble_eq_true rfl) (d' := 1) (b1 := 0) (by decide) (by decide) (c_X7_due1 hB hr_g ?_)
      refine V_aload_n dX7_readsNode_137 rfl ?_
      refine V_iconst dX7_readsNode_138 ?_
      refine VM_v1 (M' := mX7_passes) okX7_passes rfl dX7_readsNode_139 q2800 rfl rfl (Nat.le_of_ble_eq_true rfl) (d' := 4) (b1 := 0) (by decide) (by decide) (c_X7_passes1 hB hr_g (by first | omega | (simp [gup, aup]; omega)) (by first | omega | (simp [gup, aup]; omega)) ?_)
      exact c_node142W hB hI'.next n20 hnm (by rw [n22]; exact hn) (by rw [n23]; omega) (by rw [n24]; exact h24) K
    · rw [pIf_t c2] at K
      refine V_aload_n dX7_readsNode_56 rfl ?_
      refine V_bipush dX7_readsNode_57 (by decide) ?_
      refine VM_c1 (M' := mX7_is) okX7_is rfl dX7_readsNode_59 q2788 rfl rfl (Nat.le_of_ble_eq_true rfl) (d' := 1) (b1 := 0) (by decide) (by decide) (c_X7_is hB hr_g (by first | omega | exact hr_g _ _ | decide) (fun _ => ?_) (fun c9 => absurd c1 c9))
      refine V_if_eq 69 dX7_readsNode_62 (by decide) (by first | omega | exact hr_g _ _ | decide) (fun c_62 => absurd c_62 (by decide)) (fun c_62 => ?_)
      refine V_iconst dX7_readsNode_65 ?_
      refine V_goto 83 dX7_readsNode_66 (by decide) ?_
      refine V_istore_n dX7_readsNode_83 (by decide) ?_
      refine V_aload_n dX7_readsNode_84 rfl ?_
      refine V_aload_n dX7_readsNode_85 rfl ?_
      refine V_bipush dX7_readsNode_86 (by decide) ?_
      refine VM_c1 (M' := mX7_is) okX7_is rfl dX7_readsNode_88 q2788 rfl rfl (Nat.le_of_ble_eq_true rfl) (d' := 1) (b1 := 0) (by decide) (by decide) (c_X7_is hB hr_g (by first | omega | exact hr_g _ _ | decide) (fun _ => ?_) (fun c9 => absurd c1 c9))
      refine V_if_eq 103 dX7_readsNode_91 (by decide) (by first | omega | exact hr_g _ _ | decide) (fun c_91 => absurd c_91 (by decide)) (fun c_91 => ?_)
      refine V_aload_n dX7_readsNode_94 rfl ?_
      refine VM_getiE 23 (g 23 0) dX7_readsNode_95 q2629 (by decide) rfl rfl ?_
      refine V_bipush dX7_readsNode_98 (by decide) ?_
      refine V_icmp_lt 129 dX7_readsNode_100 (by decide) (by first | omega | exact hr_g _ _ | decide) (by first | omega | exact hr_g _ _ | decide) (fun c_100 => by exfalso; omega) (fun c_100 => ?_)
      refine V_aload_n dX7_readsNode_103 rfl ?_
      refine V_bipush dX7_readsNode_104 (by decide) ?_
      refine VM_c1 (M' := mX7_is) okX7_is rfl dX7_readsNode_106 q2788 rfl rfl (Nat.le_of_ble_eq_true rfl) (d' := 1) (b1 := 0) (by decide) (by decide) (c_X7_is hB hr_g (by first | omega | exact hr_g _ _ | decide) (fun c9 => absurd (c1.2.symm.trans c9.2) (by decide)) (fun _ => ?_))
      refine V_if_ne 129 dX7_readsNode_109 (by decide) (by first | omega | exact hr_g _ _ | decide) (fun c_109 => absurd c_109 (by decide)) (fun c_109 => ?_)
      refine V_aload_n dX7_readsNode_112 rfl ?_
      refine V_bipush dX7_readsNode_113 (by decide) ?_
      refine VM_c1 (M' := mX7_is) okX7_is rfl dX7_readsNode_115 q2788 rfl rfl (Nat.le_of_ble_eq_true rfl) (d' := 1) (b1 := 0) (by decide) (by decide) (c_X7_is hB hr_g (by first | omega | exact hr_g _ _ | decide) (fun c9 => absurd (c1.2.symm.trans c9.2) (by decide)) (fun _ => ?_))
      refine V_if_eq 133 dX7_readsNode_118 (by decide) (by first | omega | exact hr_g _ _ | decide) (fun c_118 => ?_) (fun c_118 => absurd c_118 (by decide))
      refine V_iconst dX7_readsNode_133 ?_
      refine VM_v1 (M' := mX7_due) okX7_due rfl dX7_readsNode_134 q2796 rfl rfl (Nat.le_of_ble_eq_true rfl) (d' := 1) (b1 := 0) (by decide) (by decide) (c_X7_due0 hB hr_g (by first | omega | (simp [gup, aup]; omega)) ?_)
      exact c_node137B hB (by decide) hI'.fault.1 (by simp [pFault, gup, aup]; omega) K
  · rw [pIf_f c1] at K
    by_cases c2 : g 18 0 = 3 ∧ g 19 0 = 64
    · rw [pIf_t c2] at K
      refine V_aload_n dX7_readsNode_56 rfl ?_
      refine V_bipush dX7_readsNode_57 (by decide) ?_
      refine VM_c1 (M' := mX7_is) okX7_is rfl dX7_readsNode_59 q2788 rfl rfl (Nat.le_of_ble_eq_true rfl) (d' := 1) (b1 := 0) (by decide) (by decide) (c_X7_is hB hr_g (by first | omega | exact hr_g _ _ | decide) (fun c9 => absurd c9 c1) (fun _ => ?_))
      refine V_if_eq 69 dX7_readsNode_62 (by decide) (by first | omega | exact hr_g _ _ | decide) (fun c_62 => ?_) (fun c_62 => absurd c_62 (by decide))
      refine V_aload_n dX7_readsNode_69 rfl ?_
      refine V_bipush dX7_readsNode_70 (by decide) ?_
      refine VM_c1 (M' := mX7_is) okX7_is rfl dX7_readsNode_72 q2788 rfl rfl (Nat.le_of_ble_eq_true rfl) (d' := 1) (b1 := 0) (by decide) (by decide) (c_X7_is hB hr_g (by first | omega | exact hr_g _ _ | decide) (fun _ => ?_) (fun c9 => absurd c2 c9))
      refine V_if_eq 82 dX7_readsNode_75 (by decide) (by first | omega | exact hr_g _ _ | decide) (fun c_75 => absurd c_75 (by decide)) (fun c_75 => ?_)
      refine V_iconst dX7_readsNode_78 ?_
      refine V_goto 83 dX7_readsNode_79 (by decide) ?_
      refine V_istore_n dX7_readsNode_83 (by decide) ?_
      refine V_aload_n dX7_readsNode_84 rfl ?_
      refine V_aload_n dX7_readsNode_85 rfl ?_
      refine V_bipush dX7_readsNode_86 (by decide) ?_
      refine VM_c1 (M' := mX7_is) okX7_is rfl dX7_readsNode_88 q2788 rfl rfl (Nat.le_of_ble_eq_true rfl) (d' := 1) (b1 := 0) (by decide) (by decide) (c_X7_is hB hr_g (by first | omega | exact hr_g _ _ | decide) (fun c9 => absurd c9 c1) (fun _ => ?_))
      refine V_if_eq 103 dX7_readsNode_91 (by decide) (by first | omega | exact hr_g _ _ | decide) (fun c_91 => ?_) (fun c_91 => absurd c_91 (by decide))
      refine V_aload_n dX7_readsNode_103 rfl ?_
      refine V_bipush dX7_readsNode_104 (by decide) ?_
      refine VM_c1 (M' := mX7_is) okX7_is rfl dX7_readsNode_106 q2788 rfl rfl (Nat.le_of_ble_eq_true rfl) (d' := 1) (b1 := 0) (by decide) (by decide) (c_X7_is hB hr_g (by first | omega | exact hr_g _ _ | decide) (fun _ => ?_) (fun c9 => absurd c2 c9))
      refine V_if_ne 129 dX7_readsNode_109 (by decide) (by first | omega | exact hr_g _ _ | decide) (fun c_109 => ?_) (fun c_109 => absurd c_109 (by decide))
      refine V_iconst dX7_readsNode_129 ?_
      refine V_goto 134 dX7_readsNode_130 (by decide) ?_
      refine VM_v1 (M' := mX7_due) okX7_due rfl dX7_readsNode_134 q2796 rfl rfl (Nat.le_of_ble_eq_true rfl) (d' := 1) (b1 := 0) (by decide) (by decide) (c_X7_due1 hB hr_g ?_)
      refine V_aload_n dX7_readsNode_137 rfl ?_
      refine V_iconst dX7_readsNode_138 ?_
      refine VM_v1 (M' := mX7_passes) okX7_passes rfl dX7_readsNode_139 q2800 rfl rfl (Nat.le_of_ble_eq_true rfl) (d' := 4) (b1 := 0) (by decide) (by decide) (c_X7_passes1 hB hr_g (by first | omega | (simp [gup, aup]; omega)) (by first | omega | (simp [gup, aup]; omega)) ?_)
      exact c_node142A hB hI'.next n20 hnm (by rw [n22]; exact hn) (by rw [n23]; omega) (by rw [n24]; exact h24) K
    · rw [pIf_f c2] at K
      by_cases c3 : g 18 0 = 3 ∧ g 19 0 = 61 ∧ g 24 0 < 4
      · rw [pIf_f (fun h9 => h9 c3)] at K
        refine V_aload_n dX7_readsNode_56 rfl ?_
        refine V_bipush dX7_readsNode_57 (by decide) ?_
        refine VM_c1 (M' := mX7_is) okX7_is rfl dX7_readsNode_59 q2788 rfl rfl (Nat.le_of_ble_eq_true rfl) (d' := 1) (b1 := 0) (by decide) (by decide) (c_X7_is hB hr_g (by first | omega | exact hr_g _ _ | decide) (fun c9 => absurd c9 c1) (fun _ => ?_))
        refine V_if_eq 69 dX7_readsNode_62 (by decide) (by first | omega | exact hr_g _ _ | decide) (fun c_62 => ?_) (fun c_62 => absurd c_62 (by decide))
        refine V_aload_n dX7_readsNode_69 rfl ?_
        refine V_bipush dX7_readsNode_70 (by decide) ?_
        refine VM_c1 (M' := mX7_is) okX7_is rfl dX7_readsNode_72 q2788 rfl rfl (Nat.le_of_ble_eq_true rfl) (d' := 1) (b1 := 0) (by decide) (by decide) (c_X7_is hB hr_g (by first | omega | exact hr_g _ _ | decide) (fun c9 => absurd c9 c2) (fun _ => ?_))
        refine V_if_eq 82 dX7_readsNode_75 (by decide) (by first | omega | exact hr_g _ _ | decide) (fun c_75 => ?_) (fun c_75 => absurd c_75 (by decide))
        refine V_iconst dX7_readsNode_82 ?_
        refine V_istore_n dX7_readsNode_83 (by decide) ?_
        refine V_aload_n dX7_readsNode_84 rfl ?_
        refine V_aload_n dX7_readsNode_85 rfl ?_
        refine V_bipush dX7_readsNode_86 (by decide) ?_
        refine VM_c1 (M' := mX7_is) okX7_is rfl dX7_readsNode_88 q2788 rfl rfl (Nat.le_of_ble_eq_true rfl) (d' := 1) (b1 := 0) (by decide) (by decide) (c_X7_is hB hr_g (by first | omega | exact hr_g _ _ | decide) (fun c9 => absurd c9 c1) (fun _ => ?_))
        refine V_if_eq 103 dX7_readsNode_91 (by decide) (by first | omega | exact hr_g _ _ | decide) (fun c_91 => ?_) (fun c_91 => absurd c_91 (by decide))
        refine V_aload_n dX7_readsNode_103 rfl ?_
        refine V_bipush dX7_readsNode_104 (by decide) ?_
        refine VM_c1 (M' := mX7_is) okX7_is rfl dX7_readsNode_106 q2788 rfl rfl (Nat.le_of_ble_eq_true rfl) (d' := 1) (b1 := 0) (by decide) (by decide) (c_X7_is hB hr_g (by first | omega | exact hr_g _ _ | decide) (fun c9 => absurd c9 c2) (fun _ => ?_))
        refine V_if_ne 129 dX7_readsNode_109 (by decide) (by first | omega | exact hr_g _ _ | decide) (fun c_109 => absurd c_109 (by decide)) (fun c_109 => ?_)
        refine V_aload_n dX7_readsNode_112 rfl ?_
        refine V_bipush dX7_readsNode_113 (by decide) ?_
        refine VM_c1 (M' := mX7_is) okX7_is rfl dX7_readsNode_115 q2788 rfl rfl (Nat.le_of_ble_eq_true rfl) (d' := 1) (b1 := 0) (by decide) (by decide) (c_X7_is hB hr_g (by first | omega | exact hr_g _ _ | decide) (fun _ => ?_) (fun c9 => absurd ⟨c3.1, c3.2.1⟩ c9))
        refine V_if_eq 133 dX7_readsNode_118 (by decide) (by first | omega | exact hr_g _ _ | decide) (fun c_118 => absurd c_118 (by decide)) (fun c_118 => ?_)
        refine V_aload_n dX7_readsNode_121 rfl ?_
        refine VM_getiE 24 (g 24 0) dX7_readsNode_122 q2630 (by decide) rfl rfl ?_
        refine V_iconst dX7_readsNode_125 ?_
        refine V_icmp_ge 133 dX7_readsNode_126 (by decide) (by first | omega | exact hr_g _ _ | decide) (by first | omega | exact hr_g _ _ | decide) (fun c_126 => by exfalso; omega) (fun c_126 => ?_)
        refine V_iconst dX7_readsNode_129 ?_
        refine V_goto 134 dX7_readsNode_130 (by decide) ?_
        refine VM_v1 (M' := mX7_due) okX7_due rfl dX7_readsNode_134 q2796 rfl rfl (Nat.le_of_ble_eq_true rfl) (d' := 1) (b1 := 0) (by decide) (by decide) (c_X7_due1 hB hr_g ?_)
        refine V_aload_n dX7_readsNode_137 rfl ?_
        refine V_iconst dX7_readsNode_138 ?_
        refine VM_v1 (M' := mX7_passes) okX7_passes rfl dX7_readsNode_139 q2800 rfl rfl (Nat.le_of_ble_eq_true rfl) (d' := 4) (b1 := 0) (by decide) (by decide) (c_X7_passes1 hB hr_g (by first | omega | (simp [gup, aup]; omega)) (by first | omega | (simp [gup, aup]; omega)) ?_)
        exact c_node142D hB hI'.next n20 hnm (by rw [n22]; exact hn) (by rw [n23]; omega) (by rw [n24]; omega) K
      · rw [pIf_t c3] at K
        refine V_aload_n dX7_readsNode_56 rfl ?_
        refine V_bipush dX7_readsNode_57 (by decide) ?_
        refine VM_c1 (M' := mX7_is) okX7_is rfl dX7_readsNode_59 q2788 rfl rfl (Nat.le_of_ble_eq_true rfl) (d' := 1) (b1 := 0) (by decide) (by decide) (c_X7_is hB hr_g (by first | omega | exact hr_g _ _ | decide) (fun c9 => absurd c9 c1) (fun _ => ?_))
        refine V_if_eq 69 dX7_readsNode_62 (by decide) (by first | omega | exact hr_g _ _ | decide) (fun c_62 => ?_) (fun c_62 => absurd c_62 (by decide))
        refine V_aload_n dX7_readsNode_69 rfl ?_
        refine V_bipush dX7_readsNode_70 (by decide) ?_
        refine VM_c1 (M' := mX7_is) okX7_is rfl dX7_readsNode_72 q2788 rfl rfl (Nat.le_of_ble_eq_true rfl) (d' := 1) (b1 := 0) (by decide) (by decide) (c_X7_is hB hr_g (by first | omega | exact hr_g _ _ | decide) (fun c9 => absurd c9 c2) (fun _ => ?_))
        refine V_if_eq 82 dX7_readsNode_75 (by decide) (by first | omega | exact hr_g _ _ | decide) (fun c_75 => ?_) (fun c_75 => absurd c_75 (by decide))
        refine V_iconst dX7_readsNode_82 ?_
        refine V_istore_n dX7_readsNode_83 (by decide) ?_
        refine V_aload_n dX7_readsNode_84 rfl ?_
        refine V_aload_n dX7_readsNode_85 rfl ?_
        refine V_bipush dX7_readsNode_86 (by decide) ?_
        refine VM_c1 (M' := mX7_is) okX7_is rfl dX7_readsNode_88 q2788 rfl rfl (Nat.le_of_ble_eq_true rfl) (d' := 1) (b1 := 0) (by decide) (by decide) (c_X7_is hB hr_g (by first | omega | exact hr_g _ _ | decide) (fun c9 => absurd c9 c1) (fun _ => ?_))
        refine V_if_eq 103 dX7_readsNode_91 (by decide) (by first | omega | exact hr_g _ _ | decide) (fun c_91 => ?_) (fun c_91 => absurd c_91 (by decide))
        refine V_aload_n dX7_readsNode_103 rfl ?_
        refine V_bipush dX7_readsNode_104 (by decide) ?_
        refine VM_c1 (M' := mX7_is) okX7_is rfl dX7_readsNode_106 q2788 rfl rfl (Nat.le_of_ble_eq_true rfl) (d' := 1) (b1 := 0) (by decide) (by decide) (c_X7_is hB hr_g (by first | omega | exact hr_g _ _ | decide) (fun c9 => absurd c9 c2) (fun _ => ?_))
        refine V_if_ne 129 dX7_readsNode_109 (by decide) (by first | omega | exact hr_g _ _ | decide) (fun c_109 => absurd c_109 (by decide)) (fun c_109 => ?_)
        refine V_aload_n dX7_readsNode_112 rfl ?_
        refine V_bipush dX7_readsNode_113 (by decide) ?_
        refine VM_c1 (M' := mX7_is) okX7_is rfl dX7_readsNode_115 q2788 rfl rfl (Nat.le_of_ble_eq_true rfl) (d' := 1) (b1 := 0) (by decide) (by decide) (c_X7_is hB hr_g (by first | omega | exact hr_g _ _ | decide) (fun c_115 => ?_) (fun c_115 => ?_))
        · refine V_if_eq 133 dX7_readsNode_118 (by decide) (by first | omega | exact hr_g _ _ | decide) (fun c_118 => absurd c_118 (by decide)) (fun c_118 => ?_)
          refine V_aload_n dX7_readsNode_121 rfl ?_
          refine VM_getiE 24 (g 24 0) dX7_readsNode_122 q2630 (by decide) rfl rfl ?_
          refine V_iconst dX7_readsNode_125 ?_
          refine V_icmp_ge 133 dX7_readsNode_126 (by decide) (by first | omega | exact hr_g _ _ | decide) (by first | omega | exact hr_g _ _ | decide) (fun c_126 => ?_) (fun c_126 => ?_)
          · refine V_iconst dX7_readsNode_133 ?_
            refine VM_v1 (M' := mX7_due) okX7_due rfl dX7_readsNode_134 q2796 rfl rfl (Nat.le_of_ble_eq_true rfl) (d' := 1) (b1 := 0) (by decide) (by decide) (c_X7_due0 hB hr_g (by first | omega | (simp [gup, aup]; omega)) ?_)
            exact c_node137B hB (by decide) hI'.fault.1 (by simp [pFault, gup, aup]; omega) K
          · refine V_iconst dX7_readsNode_129 ?_
            refine V_goto 134 dX7_readsNode_130 (by decide) ?_
            refine VM_v1 (M' := mX7_due) okX7_due rfl dX7_readsNode_134 q2796 rfl rfl (Nat.le_of_ble_eq_true rfl) (d' := 1) (b1 := 0) (by decide) (by decide) (c_X7_due1 hB hr_g ?_)
            exact absurd ⟨by omega, by omega, by omega⟩ c3
        · refine V_if_eq 133 dX7_readsNode_118 (by decide) (by first | omega | exact hr_g _ _ | decide) (fun c_118 => ?_) (fun c_118 => absurd c_118 (by decide))
          refine V_iconst dX7_readsNode_133 ?_
          refine VM_v1 (M' := mX7_due) okX7_due rfl dX7_readsNode_134 q2796 rfl rfl (Nat.le_of_ble_eq_true rfl) (d' := 1) (b1 := 0) (by decide) (by decide) (c_X7_due0 hB hr_g (by first | omega | (simp [gup, aup]; omega)) ?_)
          exact c_node137B hB (by decide) hI'.fault.1 (by simp [pFault, gup, aup]; omega) K
theorem c_X7_readsNode (hB : MB am B) (hI : PI g) (hf : g 20 0 = -9) (h23 : 0 ≤ g 23 0 ∧ g 23 0 ≤ 6) (h24 : 0 ≤ g 24 0 ∧ g 24 0 ≤ 4) (K : Q .null (mkM am B h0 (pNode g))) : V E mX7_readsNode 8 0 0 [some (.ref am), none, none, none, none] [] (mkM am B h0 g) Q X := by
  have hI' := hI
  obtain ⟨hr_g, p2, p3, p4, p5, p6⟩ := hI
  have i1 := nNB_i hI' (g 30 0) (g 19 0)
  have i2 := nSB_i hI' (g 30 0) (g 19 0)
  have n20 : pNext g 20 0 = -9 := by rw [pN_ne (by omega)]; exact hf
  have n22 : pNext g 22 = g 22 := pN_ne (by omega)
  have n23 : pNext g 23 = g 23 := pN_ne (by omega)
  have n24 : pNext g 24 = g 24 := pN_ne (by omega)
  unfold pNode at K
  by_cases c1 : g 22 0 < 12 ∧ nNB g (g 30 0) (g 19 0) = -9 ∧ nSB g (g 30 0) (g 19 0) = -9
  · rw [pIf_f (fun h9 => h9 c1)] at K
    refine V_aload_n dX7_readsNode_0 rfl ?_
    refine VM_getiE 19 (g 19 0) dX7_readsNode_1 q2625 (by decide) rfl rfl ?_
    refine V_istore_n dX7_readsNode_4 (by decide) ?_
    refine V_aload_n dX7_readsNode_5 rfl ?_
    refine V_aload_n dX7_readsNode_6 rfl ?_
    refine VM_getiE 22 (g 22 0) dX7_readsNode_7 q2628 (by decide) rfl rfl ?_
    refine V_bipush dX7_readsNode_10 (by decide) ?_
    refine V_icmp_ge 47 dX7_readsNode_12 (by decide) (by first | omega | exact hr_g _ _ | decide) (by first | omega | exact hr_g _ _ | decide) (fun c_12 => by exfalso; omega) (fun c_12 => ?_)
    refine V_aload_n dX7_readsNode_15 rfl ?_
    refine V_aload_n dX7_readsNode_16 rfl ?_
    refine VM_getiE 30 (g 30 0) dX7_readsNode_17 q2636 (by decide) rfl rfl ?_
    refine V_iload_n dX7_readsNode_20 rfl ?_
    refine VM_c2 (M' := mX7_newNodeBy) okX7_newNodeBy rfl dX7_readsNode_21 q2804 rfl rfl (Nat.le_of_ble_eq_true rfl) (d' := 2) (b1 := 0) (by decide) (by decide) (c_X7_newNodeBy hB hr_g (by first | omega | exact hr_g _ _ | decide) (by first | omega | exact hr_g _ _ | decide) (by first | omega | (simp [gup, aup]; omega)) ?_)
    refine V_bipush dX7_readsNode_24 (by decide) ?_
    refine V_icmp_ne 47 dX7_readsNode_26 (by decide) (by first | omega | exact hr_g _ _ | decide) (by first | omega | exact hr_g _ _ | decide) (fun c_26 => by exfalso; omega) (fun c_26 => ?_)
    refine V_aload_n dX7_readsNode_29 rfl ?_
    refine V_aload_n dX7_readsNode_30 rfl ?_
    refine VM_getiE 30 (g 30 0) dX7_readsNode_31 q2636 (by decide) rfl rfl ?_
    refine V_iload_n dX7_readsNode_34 rfl ?_
    refine VM_c2 (M' := mX7_newScopeBy) okX7_newScopeBy rfl dX7_readsNode_35 q2808 rfl rfl (Nat.le_of_ble_eq_true rfl) (d' := 2) (b1 := 0) (by decide) (by decide) (c_X7_newScopeBy hB hr_g (by first | omega | exact hr_g _ _ | decide) (by first | omega | exact hr_g _ _ | decide) (by first | omega | (simp [gup, aup]; omega)) ?_)
    refine V_bipush dX7_readsNode_38 (by decide) ?_
    refine V_icmp_ne 47 dX7_readsNode_40 (by decide) (by first | omega | exact hr_g _ _ | decide) (by first | omega | exact hr_g _ _ | decide) (fun c_40 => by exfalso; omega) (fun c_40 => ?_)
    refine V_iconst dX7_readsNode_43 ?_
    refine V_goto 48 dX7_readsNode_44 (by decide) ?_
    refine VM_v1 (M' := mX7_due) okX7_due rfl dX7_readsNode_48 q2796 rfl rfl (Nat.le_of_ble_eq_true rfl) (d' := 1) (b1 := 0) (by decide) (by decide) (c_X7_due1 hB hr_g ?_)
    refine V_aload_n dX7_readsNode_51 rfl ?_
    refine V_iconst dX7_readsNode_52 ?_
    refine VM_v1 (M' := mX7_passes) okX7_passes rfl dX7_readsNode_53 q2800 rfl rfl (Nat.le_of_ble_eq_true rfl) (d' := 4) (b1 := 0) (by decide) (by decide) (c_X7_passes1 hB hr_g (by first | omega | (simp [gup, aup]; omega)) (by first | omega | (simp [gup, aup]; omega)) ?_)
    exact c_node56 hB hI'.next n20 (hr_g _ _) (by rw [n22]; exact c1.1) (by rw [n23]; exact h23) (by rw [n24]; exact h24) K
  · rw [pIf_t c1] at K
    refine V_aload_n dX7_readsNode_0 rfl ?_
    refine VM_getiE 19 (g 19 0) dX7_readsNode_1 q2625 (by decide) rfl rfl ?_
    refine V_istore_n dX7_readsNode_4 (by decide) ?_
    refine V_aload_n dX7_readsNode_5 rfl ?_
    refine V_aload_n dX7_readsNode_6 rfl ?_
    refine VM_getiE 22 (g 22 0) dX7_readsNode_7 q2628 (by decide) rfl rfl ?_
    refine V_bipush dX7_readsNode_10 (by decide) ?_
    refine V_icmp_ge 47 dX7_readsNode_12 (by decide) (by first | omega | exact hr_g _ _ | decide) (by first | omega | exact hr_g _ _ | decide) (fun c_12 => ?_) (fun c_12 => ?_)
    · refine V_iconst dX7_readsNode_47 ?_
      refine VM_v1 (M' := mX7_due) okX7_due rfl dX7_readsNode_48 q2796 rfl rfl (Nat.le_of_ble_eq_true rfl) (d' := 1) (b1 := 0) (by decide) (by decide) (c_X7_due0 hB hr_g (by first | omega | (simp [gup, aup]; omega)) ?_)
      exact c_node51B hB hI'.fault.1 (by simp [pFault, gup, aup]; omega) K
    · refine V_aload_n dX7_readsNode_15 rfl ?_
      refine V_aload_n dX7_readsNode_16 rfl ?_
      refine VM_getiE 30 (g 30 0) dX7_readsNode_17 q2636 (by decide) rfl rfl ?_
      refine V_iload_n dX7_readsNode_20 rfl ?_
      refine VM_c2 (M' := mX7_newNodeBy) okX7_newNodeBy rfl dX7_readsNode_21 q2804 rfl rfl (Nat.le_of_ble_eq_true rfl) (d' := 2) (b1 := 0) (by decide) (by decide) (c_X7_newNodeBy hB hr_g (by first | omega | exact hr_g _ _ | decide) (by first | omega | exact hr_g _ _ | decide) (by first | omega | (simp [gup, aup]; omega)) ?_)
      refine V_bipush dX7_readsNode_24 (by decide) ?_
      refine V_icmp_ne 47 dX7_readsNode_26 (by decide) (by first | omega | exact hr_g _ _ | decide) (by first | omega | exact hr_g _ _ | decide) (fun c_26 => ?_) (fun c_26 => ?_)
      · refine V_iconst dX7_readsNode_47 ?_
        refine VM_v1 (M' := mX7_due) okX7_due rfl dX7_readsNode_48 q2796 rfl rfl (Nat.le_of_ble_eq_true rfl) (d' := 1) (b1 := 0) (by decide) (by decide) (c_X7_due0 hB hr_g (by first | omega | (simp [gup, aup]; omega)) ?_)
        exact c_node51B hB hI'.fault.1 (by simp [pFault, gup, aup]; omega) K
      · refine V_aload_n dX7_readsNode_29 rfl ?_
        refine V_aload_n dX7_readsNode_30 rfl ?_
        refine VM_getiE 30 (g 30 0) dX7_readsNode_31 q2636 (by decide) rfl rfl ?_
        refine V_iload_n dX7_readsNode_34 rfl ?_
        refine VM_c2 (M' := mX7_newScopeBy) okX7_newScopeBy rfl dX7_readsNode_35 q2808 rfl rfl (Nat.le_of_ble_eq_true rfl) (d' := 2) (b1 := 0) (by decide) (by decide) (c_X7_newScopeBy hB hr_g (by first | omega | exact hr_g _ _ | decide) (by first | omega | exact hr_g _ _ | decide) (by first | omega | (simp [gup, aup]; omega)) ?_)
        refine V_bipush dX7_readsNode_38 (by decide) ?_
        refine V_icmp_ne 47 dX7_readsNode_40 (by decide) (by first | omega | exact hr_g _ _ | decide) (by first | omega | exact hr_g _ _ | decide) (fun c_40 => ?_) (fun c_40 => ?_)
        · refine V_iconst dX7_readsNode_47 ?_
          refine VM_v1 (M' := mX7_due) okX7_due rfl dX7_readsNode_48 q2796 rfl rfl (Nat.le_of_ble_eq_true rfl) (d' := 1) (b1 := 0) (by decide) (by decide) (c_X7_due0 hB hr_g (by first | omega | (simp [gup, aup]; omega)) ?_)
          exact c_node51B hB hI'.fault.1 (by simp [pFault, gup, aup]; omega) K
        · refine V_iconst dX7_readsNode_43 ?_
          refine V_goto 48 dX7_readsNode_44 (by decide) ?_
          refine VM_v1 (M' := mX7_due) okX7_due rfl dX7_readsNode_48 q2796 rfl rfl (Nat.le_of_ble_eq_true rfl) (d' := 1) (b1 := 0) (by decide) (by decide) (c_X7_due1 hB hr_g ?_)
          exact absurd ⟨by omega, by omega, by omega⟩ c1
end M11
