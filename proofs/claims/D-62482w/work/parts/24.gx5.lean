/-! LAYER 1, base: typed stores, arrays, new cells, the model's cells, ends -/
set_option maxRecDepth 100000
theorem gi_mem {G : gG} {locs : List Loc} {a i : Nat} (h : ∀ q ∈ locs, gg_z G ≤ q.base) (ha : gg_z G ≤ a) : ∀ q ∈ locs ++ [(⟨a, i⟩ : Loc)], gg_z G ≤ q.base := by
  intro q hq
  rcases List.mem_append.mp hq with h1 | h1
  · exact h q h1
  · rw [List.mem_singleton.mp h1]; exact ha
section GT
variable {p : Program} {l : Launch} {e : Env} {R : Room} {s : State} {m : MethodId} {args : Array Value} {below : List Frame} {meth : Method} {c : Code} {H : Heap} {locs : List Loc} {cells slots : Nat} {Q : State → Prop}
variable {cc : ByteArray} {pc nL : Nat} {ls : Array Slot} {rest : List Value} {G : gG} {S0 S S2 : gm_S} {own : String} {ret : Option FieldType} {d0 : Nat} {index : Nat} {C : String}
theorem gr_putI (cx : gx_cx p l s m args meth c G own cc nL ret) (hI : gw_I G S0 S H locs cells slots) {t k : Nat} {r : Option Nat} {x : Int32} (hv : g_pI S r t k x = some S2) (ho : (gc_ob t && decide (k < gc_N t)) = true) (hy : gc_y t k = .int) {O nm ds : String} {fin : Bool} (hT : gc_T t k = (O, nm, ds, fin)) (hl : gl_F own index O nm ds args s) (hfin : fin = false ∨ (meth.name = "<init>" ∧ O = own))
    (hdg : decode cc pc = .ok (.putfield index, 3)) (kk : ∀ (H' : Heap) (locs' : List Loc), gw_I G S0 S2 H' locs' cells slots → W p l e R s m args below meth c H' locs' cells slots Q (F0 m (pc + 3) ls rest)) : W p l e R s m args below meth c H locs cells slots Q (F0 m pc ls (.int x :: va_rf r :: rest)) := by
  obtain ⟨a, ha, rfl⟩ := g_map hv
  obtain ⟨rfl, ht⟩ := g_at_s ha
  simp only [Bool.and_eq_true, decide_eq_true_eq] at ho
  exact gr_fput cx hI k ht ho.1 ho.2 hT hl hfin (by rw [hy]; rfl) (by rw [hy]; rfl) (by rw [hy]; rfl) hdg kk
theorem gr_putC (cx : gx_cx p l s m args meth c G own cc nL ret) (hI : gw_I G S0 S H locs cells slots) {t k : Nat} {r : Option Nat} {x : Int32} (hv : g_pC S r t k x = some S2) (ho : (gc_ob t && decide (k < gc_N t)) = true) (hy : gc_y t k = .char) {O nm ds : String} {fin : Bool} (hT : gc_T t k = (O, nm, ds, fin)) (hl : gl_F own index O nm ds args s) (hfin : fin = false ∨ (meth.name = "<init>" ∧ O = own))
    (hdg : decode cc pc = .ok (.putfield index, 3)) (kk : ∀ (H' : Heap) (locs' : List Loc), gw_I G S0 S2 H' locs' cells slots → W p l e R s m args below meth c H' locs' cells slots Q (F0 m (pc + 3) ls rest)) : W p l e R s m args below meth c H locs cells slots Q (F0 m pc ls (.int x :: va_rf r :: rest)) := by
  obtain ⟨hok, hv⟩ := g_ifs hv
  obtain ⟨a, ha, rfl⟩ := g_map hv
  obtain ⟨rfl, ht⟩ := g_at_s ha
  simp only [Bool.and_eq_true, decide_eq_true_eq] at ho
  exact gr_fput cx hI k ht ho.1 ho.2 hT hl hfin (by rw [hy]; exact (gl_okC hok).2) (by rw [hy]; exact (gl_okC hok).1) (by rw [hy]; rfl) hdg kk
theorem gr_putZ (cx : gx_cx p l s m args meth c G own cc nL ret) (hI : gw_I G S0 S H locs cells slots) {t k : Nat} {r : Option Nat} {x : Int32} (hv : g_pZ S r t k x = some S2) (ho : (gc_ob t && decide (k < gc_N t)) = true) (hy : gc_y t k = .boolean) {O nm ds : String} {fin : Bool} (hT : gc_T t k = (O, nm, ds, fin)) (hl : gl_F own index O nm ds args s) (hfin : fin = false ∨ (meth.name = "<init>" ∧ O = own))
    (hdg : decode cc pc = .ok (.putfield index, 3)) (kk : ∀ (H' : Heap) (locs' : List Loc), gw_I G S0 S2 H' locs' cells slots → W p l e R s m args below meth c H' locs' cells slots Q (F0 m (pc + 3) ls rest)) : W p l e R s m args below meth c H locs cells slots Q (F0 m pc ls (.int x :: va_rf r :: rest)) := by
  obtain ⟨hok, hv⟩ := g_ifs hv
  obtain ⟨a, ha, rfl⟩ := g_map hv
  obtain ⟨rfl, ht⟩ := g_at_s ha
  simp only [Bool.and_eq_true, decide_eq_true_eq] at ho
  exact gr_fput cx hI k ht ho.1 ho.2 hT hl hfin (by rw [hy]; exact (gl_okZ hok).2) (by rw [hy]; exact (gl_okZ hok).1) (by rw [hy]; rfl) hdg kk
theorem gr_putD (cx : gx_cx p l s m args meth c G own cc nL ret) (hI : gw_I G S0 S H locs cells slots) {t k : Nat} {r : Option Nat} {x : UInt64} (hv : g_pD S r t k x = some S2) (ho : (gc_ob t && decide (k < gc_N t)) = true) (hy : gc_y t k = .double) {O nm ds : String} {fin : Bool} (hT : gc_T t k = (O, nm, ds, fin)) (hl : gl_F own index O nm ds args s) (hfin : fin = false ∨ (meth.name = "<init>" ∧ O = own))
    (hdg : decode cc pc = .ok (.putfield index, 3)) (kk : ∀ (H' : Heap) (locs' : List Loc), gw_I G S0 S2 H' locs' cells slots → W p l e R s m args below meth c H' locs' cells slots Q (F0 m (pc + 3) ls rest)) : W p l e R s m args below meth c H locs cells slots Q (F0 m pc ls (.double x :: va_rf r :: rest)) := by
  obtain ⟨a, ha, rfl⟩ := g_map hv
  obtain ⟨rfl, ht⟩ := g_at_s ha
  simp only [Bool.and_eq_true, decide_eq_true_eq] at ho
  exact gr_fput cx hI k ht ho.1 ho.2 hT hl hfin (by rw [hy]; rfl) (by rw [hy]; rfl) (by rw [hy]; rfl) hdg kk
theorem gr_putR (cx : gx_cx p l s m args meth c G own cc nL ret) (hI : gw_I G S0 S H locs cells slots) {t k : Nat} {r x : Option Nat} (hv : g_pR S r t k x = some S2) (ho : (gc_ob t && decide (k < gc_N t)) = true) (hy : (gc_y t k).isReference = true) {O nm ds : String} {fin : Bool} (hT : gc_T t k = (O, nm, ds, fin)) (hl : gl_F own index O nm ds args s) (hfin : fin = false ∨ (meth.name = "<init>" ∧ O = own))
    (hdg : decode cc pc = .ok (.putfield index, 3)) (kk : ∀ (H' : Heap) (locs' : List Loc), gw_I G S0 S2 H' locs' cells slots → W p l e R s m args below meth c H' locs' cells slots Q (F0 m (pc + 3) ls rest)) : W p l e R s m args below meth c H locs cells slots Q (F0 m pc ls (va_rf x :: va_rf r :: rest)) := by
  obtain ⟨a, ha, rfl⟩ := g_map hv
  obtain ⟨rfl, ht⟩ := g_at_s ha
  simp only [Bool.and_eq_true, decide_eq_true_eq] at ho
  have hz : narrow (gc_y t k) (va_rf x) = va_rf x ∧ fits (gc_y t k) (va_rf x) = true ∧ gm_V (gc_y t k) (va_rf x) = va_rf x := by
    generalize gc_y t k = ty at hy
    cases ty with
    | object C => exact ⟨(gl_fits x).2, (gl_fits x).1, by show va_rf (gm_R (va_rf x)) = _; rw [gm_R_rf]⟩
    | array C => exact ⟨(gl_fitsA x).2, (gl_fitsA x).1, by show va_rf (gm_R (va_rf x)) = _; rw [gm_R_rf]⟩
    | _ => exact absurd hy (by decide)
  exact gr_fput cx hI k ht ho.1 ho.2 hT hl hfin hz.1 hz.2.1 hz.2.2 hdg kk
/-! arrays -/
theorem gr_alen (cx : gx_cx p l s m args meth c G own cc nL ret) (hI : gw_I G S0 S H locs cells slots) {t : Nat} {r : Option Nat} {x : Int32} (hv : g_len S r t = some x) (ht5 : t < 5)
    (hdg : decode cc pc = .ok (.arraylength, 1)) (kk : W p l e R s m args below meth c H locs cells slots Q (F0 m (pc + 1) ls (.int x :: rest))) : W p l e R s m args below meth c H locs cells slots Q (F0 m pc ls (va_rf r :: rest)) := by
  obtain ⟨hx, hb, -, hown, hts, hK, -⟩ := cx
  obtain ⟨a, ha, rfl⟩ := g_map hv
  obtain ⟨rfl, ht⟩ := g_at_s ha
  exact W.alen hx hb ((hI.1.2.2.2.2.2.2.2.2.1 a).2.1 t ht (by omega)) ((hK.2.1 t (by omega)).1 _ _) (by rw [arrV_size] <;> rfl) rfl rfl hdg kk
theorem gr_el {t : Nat} {r : Option Nat} {i : Int32} {v : Value} (hw : gw_W G S H) (ht5 : t < 5) (hv : g_el S r t i = some v) : ∃ a, r = some a ∧ gs_t S a = 100 + t ∧ v = S.1 2 a i.toNatClampNeg ∧ vp_in i (gm_N (S.1 1 a 0)) ∧ H[a]? = some (arrV (gg_A G t) (gm_N (S.1 1 a 0)) (fun j => gm_V (ga_ty t) (S.1 2 a j))) ∧
    (arrV (gg_A G t) (gm_N (S.1 1 a 0)) (fun j => gm_V (ga_ty t) (S.1 2 a j))).slots[i.toNatClampNeg]? = some (gm_V (ga_ty t) v) := by
  obtain ⟨a, ha, hv2⟩ := g_bind hv
  obtain ⟨rfl, ht⟩ := g_at_s ha
  obtain ⟨hi, hv3⟩ := g_ifs hv2
  have hin := g_ix_s hi
  have hlt : i.toNatClampNeg < gm_N (S.1 1 a 0) := Nat.not_le.mp fun q => hin (Or.inr q)
  cases hv3
  exact ⟨a, rfl, ht, rfl, hin, (hw.2.2.2.2.2.2.2.2.1 a).2.1 t ht (by omega), arrV_read _ _ hlt⟩
theorem gr_iald (cx : gx_cx p l s m args meth c G own cc nL ret) (hI : gw_I G S0 S H locs cells slots) {r : Option Nat} {i x : Int32} (hv : g_aI S r 0 i = some x)
    (hdg : decode cc pc = .ok (.iaload, 1)) (kk : W p l e R s m args below meth c H locs cells slots Q (F0 m (pc + 1) ls (.int x :: rest))) : W p l e R s m args below meth c H locs cells slots Q (F0 m pc ls (.int i :: va_rf r :: rest)) := by
  obtain ⟨hx, hb, -, hown, hts, hK, -⟩ := cx
  obtain ⟨v, hv2, rfl⟩ := g_map hv
  obtain ⟨a, rfl, -, -, hin, hc1, hs1⟩ := gr_el hI.1 (by omega) hv2
  exact W.iald (v := .int (gm_I v)) hx hb hc1 ((hK.2.1 0 (by omega)).1 _ _) (fun q => by cases q) (by rw [arrV_size]; exact hin) hs1 rfl rfl hdg kk
theorem gr_cald (cx : gx_cx p l s m args meth c G own cc nL ret) (hI : gw_I G S0 S H locs cells slots) {r : Option Nat} {i x : Int32} (hv : g_aI S r 1 i = some x)
    (hdg : decode cc pc = .ok (.caload, 1)) (kk : W p l e R s m args below meth c H locs cells slots Q (F0 m (pc + 1) ls (.int x :: rest))) : W p l e R s m args below meth c H locs cells slots Q (F0 m pc ls (.int i :: va_rf r :: rest)) := by
  obtain ⟨hx, hb, -, hown, hts, hK, -⟩ := cx
  obtain ⟨v, hv2, rfl⟩ := g_map hv
  obtain ⟨a, rfl, -, -, hin, hc1, hs1⟩ := gr_el hI.1 (by omega) hv2
  exact W.cald (v := .int (gm_I v)) hx hb hc1 ((hK.2.1 1 (by omega)).1 _ _) (fun q => by cases q) (by rw [arrV_size]; exact hin) hs1 rfl rfl hdg kk
theorem gr_dald (cx : gx_cx p l s m args meth c G own cc nL ret) (hI : gw_I G S0 S H locs cells slots) {r : Option Nat} {i : Int32} {x : UInt64} (hv : g_aD S r 2 i = some x)
    (hdg : decode cc pc = .ok (.daload, 1)) (kk : W p l e R s m args below meth c H locs cells slots Q (F0 m (pc + 1) ls (.double x :: rest))) : W p l e R s m args below meth c H locs cells slots Q (F0 m pc ls (.int i :: va_rf r :: rest)) := by
  obtain ⟨hx, hb, -, hown, hts, hK, -⟩ := cx
  obtain ⟨v, hv2, rfl⟩ := g_map hv
  obtain ⟨a, rfl, -, -, hin, hc1, hs1⟩ := gr_el hI.1 (by omega) hv2
  exact W.dald (v := .double (gm_D v)) hx hb hc1 ((hK.2.1 2 (by omega)).1 _ _) (fun q => by cases q) (by rw [arrV_size]; exact hin) hs1 rfl rfl hdg kk
theorem gr_lald (cx : gx_cx p l s m args meth c G own cc nL ret) (hI : gw_I G S0 S H locs cells slots) {r : Option Nat} {i : Int32} {x : Int64} (hv : g_aJ S r 4 i = some x)
    (hdg : decode cc pc = .ok (.laload, 1)) (kk : W p l e R s m args below meth c H locs cells slots Q (F0 m (pc + 1) ls (.long x :: rest))) : W p l e R s m args below meth c H locs cells slots Q (F0 m pc ls (.int i :: va_rf r :: rest)) := by
  obtain ⟨hx, hb, -, hown, hts, hK, -⟩ := cx
  obtain ⟨v, hv2, rfl⟩ := g_map hv
  obtain ⟨a, rfl, -, -, hin, hc1, hs1⟩ := gr_el hI.1 (by omega) hv2
  exact W.lald (v := .long (gm_J v)) hx hb hc1 ((hK.2.1 4 (by omega)).1 _ _) (fun q => by cases q) (by rw [arrV_size]; exact hin) hs1 rfl rfl hdg kk
/-- a store into an array: the world behind it -/
theorem gr_as {t : Nat} {r : Option Nat} {i : Int32} {v : Value} (hI : gw_I G S0 S H locs cells slots) (ht5 : t < 5) (hv : g_as S r t i v = some S2) (hvv : gm_V (ga_ty t) v = v) : ∃ a, r = some a ∧ vp_in i (gm_N (S.1 1 a 0)) ∧ H[a]? = some (arrV (gg_A G t) (gm_N (S.1 1 a 0)) (fun j => gm_V (ga_ty t) (S.1 2 a j))) ∧
    ∀ H' : Heap, H'[a]? = some ((arrV (gg_A G t) (gm_N (S.1 1 a 0)) (fun j => gm_V (ga_ty t) (S.1 2 a j))).setSlot i.toNatClampNeg v) → H'.size = H.size → (∀ q, q ≠ a → H'[q]? = H[q]?) → gw_I G S0 S2 H' (locs ++ [⟨a, i.toNatClampNeg⟩]) cells slots := by
  obtain ⟨a, ha, hv2⟩ := g_bind hv
  obtain ⟨rfl, ht⟩ := g_at_s ha
  obtain ⟨hi, hv3⟩ := g_ifs hv2
  have hin := g_ix_s hi
  cases hv3
  obtain ⟨hw, hloc, hc1, hk1⟩ := hI
  have hz := hw.2.2.2.2.2.2.1 a (by rw [ht]; omega)
  refine ⟨a, rfl, hin, (hw.2.2.2.2.2.2.2.2.1 a).2.1 t ht (by omega), fun H' e1 e2 e3 => ⟨hw.one (a := a) rfl (fun _ _ => rfl) (fun F b i hb => gm_st_a hb) (Or.inl ?_) (by rw [ht]; omega) (by rw [ht]; omega) (by rw [ht]; omega) e2 e3 (fun cell hcl => ?_) ?_, gi_mem hloc hz.1, hc1, hk1⟩⟩
  · show gm_N (gm_st S.1 2 a i.toNatClampNeg v 0 a 0) = _
    rw [gm_st_F (by omega)]; rfl
  · rw [e1] at hcl; cases hcl; rfl
  · have htt : gs_t (gs_put S 2 a i.toNatClampNeg v) a = 100 + t := by
      show gm_N (gm_st S.1 2 a i.toNatClampNeg v 0 a 0) = _
      rw [gm_st_F (by omega)]; exact ht
    refine ⟨fun t' e o => ?_, fun t' e o => ?_, fun e => ?_, fun e => ?_, fun t' e o1 o2 => ?_⟩
    · rw [htt] at e; rw [← e] at o
      exact absurd o (by
        have : t = 0 ∨ t = 1 ∨ t = 2 ∨ t = 3 ∨ t = 4 := by omega
        rcases this with rfl | rfl | rfl | rfl | rfl <;> decide)
    · rw [htt] at e
      have e' : t = t' := by omega
      subst e'
      rw [e1, arrV_store]
      have e5 : (gs_put S 2 a i.toNatClampNeg v).1 1 a 0 = S.1 1 a 0 := by
        show gm_st S.1 2 a i.toNatClampNeg v 1 a 0 = _
        rw [gm_st_F (by omega)]
      rw [e5]
      congr 2
      funext j
      by_cases hj : j = i.toNatClampNeg
      · rw [hj]
        show (if _ then v else _) = gm_V (ga_ty t) (gm_st S.1 2 a i.toNatClampNeg v 2 a i.toNatClampNeg)
        rw [if_pos rfl, gm_st_e, hvv]
      · show (if j = i.toNatClampNeg then v else _) = gm_V (ga_ty t) (gm_st S.1 2 a i.toNatClampNeg v 2 a j)
        rw [if_neg hj, gm_st_i hj]
    · rw [htt] at e; omega
    · rw [htt] at e; omega
    · rw [htt] at e; omega
theorem gr_iast (cx : gx_cx p l s m args meth c G own cc nL ret) (hI : gw_I G S0 S H locs cells slots) {r : Option Nat} {i x : Int32} (hv : g_sI S r 0 i x = some S2)
    (hdg : decode cc pc = .ok (.iastore, 1)) (kk : ∀ (H' : Heap) (locs' : List Loc), gw_I G S0 S2 H' locs' cells slots → W p l e R s m args below meth c H' locs' cells slots Q (F0 m (pc + 1) ls rest)) : W p l e R s m args below meth c H locs cells slots Q (F0 m pc ls (.int x :: .int i :: va_rf r :: rest)) := by
  obtain ⟨hx, hb, -, hown, hts, hK, -⟩ := cx
  obtain ⟨a, rfl, hin, hc1, hk⟩ := gr_as hI (by omega) hv rfl
  exact W.iast hx hb hc1 ((hK.2.1 0 (by omega)).1 _ _) (fun q => by cases q) (by rw [arrV_size]; exact hin) rfl rfl hdg fun H1 e z oq => kk H1 _ (hk H1 e z oq)
theorem gr_cast (cx : gx_cx p l s m args meth c G own cc nL ret) (hI : gw_I G S0 S H locs cells slots) {r : Option Nat} {i x : Int32} (hv : g_sC S r i x = some S2)
    (hdg : decode cc pc = .ok (.castore, 1)) (kk : ∀ (H' : Heap) (locs' : List Loc), gw_I G S0 S2 H' locs' cells slots → W p l e R s m args below meth c H' locs' cells slots Q (F0 m (pc + 1) ls rest)) : W p l e R s m args below meth c H locs cells slots Q (F0 m pc ls (.int x :: .int i :: va_rf r :: rest)) := by
  obtain ⟨hx, hb, -, hown, hts, hK, -⟩ := cx
  obtain ⟨hok, hv⟩ := g_ifs hv
  obtain ⟨a, rfl, hin, hc1, hk⟩ := gr_as hI (by omega) hv rfl
  exact W.cast hx hb hc1 ((hK.2.1 1 (by omega)).1 _ _) (fun q => by cases q) (by rw [arrV_size]; exact hin) rfl rfl hdg fun H1 e z oq => kk H1 _ (hk H1 (by rw [(gl_okC hok).2] at e; exact e) z oq)
theorem gr_dast (cx : gx_cx p l s m args meth c G own cc nL ret) (hI : gw_I G S0 S H locs cells slots) {r : Option Nat} {i : Int32} {x : UInt64} (hv : g_sD S r i x = some S2)
    (hdg : decode cc pc = .ok (.dastore, 1)) (kk : ∀ (H' : Heap) (locs' : List Loc), gw_I G S0 S2 H' locs' cells slots → W p l e R s m args below meth c H' locs' cells slots Q (F0 m (pc + 1) ls rest)) : W p l e R s m args below meth c H locs cells slots Q (F0 m pc ls (.double x :: .int i :: va_rf r :: rest)) := by
  obtain ⟨hx, hb, -, hown, hts, hK, -⟩ := cx
  obtain ⟨a, rfl, hin, hc1, hk⟩ := gr_as hI (by omega) hv rfl
  exact W.dast hx hb hc1 ((hK.2.1 2 (by omega)).1 _ _) (fun q => by cases q) (by rw [arrV_size]; exact hin) rfl rfl hdg fun H1 e z oq => kk H1 _ (hk H1 e z oq)
theorem gr_last (cx : gx_cx p l s m args meth c G own cc nL ret) (hI : gw_I G S0 S H locs cells slots) {r : Option Nat} {i : Int32} {x : Int64} (hv : g_sJ S r i x = some S2)
    (hdg : decode cc pc = .ok (.lastore, 1)) (kk : ∀ (H' : Heap) (locs' : List Loc), gw_I G S0 S2 H' locs' cells slots → W p l e R s m args below meth c H' locs' cells slots Q (F0 m (pc + 1) ls rest)) : W p l e R s m args below meth c H locs cells slots Q (F0 m pc ls (.long x :: .int i :: va_rf r :: rest)) := by
  obtain ⟨hx, hb, -, hown, hts, hK, -⟩ := cx
  obtain ⟨a, rfl, hin, hc1, hk⟩ := gr_as hI (by omega) hv rfl
  exact W.last hx hb hc1 ((hK.2.1 4 (by omega)).1 _ _) (fun q => by cases q) (by rw [arrV_size]; exact hin) rfl rfl hdg fun H1 e z oq => kk H1 _ (hk H1 e z oq)
end GT
