/-! LAYER 1, base: new cells, the model's cells, casts, ends, throws -/
set_option maxRecDepth 100000
theorem gm_fresh_n {M : gm_M} {n t F i : Nat} (h : ¬ (F = 0 ∧ i = 0)) : gm_fresh M n t F n i = .null := by simp [gm_fresh, h]
theorem gm_V_null (ty : FieldType) (hy : ty ≠ .float) : gm_V ty .null = defaultValue ty := by
  cases ty <;> first | rfl | exact absurd rfl hy
theorem gc_ynf (t k : Nat) : gc_y t k ≠ .float := by
  have key : ∀ f : Nat → FieldType, (f = tyX1 ∨ f = tyX2 ∨ f = tyX3 ∨ f = tyX4 ∨ f = tyX5 ∨ f = tyX7 ∨ f = tyX8 ∨ f = tyX9 ∨ f = tyX10 ∨ f = tyX11 ∨ f = tyX13 ∨ f = tyX14 ∨ f = tyX15 ∨ f = tyJ2 ∨ f = tyJ6 ∨ f = tyJ12 ∨ f = tyJ13) → f k ≠ .float := by
    intro f hf
    rcases hf with rfl | rfl | rfl | rfl | rfl | rfl | rfl | rfl | rfl | rfl | rfl | rfl | rfl | rfl | rfl | rfl | rfl
    · unfold tyX1; split <;> decide
    · unfold tyX2; split <;> decide
    · unfold tyX3; split <;> decide
    · unfold tyX4; split <;> decide
    · unfold tyX5; split <;> decide
    · unfold tyX7; split <;> decide
    · unfold tyX8; split <;> decide
    · unfold tyX9; split <;> decide
    · unfold tyX10; split <;> decide
    · unfold tyX11; split <;> decide
    · unfold tyX13; split <;> decide
    · unfold tyX14; split <;> decide
    · unfold tyX15; split <;> decide
    · unfold tyJ2; split <;> decide
    · unfold tyJ6; split <;> decide
    · unfold tyJ12; split <;> decide
    · unfold tyJ13; split <;> decide
  refine key _ ?_
  unfold gc_y
  split <;> simp
/-- a fresh object's picture -/
theorem gw_born {G : gG} {S S2 : gm_S} {H' : Heap} {t : Nat} (hM : S2.1 = gm_fresh S.1 (gs_n S) t) (ho : gc_ob t = true) (hob : t_OB (gs_n S) (gg_C G t) (gc_N t) (gg_I G t) H' (fun k => defaultValue (gc_y t k))) : gw_at G S2 H' (gs_n S) := by
  have htt : gs_t S2 (gs_n S) = t := by unfold gs_t; rw [hM]; simp [gm_fresh, gm_N]
  have h0 : t ≠ 0 := fun z => by rw [z] at ho; exact absurd ho (by decide)
  refine ⟨fun t' e o => ?_, fun t' e o => ?_, fun e => ?_, fun e => ?_, fun t' e o1 o2 => ?_⟩
  · rw [htt] at e
    subst e
    refine hob.to (fun k _ => ?_)
    rw [hM, gm_fresh_n (by omega), gm_V_null _ (gc_ynf t k)]
  · rw [htt] at e; rw [e] at ho
    exact absurd ho (by
      have : t' = 0 ∨ t' = 1 ∨ t' = 2 ∨ t' = 3 ∨ t' = 4 ∨ t' = 5 := by omega
      rcases this with rfl | rfl | rfl | rfl | rfl | rfl <;> decide)
  · rw [htt] at e; rw [e] at ho; exact absurd ho (by decide)
  · rw [htt] at e; rw [e] at ho; exact absurd ho (by decide)
  · rw [htt] at e; rw [e] at ho
    exact absurd ho (by
      have : t' = 17 ∨ t' = 18 ∨ t' = 19 := by omega
      rcases this with rfl | rfl | rfl <;> decide)
section GN
variable {p : Program} {l : Launch} {e : Env} {R : Room} {s : State} {m : MethodId} {args : Array Value} {below : List Frame} {meth : Method} {c : Code} {H : Heap} {locs : List Loc} {cells slots : Nat} {Q : State → Prop}
variable {cc : ByteArray} {pc nL : Nat} {ls : Array Slot} {rest : List Value} {G : gG} {S0 S S2 : gm_S} {own : String} {ret : Option FieldType} {d0 : Nat} {index : Nat} {C : String}
theorem g_room_s {S : gm_S} {w : Nat} (h : g_room S w = true) : gs_c S < 600096 ∧ gs_k S + w ≤ 7301386 := by
  simpa [g_room] using h
theorem gr_fnew (cx : gx_cx p l s m args meth c G own cc nL ret) (hI : gw_I G S0 S H locs cells slots) {t a : Nat} (hv : g_new S t (gc_N t) = some (a, S2)) (ho : gc_ob t = true) (hcl : (Cond.classLink own index (gc_C t)).before args s = true) (hins : (Cond.instantiable (gc_C t) (gc_N t)).before args s = true) (hini : (Cond.initialized (gc_C t)).before args s = true)
    (hdg : decode cc pc = .ok (.new index, 3)) (kk : ∀ (H' : Heap) (cells' slots' : Nat), gw_I G S0 S2 H' locs cells' slots' → W p l e (gx_rm d0 S0) s m args below meth c H' locs cells' slots' Q (F0 m (pc + 3) ls (va_rf (some a) :: rest))) : W p l e (gx_rm d0 S0) s m args below meth c H locs cells slots Q (F0 m pc ls rest) := by
  obtain ⟨hx, hb, -, hown, hts, hK, -⟩ := cx
  obtain ⟨hr, hv2⟩ := g_ifs hv
  obtain ⟨hr1, hr2⟩ := g_room_s hr
  cases hv2
  obtain ⟨hw, hloc, hc1, hk1⟩ := hI
  have hKn := hK.1 t
  refine W.newcK hx hb hown hcl hins hini rfl hdg (by show cells + 1 ≤ 600096 - gs_c S0; omega) (by show slots + gc_N t ≤ 7301386 - gs_k S0; omega) hKn.2.1 hw.1 fun H1 kC hkC e1 z1 o1 => ?_
  have hob := u_born (gc_y t) hts (gc_in t) hKn hkC e1 (gc_yok t)
  refine kk H1 _ _ ⟨hw.push (w := gc_N t) rfl rfl rfl hr1 hr2 (fun _ _ => rfl) (fun F b i hb => gm_fresh_o hb) (by rw [z1, hw.1]) (fun q hq => o1 q hq) (fun cell hcell => ?_) (gw_born rfl ho hob), hloc, ?_, ?_⟩
  · rw [e1] at hcell; cases hcell; rfl
  · show gs_c S0 + (cells + 1) = gs_c S + 1; omega
  · show gs_k S0 + (slots + gc_N t) = gs_k S + gc_N t; omega
/-- a raw list: 'new ArrayList' ahead of its constructor -/
theorem gr_fnewL (cx : gx_cx p l s m args meth c G own cc nL ret) (hI : gw_I G S0 S H locs cells slots) {a : Nat} (hv : g_new S 32 3 = some (a, S2)) (hcl : (Cond.classLink own index "java/util/ArrayList").before args s = true) (hins : (Cond.instantiable "java/util/ArrayList" 3).before args s = true) (hini : (Cond.initialized "java/util/ArrayList").before args s = true)
    (hdg : decode cc pc = .ok (.new index, 3)) (kk : ∀ (H' : Heap) (cells' slots' : Nat), gw_I G S0 S2 H' locs cells' slots' → W p l e (gx_rm d0 S0) s m args below meth c H' locs cells' slots' Q (F0 m (pc + 3) ls (va_rf (some a) :: rest))) : W p l e (gx_rm d0 S0) s m args below meth c H locs cells slots Q (F0 m pc ls rest) := by
  obtain ⟨hx, hb, -, hown, hts, hK, -⟩ := cx
  obtain ⟨hr, hv2⟩ := g_ifs hv
  obtain ⟨hr1, hr2⟩ := g_room_s hr
  cases hv2
  obtain ⟨hw, hloc, hc1, hk1⟩ := hI
  have hKn := hK.1 16
  refine W.newcK hx hb hown hcl hins hini rfl hdg (by show cells + 1 ≤ 600096 - gs_c S0; omega) (by show slots + 3 ≤ 7301386 - gs_k S0; omega) hKn.2.1 hw.1 fun H1 kC hkC e1 z1 o1 => ?_
  have hob := u_born (gc_y 16) hts (gc_in 16) hKn hkC e1 (gc_yok 16)
  refine kk H1 _ _ ⟨hw.push (w := 3) rfl rfl rfl hr1 hr2 (fun _ _ => rfl) (fun F b i hb => gm_fresh_o hb) (by rw [z1, hw.1]) (fun q hq => o1 q hq) (fun cell hcell => ?_) ?_, hloc, ?_, ?_⟩
  · rw [e1] at hcell; cases hcell; rfl
  · have htt : gs_t (g_mk S 32 3) (gs_n S) = 32 := by simp [gs_t, g_mk, gm_fresh, gm_N]
    refine ⟨fun t' e o => ?_, fun t' e o => ?_, fun e => ?_, fun e => ?_, fun t' e o1 o2 => ?_⟩
    · rw [htt] at e; rw [← e] at o; exact absurd o (by decide)
    · rw [htt] at e; omega
    · rw [htt] at e; omega
    · refine ⟨hob.to (fun k hk => ?_), ?_⟩
      · have : k = 0 ∨ k = 1 ∨ k = 2 := by have : gc_N 16 = 3 := rfl; omega
        rcases this with rfl | rfl | rfl <;> rfl
      · show gm_N (gm_fresh S.1 (gs_n S) 32 3 (gs_n S) 0) = 0
        rw [gm_fresh_n (by omega)]; rfl
    · rw [htt] at e; omega
  · show gs_c S0 + (cells + 1) = gs_c S + 1; omega
  · show gs_k S0 + (slots + 3) = gs_k S + 3; omega
theorem gr_fnewa (cx : gx_cx p l s m args meth c G own cc nL ret) (hI : gw_I G S0 S H locs cells slots) {t a : Nat} {n : Int32} (hv : g_newa S t n = some (a, S2)) {atype : ArrayType} (hty : newarray.typeOf atype = ga_ty t) (ht5 : t < 5) (harr : (Cond.arrayClass (ga_ty t)).before args s = true)
    (hdg : decode cc pc = .ok (.newarray atype, 2)) (kk : ∀ (H' : Heap) (cells' slots' : Nat), gw_I G S0 S2 H' locs cells' slots' → W p l e (gx_rm d0 S0) s m args below meth c H' locs cells' slots' Q (F0 m (pc + 2) ls (va_rf (some a) :: rest))) : W p l e (gx_rm d0 S0) s m args below meth c H locs cells slots Q (F0 m pc ls (.int n :: rest)) := by
  obtain ⟨hx, hb, -, hown, hts, hK, -⟩ := cx
  obtain ⟨hn, hv1⟩ := g_ifs hv
  simp only [Bool.and_eq_true, decide_eq_true_eq] at hn
  obtain ⟨hr, hv2⟩ := g_ifs hv1
  obtain ⟨hr1, hr2⟩ := g_room_s hr
  cases hv2
  obtain ⟨hw, hloc, hc1, hk1⟩ := hI
  have hn1 : n.toNatClampNeg ≤ 1000 := by
    obtain ⟨j, hj, e⟩ := nI_of2 (M := 1000) (n := 1000) (by decide) (Int32.not_lt.mpr hn.1) hn.2
    rw [e, nI_clamp (by omega)]; exact hj
  have hcb : componentBytes (newarray.typeOf atype) ≤ 8 := by cases atype <;> decide
  refine va_newaK hx hb (by rw [hty]; exact harr) rfl hdg rfl (Int32.not_lt.mpr hn.1) rfl (Nat.le_trans (Nat.mul_le_mul hn1 hcb) (by decide)) (by show cells + 1 ≤ 600096 - gs_c S0; omega) (by show slots + n.toNatClampNeg ≤ 7301386 - gs_k S0; omega) hw.1 fun H1 cA e1 z1 o1 hAr hNm => ?_
  have hcA : cA = gg_A G t := by
    have h2 := (hK.2.1 t (by omega)).2
    rw [hty] at hNm
    have h3 : s.vm.findClass ("[" ++ (ga_ty t).toString) = some (gg_A G t) := by
      have : t = 0 ∨ t = 1 ∨ t = 2 ∨ t = 3 ∨ t = 4 := by omega
      rcases this with rfl | rfl | rfl | rfl | rfl <;> exact h2
    exact Option.some.inj (hNm.symm.trans h3)
  subst hcA
  refine kk H1 _ _ ⟨hw.push (w := n.toNatClampNeg) rfl rfl rfl hr1 hr2 (fun _ _ => rfl) (fun F b i hb => ?_) (by rw [z1, hw.1]) (fun q hq => o1 q hq) (fun cell hcell => ?_) ?_, hloc, ?_, ?_⟩
  · show gm_st (gm_fresh S.1 (gs_n S) (100 + t)) 1 (gs_n S) 0 _ F b i = _
    rw [gm_st_a hb, gm_fresh_o hb]
  · rw [e1] at hcell; cases hcell; rfl
  · have htt : gs_t (gs_put (g_mk S (100 + t) n.toNatClampNeg) 1 (gs_n S) 0 (.ref n.toNatClampNeg)) (gs_n S) = 100 + t := by
      show gm_N (gm_st (gm_fresh S.1 (gs_n S) (100 + t)) 1 (gs_n S) 0 (.ref n.toNatClampNeg) 0 (gs_n S) 0) = _
      rw [gm_st_F (by omega)]; simp [gm_fresh, gm_N]
    refine ⟨fun t' e o => ?_, fun t' e o => ?_, fun e => ?_, fun e => ?_, fun t' e o1 o2 => ?_⟩
    · rw [htt] at e; rw [← e] at o
      exact absurd o (by
        have : t = 0 ∨ t = 1 ∨ t = 2 ∨ t = 3 ∨ t = 4 := by omega
        rcases this with rfl | rfl | rfl | rfl | rfl <;> decide)
    · rw [htt] at e
      have e' : t = t' := by omega
      subst e'
      rw [e1, hty]
      have e5 : (gs_put (g_mk S (100 + t) n.toNatClampNeg) 1 (gs_n S) 0 (.ref n.toNatClampNeg)).1 1 (gs_n S) 0 = .ref n.toNatClampNeg := by
        show gm_st (gm_fresh S.1 (gs_n S) (100 + t)) 1 (gs_n S) 0 _ 1 (gs_n S) 0 = _
        rw [gm_st_e]
      rw [e5]
      show some (arrV _ n.toNatClampNeg _) = some (arrV _ n.toNatClampNeg _)
      congr 2
      funext j
      show _ = gm_V (ga_ty t) (gm_st (gm_fresh S.1 (gs_n S) (100 + t)) 1 (gs_n S) 0 (.ref n.toNatClampNeg) 2 (gs_n S) j)
      rw [gm_st_F (by omega), gm_fresh_n (by omega), gm_V_null]
      have : t = 0 ∨ t = 1 ∨ t = 2 ∨ t = 3 ∨ t = 4 := by omega
      rcases this with rfl | rfl | rfl | rfl | rfl <;> decide
    · rw [htt] at e; omega
    · rw [htt] at e; omega
    · rw [htt] at e; omega
  · show gs_c S0 + (cells + 1) = gs_c S + 1; omega
  · show gs_k S0 + (slots + n.toNatClampNeg) = gs_k S + n.toNatClampNeg; omega
/-! ends -/
theorem gr_end {o : Outcome} {gg : JFrame} (hI : gw_I G S0 S2 H locs cells slots) (h : W p l e R s m args below meth c H locs cells slots (MQ below (fun _ _ oc t => oc = o ∧ t.heap = H) args s cells slots (fun q => gg_z G ≤ q)) gg) : W p l e R s m args below meth c H locs cells slots (gx_MQ below G S0 S2 o s) gg := by
  intro T hT X
  obtain ⟨t, a1, o', b1, b2, ⟨rfl, b4⟩, L, ⟨-, b6, b7⟩, b8⟩ := h T hT X
  exact ⟨t, a1, b1, b2, by rw [b4]; exact hI.1, L, cells, slots, hI.2.2.1, hI.2.2.2, b6, b7, b8⟩
theorem gr_iret (cx : gx_cx p l s m args meth c G own cc nL (some .int)) {v : Int32} (hI : gw_I G S0 S2 H locs cells slots) (hdg : decode cc pc = .ok (.ireturn, 1)) : W p l e R s m args below meth c H locs cells slots (gx_MQ below G S0 S2 (.returned (some (.int v))) s) (F0 m pc ls [.int v]) := by
  obtain ⟨hx, hb, -, -, -, -, hr, hlk, -⟩ := cx
  exact gr_end hI (W.iret hx hb hr (fun t ht _ => ⟨rfl, ht⟩) hI.2.1 hdg hlk)
theorem gr_zret (cx : gx_cx p l s m args meth c G own cc nL (some .boolean)) {v : Int32} (hok : g_okZ v = true) (hI : gw_I G S0 S2 H locs cells slots) (hdg : decode cc pc = .ok (.ireturn, 1)) : W p l e R s m args below meth c H locs cells slots (gx_MQ below G S0 S2 (.returned (some (.int v))) s) (F0 m pc ls [.int v]) := by
  obtain ⟨hx, hb, -, -, -, -, hr, hlk, -⟩ := cx
  exact gr_end hI (W.zret hx hb hr (gl_okZ hok).2 (fun t ht _ => ⟨rfl, ht⟩) hI.2.1 hdg hlk)
theorem gr_cret (cx : gx_cx p l s m args meth c G own cc nL (some .char)) {v : Int32} (hok : g_okC v = true) (hI : gw_I G S0 S2 H locs cells slots) (hdg : decode cc pc = .ok (.ireturn, 1)) : W p l e R s m args below meth c H locs cells slots (gx_MQ below G S0 S2 (.returned (some (.int v))) s) (F0 m pc ls [.int v]) := by
  obtain ⟨hx, hb, -, -, -, -, hr, hlk, -⟩ := cx
  exact gr_end hI (W.zret hx hb hr (gl_okC hok).2 (fun t ht _ => ⟨rfl, ht⟩) hI.2.1 hdg hlk)
theorem gr_vret (cx : gx_cx p l s m args meth c G own cc nL none) (hI : gw_I G S0 S2 H locs cells slots) (hdg : decode cc pc = .ok (.return_, 1)) : W p l e R s m args below meth c H locs cells slots (gx_MQ below G S0 S2 (.returned none) s) (F0 m pc ls []) := by
  obtain ⟨hx, hb, -, -, -, -, hr, hlk, -⟩ := cx
  exact gr_end hI (W.vret hx hb hr (fun t ht _ => ⟨rfl, ht⟩) hI.2.1 hdg hlk)
theorem gr_dret (cx : gx_cx p l s m args meth c G own cc nL (some .double)) {v : UInt64} (hI : gw_I G S0 S2 H locs cells slots) (hdg : decode cc pc = .ok (.dreturn, 1)) : W p l e R s m args below meth c H locs cells slots (gx_MQ below G S0 S2 (.returned (some (.double v))) s) (F0 m pc ls [.double v]) := by
  obtain ⟨hx, hb, -, -, -, -, hr, hlk, -⟩ := cx
  exact gr_end hI (W.dret hx hb hr (fun t ht _ => ⟨rfl, ht⟩) hI.2.1 hdg hlk)
theorem gr_aret {rt : FieldType} (cx : gx_cx p l s m args meth c G own cc nL (some rt)) {r : Option Nat} (hrt : (∃ n, rt = .object n) ∨ ∃ t, rt = .array t) (hI : gw_I G S0 S2 H locs cells slots) (hdg : decode cc pc = .ok (.areturn, 1)) : W p l e R s m args below meth c H locs cells slots (gx_MQ below G S0 S2 (.returned (some (va_rf r))) s) (F0 m pc ls [va_rf r]) := by
  obtain ⟨hx, hb, -, -, -, -, hr, hlk, -⟩ := cx
  have hv : va_rf r = .null ∨ ∃ a, va_rf r = .ref a := by cases r with
    | none => exact Or.inl rfl
    | some a => exact Or.inr ⟨a, rfl⟩
  exact gr_end hI (W.aret hx hb hr hrt hv (fun t ht _ => ⟨rfl, ht⟩) hI.2.1 hdg hlk)
/-! casts of what a list gave -/
theorem gr_ckS (cx : gx_cx p l s m args meth c G own cc nL ret) (hI : gw_I G S0 S H locs cells slots) {t a : Nat} {r : Option Nat} (hv : g_at S r t = some a) (ho : gc_ob t = true) (hlink : (Cond.classLink own index (gc_C t)).before args s = true) (hdg : decode cc pc = .ok (.checkcast index, 3))
    (kk : W p l e R s m args below meth c H locs cells slots Q (F0 m (pc + 3) ls (va_rf (some a) :: rest))) : W p l e R s m args below meth c H locs cells slots Q (F0 m pc ls (va_rf r :: rest)) := by
  obtain ⟨hx, hb, -, hown, hts, hK, -⟩ := cx
  obtain ⟨rfl, ht⟩ := g_at_s hv
  exact va_castS hx hb hown hlink (hK.1 t).2 (gr_recv hK hI.1 ht ho) hdg kk
theorem gr_ckY (cx : gx_cx p l s m args meth c G own cc nL ret) (hI : gw_I G S0 S H locs cells slots) {t a : Nat} {r : Option Nat} {nm : String} (hv : g_at S r t = some a) (ho : gc_ob t = true) (hlink : (Cond.classLink own index nm).before args s = true) (hc : (Cond.castable (gc_C t) nm) ∈ lw_tbl) (hdg : decode cc pc = .ok (.checkcast index, 3))
    (kk : W p l e R s m args below meth c H locs cells slots Q (F0 m (pc + 3) ls (va_rf (some a) :: rest))) : W p l e R s m args below meth c H locs cells slots Q (F0 m pc ls (va_rf r :: rest)) := by
  obtain ⟨hx, hb, -, hown, hts, hK, -⟩ := cx
  obtain ⟨rfl, ht⟩ := g_at_s hv
  exact va_castY hx hb hown hlink (hK.2.2.1 _ hc rfl) (gr_recv hK hI.1 ht ho) hdg kk
end GN
