/-! LAYER 1: the JDK's lists: a row an instruction -/
set_option maxRecDepth 100000
section GLB
variable {p : Program} {l : Launch} {e : Env} {R : Room} {s : State} {m : MethodId} {args : Array Value} {below : List Frame} {meth : Method} {c : Code} {H : Heap} {locs : List Loc} {cells slots : Nat} {Q : State → Prop}
variable {cc : ByteArray} {pc nL : Nat} {ls : Array Slot} {rest : List Value} {G : gG} {S0 S S2 : gm_S} {own : String} {ret : Option FieldType} {d0 : Nat} {index a : Nat}
theorem gl_getf (cx : gx_cx p l s m args meth c G own cc nL ret) {V : Nat → Value} (hob : t_OB a (gg_C G 16) 3 (gg_I G 16) H V) (k : Nat) (hk : k < 3) {rf O nm ds : String} (hT : gc_T 16 k = (O, nm, ds, false)) (hlink : (Cond.fieldLink own index rf nm ds).before args s = true) (hsame : ∀ x, s.fieldFound? O nm ds = some x → s.fieldFound? rf nm ds = some x)
    {v : Value} (hv : V k = v) (hdg : decode cc pc = .ok (.getfield index, 3)) (kk : W p l e R s m args below meth c H locs cells slots Q (F0 m (pc + 3) ls (v :: rest))) : W p l e R s m args below meth c H locs cells slots Q (F0 m pc ls (.ref a :: rest)) := by
  obtain ⟨hx, hb, -, hown, hts, hK, -⟩ := cx
  obtain ⟨cell, q1, q2, q3, q4⟩ := hob
  obtain ⟨hS, hfc, kC, hkC, hkind⟩ := hK.1 16
  obtain ⟨cf, kf, fi, f, hi, hsl⟩ := hS k hk
  have hst := (u_facts hfc hkC (u_lays hts (gc_in 16) hk) hi).1
  rw [hT] at hi
  have hslot : cell.slots[f.slot]? = some v := by
    rw [hsl, q4 k hk]
    exact congrArg some hv
  exact W.getf hx hb hown hlink (hsame _ hi) hst q1 (by rw [q3]; exact fun h => by cases h) (v := v) hslot rfl rfl hdg kk
theorem gl_putf (cx : gx_cx p l s m args meth c G own cc nL ret) {V : Nat → Value} (hob : t_OB a (gg_C G 16) 3 (gg_I G 16) H V) (k : Nat) (hk : k < 3) {rf O nm ds : String} (hT : gc_T 16 k = (O, nm, ds, false)) (hlink : (Cond.fieldLink own index rf nm ds).before args s = true) (hsame : ∀ x, s.fieldFound? O nm ds = some x → s.fieldFound? rf nm ds = some x)
    {v : Value} (hn : narrow (gc_y 16 k) v = v) (hfit : fits (gc_y 16 k) v = true) (hdg : decode cc pc = .ok (.putfield index, 3))
    (kk : ∀ (H' : Heap) (i : Nat), H'.size = H.size → (∀ q, q ≠ a → H'[q]? = H[q]?) → t_OB a (gg_C G 16) 3 (gg_I G 16) H' (updV V k v) → W p l e R s m args below meth c H' (locs ++ [⟨a, i⟩]) cells slots Q (F0 m (pc + 3) ls rest)) : W p l e R s m args below meth c H locs cells slots Q (F0 m pc ls (v :: .ref a :: rest)) := by
  obtain ⟨hx, hb, -, hown, hts, hK, -⟩ := cx
  have hap := gr_apart hts hK 16
  obtain ⟨cell, q1, q2, q3, q4⟩ := hob
  obtain ⟨hS, hfc, kC, hkC, hkind⟩ := hK.1 16
  obtain ⟨cf, kf, fi, f, hi, hsl⟩ := hS k hk
  have hlays := u_lays hts (gc_in 16) hk
  have hst := (u_facts hfc hkC hlays hi).1
  have h6 := u_fits hfc hkC hkind hlays hi (gc_yok 16 k hk) hn hfit
  have hfin' : hasFlag f.accessFlags Acc.final = false ∨ (m.cls = cf ∧ meth.name = "<init>") := by
    have hlay := hts _ (gc_in 16 _ (u_in_lay hk))
    unfold u_lay at hlay
    rw [hT] at hlay
    rw [if_neg (show ¬ (false = true) from by decide)] at hlay
    rw [hT] at hi
    obtain ⟨c1, k1, cf', kf', fi', fd', r1, r2, hi', -, hfn, -⟩ := Cond.lays_spec hlay
    cases hi.symm.trans hi'
    exact Or.inl hfn
  rw [hT] at hi
  have ha : a < H.size := (Array.getElem?_eq_some_iff.mp q1).1
  have hlt : f.slot < cell.slots.size := by rw [hsl]; exact k2_hasslot (q4 k hk)
  have fin : W p l e R s m args below meth c (H.setIfInBounds a (cell.setSlot f.slot v)) (locs ++ [⟨a, f.slot⟩]) cells slots Q (F0 m (pc + 3) ls rest) := by
    refine kk _ _ (by simp) (fun q hq => by simp [Array.getElem?_setIfInBounds, Ne.symm hq]) ⟨cell.setSlot f.slot v, (by simp [Array.getElem?_setIfInBounds, ha]), q2, q3, ?_⟩
    rw [hsl]
    exact t_set q4 hap hk v
  exact W.putf hx hb hown hlink (hsame _ hi) hst hfin' q1 (by rw [q3]; exact fun h => by cases h) hlt h6.1 (by rw [q3, q2]; exact h6.2) rfl rfl hdg fin
theorem gl_gE (cx : gx_cx p l s m args meth c G RJ2 cc nL ret) (hw : gw_W G S H) (ht : gs_t S a = 16) (hdg : decode cc pc = .ok (.getfield 9, 3)) (kk : W p l e R s m args below meth c H locs cells slots Q (F0 m (pc + 3) ls (.ref (g_row G S a) :: rest))) : W p l e R s m args below meth c H locs cells slots Q (F0 m pc ls (.ref a :: rest)) := by
  obtain ⟨mc, hob⟩ := gl_open hw ht
  exact gl_getf cx hob 1 (by omega) (hT := rfl) (cx.2.2.2.2.1 _ q168) (fun _ h => h) rfl hdg kk
theorem gl_gZ (cx : gx_cx p l s m args meth c G RJ2 cc nL ret) (hw : gw_W G S H) (ht : gs_t S a = 16) (hdg : decode cc pc = .ok (.getfield 48, 3)) (kk : W p l e R s m args below meth c H locs cells slots Q (F0 m (pc + 3) ls (.int (nI (S.2.1 a).length) :: rest))) : W p l e R s m args below meth c H locs cells slots Q (F0 m pc ls (.ref a :: rest)) := by
  obtain ⟨mc, hob⟩ := gl_open hw ht
  exact gl_getf cx hob 2 (by omega) (hT := rfl) (cx.2.2.2.2.1 _ q169) (fun _ h => h) rfl hdg kk
/-- modCount++ at a method's beginning -/
theorem gl_bump (cx : gx_cx p l s m args meth c G RJ2 cc nL ret) (hI : gw_I G S0 S H locs cells slots) (ht : gs_t S a = 16) (hl : ls[0]? = some (.val (.ref a))) (g0 : decode cc 0 = .ok (.aload_n 0, 1)) (g1 : decode cc 1 = .ok (.dup, 1)) (g2 : decode cc 2 = .ok (.getfield 63, 3)) (g5 : decode cc 5 = .ok (.iconst 1, 1)) (g6 : decode cc 6 = .ok (.iadd, 1)) (g7 : decode cc 7 = .ok (.putfield 63, 3))
    (kk : ∀ (H' : Heap) (locs' : List Loc), gw_I G S0 S H' locs' cells slots → W p l e R s m args below meth c H' locs' cells slots Q (F0 m 10 ls [])) : W p l e R s m args below meth c H locs cells slots Q (F0 m 0 ls []) := by
  have hx := cx.1
  have hb := cx.2.1
  have hts := cx.2.2.2.2.1
  obtain ⟨mc, hob⟩ := gl_open hI.1 ht
  refine gr_aload_n hx hb (some a) g0 rfl hl ?_
  refine lv_dup hx hb g1 rfl ?_
  refine gl_getf cx hob 0 (by omega) (hT := rfl) (hts _ q171) (fun _ h => u_same (hts _ q172) _ h) rfl g2 ?_
  refine lv_iconst hx hb g5 (show Int32.ofInt 1 = 1 by decide) ?_
  refine lv_iadd hx hb g6 ?_
  refine gl_putf cx hob 0 (by omega) (hT := rfl) (hts _ q171) (fun _ h => u_same (hts _ q172) _ h) rfl rfl g7 (fun H' i hz hq hob' => ?_)
  obtain ⟨hw, hloc, hc1, hk1⟩ := hI
  have hza := hw.2.2.2.2.2.2.1 a (by rw [ht]; decide)
  refine kk H' _ ⟨hw.lsame ht hz hq ⟨mc + 1, hob'.to (fun k hk => ?_)⟩, gi_mem hloc hza.1, hc1, hk1⟩
  have : k = 0 ∨ k = 1 ∨ k = 2 := by omega
  rcases this with rfl | rfl | rfl <;> rfl
theorem gl_gets (cx : gx_cx p l s m args meth c G RJ2 cc nL ret) (hw : gw_W G S H) (hdg : decode cc pc = .ok (.getstatic 39, 3)) (kk : W p l e R s m args below meth c H locs cells slots Q (F0 m (pc + 3) ls (.ref (gg_e G) :: rest))) : W p l e R s m args below meth c H locs cells slots Q (F0 m pc ls rest) := by
  obtain ⟨hx, hb, -, hown, hts, hK, -⟩ := cx
  obtain ⟨cf, kf, fi, f, a, cell, h1, h2, h3, h4, h5, h6, h7, h8⟩ := hK.2.2.2.2.2.1
  exact W.gets hx hb hown (hts _ q166) h1 h2 h3 h4 (by rw [hw.2.2.2.2.2.1 a (Array.getElem?_eq_some_iff.mp h5).1]; exact h5) (fun e => by rw [e] at h6; cases h6) h7 rfl hdg kk
theorem gl_alen (cx : gx_cx p l s m args meth c G own cc nL ret) (hw : gw_W G S H) (ht : gs_t S a = 16) (hdg : decode cc pc = .ok (.arraylength, 1)) (kk : W p l e R s m args below meth c H locs cells slots Q (F0 m (pc + 1) ls (.int (nI (g_cap S a)) :: rest))) : W p l e R s m args below meth c H locs cells slots Q (F0 m pc ls (.ref (g_row G S a) :: rest)) := by
  obtain ⟨cell, h1, h2, h3, h4, h5, h6⟩ := gl_cell cx.2.2.2.2.2.1 hw ht
  exact W.alen cx.1 cx.2.1 h1 h6 h3 rfl rfl hdg kk
theorem gl_aald (cx : gx_cx p l s m args meth c G own cc nL ret) (hw : gw_W G S H) (ht : gs_t S a = 16) {i x : Nat} (hx : (S.2.1 a)[i]? = some x) (hdg : decode cc pc = .ok (.aaload, 1)) (kk : W p l e R s m args below meth c H locs cells slots Q (F0 m (pc + 1) ls (.ref x :: rest))) : W p l e R s m args below meth c H locs cells slots Q (F0 m pc ls (.int (nI i) :: .ref (g_row G S a) :: rest)) := by
  have hi : i < (S.2.1 a).length := (List.getElem?_eq_some_iff.mp hx).1
  obtain ⟨l1, l2, -⟩ := gl_len hw ht
  obtain ⟨f1, f2, f3⟩ := gl_full hw ht (by omega)
  have er : g_row G S a = g_bk S a := if_neg (by omega)
  rw [er]
  have hc : (nI i).toNatClampNeg = i := nI_clamp (by omega)
  exact W.aald (v := .ref x) (ty := .object "java/lang/Object") cx.1 cx.2.1 f3 ((cx.2.2.2.2.2.1.2.1 5 (by omega)).1 _ _) rfl (fun q => by cases q) (by rw [arrV_size]; exact vp_in_nI (by omega) (by omega)) (by rw [hc, arrV_read _ _ (by omega), hx]; rfl) rfl rfl hdg kk
/-- a copy of references between rows -/
theorem gl_copy (cx : gx_cx p l s m args meth c G own cc nL ret) (hlv : ls.size = nL) (hlink : (Cond.methodLink own index arraycopyName).before args s = true) {a0 n0 n1 : Nat} {f g : Nat → Option Nat} (hc0 : H[a0]? = some (arrV (gg_A G 5) n0 (fun j => va_rf (f j)))) (hc1 : H[a]? = some (arrV (gg_A G 5) n1 (fun j => va_rf (g j))))
    {sp dp n : Int32} (h1 : ¬ sp < 0) (h2 : ¬ dp < 0) (h3 : ¬ n < 0) (h4 : sp.toNatClampNeg + n.toNatClampNeg ≤ n0) (h5 : dp.toNatClampNeg + n.toNatClampNeg ≤ n1)
    (hel : ∀ i : Nat, i < n.toNatClampNeg → ∀ y : Nat, f (sp.toNatClampNeg + i) = some y → ∃ (C : String) (cell : Cell), H[y]? = some cell ∧ cell.vm.isStatics = false ∧ s.vm.findClass C = some cell.cls ∧ ∀ comp c0 : ClassId, s.vm.findClass "java/lang/Object" = some comp → s.vm.findClass C = some c0 → s.vm.assignable c0 comp = true)
    (hframes : 1 ≤ R.frames) (hlocals : (rest.map fun v => v.category).sum + (nativeFrameWords "java/lang/System" "arraycopy" 5 + 11) ≤ R.locals) (hdg : decode cc pc = .ok (.invokestatic index, 3))
    (kk : ∀ (H1 : Heap) (L : List Loc), H1[a]? = some (arrV (gg_A G 5) n1 (fun j => va_rf (va_cpy f g sp.toNatClampNeg dp.toNatClampNeg n.toNatClampNeg j))) → H1.size = H.size → (∀ q, q ≠ a → H1[q]? = H[q]?) → (∀ q ∈ L, q.base = a) → W p l e R s m args below meth c H1 (locs ++ L) cells slots Q (F0 m (pc + 3) ls rest)) : W p l e R s m args below meth c H locs cells slots Q (F0 m pc ls (.int n :: .int dp :: .ref a :: .int sp :: .ref a0 :: rest)) := by
  obtain ⟨hx, hb, hml, hown, hts, hK, -⟩ := cx
  have nn : ∀ z : Int32, ¬ z < 0 → z.toInt = (z.toNatClampNeg : Int) := by
    intro z hz
    have hz0 : (0 : Int) ≤ z.toInt := by
      have := Int32.not_lt.mp hz
      simpa using Int32.le_iff_toInt_le.mp this
    show z.toInt = ((z.toInt.toNat : Nat) : Int)
    omega
  intro T hT X
  obtain ⟨hA1, hA2⟩ := hK.2.1 5 (by omega)
  obtain ⟨-, k0, hk0, cm0, hkk0⟩ := hA1 n0 (fun j => va_rf (f j))
  obtain ⟨-, k1, hk1, cm1, hkk1⟩ := hA1 n1 (fun j => va_rf (g j))
  obtain ⟨vm', X', step⟩ := X.arraycopy hx hown hlink (hts _ q524) (hts _ q523) (hts _ q87) (src := a0) (dst := a) (cs := arrV (gg_A G 5) n0 (fun j => va_rf (f j))) (cd := arrV (gg_A G 5) n1 (fun j => va_rf (g j))) (srcPos := sp) (destPos := dp) (n := n) (by rw [hT]; exact hc0) (by rw [hT]; exact hc1)
    (fun _ h => by cases h) (fun _ h => by cases h) (fun h => by cases h) (fun h => by cases h) hk0 hk1 hkk0 hkk1 rfl h1 h2 h3
    (by rw [nn sp h1, nn n h3, arrV_size]; omega)
    (by rw [nn dp h2, nn n h3, arrV_size]; omega)
    (fun vm₁ hal i hi => by
      have e : (arrV (gg_A G 5) n0 (fun j => va_rf (f j))).slots.getD (sp.toNatClampNeg + i) .null = va_rf (f (sp.toNatClampNeg + i)) := by
        rw [Array.getD_eq_getD_getElem?, arrV_read _ _ (by omega)]
        rfl
      rw [e]
      cases hy : f (sp.toNatClampNeg + i) with
      | none => exact ⟨rfl, trivial⟩
      | some y =>
        obtain ⟨C, cellV, g1, g2, g3, hasg⟩ := hel i hi y hy
        obtain ⟨kA, comp, r1, r2, r3, -⟩ := hA2
        cases hk1.symm.trans r1
        cases hkk1.symm.trans r2
        obtain ⟨kC, hkC, -⟩ := Vm.findClass_spec g3
        obtain ⟨kE, hkE, -⟩ := Vm.findClass_spec r3
        obtain ⟨kC', hkC', -⟩ := hal.2.2 _ _ hkC
        obtain ⟨kE', hkE', -⟩ := hal.2.2 _ _ hkE
        refine ⟨rfl, cellV, (show T.heap[y]? = some cellV by rw [hT]; exact g1), (fun q h => by rw [h] at g2; cases g2), ⟨kC', hkC'⟩, ?_, ?_⟩
        · exact ⟨kE', hkE'⟩
        · show vm₁.assignable _ _ = true
          rw [hal.assignable]
          exact hasg _ _ r3 g3)
    (g := F0 m pc ls (.int n :: .int dp :: .ref a :: .int sp :: .ref a0 :: rest)) rfl (by rw [hml]; exact hlv) (rest := rest) rfl (by rw [hb]; exact hdg) hframes (by show 2 * 0 + _ + _ ≤ _; omega)
  have e1 : copied (arrV (gg_A G 5) n0 (fun j => va_rf (f j))) (arrV (gg_A G 5) n1 (fun j => va_rf (g j))) sp dp n = arrV (gg_A G 5) n1 (fun j => va_rf (va_cpy f g sp.toNatClampNeg dp.toNatClampNeg n.toNatClampNeg j)) := va_copied (fun z => va_rf z) _ _ f g h4
  rw [e1] at X' step
  have hl : a < H.size := (Array.getElem?_eq_some_iff.mp hc1).1
  have hheap : ((T.setVm vm').setCell a (arrV (gg_A G 5) n1 (fun j => va_rf (va_cpy f g sp.toNatClampNeg dp.toNatClampNeg n.toNatClampNeg j)))).heap = H.setIfInBounds a (arrV (gg_A G 5) n1 (fun j => va_rf (va_cpy f g sp.toNatClampNeg dp.toNatClampNeg n.toNatClampNeg j))) := by rw [← hT]; rfl
  obtain ⟨t, a1, b1⟩ := kk _ _ (by simp [Array.getElem?_setIfInBounds, hl]) (by simp) (fun q hq => by simp [Array.getElem?_setIfInBounds, Ne.symm hq]) (fun q hq => by
    obtain ⟨z, -, hz⟩ := List.mem_map.mp hq
    rw [← hz]) _ hheap X'
  exact ⟨t, step t a1, b1⟩
/-- a store of an element's reference -/
theorem gl_aast (cx : gx_cx p l s m args meth c G own cc nL ret) (hw : gw_W G S H) {n x : Nat} {f : Nat → Option Nat} (hc : H[a]? = some (arrV (gg_A G 5) n (fun j => va_rf (f j)))) (hx : g_okE (gs_t S x) = true) {i : Nat} (hi : i < n) (hn : n < 2 ^ 31) (hdg : decode cc pc = .ok (.aastore, 1))
    (kk : ∀ (H1 : Heap), H1[a]? = some (arrV (gg_A G 5) n (fun j => va_rf (va_up f i (some x) j))) → H1.size = H.size → (∀ q, q ≠ a → H1[q]? = H[q]?) → W p l e R s m args below meth c H1 (locs ++ [⟨a, i⟩]) cells slots Q (F0 m (pc + 1) ls rest)) : W p l e R s m args below meth c H locs cells slots Q (F0 m pc ls (.ref x :: .int (nI i) :: .ref a :: rest)) := by
  obtain ⟨hx', hb, hml, hown, hts, hK, -⟩ := cx
  obtain ⟨C, cellV, g1, g3, g2, hasg⟩ := gl_E hK hw hx
  obtain ⟨kA, comp, k1, k2, k3, -⟩ := (hK.2.1 5 (by omega)).2
  obtain ⟨kE, hkE, -⟩ := Vm.findClass_spec k3
  obtain ⟨kC, hkC, -⟩ := Vm.findClass_spec g2
  have ec : (nI i).toNatClampNeg = i := nI_clamp (by omega)
  refine W.aast hx' hb hc (fun q h => by cases h) (fun h => by cases h) k1 k2 rfl hkE ⟨nI_pos (by omega), by rw [arrV_size, ec]; exact hi⟩ g1 (fun q h => by rw [h] at g3; cases g3) hkC (hasg _ _ k3 g2) rfl rfl hdg fun H1 e z oq => ?_
  rw [ec] at e ⊢
  refine kk H1 ?_ z oq
  rw [e, arrV_store]
  congr 2
  funext q
  by_cases hq : q = i
  · subst hq
    simp [updV, va_up, va_rf]
  · simp [updV, va_up, hq]
/-- a store of null -/
theorem gl_aastN (cx : gx_cx p l s m args meth c G own cc nL ret) {n : Nat} {f : Nat → Option Nat} (hc : H[a]? = some (arrV (gg_A G 5) n (fun j => va_rf (f j)))) {i : Nat} (hi : i < n) (hn : n < 2 ^ 31) (hdg : decode cc pc = .ok (.aastore, 1))
    (kk : ∀ (H1 : Heap), H1[a]? = some (arrV (gg_A G 5) n (fun j => va_rf (va_up f i none j))) → H1.size = H.size → (∀ q, q ≠ a → H1[q]? = H[q]?) → W p l e R s m args below meth c H1 (locs ++ [⟨a, i⟩]) cells slots Q (F0 m (pc + 1) ls rest)) : W p l e R s m args below meth c H locs cells slots Q (F0 m pc ls (.null :: .int (nI i) :: .ref a :: rest)) := by
  obtain ⟨hx', hb, hml, hown, hts, hK, -⟩ := cx
  have ec : (nI i).toNatClampNeg = i := nI_clamp (by omega)
  refine va_WaastN (C := "java/lang/Object") hx' hb hc ((hK.2.1 5 (by omega)).1 _ _) (fun h => by cases h) (by rw [arrV_size]; exact vp_in_nI hi hn) rfl rfl hdg fun H1 e z oq => ?_
  rw [ec] at e ⊢
  refine kk H1 ?_ z oq
  rw [e, arrV_store]
  congr 2
  funext q
  by_cases hq : q = i
  · subst hq
    simp [updV, va_up, va_rf]
  · simp [updV, va_up, hq]
end GLB
