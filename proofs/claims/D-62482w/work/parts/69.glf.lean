/-! LAYER 1: the JDK's lists: the call rows (printed by wip/gen/gen5.py) -/
set_option maxRecDepth 100000
theorem gr_linit {p : Program} {l : Launch} {e : Env} {s : State} {m : MethodId} {args : Array Value} {below : List Frame} {meth : Method} {c : Code} {H : Heap} {locs : List Loc} {cells slots : Nat} {Q : State → Prop} {cc : ByteArray} {pc nL : Nat} {ls : Array Slot} {rest : List Value} {G : gG} {S0 S : gm_S} {own : String} {ret : Option FieldType} {d0 index : Nat} {r : Option Nat} {S2 : gm_S} (cx : gx_cx p l s m args meth c G own cc nL ret) (hex : ∀ x ∈ c.exceptionTable.toList, covers x pc = false) (hI : gw_I G S0 S H locs cells slots) (hl : gl_M own index yJ2_init args s) (hlv : ls.size = nL) (hrest : (rest.map fun v => v.category).sum ≤ 8) (hD : 11 ≤ d0) (hdg : decode cc pc = .ok (.invokespecial index, 3)) (hv : g_lnew S r = some S2)
    (kk : ∀ (H : Heap) (locs : List Loc) (cells slots : Nat), gw_I G S0 S2 H locs cells slots → W p l e (gx_rm d0 S0) s m args below meth c H locs cells slots Q (F0 m (pc + 3) ls rest)) : W p l e (gx_rm d0 S0) s m args below meth c H locs cells slots Q (F0 m pc ls (va_rf r :: rest)) := by
  have hts := cx.2.2.2.2.1
  have hK := cx.2.2.2.2.2.1
  have hfl := cx.2.2.2.2.2.2.2.2
  obtain ⟨a, ha, rfl⟩ := g_map hv
  obtain ⟨rfl, ht⟩ := g_at_s ha
  exact gr_callR (gb_rawI (As := []) cx hl (hts _ q157) (hts _ q158) hj_J2_init rfl rfl rfl hdg) (mJ2_init hfl (by omega) ht) (d := d0 - 1) (by omega) (Nat.le_of_ble_eq_true rfl) (gz_ws (lw_meth q158) hts) (hts _ q77) hI hK rfl (by rw [cx.2.2.1]; exact hlv) (lv_room (m := m) (pc := pc) (ls := ls) (rest := rest) hrest) kk
theorem gr_lsize {p : Program} {l : Launch} {e : Env} {s : State} {m : MethodId} {args : Array Value} {below : List Frame} {meth : Method} {c : Code} {H : Heap} {locs : List Loc} {cells slots : Nat} {Q : State → Prop} {cc : ByteArray} {pc nL : Nat} {ls : Array Slot} {rest : List Value} {G : gG} {S0 S : gm_S} {own : String} {ret : Option FieldType} {d0 index : Nat} {r : Option Nat} {x : Int32} (cx : gx_cx p l s m args meth c G own cc nL ret) (hex : ∀ x ∈ c.exceptionTable.toList, covers x pc = false) (hI : gw_I G S0 S H locs cells slots) (hl : gl_M own index yJ2_size args s) (hlv : ls.size = nL) (hrest : (rest.map fun v => v.category).sum ≤ 8) (hD : 11 ≤ d0) (hdg : decode cc pc = .ok (.invokevirtual index, 3)) (hv : g_lsz S r = some x)
    (kk : ∀ (H : Heap) (locs : List Loc) (cells slots : Nat), gw_I G S0 S H locs cells slots → W p l e (gx_rm d0 S0) s m args below meth c H locs cells slots Q (F0 m (pc + 3) ls (.int x :: rest))) : W p l e (gx_rm d0 S0) s m args below meth c H locs cells slots Q (F0 m pc ls (va_rf r :: rest)) := by
  have hts := cx.2.2.2.2.1
  have hK := cx.2.2.2.2.2.1
  have hfl := cx.2.2.2.2.2.2.2.2
  obtain ⟨a, ha, rfl⟩ := g_map hv
  obtain ⟨rfl, ht⟩ := g_at_s ha
  exact gr_callR (gb_rawV (As := []) cx hl (hts _ q299) (hts _ q300) (gl_C.code (hts _ q301)) hj_J2_size (gr_recvL hK hI.1 ht) rfl rfl hdg) (mJ2_size hfl (by omega) ht) (d := d0 - 1) (by omega) (Nat.le_of_ble_eq_true rfl) (gz_ws (lw_meth q301) hts) (hts _ q77) hI hK rfl (by rw [cx.2.2.1]; exact hlv) (lv_room (m := m) (pc := pc) (ls := ls) (rest := rest) hrest) kk
theorem gr_lempty {p : Program} {l : Launch} {e : Env} {s : State} {m : MethodId} {args : Array Value} {below : List Frame} {meth : Method} {c : Code} {H : Heap} {locs : List Loc} {cells slots : Nat} {Q : State → Prop} {cc : ByteArray} {pc nL : Nat} {ls : Array Slot} {rest : List Value} {G : gG} {S0 S : gm_S} {own : String} {ret : Option FieldType} {d0 index : Nat} {r : Option Nat} {x : Int32} (cx : gx_cx p l s m args meth c G own cc nL ret) (hex : ∀ x ∈ c.exceptionTable.toList, covers x pc = false) (hI : gw_I G S0 S H locs cells slots) (hl : gl_M own index yJ2_isEmpty args s) (hlv : ls.size = nL) (hrest : (rest.map fun v => v.category).sum ≤ 8) (hD : 11 ≤ d0) (hdg : decode cc pc = .ok (.invokevirtual index, 3)) (hv : g_lemp S r = some x)
    (kk : ∀ (H : Heap) (locs : List Loc) (cells slots : Nat), gw_I G S0 S H locs cells slots → W p l e (gx_rm d0 S0) s m args below meth c H locs cells slots Q (F0 m (pc + 3) ls (.int x :: rest))) : W p l e (gx_rm d0 S0) s m args below meth c H locs cells slots Q (F0 m pc ls (va_rf r :: rest)) := by
  have hts := cx.2.2.2.2.1
  have hK := cx.2.2.2.2.2.1
  have hfl := cx.2.2.2.2.2.2.2.2
  obtain ⟨a, ha, rfl⟩ := g_map hv
  obtain ⟨rfl, ht⟩ := g_at_s ha
  exact gr_callR (gb_rawV (As := []) cx hl (hts _ q268) (hts _ q269) (gl_C.code (hts _ q270)) hj_J2_isEmpty (gr_recvL hK hI.1 ht) rfl rfl hdg) (mJ2_isEmpty hfl (by omega) ht) (d := d0 - 1) (by omega) (Nat.le_of_ble_eq_true rfl) (gz_ws (lw_meth q270) hts) (hts _ q77) hI hK rfl (by rw [cx.2.2.1]; exact hlv) (lv_room (m := m) (pc := pc) (ls := ls) (rest := rest) hrest) kk
theorem gr_lgetr {p : Program} {l : Launch} {e : Env} {s : State} {m : MethodId} {args : Array Value} {below : List Frame} {meth : Method} {c : Code} {H : Heap} {locs : List Loc} {cells slots : Nat} {Q : State → Prop} {cc : ByteArray} {pc nL : Nat} {ls : Array Slot} {rest : List Value} {G : gG} {S0 S : gm_S} {own : String} {ret : Option FieldType} {d0 index : Nat} {r : Option Nat} {x : Nat} {i : Int32} (cx : gx_cx p l s m args meth c G own cc nL ret) (hex : ∀ x ∈ c.exceptionTable.toList, covers x pc = false) (hI : gw_I G S0 S H locs cells slots) (hl : gl_M own index yJ2_get args s) (hlv : ls.size = nL) (hrest : (rest.map fun v => v.category).sum ≤ 8) (hD : 11 ≤ d0) (hdg : decode cc pc = .ok (.invokevirtual index, 3)) (hv : g_lget S r i = some x)
    (kk : ∀ (H : Heap) (locs : List Loc) (cells slots : Nat), gw_I G S0 S H locs cells slots → W p l e (gx_rm d0 S0) s m args below meth c H locs cells slots Q (F0 m (pc + 3) ls (va_rf (some x) :: rest))) : W p l e (gx_rm d0 S0) s m args below meth c H locs cells slots Q (F0 m pc ls (.int i :: va_rf r :: rest)) := by
  have hts := cx.2.2.2.2.1
  have hK := cx.2.2.2.2.2.1
  have hfl := cx.2.2.2.2.2.2.2.2
  obtain ⟨a, ha, hv2⟩ := g_bind hv
  obtain ⟨rfl, ht⟩ := g_at_s ha
  obtain ⟨h0, hv3⟩ := g_ifs hv2
  obtain ⟨j, hj, rfl⟩ := nI_of (x := i) (Int32.not_lt.mpr h0)
  rw [nI_clamp hj] at hv3
  exact gr_callR (gb_rawV (As := [.int (nI j)]) cx hl (hts _ q272) (hts _ q273) (gl_C.code (hts _ q274)) hj_J2_get (gr_recvL hK hI.1 ht) rfl rfl hdg) (mJ2_get hfl (by omega) ht hv3) (d := d0 - 1) (by omega) (Nat.le_of_ble_eq_true rfl) (gz_ws (lw_meth q274) hts) (hts _ q77) hI hK rfl (by rw [cx.2.2.1]; exact hlv) (lv_room (m := m) (pc := pc) (ls := ls) (rest := rest) hrest) kk
theorem gr_laddr {p : Program} {l : Launch} {e : Env} {s : State} {m : MethodId} {args : Array Value} {below : List Frame} {meth : Method} {c : Code} {H : Heap} {locs : List Loc} {cells slots : Nat} {Q : State → Prop} {cc : ByteArray} {pc nL : Nat} {ls : Array Slot} {rest : List Value} {G : gG} {S0 S : gm_S} {own : String} {ret : Option FieldType} {d0 index : Nat} {r : Option Nat} {v : Option Nat} {S2 : gm_S} (cx : gx_cx p l s m args meth c G own cc nL ret) (hex : ∀ x ∈ c.exceptionTable.toList, covers x pc = false) (hI : gw_I G S0 S H locs cells slots) (hl : gl_M own index yJ2_add args s) (hlv : ls.size = nL) (hrest : (rest.map fun v => v.category).sum ≤ 8) (hD : 11 ≤ d0) (hdg : decode cc pc = .ok (.invokevirtual index, 3)) (hv : g_ladd S r v = some S2)
    (kk : ∀ (H : Heap) (locs : List Loc) (cells slots : Nat), gw_I G S0 S2 H locs cells slots → W p l e (gx_rm d0 S0) s m args below meth c H locs cells slots Q (F0 m (pc + 3) ls (.int 1 :: rest))) : W p l e (gx_rm d0 S0) s m args below meth c H locs cells slots Q (F0 m pc ls (va_rf v :: va_rf r :: rest)) := by
  have hts := cx.2.2.2.2.1
  have hK := cx.2.2.2.2.2.1
  have hfl := cx.2.2.2.2.2.2.2.2
  obtain ⟨a, ha, hv2⟩ := g_bind hv
  obtain ⟨rfl, ht⟩ := g_at_s ha
  obtain ⟨x, rfl, hv3⟩ := g_bind hv2
  obtain ⟨hxo, hv4⟩ := g_ifs hv3
  obtain ⟨hlen, hv5⟩ := g_ifs hv4
  have hv6 : ((S.2.1 a).length ≠ g_cap S a ∧ S2 = gs_L S a (S.2.1 a ++ [x])) ∨ ∃ w, (S.2.1 a).length = g_cap S a ∧ w = (if g_cap S a = 0 then 10 else g_cap S a + g_cap S a / 2) ∧ g_room S w = true ∧ S2 = gs_L (g_gw S a w) a (S.2.1 a ++ [x]) := by
    by_cases hc : (S.2.1 a).length = g_cap S a
    · rw [if_pos hc] at hv5
      obtain ⟨S3, h3, h4⟩ := g_map hv5
      obtain ⟨hr, h5⟩ := g_ifs h3
      cases h5
      exact Or.inr ⟨_, hc, rfl, hr, h4.symm⟩
    · rw [if_neg hc] at hv5
      exact Or.inl ⟨hc, (Option.some.inj hv5).symm⟩
  exact gr_callR (gb_rawV (As := [.ref x]) cx hl (hts _ q464) (hts _ q465) (gl_C.code (hts _ q466)) hj_J2_add (gr_recvL hK hI.1 ht) rfl rfl hdg) (mJ2_add hfl (by omega) ht hxo hlen hv6) (d := d0 - 1) (by omega) (Nat.le_of_ble_eq_true rfl) (gz_ws (lw_meth q466) hts) (hts _ q77) hI hK rfl (by rw [cx.2.2.1]; exact hlv) (lv_room (m := m) (pc := pc) (ls := ls) (rest := rest) hrest) kk
theorem gr_lclear {p : Program} {l : Launch} {e : Env} {s : State} {m : MethodId} {args : Array Value} {below : List Frame} {meth : Method} {c : Code} {H : Heap} {locs : List Loc} {cells slots : Nat} {Q : State → Prop} {cc : ByteArray} {pc nL : Nat} {ls : Array Slot} {rest : List Value} {G : gG} {S0 S : gm_S} {own : String} {ret : Option FieldType} {d0 index : Nat} {r : Option Nat} {S2 : gm_S} (cx : gx_cx p l s m args meth c G own cc nL ret) (hex : ∀ x ∈ c.exceptionTable.toList, covers x pc = false) (hI : gw_I G S0 S H locs cells slots) (hl : gl_M own index yJ2_clear args s) (hlv : ls.size = nL) (hrest : (rest.map fun v => v.category).sum ≤ 8) (hD : 11 ≤ d0) (hdg : decode cc pc = .ok (.invokevirtual index, 3)) (hv : g_lclr S r = some S2)
    (kk : ∀ (H : Heap) (locs : List Loc) (cells slots : Nat), gw_I G S0 S2 H locs cells slots → W p l e (gx_rm d0 S0) s m args below meth c H locs cells slots Q (F0 m (pc + 3) ls rest)) : W p l e (gx_rm d0 S0) s m args below meth c H locs cells slots Q (F0 m pc ls (va_rf r :: rest)) := by
  have hts := cx.2.2.2.2.1
  have hK := cx.2.2.2.2.2.1
  have hfl := cx.2.2.2.2.2.2.2.2
  obtain ⟨a, ha, rfl⟩ := g_map hv
  obtain ⟨rfl, ht⟩ := g_at_s ha
  exact gr_callR (gb_rawV (As := []) cx hl (hts _ q724) (hts _ q725) (gl_C.code (hts _ q726)) hj_J2_clear (gr_recvL hK hI.1 ht) rfl rfl hdg) (mJ2_clear hfl (by omega) ht) (d := d0 - 1) (by omega) (Nat.le_of_ble_eq_true rfl) (gz_ws (lw_meth q726) hts) (hts _ q77) hI hK rfl (by rw [cx.2.2.1]; exact hlv) (lv_room (m := m) (pc := pc) (ls := ls) (rest := rest) hrest) kk
theorem gr_lremove {p : Program} {l : Launch} {e : Env} {s : State} {m : MethodId} {args : Array Value} {below : List Frame} {meth : Method} {c : Code} {H : Heap} {locs : List Loc} {cells slots : Nat} {Q : State → Prop} {cc : ByteArray} {pc nL : Nat} {ls : Array Slot} {rest : List Value} {G : gG} {S0 S : gm_S} {own : String} {ret : Option FieldType} {d0 index : Nat} {r : Option Nat} {q : Nat × gm_S} {i : Int32} (cx : gx_cx p l s m args meth c G own cc nL ret) (hex : ∀ x ∈ c.exceptionTable.toList, covers x pc = false) (hI : gw_I G S0 S H locs cells slots) (hl : gl_M own index yJ2_remove args s) (hlv : ls.size = nL) (hrest : (rest.map fun v => v.category).sum ≤ 8) (hD : 11 ≤ d0) (hdg : decode cc pc = .ok (.invokevirtual index, 3)) (hv : g_lrem S r i = some q)
    (kk : ∀ (H : Heap) (locs : List Loc) (cells slots : Nat), gw_I G S0 q.2 H locs cells slots → W p l e (gx_rm d0 S0) s m args below meth c H locs cells slots Q (F0 m (pc + 3) ls (va_rf (some q.1) :: rest))) : W p l e (gx_rm d0 S0) s m args below meth c H locs cells slots Q (F0 m pc ls (.int i :: va_rf r :: rest)) := by
  have hts := cx.2.2.2.2.1
  have hK := cx.2.2.2.2.2.1
  have hfl := cx.2.2.2.2.2.2.2.2
  obtain ⟨a, ha, hv2⟩ := g_bind hv
  obtain ⟨rfl, ht⟩ := g_at_s ha
  obtain ⟨h0, hv3⟩ := g_ifs hv2
  obtain ⟨j, hj, rfl⟩ := nI_of (x := i) (Int32.not_lt.mpr h0)
  rw [nI_clamp hj] at hv3
  obtain ⟨x, hx, rfl⟩ := g_map hv3
  exact gr_callR (gb_rawV (As := [.int (nI j)]) cx hl (hts _ q919) (hts _ q920) (gl_C.code (hts _ q921)) hj_J2_remove (gr_recvL hK hI.1 ht) rfl rfl hdg) (mJ2_remove hfl (by omega) ht hx) (d := d0 - 1) (by omega) (Nat.le_of_ble_eq_true rfl) (gz_ws (lw_meth q921) hts) (hts _ q77) hI hK rfl (by rw [cx.2.2.1]; exact hlv) (lv_room (m := m) (pc := pc) (ls := ls) (rest := rest) hrest) kk
