/-! LAYER 1: the JDK's lists: growing (printed by wip/gen/gen5.py) -/
set_option maxRecDepth 100000
theorem gl_anew {p : Program} {l : Launch} {e : Env} {s : State} {m : MethodId} {args : Array Value} {below : List Frame} {meth : Method} {c : Code} {H : Heap} {locs : List Loc} {cells slots : Nat} {Q : State → Prop} {cc : ByteArray} {pc nL : Nat} {ls : Array Slot} {rest : List Value} {G : gG} {S0 S : gm_S} {own : String} {ret : Option FieldType} {d0 index w : Nat} {n : Int32} (cx : gx_cx p l s m args meth c G own cc nL ret) (hI : gw_I G S0 S H locs cells slots) (hclink : (Cond.classLink own index "java/lang/Object").before args s = true) (ew : n.toNatClampNeg = w) (hn : ¬ n < 0) (hw : w ≤ 1500) (hr : g_room S w = true) (hdg : decode cc pc = .ok (.anewarray index, 3))
    (kk : ∀ (H1 : Heap), gw_I G S0 (g_mkA S w (fun _ => none)) H1 locs (cells + 1) (slots + w) → H1[gs_n S]? = some (arrV (gg_A G 5) w (fun j => va_rf ((fun _ => none : Nat → Option Nat) j))) → (∀ q, q < gs_n S → H1[q]? = H[q]?) → W p l e (gx_rm d0 S0) s m args below meth c H1 locs (cells + 1) (slots + w) Q (F0 m (pc + 3) ls (.ref (gs_n S) :: rest))) : W p l e (gx_rm d0 S0) s m args below meth c H locs cells slots Q (F0 m pc ls (.int n :: rest)) := by
  subst ew
  obtain ⟨hx, hb, hml, hown, hts, hK, -⟩ := cx
  obtain ⟨hr1, hr2⟩ := g_room_s hr
  have hw1 := hI.1.1
  refine W.anew hx hb hown hclink (va_AO.use hK.2.2.2.1.1) rfl hdg rfl hn (by omega) (by show cells + 1 ≤ 600096 - gs_c S0; have := hI.2.2.1; omega) (by show slots + n.toNatClampNeg ≤ 7301386 - gs_k S0; have := hI.2.2.2; omega) fun cA kA comp f1 f2 f3 f4 => ?_
  generalize hH1 : H.push ({ cls := cA, slots := Array.replicate n.toNatClampNeg .null, vm := .none } : Cell) = H1
  have z1 : H1.size = H.size + 1 := by rw [← hH1, Array.size_push]
  obtain ⟨kA', comp', r1, r2, r3, r4⟩ := (hK.2.1 5 (by omega)).2
  have ec : cA = gg_A G 5 := Option.some.inj (f1.symm.trans r4)
  have e1 : H1[gs_n S]? = some (arrV (gg_A G 5) n.toNatClampNeg (fun j => va_rf ((fun _ => none : Nat → Option Nat) j))) := by rw [← hw1, ← hH1, Array.getElem?_push_size, ec]; exact congrArg some (arrV_new _ _ _)
  have o1 : ∀ q : Nat, q < gs_n S → H1[q]? = H[q]? := fun q hq => by rw [← hH1, Array.getElem?_push, if_neg (by omega)]
  have := kk H1 (gl_push hI hr e1 z1 o1) e1 o1
  rw [hw1]
  exact this
theorem mJ9_copyOf_2 {l : Launch} {G : gG} {S : gm_S} {d : Nat} (hfl : l.flags = flags0) (hd : 2 ≤ d) {a w : Nat} (ht : gs_t S a = 16) (hc : 0 < g_cap S a) (hw : g_cap S a ≤ w) (hw1 : w ≤ 1500) (hr : g_room S w = true) : gx_Met l yJ9_copyOf_2 (ws_ yJ9_copyOf_2 cJ9_copyOf_2 4 (Option.some (FieldType.array (FieldType.object "java/lang/Object")))) d G S [.ref (g_row G S a), .int (nI w), .ref (gg_A G 6)] (.returned (some (.ref (gs_n S)))) (g_mkA S w (fun j => (S.2.1 a)[j]?)) := by
  refine gx_of hfl (by decide) (fun p e s m below meth c cx hnm hex hI => ?_)
  rw [lg_entry_eq]
  have hx := cx.1
  have hb := cx.2.1
  have hown := cx.2.2.2.1
  have hts := cx.2.2.2.2.1
  have hK := cx.2.2.2.2.2.1
  have key : ∀ ls, lv_has ls 4 [(0, .ref (g_row G S a)), (1, .int (nI w)), (2, .ref (gg_A G 6))] → W p l e (gx_rm d S) s m ([.ref (g_row G S a), .int (nI w), .ref (gg_A G 6)] : List Value).toArray below meth c s.heap [] 0 0 (gx_MQ below G S (g_mkA S w (fun j => (S.2.1 a)[j]?)) (.returned (some (.ref (gs_n S)))) s) (F0 m 0 ls []) := by
    intro ls hl
    have hlm := gl_len hI.1 ht
    have er : g_row G S a = g_bk S a := if_neg (by omega)
    obtain ⟨hr1, hr2⟩ := g_room_s hr
    refine gr_aload_n hx hb (some (gg_A G 6)) dJ9_copyOf_2_0 rfl (lv_at hl 2 rfl) ?_
    refine va_ldcM hx hb hown (hts _ q516) hK.2.2.2.1.2 dJ9_copyOf_2_1 ?_
    refine lv_acmp_ne (rx := some (gg_A G 6)) (ry := some (gg_A G 6)) (tgt := 13) hx hb dJ9_copyOf_2_3 rfl (fun hc => absurd rfl hc) (fun _ => ?_)
    refine lv_iload_n hx hb dJ9_copyOf_2_6 rfl (lv_at hl 1 rfl) ?_
    have ew : (nI w).toNatClampNeg = w := nI_clamp (by omega)
    refine gl_anew cx hI (hts _ q518) ew (nI_pos (by omega)) (by omega) hr dJ9_copyOf_2_7 (fun H1 hI1 hcn hqn => ?_)
    refine lv_goto (tgt := 24) hx hb dJ9_copyOf_2_10 rfl ?_
    refine gz_astore_n (x := some (gs_n S)) hx hb dJ9_copyOf_2_24 rfl hl (by decide) [0, 1] rfl (gz_con ⟨gz_ne rfl, Or.inl (gz_ne rfl)⟩ (gz_con ⟨gz_ne rfl, Or.inl (gz_ne rfl)⟩ gz_nil)) (fun ls hl => ?_)
    obtain ⟨f1, f2, f3⟩ := gl_full hI.1 ht hc
    have hbn := hI.1.2.2.2.2.2.2.1 (g_bk S a) (by rw [f1]; decide)
    have hc0 : H1[g_row G S a]? = some (arrV (gg_A G 5) (g_cap S a) (fun j => va_rf ((S.2.1 a)[j]?))) := by rw [er, hqn _ hbn.2]; exact f3
    refine gr_aload_n hx hb (some (g_row G S a)) dJ9_copyOf_2_25 rfl (lv_at hl 1 rfl) ?_
    refine lv_iconst hx hb dJ9_copyOf_2_26 (show Int32.ofInt (0) = (0 : Int32) by decide) ?_
    refine gr_aload_n hx hb (some (gs_n S)) dJ9_copyOf_2_27 rfl (lv_at hl 0 rfl) ?_
    refine lv_iconst hx hb dJ9_copyOf_2_28 (show Int32.ofInt (0) = (0 : Int32) by decide) ?_
    refine gr_aload_n hx hb (some (g_row G S a)) dJ9_copyOf_2_29 rfl (lv_at hl 1 rfl) ?_
    refine W.alen hx hb hc0 ((hK.2.1 5 (by omega)).1 _ _) (show _ = nI (g_cap S a) by rw [arrV_size]; rfl) rfl rfl dJ9_copyOf_2_30 ?_
    refine (show _ from ?_ : W p l e (gx_rm d S) s m _ below meth c H1 _ _ _ _ (F0 m 31 ls _))
    refine lv_iload_n hx hb dJ9_copyOf_2_31 rfl (lv_at hl 2 rfl) ?_
    refine va_mmin hx hb (by rw [cx.2.2.1]; exact hl.1.symm) hown (hts _ q519) (hts _ q520) (hts _ q85) (hts _ q521) (by show 1 ≤ d; omega) (Nat.le_trans (Nat.add_le_add_right (gz_cs (Nat.le_of_ble_eq_true rfl)) 13) (by show 8 + 13 ≤ 60 * d; omega)) (gl_rc (by assumption)).1 (gl_rc (by assumption)).2 dJ9_copyOf_2_32 ?_
    rw [if_neg (nI_nlt hw (by omega))]
    have hI2 := hI1
    have ecap : (nI (g_cap S a)).toNatClampNeg = g_cap S a := nI_clamp (by omega)
    have tn := g_mkA_t (S := S) (w := w) (f := fun _ => none)
    have hna : a ≠ gs_n S := by have := hI.1.2.2.2.2.2.2.1 a (by rw [ht]; decide); omega
    have t30 : gs_t (g_mkA S w (fun _ => none)) a = 16 := by unfold gs_t; rw [g_mkA_o hna]; exact ht
    have cap2 : g_cap (g_mkA S w (fun _ => none)) a = g_cap S a := by unfold g_cap; rw [g_mkA_o hna]
    have bk2 : g_bk (g_mkA S w (fun _ => none)) a = g_bk S a := by unfold g_bk; rw [g_mkA_o hna]
    have full2 := (gl_full hI2.1 t30 (by rw [cap2]; exact hc)).2.2
    rw [cap2, bk2, ← er] at full2
    have cell2 : H1[gs_n S]? = some (arrV (gg_A G 5) w (fun j => va_rf ((fun _ => none : Nat → Option Nat) j))) := by
      have h9 := (hI2.1.2.2.2.2.2.2.2.2.1 (gs_n S)).2.1 5 tn (by omega)
      have e1 : gm_N ((g_mkA S w (fun _ => none)).1 1 (gs_n S) 0) = w := by simp [g_mkA, gm_N]
      rw [e1] at h9
      rw [h9]
      congr 2
      funext j
      have e2 : (g_mkA S w (fun _ => none)).1 2 (gs_n S) j = va_rf none := by simp [g_mkA]
      rw [e2]; rfl
    refine gl_copy cx hl.1 (hts _ q522) full2 cell2 (by decide) (by decide) (nI_pos (by omega)) (by rw [ecap]; show 0 + _ ≤ _; omega) (by rw [ecap]; show 0 + _ ≤ _; omega) (fun i hi y hy => gl_E hK hI2.1 ?_) (by show 1 ≤ d; omega) (by show 0 + (_ + 11) ≤ 60 * d; have hw : nativeFrameWords "java/lang/System" "arraycopy" 5 ≤ 20 := (by decide); omega) dJ9_copyOf_2_35 (fun H3 L c3 z3 q3 l3 => ?_)
    · have hm : y ∈ (g_mkA S w (fun _ => none)).2.1 a := List.mem_of_getElem? hy
      exact (gl_len hI2.1 t30).2.2 y hm
    rw [ecap] at c3
    have c3 : H3[gs_n S]? = some (arrV (gg_A G 5) w (fun j => va_rf ((S.2.1 a)[j]?))) := by
      rw [c3]
      congr 2
      funext j
      congr 1
      unfold va_cpy
      by_cases hj : j < g_cap S a
      · rw [if_pos (by show 0 ≤ j ∧ j < 0 + g_cap S a; omega)]; show (S.2.1 a)[0 + (j - 0)]? = _; congr 1; omega
      · rw [if_neg (by show ¬ (0 ≤ j ∧ j < 0 + g_cap S a); omega)]; exact (List.getElem?_eq_none (by omega)).symm
    have hI3 := gl_fill (g := fun j => (S.2.1 a)[j]?) hI2 c3 z3 q3 l3
    refine gr_aload_n hx hb (some (gs_n S)) dJ9_copyOf_2_38 rfl (lv_at hl 0 rfl) ?_
    exact gr_aret (r := some (gs_n S)) cx (Or.inr ⟨_, rfl⟩) hI3 dJ9_copyOf_2_39
  exact key _ (lv_entry _ (Nat.le_of_ble_eq_true rfl))
theorem mJ9_copyOf {l : Launch} {G : gG} {S : gm_S} {d : Nat} (hfl : l.flags = flags0) (hd : 3 ≤ d) {a w : Nat} (ht : gs_t S a = 16) (hc : 0 < g_cap S a) (hw : g_cap S a ≤ w) (hw1 : w ≤ 1500) (hr : g_room S w = true) : gx_Met l yJ9_copyOf (ws_ yJ9_copyOf cJ9_copyOf 2 (Option.some (FieldType.array (FieldType.object "java/lang/Object")))) d G S [.ref (g_row G S a), .int (nI w)] (.returned (some (.ref (gs_n S)))) (g_mkA S w (fun j => (S.2.1 a)[j]?)) := by
  refine gx_of hfl (by decide) (fun p e s m below meth c cx hnm hex hI => ?_)
  rw [lg_entry_eq]
  have hx := cx.1
  have hb := cx.2.1
  have hown := cx.2.2.2.1
  have hts := cx.2.2.2.2.1
  have hK := cx.2.2.2.2.2.1
  have key : ∀ ls, lv_has ls 2 [(0, .ref (g_row G S a)), (1, .int (nI w))] → W p l e (gx_rm d S) s m ([.ref (g_row G S a), .int (nI w)] : List Value).toArray below meth c s.heap [] 0 0 (gx_MQ below G S (g_mkA S w (fun j => (S.2.1 a)[j]?)) (.returned (some (.ref (gs_n S)))) s) (F0 m 0 ls []) := by
    intro ls hl
    obtain ⟨cell, r1, r2, r3, r4, r5, r6⟩ := gl_cell hK hI.1 ht
    refine gr_aload_n hx hb (some (g_row G S a)) dJ9_copyOf_0 rfl (lv_at hl 0 rfl) ?_
    refine lv_iload_n hx hb dJ9_copyOf_1 rfl (lv_at hl 1 rfl) ?_
    refine gr_aload_n hx hb (some (g_row G S a)) dJ9_copyOf_2 rfl (lv_at hl 0 rfl) ?_
    refine va_getC hx hb (by rw [cx.2.2.1]; exact hl.1.symm) hown (hts _ q492) (gk_w hK q1415 rfl) (hts _ q1414) (hts _ q493) (hts _ q512) hK.2.2.2.1.2 ⟨cell, r1, r5, by rw [r2]; exact (hK.2.1 5 (by omega)).2.choose_spec.choose_spec.2.2.2⟩ (by show 1 ≤ d; omega) (by show 2 + 14 ≤ 60 * d; omega) dJ9_copyOf_3 ?_
    refine gr_callR (gb_rawS (As := [.ref (g_row G S a), .int (nI w), .ref (gg_A G 6)]) cx (Or.inl (hts _ q513)) (hts _ q514) (hts _ q86) (gl_C.code (hts _ q515)) hj_J9_copyOf_2 rfl rfl dJ9_copyOf_6) (mJ9_copyOf_2 hfl (by omega) ht hc hw hw1 hr) (d := d - 1) (by omega) (Nat.le_of_ble_eq_true rfl) (gz_ws (lw_meth q515) hts) (hts _ q86) hI hK rfl (by rw [cx.2.2.1]; exact hl.1) (lv_room (m := m) (pc := 0) (ls := ls) (rest := []) (gz_cs (st := []) (Nat.le_of_ble_eq_true rfl))) (fun H locs cells slots hI => ?_)
    exact gr_aret (r := some (gs_n S)) cx (Or.inr ⟨_, rfl⟩) hI dJ9_copyOf_9
  exact key _ (lv_entry _ (Nat.le_of_ble_eq_true rfl))
theorem mJ2_grow_2 {l : Launch} {G : gG} {S : gm_S} {d : Nat} (hfl : l.flags = flags0) (hd : 6 ≤ d) {a w : Nat} (ht : gs_t S a = 16) (hfu : (S.2.1 a).length = g_cap S a) (ew : w = if g_cap S a = 0 then 10 else g_cap S a + g_cap S a / 2) (h2 : g_cap S a = 0 ∨ 2 ≤ g_cap S a) (hw1 : w ≤ 1000) (hr : g_room S w = true) : gx_Met l yJ2_grow_2 (ws_ yJ2_grow_2 cJ2_grow_2 4 (Option.some (FieldType.array (FieldType.object "java/lang/Object")))) d G S [.ref a, .int (nI ((S.2.1 a).length + 1))] (.returned (some (.ref (gs_n S)))) (g_gw S a w) := by
  refine gx_of hfl (by decide) (fun p e s m below meth c cx hnm hex hI => ?_)
  rw [lg_entry_eq]
  have hx := cx.1
  have hb := cx.2.1
  have hown := cx.2.2.2.1
  have hts := cx.2.2.2.2.1
  have hK := cx.2.2.2.2.2.1
  have key : ∀ ls, lv_has ls 4 [(0, .ref a), (1, .int (nI ((S.2.1 a).length + 1)))] → W p l e (gx_rm d S) s m ([.ref a, .int (nI ((S.2.1 a).length + 1))] : List Value).toArray below meth c s.heap [] 0 0 (gx_MQ below G S (g_gw S a w) (.returned (some (.ref (gs_n S)))) s) (F0 m 0 ls []) := by
    intro ls hl
    have hlm := gl_len hI.1 ht
    have hza := hI.1.2.2.2.2.2.2.1 a (by rw [ht]; decide)
    have hX : ∀ x, gs_t S x ≠ 0 → x < gs_n S := fun x h => (hI.1.2.2.2.2.2.2.1 x h).2
    refine gr_aload_n hx hb (some a) dJ2_grow_2_0 rfl (lv_at hl 0 rfl) ?_
    refine gl_gE cx hI.1 ht dJ2_grow_2_1 ?_
    refine gl_alen cx hI.1 ht dJ2_grow_2_4 ?_
    refine gz_istore_n hx hb dJ2_grow_2_5 rfl hl (by decide) [0, 1] rfl (gz_con ⟨gz_ne rfl, Or.inl (gz_ne rfl)⟩ (gz_con ⟨gz_ne rfl, Or.inr rfl⟩ gz_nil)) (fun ls hl => ?_)
    refine lv_iload_n hx hb dJ2_grow_2_6 rfl (lv_at hl 0 rfl) ?_
    refine lv_if_gt (tgt := 20) hx hb dJ2_grow_2_7 rfl (fun hc => ?_) (fun hc => ?_)
    · have hc : 0 < g_cap S a := by
        rcases Nat.eq_zero_or_pos (g_cap S a) with z | z
        · rw [z] at hc; exact absurd hc (by decide)
        · exact z
      have ew : w = g_cap S a + g_cap S a / 2 := by rw [ew, if_neg (by omega)]
      refine lv_iload_n hx hb dJ2_grow_2_20 rfl (lv_at hl 0 rfl) ?_
      refine lv_iload_n hx hb dJ2_grow_2_21 rfl (lv_at hl 2 rfl) ?_
      refine lv_iload_n hx hb dJ2_grow_2_22 rfl (lv_at hl 0 rfl) ?_
      refine lv_isub hx hb dJ2_grow_2_23 ?_
      rw [show nI ((S.2.1 a).length + 1) - nI (g_cap S a) = 1 by rw [hfu, pk_sub (by omega), show g_cap S a + 1 - g_cap S a = 1 by omega]; rfl]
      refine lv_iload_n hx hb dJ2_grow_2_24 rfl (lv_at hl 0 rfl) ?_
      refine lv_iconst hx hb dJ2_grow_2_25 (show Int32.ofInt (1) = (1 : Int32) by decide) ?_
      refine lv_ishr hx hb dJ2_grow_2_26 ?_
      rw [show nI (g_cap S a) >>> ((1 : Int32) &&& 31) = nI (g_cap S a / 2) from (pk_shrN (by omega) ((1 : Int32) &&& 31) 1 (by decide)).trans (by rw [Nat.pow_one])]
      refine gr_callR (gb_rawS (As := [.int (nI (g_cap S a)), .int 1, .int (nI (g_cap S a / 2))]) cx (Or.inl (hts _ q479)) (hts _ q480) (hts _ q84) (gl_C.code (hts _ q481)) hj_J7_newLength rfl rfl dJ2_grow_2_27) (mJ7_newLength hfl (by omega) (by omega) (by omega)) (d := d - 1) (by omega) (Nat.le_of_ble_eq_true rfl) (gz_ws (lw_meth q481) hts) (hts _ q84) hI hK rfl (by rw [cx.2.2.1]; exact hl.1) (lv_room (m := m) (pc := 0) (ls := ls) (rest := []) (gz_cs (st := []) (Nat.le_of_ble_eq_true rfl))) (fun H locs cells slots hI => ?_)
      rw [← ew]
      refine gz_istore_n hx hb dJ2_grow_2_30 rfl hl (by decide) [1] rfl (gz_con ⟨gz_ne rfl, Or.inl (gz_ne rfl)⟩ gz_nil) (fun ls hl => ?_)
      refine gr_aload_n hx hb (some a) dJ2_grow_2_31 rfl (lv_at hl 1 rfl) ?_
      refine gr_aload_n hx hb (some a) dJ2_grow_2_32 rfl (lv_at hl 1 rfl) ?_
      refine gl_gE cx hI.1 ht dJ2_grow_2_33 ?_
      refine lv_iload_n hx hb dJ2_grow_2_36 rfl (lv_at hl 0 rfl) ?_
      refine gr_callR (gb_rawS (As := [.ref (g_row G S a), .int (nI w)]) cx (Or.inl (hts _ q489)) (hts _ q490) (hts _ q86) (gl_C.code (hts _ q491)) hj_J9_copyOf rfl rfl dJ2_grow_2_37) (mJ9_copyOf hfl (by omega) ht hc (by omega) (by omega) hr) (d := d - 1) (by omega) (Nat.le_of_ble_eq_true rfl) (gz_ws (lw_meth q491) hts) (hts _ q86) hI hK rfl (by rw [cx.2.2.1]; exact hl.1) (lv_room (m := m) (pc := 0) (ls := ls) (rest := []) (gz_cs (st := [.ref a]) (Nat.le_of_ble_eq_true rfl))) (fun H locs cells slots hI => ?_)
      refine lv_dup_x1 hx hb dJ2_grow_2_40 rfl rfl ?_
      have hna : a ≠ gs_n S := by omega
      have t16 : gs_t (g_mkA S w (fun j => (S.2.1 a)[j]?)) a = 16 := by unfold gs_t; rw [g_mkA_o hna]; exact ht
      obtain ⟨mc, hob⟩ := gl_open hI.1 t16
      refine gl_putf cx hob 1 (by omega) (hT := rfl) (hts _ q168) (fun _ h => h) rfl rfl dJ2_grow_2_41 (fun H' i hz hq hob' => ?_)
      refine gr_aret (r := some (gs_n S)) cx (Or.inr ⟨_, rfl⟩) (gl_att hI ht (by omega) (by omega) (by omega) hw1 hlm.2.2 hX hz hq ⟨mc, hob'.to (fun k hk => ?_)⟩) dJ2_grow_2_44
      have : k = 0 ∨ k = 1 ∨ k = 2 := by omega
      rcases this with rfl | rfl | rfl <;> rfl
    · have hc : g_cap S a = 0 := by
        rcases Nat.eq_zero_or_pos (g_cap S a) with z | z
        · exact z
        · exact absurd (nI_lt (a := 0) z (by omega)) hc
      have ew : w = 10 := by rw [ew, if_pos hc]
      have hnil : S.2.1 a = [] := List.eq_nil_of_length_eq_zero (by omega)
      refine gr_aload_n hx hb (some a) dJ2_grow_2_10 rfl (lv_at hl 1 rfl) ?_
      refine gl_gE cx hI.1 ht dJ2_grow_2_11 ?_
      refine gl_gets cx hI.1 dJ2_grow_2_14 ?_
      have er : g_row G S a = gg_e G := if_pos hc
      rw [er]
      refine lv_acmp_eq (rx := some (gg_e G)) (ry := some (gg_e G)) (tgt := 45) hx hb dJ2_grow_2_17 rfl (fun _ => ?_) (fun hc => absurd rfl hc)
      refine gr_aload_n hx hb (some a) dJ2_grow_2_45 rfl (lv_at hl 1 rfl) ?_
      refine lv_bipush hx hb dJ2_grow_2_46 (show (Int8.ofInt 10).toInt32 = (10 : Int32) by decide) ?_
      refine lv_iload_n hx hb dJ2_grow_2_48 rfl (lv_at hl 2 rfl) ?_
      refine va_mmax hx hb (by rw [cx.2.2.1]; exact hl.1.symm) hown (hts _ q525) (hts _ q483) (hts _ q85) (hts _ q484) (by show 1 ≤ d; omega) (Nat.le_trans (Nat.add_le_add_right (gz_cs (Nat.le_of_ble_eq_true rfl)) 13) (by show 8 + 13 ≤ 60 * d; omega)) (gl_rc (by assumption)).1 (gl_rc (by assumption)).2 dJ2_grow_2_49 ?_
      rw [show (if (10 : Int32) < nI ((S.2.1 a).length + 1) then nI ((S.2.1 a).length + 1) else 10) = nI w by rw [hnil, ew]; decide]
      refine gl_anew cx hI (hts _ q526) (nI_clamp (by omega)) (nI_pos (by omega)) (by omega) hr dJ2_grow_2_52 (fun H1 hI hcn hqn => ?_)
      have ef : (fun _ => none : Nat → Option Nat) = fun j => (S.2.1 a)[j]? := by funext j; rw [hnil]; rfl
      rw [ef] at hI
      refine lv_dup_x1 hx hb dJ2_grow_2_55 rfl rfl ?_
      have hna : a ≠ gs_n S := by omega
      have t16 : gs_t (g_mkA S w (fun j => (S.2.1 a)[j]?)) a = 16 := by unfold gs_t; rw [g_mkA_o hna]; exact ht
      obtain ⟨mc, hob⟩ := gl_open hI.1 t16
      refine gl_putf cx hob 1 (by omega) (hT := rfl) (hts _ q168) (fun _ h => h) rfl rfl dJ2_grow_2_56 (fun H' i hz hq hob' => ?_)
      refine gr_aret (r := some (gs_n S)) cx (Or.inr ⟨_, rfl⟩) (gl_att hI ht (by omega) (by omega) (by omega) hw1 hlm.2.2 hX hz hq ⟨mc, hob'.to (fun k hk => ?_)⟩) dJ2_grow_2_59
      have : k = 0 ∨ k = 1 ∨ k = 2 := by omega
      rcases this with rfl | rfl | rfl <;> rfl
  exact key _ (lv_entry _ (Nat.le_of_ble_eq_true rfl))
theorem mJ2_grow {l : Launch} {G : gG} {S : gm_S} {d : Nat} (hfl : l.flags = flags0) (hd : 7 ≤ d) {a w : Nat} (ht : gs_t S a = 16) (hfu : (S.2.1 a).length = g_cap S a) (ew : w = if g_cap S a = 0 then 10 else g_cap S a + g_cap S a / 2) (h2 : g_cap S a = 0 ∨ 2 ≤ g_cap S a) (hw1 : w ≤ 1000) (hr : g_room S w = true) : gx_Met l yJ2_grow (ws_ yJ2_grow cJ2_grow 1 (Option.some (FieldType.array (FieldType.object "java/lang/Object")))) d G S [.ref a] (.returned (some (.ref (gs_n S)))) (g_gw S a w) := by
  refine gx_of hfl (by decide) (fun p e s m below meth c cx hnm hex hI => ?_)
  rw [lg_entry_eq]
  have hx := cx.1
  have hb := cx.2.1
  have hown := cx.2.2.2.1
  have hts := cx.2.2.2.2.1
  have hK := cx.2.2.2.2.2.1
  have key : ∀ ls, lv_has ls 1 [(0, .ref a)] → W p l e (gx_rm d S) s m ([.ref a] : List Value).toArray below meth c s.heap [] 0 0 (gx_MQ below G S (g_gw S a w) (.returned (some (.ref (gs_n S)))) s) (F0 m 0 ls []) := by
    intro ls hl
    refine gr_aload_n hx hb (some a) dJ2_grow_0 rfl (lv_at hl 0 rfl) ?_
    refine gr_aload_n hx hb (some a) dJ2_grow_1 rfl (lv_at hl 0 rfl) ?_
    refine gl_gZ cx hI.1 ht dJ2_grow_2 ?_
    refine lv_iconst hx hb dJ2_grow_5 (show Int32.ofInt (1) = (1 : Int32) by decide) ?_
    refine lv_iadd hx hb dJ2_grow_6 ?_
    rw [nI_1]
    refine gr_callR (gb_rawV (As := [.int (nI ((S.2.1 a).length + 1))]) cx (Or.inl (hts _ q475)) (hts _ q477) (hts _ qs4) (gl_C.code (hts _ q478)) hj_J2_grow_2 (gr_recvL hK hI.1 ht) rfl rfl dJ2_grow_7) (mJ2_grow_2 hfl (by omega) ht hfu ew h2 hw1 hr) (d := d - 1) (by omega) (Nat.le_of_ble_eq_true rfl) (gz_ws (lw_meth q478) hts) (hts _ q77) hI hK rfl (by rw [cx.2.2.1]; exact hl.1) (lv_room (m := m) (pc := 0) (ls := ls) (rest := []) (gz_cs (st := []) (Nat.le_of_ble_eq_true rfl))) (fun H locs cells slots hI => ?_)
    exact gr_aret (r := some (gs_n S)) cx (Or.inr ⟨_, rfl⟩) hI dJ2_grow_10
  exact key _ (lv_entry _ (Nat.le_of_ble_eq_true rfl))
