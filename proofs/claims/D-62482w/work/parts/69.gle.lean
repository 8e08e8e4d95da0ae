/-! LAYER 1: the JDK's lists: adding, clearing, removing (printed by wip/gen/gen5.py) -/
set_option maxRecDepth 100000
section GLT
variable {p : Program} {l : Launch} {e : Env} {s : State} {m : MethodId} {args : Array Value} {below : List Frame} {meth : Method} {c : Code} {H : Heap} {locs : List Loc} {cells slots : Nat} {G : gG} {S0 S : gm_S} {d a x : Nat} {ls : Array Slot}
theorem gl_tail (cx : gx_cx p l s m args meth c G RJ2 cJ2_add_2 4 none) (hI : gw_I G S0 S H locs cells slots) (ht : gs_t S a = 16) (hlt : (S.2.1 a).length < g_cap S a) (hx : g_okE (gs_t S x) = true) (hl : lv_has ls 4 [(0, .ref a), (1, .ref x), (2, .ref (g_bk S a)), (3, .int (nI (S.2.1 a).length))]) : W p l e (gx_rm d S0) s m args below meth c H locs cells slots (gx_MQ below G S0 (gs_L S a (S.2.1 a ++ [x])) (.returned none) s) (F0 m 11 ls []) := by
  have hxx := cx.1
  have hb := cx.2.1
  have hts := cx.2.2.2.2.1
  have hlm := gl_len hI.1 ht
  obtain ⟨f1, f2, f3⟩ := gl_full hI.1 ht (by omega)
  have hba : g_bk S a ≠ a := fun z => by rw [z, ht] at f1; cases f1
  have hza := hI.1.2.2.2.2.2.2.1 a (by rw [ht]; decide)
  have hzb := hI.1.2.2.2.2.2.2.1 (g_bk S a) (by rw [f1]; decide)
  refine gr_aload_n hxx hb (some (g_bk S a)) dJ2_add_2_11 rfl (lv_at hl 2 rfl) ?_
  refine lv_iload_n hxx hb dJ2_add_2_12 rfl (lv_at hl 3 rfl) ?_
  refine gr_aload_n hxx hb (some x) dJ2_add_2_13 rfl (lv_at hl 1 rfl) ?_
  refine gl_aast (f := fun j => (S.2.1 a)[j]?) cx hI.1 f3 hx hlt (by omega) dJ2_add_2_14 (fun H1 c1 z1 q1 => ?_)
  refine gr_aload_n hxx hb (some a) dJ2_add_2_15 rfl (lv_at hl 0 rfl) ?_
  refine lv_iload_n hxx hb dJ2_add_2_16 rfl (lv_at hl 3 rfl) ?_
  refine lv_iconst hxx hb dJ2_add_2_17 (show Int32.ofInt (1) = (1 : Int32) by decide) ?_
  refine lv_iadd hxx hb dJ2_add_2_18 ?_
  rw [nI_1]
  obtain ⟨mc, hob⟩ := gl_open hI.1 ht
  refine gl_putf cx (hob.kept (q1 a (Ne.symm hba))) 2 (by omega) (hT := rfl) (hts _ q169) (fun _ h => h) rfl rfl dJ2_add_2_19 (fun H2 i z2 q2 hob2 => ?_)
  refine gr_vret cx ⟨hI.1.lset ht (z2.trans z1) (fun q h1 h2 => (q2 q h1).trans (q1 q (h2 (by omega)))) ⟨mc, hob2.to (fun k hk => ?_)⟩ (fun _ => ?_) (by rw [List.length_append]; show _ + 1 ≤ _; omega) (fun y hy => ?_), gi_mem (gi_mem hI.2.1 hzb.1) hza.1, hI.2.2.1, hI.2.2.2⟩ dJ2_add_2_22
  · have : k = 0 ∨ k = 1 ∨ k = 2 := by omega
    rcases this with rfl | rfl | rfl
    · rfl
    · rfl
    · show Value.int (nI ((S.2.1 a).length + 1)) = .int (nI (S.2.1 a ++ [x]).length)
      rw [List.length_append]; rfl
  · rw [q2 _ hba, c1]
    congr 2
    funext j
    congr 1
    unfold va_up
    by_cases ej : j = (S.2.1 a).length
    · rw [if_pos ej, ej, List.getElem?_append_right (Nat.le_refl _), Nat.sub_self]; rfl
    · rw [if_neg ej]
      by_cases hj : j < (S.2.1 a).length
      · rw [List.getElem?_append_left hj]
      · have e1 : (S.2.1 a)[j]? = none := List.getElem?_eq_none (by omega)
        have e2 : (S.2.1 a ++ [x])[j]? = none := List.getElem?_eq_none (by rw [List.length_append]; show _ + 1 ≤ _; omega)
        exact e1.trans e2.symm
  · rcases List.mem_append.mp hy with h | h
    · exact hlm.2.2 y h
    · rw [List.mem_singleton.mp h]; exact hx
end GLT
theorem mJ2_add_2 {l : Launch} {G : gG} {S : gm_S} {d : Nat} (hfl : l.flags = flags0) (hd : 8 ≤ d) {a x : Nat} {S2 : gm_S} (ht : gs_t S a = 16) (hxo : g_okE (gs_t S x) = true) (hlen : (S.2.1 a).length < 100) (hv : ((S.2.1 a).length ≠ g_cap S a ∧ S2 = gs_L S a (S.2.1 a ++ [x])) ∨ ∃ w, (S.2.1 a).length = g_cap S a ∧ w = (if g_cap S a = 0 then 10 else g_cap S a + g_cap S a / 2) ∧ g_room S w = true ∧ S2 = gs_L (g_gw S a w) a (S.2.1 a ++ [x])) : gx_Met l yJ2_add_2 (ws_ yJ2_add_2 cJ2_add_2 4 (Option.none : Option FieldType)) d G S [.ref a, .ref x, .ref (g_row G S a), .int (nI (S.2.1 a).length)] (.returned (none)) S2 := by
  refine gx_of hfl (by decide) (fun p e s m below meth c cx hnm hex hI => ?_)
  rw [lg_entry_eq]
  have hx := cx.1
  have hb := cx.2.1
  have hown := cx.2.2.2.1
  have hts := cx.2.2.2.2.1
  have hK := cx.2.2.2.2.2.1
  have key : ∀ ls, lv_has ls 4 [(0, .ref a), (1, .ref x), (2, .ref (g_row G S a)), (3, .int (nI (S.2.1 a).length))] → W p l e (gx_rm d S) s m ([.ref a, .ref x, .ref (g_row G S a), .int (nI (S.2.1 a).length)] : List Value).toArray below meth c s.heap [] 0 0 (gx_MQ below G S S2 (.returned (none)) s) (F0 m 0 ls []) := by
    intro ls hl
    have hlm := gl_len hI.1 ht
    have hl2 := gl_c2 hI.1 ht
    refine lv_iload_n hx hb dJ2_add_2_0 rfl (lv_at hl 3 rfl) ?_
    refine gr_aload_n hx hb (some (g_row G S a)) dJ2_add_2_1 rfl (lv_at hl 2 rfl) ?_
    refine gl_alen cx hI.1 ht dJ2_add_2_2 ?_
    refine lv_icmp_ne (tgt := 11) hx hb dJ2_add_2_3 rfl (fun hc => ?_) (fun hc => ?_)
    · rcases hv with ⟨h1, rfl⟩ | ⟨w, h1, -⟩
      · have er : g_row G S a = g_bk S a := if_neg (by omega)
        rw [er] at hl
        exact gl_tail cx hI ht (by omega) hxo hl
      · exact absurd (by rw [h1]) hc
    · rcases hv with ⟨h1, -⟩ | ⟨w, h1, ew, hr, rfl⟩
      · exact absurd hc (fun z => h1 ((nI_eq (by omega) (by omega)).mp z))
      · have hw1 : w ≤ 1000 := by rw [ew]; split <;> omega
        refine gr_aload_n hx hb (some a) dJ2_add_2_6 rfl (lv_at hl 0 rfl) ?_
        refine gr_callR (gb_rawV (As := []) cx (Or.inl (hts _ q471)) (hts _ q473) (hts _ qs3) (gl_C.code (hts _ q474)) hj_J2_grow (gr_recvL hK hI.1 ht) rfl rfl dJ2_add_2_7) (mJ2_grow hfl (by omega) ht h1 ew hl2 hw1 hr) (d := d - 1) (by omega) (Nat.le_of_ble_eq_true rfl) (gz_ws (lw_meth q474) hts) (hts _ q77) hI hK rfl (by rw [cx.2.2.1]; exact hl.1) (lv_room (m := m) (pc := 0) (ls := ls) (rest := []) (gz_cs (st := []) (Nat.le_of_ble_eq_true rfl))) (fun H locs cells slots hI2 => ?_)
        refine gz_astore_n (x := some (gs_n S)) hx hb dJ2_add_2_10 rfl hl (by decide) [0, 1, 3] rfl (gz_con ⟨gz_ne rfl, Or.inl (gz_ne rfl)⟩ (gz_con ⟨gz_ne rfl, Or.inr rfl⟩ (gz_con ⟨gz_ne rfl, Or.inl (gz_ne rfl)⟩ gz_nil))) (fun ls hl => ?_)
        have hna : a ≠ gs_n S := by have := hI.1.2.2.2.2.2.2.1 a (by rw [ht]; decide); omega
        have hxn : x ≠ gs_n S := by have := hI.1.2.2.2.2.2.2.1 x (fun z => by rw [z] at hxo; exact absurd hxo (by decide)); omega
        have hxa : x ≠ a := fun z => by rw [z, ht] at hxo; exact absurd hxo (by decide)
        have ht2 : gs_t (g_gw S a w) a = 16 := (g_gw_ta hna).trans ht
        have hx2 : g_okE (gs_t (g_gw S a w) x) = true := by unfold gs_t; rw [g_gw_o hxn hxa]; exact hxo
        have hw2 : (S.2.1 a).length < w := by rw [ew]; split <;> omega
        have hl3 : lv_has ls 4 [(0, .ref a), (1, .ref x), (2, .ref (g_bk (g_gw S a w) a)), (3, .int (nI ((g_gw S a w).2.1 a).length))] := by rw [g_gw_ba]; exact lv_sub hl [1, 2, 0, 3] rfl
        exact gl_tail cx hI2 ht2 (by rw [g_gw_ca]; exact hw2) hx2 hl3
  exact key _ (lv_entry _ (Nat.le_of_ble_eq_true rfl))
theorem mJ2_add {l : Launch} {G : gG} {S : gm_S} {d : Nat} (hfl : l.flags = flags0) (hd : 9 ≤ d) {a x : Nat} {S2 : gm_S} (ht : gs_t S a = 16) (hxo : g_okE (gs_t S x) = true) (hlen : (S.2.1 a).length < 100) (hv : ((S.2.1 a).length ≠ g_cap S a ∧ S2 = gs_L S a (S.2.1 a ++ [x])) ∨ ∃ w, (S.2.1 a).length = g_cap S a ∧ w = (if g_cap S a = 0 then 10 else g_cap S a + g_cap S a / 2) ∧ g_room S w = true ∧ S2 = gs_L (g_gw S a w) a (S.2.1 a ++ [x])) : gx_Met l yJ2_add (ws_ yJ2_add cJ2_add 2 (Option.some FieldType.boolean)) d G S [.ref a, .ref x] (.returned (some (.int 1))) S2 := by
  refine gx_of hfl (by decide) (fun p e s m below meth c cx hnm hex hI => ?_)
  rw [lg_entry_eq]
  have hx := cx.1
  have hb := cx.2.1
  have hown := cx.2.2.2.1
  have hts := cx.2.2.2.2.1
  have hK := cx.2.2.2.2.2.1
  have key : ∀ ls, lv_has ls 2 [(0, .ref a), (1, .ref x)] → W p l e (gx_rm d S) s m ([.ref a, .ref x] : List Value).toArray below meth c s.heap [] 0 0 (gx_MQ below G S S2 (.returned (some (.int 1))) s) (F0 m 0 ls []) := by
    intro ls hl
    refine gl_bump cx hI ht (lv_at hl 0 rfl) dJ2_add_0 dJ2_add_1 dJ2_add_2 dJ2_add_5 dJ2_add_6 dJ2_add_7 (fun H locs hI => ?_)
    refine gr_aload_n hx hb (some a) dJ2_add_10 rfl (lv_at hl 0 rfl) ?_
    refine gr_aload_n hx hb (some x) dJ2_add_11 rfl (lv_at hl 1 rfl) ?_
    refine gr_aload_n hx hb (some a) dJ2_add_12 rfl (lv_at hl 0 rfl) ?_
    refine gl_gE cx hI.1 ht dJ2_add_13 ?_
    refine gr_aload_n hx hb (some a) dJ2_add_16 rfl (lv_at hl 0 rfl) ?_
    refine gl_gZ cx hI.1 ht dJ2_add_17 ?_
    refine gr_callR (gb_rawV (As := [.ref x, .ref (g_row G S a), .int (nI (S.2.1 a).length)]) cx (Or.inl (hts _ q467)) (hts _ q469) (hts _ qs2) (gl_C.code (hts _ q470)) hj_J2_add_2 (gr_recvL hK hI.1 ht) rfl rfl dJ2_add_20) (mJ2_add_2 hfl (by omega) ht hxo hlen hv) (d := d - 1) (by omega) (Nat.le_of_ble_eq_true rfl) (gz_ws (lw_meth q470) hts) (hts _ q77) hI hK rfl (by rw [cx.2.2.1]; exact hl.1) (lv_room (m := m) (pc := 0) (ls := ls) (rest := []) (gz_cs (st := []) (Nat.le_of_ble_eq_true rfl))) (fun H locs cells slots hI => ?_)
    refine lv_iconst hx hb dJ2_add_23 (show Int32.ofInt (1) = (1 : Int32) by decide) ?_
    exact gr_zret cx (by decide) hI dJ2_add_24
  exact key _ (lv_entry _ (Nat.le_of_ble_eq_true rfl))
theorem gl_clr {p : Program} {l : Launch} {e : Env} {s : State} {m : MethodId} {args : Array Value} {below : List Frame} {meth : Method} {c : Code} {H : Heap} {locs : List Loc} {cells slots : Nat} {G : gG} {S0 S : gm_S} {d a : Nat} (cx : gx_cx p l s m args meth c G RJ2 cJ2_clear 4 none) (hI : gw_I G S0 S H locs cells slots) (ht : gs_t S a = 16) : ∀ (k i : Nat) (H1 : Heap) (locs1 : List Loc) (ls : Array Slot), i + k = (S.2.1 a).length → lv_has ls 4 [(3, .int (nI i)), (2, .int (nI (S.2.1 a).length)), (1, .ref (g_row G S a))] → H1.size = H.size → (∀ q, q ≠ a → (0 < g_cap S a → q ≠ g_bk S a) → H1[q]? = H[q]?) →
    (∃ mc : Int32, t_OB a (gg_C G 16) 3 (gg_I G 16) H1 (vp_V [.int mc, .ref (g_row G S a), .int 0])) → (0 < g_cap S a → H1[g_bk S a]? = some (arrV (gg_A G 5) (g_cap S a) (fun j => va_rf ((fun j => if j < i then none else (S.2.1 a)[j]?) j)))) → (∀ q ∈ locs1, gg_z G ≤ q.base) → W p l e (gx_rm d S0) s m args below meth c H1 locs1 cells slots (gx_MQ below G S0 (gs_L S a []) (.returned none) s) (F0 m 27 ls []) := by
  have hx := cx.1
  have hb := cx.2.1
  have hts := cx.2.2.2.2.1
  have hlm := gl_len hI.1 ht
  intro k
  induction k with
  | zero =>
    intro i H1 locs1 ls hi hl hz hq hob hrow hlo
    refine lv_iload_n hx hb dJ2_clear_27 rfl (lv_at hl 0 rfl) ?_
    refine lv_iload_n hx hb dJ2_clear_28 rfl (lv_at hl 1 rfl) ?_
    refine lv_icmp_ge (tgt := 42) hx hb dJ2_clear_29 rfl (fun _ => ?_) (fun hc => absurd (nI_le (by omega) (by omega)) hc)
    refine gr_vret cx ⟨hI.1.lset ht hz hq hob (fun hc => ?_) (Nat.zero_le _) (fun y hy => by cases hy), hlo, hI.2.2.1, hI.2.2.2⟩ dJ2_clear_42
    rw [hrow hc]
    congr 2
    funext j
    congr 1
    by_cases hj : j < i
    · exact if_pos hj
    · refine (if_neg hj).trans ?_
      rw [List.getElem?_eq_none (by omega)]; rfl
  | succ k ih =>
    intro i H1 locs1 ls hi hl hz hq hob hrow hlo
    have hcap : 0 < g_cap S a := by omega
    have er : g_row G S a = g_bk S a := if_neg (by omega)
    obtain ⟨f1, f2, f3⟩ := gl_full hI.1 ht hcap
    have hba : g_bk S a ≠ a := fun z => by rw [z, ht] at f1; cases f1
    have hzb := hI.1.2.2.2.2.2.2.1 (g_bk S a) (by rw [f1]; decide)
    refine lv_iload_n hx hb dJ2_clear_27 rfl (lv_at hl 0 rfl) ?_
    refine lv_iload_n hx hb dJ2_clear_28 rfl (lv_at hl 1 rfl) ?_
    refine lv_icmp_ge (tgt := 42) hx hb dJ2_clear_29 rfl (fun hc => absurd hc (nI_ge (by omega) (by omega))) (fun _ => ?_)
    refine gr_aload_n hx hb (some (g_row G S a)) dJ2_clear_32 rfl (lv_at hl 2 rfl) ?_
    refine lv_iload_n hx hb dJ2_clear_33 rfl (lv_at hl 0 rfl) ?_
    refine gz_null hx hb dJ2_clear_34 ?_
    have hrow' : H1[g_row G S a]? = some (arrV (gg_A G 5) (g_cap S a) (fun j => va_rf ((fun j => if j < i then none else (S.2.1 a)[j]?) j))) := by rw [er]; exact hrow hcap
    refine gl_aastN (i := i) (f := fun j => if j < i then none else (S.2.1 a)[j]?) cx hrow' (by omega) (by omega) dJ2_clear_35 (fun H2 c2 z2 q2 => ?_)
    rw [er] at c2 q2
    refine gz_iinc (k := 0) (v := nI i + 1) hx hb dJ2_clear_36 hl rfl rfl (by decide) [1, 2] rfl (gz_con ⟨gz_ne rfl, Or.inr rfl⟩ (gz_con ⟨gz_ne rfl, Or.inl (gz_ne rfl)⟩ gz_nil)) (fun ls hl => ?_)
    refine lv_goto (tgt := 27) hx hb dJ2_clear_39 rfl ?_
    rw [nI_1] at hl
    refine ih (i + 1) H2 _ ls (by omega) hl (z2.trans hz) (fun q h1 h2 => (q2 q (h2 hcap)).trans (hq q h1 h2)) ?_ (fun _ => ?_) (gi_mem hlo (by rw [er]; exact hzb.1))
    · obtain ⟨mc, hob⟩ := hob
      exact ⟨mc, hob.kept (q2 a (Ne.symm hba))⟩
    · rw [c2]
      congr 2
      funext j
      congr 1
      unfold va_up
      by_cases ej : j = i
      · rw [if_pos ej]; exact (if_pos (by omega)).symm
      · rw [if_neg ej]
        by_cases hj : j < i
        · exact (if_pos hj).trans (if_pos (show j < i + 1 by omega)).symm
        · exact (if_neg hj).trans (if_neg (show ¬ j < i + 1 by omega)).symm
theorem mJ2_clear {l : Launch} {G : gG} {S : gm_S} {d : Nat} (hfl : l.flags = flags0) (hd : 0 ≤ d) {a : Nat} (ht : gs_t S a = 16) : gx_Met l yJ2_clear (ws_ yJ2_clear cJ2_clear 4 (Option.none : Option FieldType)) d G S [.ref a] (.returned (none)) (gs_L S a []) := by
  refine gx_of hfl (by decide) (fun p e s m below meth c cx hnm hex hI => ?_)
  rw [lg_entry_eq]
  have hx := cx.1
  have hb := cx.2.1
  have hown := cx.2.2.2.1
  have hts := cx.2.2.2.2.1
  have hK := cx.2.2.2.2.2.1
  have key : ∀ ls, lv_has ls 4 [(0, .ref a)] → W p l e (gx_rm d S) s m ([.ref a] : List Value).toArray below meth c s.heap [] 0 0 (gx_MQ below G S (gs_L S a []) (.returned (none)) s) (F0 m 0 ls []) := by
    intro ls hl
    refine gl_bump cx hI ht (lv_at hl 0 rfl) dJ2_clear_0 dJ2_clear_1 dJ2_clear_2 dJ2_clear_5 dJ2_clear_6 dJ2_clear_7 (fun H locs hI => ?_)
    have hza := hI.1.2.2.2.2.2.2.1 a (by rw [ht]; decide)
    refine gr_aload_n hx hb (some a) dJ2_clear_10 rfl (lv_at hl 0 rfl) ?_
    refine gl_gE cx hI.1 ht dJ2_clear_11 ?_
    refine gz_astore_n (x := some (g_row G S a)) hx hb dJ2_clear_14 rfl hl (by decide) [0] rfl (gz_con ⟨gz_ne rfl, Or.inr rfl⟩ gz_nil) (fun ls hl => ?_)
    refine gr_aload_n hx hb (some a) dJ2_clear_15 rfl (lv_at hl 1 rfl) ?_
    refine gl_gZ cx hI.1 ht dJ2_clear_16 ?_
    refine gz_istore_n hx hb dJ2_clear_19 rfl hl (by decide) [0, 1] rfl (gz_con ⟨gz_ne rfl, Or.inr rfl⟩ (gz_con ⟨gz_ne rfl, Or.inl (gz_ne rfl)⟩ gz_nil)) (fun ls hl => ?_)
    refine gr_aload_n hx hb (some a) dJ2_clear_20 rfl (lv_at hl 2 rfl) ?_
    refine lv_iconst hx hb dJ2_clear_21 (show Int32.ofInt (0) = (0 : Int32) by decide) ?_
    refine lv_dup_x1 hx hb dJ2_clear_22 rfl rfl ?_
    obtain ⟨mc, hob⟩ := gl_open hI.1 ht
    refine gl_putf cx hob 2 (by omega) (hT := rfl) (hts _ q169) (fun _ h => h) rfl rfl dJ2_clear_23 (fun H' i hz hq hob' => ?_)
    refine gz_istore_n hx hb dJ2_clear_26 rfl hl (by decide) [0, 1] rfl (gz_con ⟨gz_ne rfl, Or.inr rfl⟩ (gz_con ⟨gz_ne rfl, Or.inl (gz_ne rfl)⟩ gz_nil)) (fun ls hl => ?_)
    refine gl_clr cx hI ht (S.2.1 a).length 0 H' _ ls (by omega) hl hz (fun q h1 _ => hq q h1) ⟨mc, hob'.to (fun k hk => ?_)⟩ (fun hc => ?_) (gi_mem hI.2.1 hza.1)
    · have : k = 0 ∨ k = 1 ∨ k = 2 := by omega
      rcases this with rfl | rfl | rfl <;> rfl
    · obtain ⟨f1, f2, f3⟩ := gl_full hI.1 ht hc
      rw [hq _ (fun z => by rw [z, ht] at f1; cases f1)]
      exact f3
  exact key _ (lv_entry _ (Nat.le_of_ble_eq_true rfl))
theorem gl_er {l : List Nat} {i : Nat} (hi : i < l.length) (j : Nat) : va_up (va_cpy (fun j => l[j]?) (fun j => l[j]?) (i + 1) i (l.length - 1 - i)) (l.length - 1) none j = (l.eraseIdx i)[j]? := by
  rw [List.getElem?_eraseIdx]
  unfold va_up va_cpy
  by_cases e : j = l.length - 1
  · rw [if_pos e, if_neg (by omega), List.getElem?_eq_none (by omega)]
  · rw [if_neg e]
    by_cases h1 : j < i
    · rw [if_neg (by omega), if_pos h1]
    · rw [if_neg h1]
      by_cases h2 : j < l.length - 1
      · rw [if_pos (by omega), show i + 1 + (j - i) = j + 1 by omega]
      · rw [if_neg (by omega)]
        have e1 : l[j]? = none := List.getElem?_eq_none (by omega)
        have e2 : l[j + 1]? = none := List.getElem?_eq_none (by omega)
        exact e1.trans e2.symm
section GLR
variable {p : Program} {l : Launch} {e : Env} {s : State} {m : MethodId} {args : Array Value} {below : List Frame} {meth : Method} {c : Code} {H : Heap} {locs : List Loc} {cells slots : Nat} {G : gG} {S0 S : gm_S} {d a i : Nat} {ls : Array Slot}
/-- from 34 on: the row is copied, the last place and the count are still to be set -/
theorem gl_frt (cx : gx_cx p l s m args meth c G RJ2 cJ2_fastRemove 4 none) {H1 : Heap} {locs1 : List Loc} (hI : gw_I G S0 S H locs cells slots) (ht : gs_t S a = 16) (hi : i < (S.2.1 a).length) (hl : lv_has ls 4 [(3, .int (nI ((S.2.1 a).length - 1))), (0, .ref a), (1, .ref (g_row G S a)), (2, .int (nI i))]) (hz : H1.size = H.size) (hq : ∀ q, q ≠ g_bk S a → H1[q]? = H[q]?)
    (hrow : H1[g_bk S a]? = some (arrV (gg_A G 5) (g_cap S a) (fun j => va_rf (va_cpy (fun j => (S.2.1 a)[j]?) (fun j => (S.2.1 a)[j]?) (i + 1) i ((S.2.1 a).length - 1 - i) j)))) (hlo : ∀ q ∈ locs1, gg_z G ≤ q.base) : W p l e (gx_rm d S0) s m args below meth c H1 locs1 cells slots (gx_MQ below G S0 (gs_L S a ((S.2.1 a).eraseIdx i)) (.returned none) s) (F0 m 34 ls []) := by
  have hx := cx.1
  have hb := cx.2.1
  have hts := cx.2.2.2.2.1
  have hlm := gl_len hI.1 ht
  have er : g_row G S a = g_bk S a := if_neg (by omega)
  obtain ⟨f1, f2, f3⟩ := gl_full hI.1 ht (by omega)
  have hba : g_bk S a ≠ a := fun z => by rw [z, ht] at f1; cases f1
  have hza := hI.1.2.2.2.2.2.2.1 a (by rw [ht]; decide)
  have hzb := hI.1.2.2.2.2.2.2.1 (g_bk S a) (by rw [f1]; decide)
  obtain ⟨mc, hob⟩ := gl_open hI.1 ht
  refine gr_aload_n hx hb (some (g_row G S a)) dJ2_fastRemove_34 rfl (lv_at hl 2 rfl) ?_
  refine gr_aload_n hx hb (some a) dJ2_fastRemove_35 rfl (lv_at hl 1 rfl) ?_
  refine lv_iload_n hx hb dJ2_fastRemove_36 rfl (lv_at hl 0 rfl) ?_
  refine lv_dup_x1 hx hb dJ2_fastRemove_37 rfl rfl ?_
  refine gl_putf cx (hob.kept (hq a (Ne.symm hba))) 2 (by omega) (hT := rfl) (hts _ q169) (fun _ h => h) rfl rfl dJ2_fastRemove_38 (fun H2 k2 z2 q2 hob2 => ?_)
  refine gz_null hx hb dJ2_fastRemove_41 ?_
  have hrow2 : H2[g_row G S a]? = some (arrV (gg_A G 5) (g_cap S a) (fun j => va_rf (va_cpy (fun j => (S.2.1 a)[j]?) (fun j => (S.2.1 a)[j]?) (i + 1) i ((S.2.1 a).length - 1 - i) j))) := by rw [er, q2 _ hba]; exact hrow
  refine gl_aastN (i := (S.2.1 a).length - 1) cx hrow2 (by omega) (by omega) dJ2_fastRemove_42 (fun H3 c3 z3 q3 => ?_)
  rw [er] at c3 q3
  have el : ((S.2.1 a).eraseIdx i).length = (S.2.1 a).length - 1 := by rw [List.length_eraseIdx, if_pos hi]
  refine gr_vret cx ⟨hI.1.lset ht (z3.trans (z2.trans hz)) (fun q h1 h2 => (q3 q (h2 (by omega))).trans ((q2 q h1).trans (hq q (h2 (by omega))))) ⟨mc, (hob2.kept (q3 a (Ne.symm hba))).to (fun k hk => ?_)⟩ (fun _ => ?_) (by rw [el]; omega) (fun y hy => hlm.2.2 y (List.mem_of_mem_eraseIdx hy)), gi_mem (gi_mem hlo hza.1) (by rw [er]; exact hzb.1), hI.2.2.1, hI.2.2.2⟩ dJ2_fastRemove_43
  · have : k = 0 ∨ k = 1 ∨ k = 2 := by omega
    rcases this with rfl | rfl | rfl
    · rfl
    · rfl
    · rw [el]; rfl
  · rw [c3]
    congr 2
    funext j
    congr 1
    exact gl_er hi j
end GLR
theorem mJ2_fastRemove {l : Launch} {G : gG} {S : gm_S} {d : Nat} (hfl : l.flags = flags0) (hd : 1 ≤ d) {a i : Nat} (ht : gs_t S a = 16) (hi : i < (S.2.1 a).length) : gx_Met l yJ2_fastRemove (ws_ yJ2_fastRemove cJ2_fastRemove 4 (Option.none : Option FieldType)) d G S [.ref a, .ref (g_row G S a), .int (nI i)] (.returned (none)) (gs_L S a ((S.2.1 a).eraseIdx i)) := by
  refine gx_of hfl (by decide) (fun p e s m below meth c cx hnm hex hI => ?_)
  rw [lg_entry_eq]
  have hx := cx.1
  have hb := cx.2.1
  have hown := cx.2.2.2.1
  have hts := cx.2.2.2.2.1
  have hK := cx.2.2.2.2.2.1
  have key : ∀ ls, lv_has ls 4 [(0, .ref a), (1, .ref (g_row G S a)), (2, .int (nI i))] → W p l e (gx_rm d S) s m ([.ref a, .ref (g_row G S a), .int (nI i)] : List Value).toArray below meth c s.heap [] 0 0 (gx_MQ below G S (gs_L S a ((S.2.1 a).eraseIdx i)) (.returned (none)) s) (F0 m 0 ls []) := by
    intro ls hl
    refine gl_bump cx hI ht (lv_at hl 0 rfl) dJ2_fastRemove_0 dJ2_fastRemove_1 dJ2_fastRemove_2 dJ2_fastRemove_5 dJ2_fastRemove_6 dJ2_fastRemove_7 (fun H locs hI => ?_)
    have hlm := gl_len hI.1 ht
    have er : g_row G S a = g_bk S a := if_neg (by omega)
    obtain ⟨f1, f2, f3⟩ := gl_full hI.1 ht (by omega)
    have hzb := hI.1.2.2.2.2.2.2.1 (g_bk S a) (by rw [f1]; decide)
    refine gr_aload_n hx hb (some a) dJ2_fastRemove_10 rfl (lv_at hl 0 rfl) ?_
    refine gl_gZ cx hI.1 ht dJ2_fastRemove_11 ?_
    refine lv_iconst hx hb dJ2_fastRemove_14 (show Int32.ofInt (1) = (1 : Int32) by decide) ?_
    refine lv_isub hx hb dJ2_fastRemove_15 ?_
    rw [show nI (S.2.1 a).length - 1 = nI ((S.2.1 a).length - 1) from pk_sub (b := 1) (by omega)]
    refine lv_dup hx hb dJ2_fastRemove_16 rfl ?_
    refine gz_istore_n hx hb dJ2_fastRemove_17 rfl hl (by decide) [0, 1, 2] rfl (gz_con ⟨gz_ne rfl, Or.inl (gz_ne rfl)⟩ (gz_con ⟨gz_ne rfl, Or.inl (gz_ne rfl)⟩ (gz_con ⟨gz_ne rfl, Or.inr rfl⟩ gz_nil))) (fun ls hl => ?_)
    refine lv_iload_n hx hb dJ2_fastRemove_18 rfl (lv_at hl 3 rfl) ?_
    refine lv_icmp_le (tgt := 34) hx hb dJ2_fastRemove_19 rfl (fun hc => ?_) (fun hc => ?_)
    · have e0 : (S.2.1 a).length - 1 - i = 0 := by have := (nI_leI (by omega) (by omega)).mp hc; omega
      refine gl_frt cx hI ht hi hl rfl (fun _ _ => rfl) ?_ hI.2.1
      rw [f3, e0]
      congr 2
      funext j
      congr 1
      exact (if_neg (by omega)).symm
    · have hlt : i < (S.2.1 a).length - 1 := by
        rcases Nat.lt_or_ge i ((S.2.1 a).length - 1) with h | h
        · exact h
        · exact absurd (nI_le h (by omega)) hc
      refine gr_aload_n hx hb (some (g_row G S a)) dJ2_fastRemove_22 rfl (lv_at hl 2 rfl) ?_
      refine lv_iload_n hx hb dJ2_fastRemove_23 rfl (lv_at hl 3 rfl) ?_
      refine lv_iconst hx hb dJ2_fastRemove_24 (show Int32.ofInt (1) = (1 : Int32) by decide) ?_
      refine lv_iadd hx hb dJ2_fastRemove_25 ?_
      rw [nI_1]
      refine gr_aload_n hx hb (some (g_row G S a)) dJ2_fastRemove_26 rfl (lv_at hl 2 rfl) ?_
      refine lv_iload_n hx hb dJ2_fastRemove_27 rfl (lv_at hl 3 rfl) ?_
      refine lv_iload_n hx hb dJ2_fastRemove_28 rfl (lv_at hl 0 rfl) ?_
      refine lv_iload_n hx hb dJ2_fastRemove_29 rfl (lv_at hl 3 rfl) ?_
      refine lv_isub hx hb dJ2_fastRemove_30 ?_
      rw [pk_sub (by omega)]
      have f4 : H[g_row G S a]? = some (arrV (gg_A G 5) (g_cap S a) (fun j => va_rf ((fun j => (S.2.1 a)[j]?) j))) := by rw [er]; exact f3
      have c1 : (nI (i + 1)).toNatClampNeg = i + 1 := nI_clamp (by omega)
      have c2 : (nI i).toNatClampNeg = i := nI_clamp (by omega)
      have c3 : (nI ((S.2.1 a).length - 1 - i)).toNatClampNeg = (S.2.1 a).length - 1 - i := nI_clamp (by omega)
      refine gl_copy cx hl.1 (hts _ q926) f4 f4 (nI_pos (by omega)) (nI_pos (by omega)) (nI_pos (by omega)) (by rw [c1, c3]; omega) (by rw [c2, c3]; omega) (fun i hi y hy => gl_E hK hI.1 (hlm.2.2 y (List.mem_of_getElem? hy))) (by show 1 ≤ d; omega) (by show 0 + (_ + 11) ≤ 60 * d; have hw : nativeFrameWords "java/lang/System" "arraycopy" 5 ≤ 20 := (by decide); omega) dJ2_fastRemove_31 (fun H3 L k3 z3 q3 l3 => ?_)
      rw [c1, c2, c3] at k3
      rw [er] at k3 q3 l3
      refine gl_frt cx hI ht hi hl z3 q3 k3 (fun q hq => ?_)
      rcases List.mem_append.mp hq with h | h
      · exact hI.2.1 q h
      · rw [l3 q h]; exact hzb.1
  exact key _ (lv_entry _ (Nat.le_of_ble_eq_true rfl))
theorem mJ2_remove {l : Launch} {G : gG} {S : gm_S} {d : Nat} (hfl : l.flags = flags0) (hd : 3 ≤ d) {a i x : Nat} (ht : gs_t S a = 16) (hi : (S.2.1 a)[i]? = some x) : gx_Met l yJ2_remove (ws_ yJ2_remove cJ2_remove 4 (Option.some (FieldType.object "java/lang/Object"))) d G S [.ref a, .int (nI i)] (.returned (some (.ref x))) (gs_L S a ((S.2.1 a).eraseIdx i)) := by
  refine gx_of hfl (by decide) (fun p e s m below meth c cx hnm hex hI => ?_)
  rw [lg_entry_eq]
  have hx := cx.1
  have hb := cx.2.1
  have hown := cx.2.2.2.1
  have hts := cx.2.2.2.2.1
  have hK := cx.2.2.2.2.2.1
  have key : ∀ ls, lv_has ls 4 [(0, .ref a), (1, .int (nI i))] → W p l e (gx_rm d S) s m ([.ref a, .int (nI i)] : List Value).toArray below meth c s.heap [] 0 0 (gx_MQ below G S (gs_L S a ((S.2.1 a).eraseIdx i)) (.returned (some (.ref x))) s) (F0 m 0 ls []) := by
    intro ls hl
    have hil : i < (S.2.1 a).length := (List.getElem?_eq_some_iff.mp hi).1
    have hlm := gl_len hI.1 ht
    refine lv_iload_n hx hb dJ2_remove_0 rfl (lv_at hl 1 rfl) ?_
    refine gr_aload_n hx hb (some a) dJ2_remove_1 rfl (lv_at hl 0 rfl) ?_
    refine gl_gZ cx hI.1 ht dJ2_remove_2 ?_
    refine gr_callR (gb_rawS (As := [.int (nI i), .int (nI (S.2.1 a).length)]) cx (Or.inl (hts _ q275)) (hts _ q276) (hts _ q88) (gl_C.code (hts _ q277)) hj_J10_checkIndex rfl rfl dJ2_remove_5) (mJ10_checkIndex hfl (by omega) (nI_pos (by omega)) (nI_lt hil (by omega))) (d := d - 1) (by omega) (Nat.le_of_ble_eq_true rfl) (gz_ws (lw_meth q277) hts) (hts _ q88) hI hK rfl (by rw [cx.2.2.1]; exact hl.1) (lv_room (m := m) (pc := 0) (ls := ls) (rest := []) (gz_cs (st := []) (Nat.le_of_ble_eq_true rfl))) (fun H locs cells slots hI => ?_)
    refine lv_pop hx hb dJ2_remove_8 rfl ?_
    refine gr_aload_n hx hb (some a) dJ2_remove_9 rfl (lv_at hl 0 rfl) ?_
    refine gl_gE cx hI.1 ht dJ2_remove_10 ?_
    refine gz_astore_n (x := some (g_row G S a)) hx hb dJ2_remove_13 rfl hl (by decide) [0, 1] rfl (gz_con ⟨gz_ne rfl, Or.inl (gz_ne rfl)⟩ (gz_con ⟨gz_ne rfl, Or.inr rfl⟩ gz_nil)) (fun ls hl => ?_)
    refine gr_aload_n hx hb (some (g_row G S a)) dJ2_remove_14 rfl (lv_at hl 0 rfl) ?_
    refine lv_iload_n hx hb dJ2_remove_15 rfl (lv_at hl 2 rfl) ?_
    refine gl_aald cx hI.1 ht hi dJ2_remove_16 ?_
    refine gz_astore_n (x := some x) hx hb dJ2_remove_17 rfl hl (by decide) [0, 1, 2] rfl (gz_con ⟨gz_ne rfl, Or.inr rfl⟩ (gz_con ⟨gz_ne rfl, Or.inl (gz_ne rfl)⟩ (gz_con ⟨gz_ne rfl, Or.inl (gz_ne rfl)⟩ gz_nil))) (fun ls hl => ?_)
    refine gr_aload_n hx hb (some a) dJ2_remove_18 rfl (lv_at hl 2 rfl) ?_
    refine gr_aload_n hx hb (some (g_row G S a)) dJ2_remove_19 rfl (lv_at hl 1 rfl) ?_
    refine lv_iload_n hx hb dJ2_remove_20 rfl (lv_at hl 3 rfl) ?_
    refine gr_callR (gb_rawV (As := [.ref (g_row G S a), .int (nI i)]) cx (Or.inl (hts _ q922)) (hts _ q924) (hts _ qs23) (gl_C.code (hts _ q925)) hj_J2_fastRemove (gr_recvL hK hI.1 ht) rfl rfl dJ2_remove_21) (mJ2_fastRemove hfl (by omega) ht hil) (d := d - 1) (by omega) (Nat.le_of_ble_eq_true rfl) (gz_ws (lw_meth q925) hts) (hts _ q77) hI hK rfl (by rw [cx.2.2.1]; exact hl.1) (lv_room (m := m) (pc := 0) (ls := ls) (rest := []) (gz_cs (st := []) (Nat.le_of_ble_eq_true rfl))) (fun H locs cells slots hI => ?_)
    refine gr_aload_n hx hb (some x) dJ2_remove_24 rfl (lv_at hl 0 rfl) ?_
    exact gr_aret (r := some x) cx (Or.inl ⟨_, rfl⟩) hI dJ2_remove_25
  exact key _ (lv_entry _ (Nat.le_of_ble_eq_true rfl))
