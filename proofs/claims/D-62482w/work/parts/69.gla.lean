/-! LAYER 1: the JDK's lists: cells, fields, rows -/
set_option maxRecDepth 100000
def g_row (G : gG) (S : gm_S) (a : Nat) : Nat := if g_cap S a = 0 then gg_e G else g_bk S a
theorem gl_open {G : gG} {S : gm_S} {H : Heap} {a : Nat} (h : gw_W G S H) (ht : gs_t S a = 16) : ∃ mc : Int32, t_OB a (gg_C G 16) 3 (gg_I G 16) H (vp_V [.int mc, .ref (g_row G S a), .int (nI (S.2.1 a).length)]) := by
  obtain ⟨mc, ⟨h1, h2, h3⟩ | ⟨h1, h2, h3, h4, -⟩⟩ := (h.2.2.2.2.2.2.2.2.1 a).2.2.1 ht
  · refine ⟨mc, ?_⟩
    unfold g_row
    rw [if_pos h1, h2]
    exact h3
  · refine ⟨mc, ?_⟩
    unfold g_row
    rw [if_neg (by omega)]
    exact h4
theorem gl_len {G : gG} {S : gm_S} {H : Heap} {a : Nat} (h : gw_W G S H) (ht : gs_t S a = 16) : (S.2.1 a).length ≤ g_cap S a ∧ g_cap S a ≤ 1000 ∧ ∀ x ∈ S.2.1 a, g_okE (gs_t S x) = true := by
  obtain ⟨mc, ⟨h1, h2, h3⟩ | ⟨h1, h2, h3, h4, h5, h6, h7, h8⟩⟩ := (h.2.2.2.2.2.2.2.2.1 a).2.2.1 ht
  · rw [h2, h1]; exact ⟨Nat.le_refl _, by omega, fun x hx => by cases hx⟩
  · exact ⟨h2, h3, h8⟩
theorem gl_c2 {G : gG} {S : gm_S} {H : Heap} {a : Nat} (h : gw_W G S H) (ht : gs_t S a = 16) : g_cap S a = 0 ∨ 2 ≤ g_cap S a := by
  obtain ⟨mc, ⟨h1, h2, h3⟩ | ⟨h1, h2, h3, h4, h5, h6, h7, h8⟩⟩ := (h.2.2.2.2.2.2.2.2.1 a).2.2.1 ht
  · exact Or.inl h1
  · exact Or.inr h1
theorem gl_full {G : gG} {S : gm_S} {H : Heap} {a : Nat} (h : gw_W G S H) (ht : gs_t S a = 16) (hc : 0 < g_cap S a) : gs_t S (g_bk S a) = 30 ∧ gm_N (S.1 5 (g_bk S a) 0) = a ∧ H[g_bk S a]? = some (arrV (gg_A G 5) (g_cap S a) (fun j => va_rf ((S.2.1 a)[j]?))) := by
  obtain ⟨mc, ⟨h1, h2, h3⟩ | ⟨h1, h2, h3, h4, h5, h6, h7, h8⟩⟩ := (h.2.2.2.2.2.2.2.2.1 a).2.2.1 ht
  · omega
  · exact ⟨h5, h6, h7⟩
theorem gl_cell {G : gG} {S : gm_S} {H : Heap} {a : Nat} {s : State} (hK : gk_K G s) (h : gw_W G S H) (ht : gs_t S a = 16) : ∃ cell : Cell, H[g_row G S a]? = some cell ∧ cell.cls = gg_A G 5 ∧ cell.slots.size.toInt32 = nI (g_cap S a) ∧ cell.vm ≠ .unknown ∧ cell.vm.isStatics = false ∧ s.isArrayOf cell (.object "java/lang/Object") := by
  unfold g_row
  by_cases hc : g_cap S a = 0
  · rw [if_pos hc, hc]
    obtain ⟨cell, h1, h2⟩ := hK.2.2.2.2.2.2.1
    exact ⟨cell, by rw [h.2.2.2.2.2.1 _ (Array.getElem?_eq_some_iff.mp h1).1]; exact h1, h2⟩
  · rw [if_neg hc]
    obtain ⟨h1, h2, h3⟩ := gl_full h ht (by omega)
    exact ⟨_, h3, rfl, by rw [arrV_size]; rfl, (fun q => by cases q), rfl, (hK.2.1 5 (by omega)).1 _ _⟩
/-- an element's class -/
theorem gl_E {G : gG} {S : gm_S} {H : Heap} {x : Nat} {s : State} (hK : gk_K G s) (h : gw_W G S H) (hx : g_okE (gs_t S x) = true) : ∃ (C : String) (cell : Cell), H[x]? = some cell ∧ cell.vm.isStatics = false ∧ s.vm.findClass C = some cell.cls ∧ ∀ comp c0 : ClassId, s.vm.findClass "java/lang/Object" = some comp → s.vm.findClass C = some c0 → s.vm.assignable c0 comp = true := by
  have go : ∀ t, gs_t S x = t → gc_ob t = true → (Cond.castable (gc_C t) "java/lang/Object") ∈ lw_tbl → ∃ (C : String) (cell : Cell), H[x]? = some cell ∧ cell.vm.isStatics = false ∧ s.vm.findClass C = some cell.cls ∧ ∀ comp c0 : ClassId, s.vm.findClass "java/lang/Object" = some comp → s.vm.findClass C = some c0 → s.vm.assignable c0 comp = true := fun t e o w => by
    obtain ⟨cell, h1, h2, h3⟩ := gr_recv hK h e o
    exact ⟨gc_C t, cell, h1, h2, h3, vb_asgC (hK.2.2.1 _ w rfl)⟩
  have : gs_t S x = 5 ∨ gs_t S x = 7 ∨ gs_t S x = 8 ∨ gs_t S x = 10 ∨ gs_t S x = 11 ∨ gs_t S x = 13 ∨ gs_t S x = 14 ∨ gs_t S x = 15 := by
    simp only [g_okE, Bool.or_eq_true, beq_iff_eq] at hx
    omega
  rcases this with e | e | e | e | e | e | e | e
  · exact go 5 e rfl q1422
  · exact go 7 e rfl q1423
  · exact go 8 e rfl q1424
  · exact go 10 e rfl q1426
  · exact go 11 e rfl q1427
  · exact go 13 e rfl q1428
  · exact go 14 e rfl q1429
  · exact go 15 e rfl q1431
/-- the list's contents are set -/
theorem gw_W.lset {G : gG} {S : gm_S} {H H' : Heap} {a : Nat} {l' : List Nat} (h : gw_W G S H) (ht : gs_t S a = 16) (hz : H'.size = H.size) (hq : ∀ q, q ≠ a → (0 < g_cap S a → q ≠ g_bk S a) → H'[q]? = H[q]?)
    (hob : ∃ mc : Int32, t_OB a (gg_C G 16) 3 (gg_I G 16) H' (vp_V [.int mc, .ref (g_row G S a), .int (nI l'.length)])) (hrow : 0 < g_cap S a → H'[g_bk S a]? = some (arrV (gg_A G 5) (g_cap S a) (fun j => va_rf (l'[j]?)))) (hlen : l'.length ≤ g_cap S a) (hel : ∀ x ∈ l', g_okE (gs_t S x) = true) : gw_W G (gs_L S a l') H' := by
  have hfull := fun hc => gl_full h ht hc
  have hl1 := gl_len h ht
  have hl2 := gl_c2 h ht
  obtain ⟨w1, w2, w3, w4, w5, w6, w7, w8, w9, w10⟩ := h
  have ha := w7 a (by rw [ht]; decide)
  have hL : ∀ b, b ≠ a → (gs_L S a l').2.1 b = S.2.1 b := fun b hb => if_neg hb
  have hLa : (gs_L S a l').2.1 a = l' := if_pos rfl
  have hat : ∀ b, b ≠ a → (0 < g_cap S a → b ≠ g_bk S a) → gw_at G (gs_L S a l') H' b := fun b hb hb2 => by
    refine (w9 b).kept (fun _ _ => rfl) (hL b hb) (fun _ => hq b hb hb2) (fun e16 hc e30 => ⟨rfl, rfl, hq _ (fun z => ?_) (fun hca z => ?_)⟩) (fun x hx => hx)
    · rw [z, ht] at e30; cases e30
    · obtain ⟨mc, ⟨h1, -⟩ | ⟨-, -, -, -, -, o1, -⟩⟩ := (w9 b).2.2.1 e16
      · omega
      · rw [z, (hfull hca).2.1] at o1
        exact hb o1.symm
  refine ⟨by rw [hz]; exact w1, w2, w3, w4, w5, fun q hq1 => ?_, w7, fun b cell hb hc => ?_, fun b => ?_, fun hf => ?_⟩
  · rw [hq q (by omega) (fun hca z => by have := w7 (g_bk S a) (by rw [(hfull hca).1]; decide); omega)]
    exact w6 q hq1
  · by_cases e : b = a
    · obtain ⟨mc, cell', r1, r2, r3, -⟩ := hob
      rw [e, r1] at hc; cases hc; exact r3
    · by_cases e2 : 0 < g_cap S a ∧ b = g_bk S a
      · rw [e2.2, hrow e2.1] at hc; cases hc; rfl
      · rw [hq b e (fun hca z => e2 ⟨hca, z⟩)] at hc
        exact w8 b cell hb hc
  · by_cases e : b = a
    · rw [e]
      have ht' : gs_t (gs_L S a l') a = 16 := ht
      refine ⟨fun t e o => ?_, fun t e o => ?_, fun _ => ?_, fun e => ?_, fun t e o1 o2 => ?_⟩
      · rw [ht'] at e; rw [← e] at o; exact absurd o (by decide)
      · rw [ht'] at e; omega
      · obtain ⟨mc, hob⟩ := hob
        refine ⟨mc, ?_⟩
        show (g_cap S a = 0 ∧ _ ∧ _) ∨ (2 ≤ g_cap S a ∧ _ ∧ g_cap S a ≤ 1000 ∧ _ ∧ gs_t S (g_bk S a) = 30 ∧ gm_N (S.1 5 (g_bk S a) 0) = a ∧ _ ∧ _)
        rw [hLa]
        by_cases hc : g_cap S a = 0
        · have hn : l' = [] := by cases l' with
            | nil => rfl
            | cons x y => rw [hc] at hlen; cases hlen
          refine Or.inl ⟨hc, hn, ?_⟩
          unfold g_row at hob
          rw [if_pos hc, hn] at hob
          exact hob
        · unfold g_row at hob
          rw [if_neg hc] at hob
          obtain ⟨f1, f2, f3⟩ := hfull (by omega)
          exact Or.inr ⟨by omega, hlen, hl1.2.1, hob, f1, f2, hrow (by omega), hel⟩
      · rw [ht'] at e; omega
      · rw [ht'] at e; omega
    · by_cases e2 : 0 < g_cap S a ∧ b = g_bk S a
      · have ht' : gs_t (gs_L S a l') b = 30 := by rw [e2.2]; exact (hfull e2.1).1
        refine ⟨fun t e o => ?_, fun t e o => ?_, fun e => ?_, fun e => ?_, fun t e o1 o2 => ?_⟩
        · rw [ht'] at e; rw [← e] at o; exact absurd o (by decide)
        · rw [ht'] at e; omega
        · rw [ht'] at e; omega
        · rw [ht'] at e; omega
        · rw [ht'] at e; omega
      · exact hat b e (fun hca z => e2 ⟨hca, z⟩)
  · refine (w10 hf).kept (fun _ _ => rfl) (fun b hb => ⟨fun _ _ => rfl, hq b (fun z => ?_) (fun hca z => ?_)⟩)
    · rw [z, ht] at hb; cases hb
    · rw [z, (hfull hca).1] at hb; cases hb
/-- nothing but the list's own count of changes is touched -/
theorem gw_W.lsame {G : gG} {S : gm_S} {H H' : Heap} {a : Nat} (h : gw_W G S H) (ht : gs_t S a = 16) (hz : H'.size = H.size) (hq : ∀ q, q ≠ a → H'[q]? = H[q]?)
    (hob : ∃ mc : Int32, t_OB a (gg_C G 16) 3 (gg_I G 16) H' (vp_V [.int mc, .ref (g_row G S a), .int (nI (S.2.1 a).length)])) : gw_W G S H' := by
  have e : gs_L S a (S.2.1 a) = S := by
    obtain ⟨M, L, r⟩ := S
    simp only [gs_L, Prod.mk.injEq, and_true, true_and]
    funext b
    by_cases hb : b = a
    · rw [if_pos hb, hb]
    · rw [if_neg hb]
  have := h.lset (H' := H') ht hz (fun q h1 _ => hq q h1) hob (fun hc => by
    obtain ⟨f1, -, f3⟩ := gl_full h ht hc
    rw [hq _ (fun z => by rw [z, ht] at f1; cases f1)]
    exact f3) (gl_len h ht).1 (gl_len h ht).2.2
  rw [e] at this
  exact this
/-- a fresh array of references -/
def g_mkA (S : gm_S) (w : Nat) (f : Nat → Option Nat) : gm_S := ((fun F b i => if b = gs_n S then (if F = 0 ∧ i = 0 then .ref 105 else if F = 1 ∧ i = 0 then .ref w else if F = 2 then va_rf (f i) else .null) else S.1 F b i), S.2.1, gs_n S + 1, gs_c S + 1, gs_k S + w)
theorem g_mkA_o {S : gm_S} {w : Nat} {f : Nat → Option Nat} {F b i : Nat} (h : b ≠ gs_n S) : (g_mkA S w f).1 F b i = S.1 F b i := if_neg h
theorem g_mkA_t {S : gm_S} {w : Nat} {f : Nat → Option Nat} : gs_t (g_mkA S w f) (gs_n S) = 105 := by simp [gs_t, g_mkA, gm_N]
theorem g_mkA_at {G : gG} {S : gm_S} {H : Heap} {w : Nat} {f : Nat → Option Nat} (h : H[gs_n S]? = some (arrV (gg_A G 5) w (fun j => va_rf (f j)))) : gw_at G (g_mkA S w f) H (gs_n S) := by
  have ht := g_mkA_t (S := S) (w := w) (f := f)
  refine ⟨fun t e o => ?_, fun t e o => ?_, fun e => ?_, fun e => ?_, fun t e o1 o2 => ?_⟩
  · rw [ht] at e; rw [← e] at o; exact absurd o (by decide)
  · rw [ht] at e
    have e5 : t = 5 := by omega
    subst e5
    rw [h]
    have e1 : gm_N ((g_mkA S w f).1 1 (gs_n S) 0) = w := by simp [g_mkA, gm_N]
    rw [e1]
    congr 2
    funext j
    have e2 : (g_mkA S w f).1 2 (gs_n S) j = va_rf (f j) := by simp [g_mkA]
    rw [e2]
    show _ = va_rf (gm_R (va_rf (f j)))
    rw [gm_R_rf]
  · rw [ht] at e; omega
  · rw [ht] at e; omega
  · rw [ht] at e; omega
theorem gl_push {G : gG} {S0 S : gm_S} {H H1 : Heap} {locs : List Loc} {cells slots w : Nat} {f : Nat → Option Nat} (hI : gw_I G S0 S H locs cells slots) (hr : g_room S w = true) (h1 : H1[gs_n S]? = some (arrV (gg_A G 5) w (fun j => va_rf (f j)))) (hz : H1.size = H.size + 1) (hq : ∀ q, q < gs_n S → H1[q]? = H[q]?) : gw_I G S0 (g_mkA S w f) H1 locs (cells + 1) (slots + w) := by
  obtain ⟨hr1, hr2⟩ := g_room_s hr
  obtain ⟨hw, hloc, hc1, hk1⟩ := hI
  refine ⟨hw.push (w := w) rfl rfl rfl hr1 hr2 (fun _ _ => rfl) (fun F b i hb => g_mkA_o hb) (by rw [hz]) (fun q h => hq q h) (fun cell hcell => ?_) (g_mkA_at h1), hloc, ?_, ?_⟩
  · rw [h1] at hcell; cases hcell; rfl
  · show gs_c S0 + (cells + 1) = gs_c S + 1; omega
  · show gs_k S0 + (slots + w) = gs_k S + w; omega
/-- its contents are set -/
theorem gl_fill {G : gG} {S0 S : gm_S} {H H1 : Heap} {locs L : List Loc} {cells slots w : Nat} {f g : Nat → Option Nat} (hI : gw_I G S0 (g_mkA S w f) H locs cells slots) (h1 : H1[gs_n S]? = some (arrV (gg_A G 5) w (fun j => va_rf (g j)))) (hz : H1.size = H.size) (hq : ∀ q, q ≠ gs_n S → H1[q]? = H[q]?) (hL : ∀ q ∈ L, q.base = gs_n S) : gw_I G S0 (g_mkA S w g) H1 (locs ++ L) cells slots := by
  obtain ⟨hw, hloc, hc1, hk1⟩ := hI
  have ht := g_mkA_t (S := S) (w := w) (f := f)
  have ht' := g_mkA_t (S := S) (w := w) (f := g)
  have hb := hw.2.2.2.2.2.2.1 (gs_n S) (by rw [ht]; decide)
  refine ⟨hw.one (a := gs_n S) rfl (fun _ _ => rfl) (fun F b i hb => (g_mkA_o hb).trans (g_mkA_o hb).symm) (Or.inl (ht'.trans ht.symm)) (by rw [ht]; decide) (by rw [ht]; decide) (by rw [ht]; decide) hz hq (fun cell hcell => ?_) (g_mkA_at h1), fun q hq' => ?_, hc1, hk1⟩
  · rw [h1] at hcell; cases hcell; rfl
  · rcases List.mem_append.mp hq' with h | h
    · exact hloc q h
    · rw [hL q h]; exact hb.1
/-- the grown state -/
def g_gw (S : gm_S) (a w : Nat) : gm_S := gs_put (gs_put (gs_put (g_mk S 30 w) 5 (gs_n S) 0 (.ref a)) 3 a 0 (.ref w)) 4 a 0 (.ref (gs_n S))
theorem g_gw_o {S : gm_S} {a w F b i : Nat} (h1 : b ≠ gs_n S) (h2 : b ≠ a) : (g_gw S a w).1 F b i = S.1 F b i := by
  show gm_st (gm_st (gm_st (gm_fresh S.1 (gs_n S) 30) 5 (gs_n S) 0 (.ref a)) 3 a 0 (.ref w)) 4 a 0 (.ref (gs_n S)) F b i = _
  rw [gm_st_a h2, gm_st_a h2, gm_st_a h1, gm_fresh_o h1]
theorem g_gw_tn {S : gm_S} {a w : Nat} : gs_t (g_gw S a w) (gs_n S) = 30 := by
  show gm_N (gm_st (gm_st (gm_st (gm_fresh S.1 (gs_n S) 30) 5 (gs_n S) 0 (.ref a)) 3 a 0 (.ref w)) 4 a 0 (.ref (gs_n S)) 0 (gs_n S) 0) = 30
  rw [gm_st_F (by omega), gm_st_F (by omega), gm_st_F (by omega)]; simp [gm_fresh, gm_N]
theorem g_gw_on {S : gm_S} {a w : Nat} : gm_N ((g_gw S a w).1 5 (gs_n S) 0) = a := by
  show gm_N (gm_st (gm_st (gm_st (gm_fresh S.1 (gs_n S) 30) 5 (gs_n S) 0 (.ref a)) 3 a 0 (.ref w)) 4 a 0 (.ref (gs_n S)) 5 (gs_n S) 0) = a
  rw [gm_st_F (by omega), gm_st_F (by omega), gm_st_e]; rfl
theorem g_gw_ta {S : gm_S} {a w : Nat} (hna : a ≠ gs_n S) : gs_t (g_gw S a w) a = gs_t S a := by
  show gm_N (gm_st (gm_st (gm_st (gm_fresh S.1 (gs_n S) 30) 5 (gs_n S) 0 (.ref a)) 3 a 0 (.ref w)) 4 a 0 (.ref (gs_n S)) 0 a 0) = _
  rw [gm_st_F (by omega), gm_st_F (by omega), gm_st_F (by omega), gm_fresh_o hna]; rfl
theorem g_gw_ca {S : gm_S} {a w : Nat} : g_cap (g_gw S a w) a = w := by
  show gm_N (gm_st (gm_st (gm_st (gm_fresh S.1 (gs_n S) 30) 5 (gs_n S) 0 (.ref a)) 3 a 0 (.ref w)) 4 a 0 (.ref (gs_n S)) 3 a 0) = w
  rw [gm_st_F (by omega), gm_st_e]; rfl
theorem g_gw_ba {S : gm_S} {a w : Nat} : g_bk (g_gw S a w) a = gs_n S := by
  show gm_N (gm_st (gm_st (gm_st (gm_fresh S.1 (gs_n S) 30) 5 (gs_n S) 0 (.ref a)) 3 a 0 (.ref w)) 4 a 0 (.ref (gs_n S)) 4 a 0) = _
  rw [gm_st_e]; rfl
theorem gl_att {G : gG} {S0 S : gm_S} {H H1 : Heap} {locs : List Loc} {cells slots w a k : Nat} (hI : gw_I G S0 (g_mkA S w (fun j => (S.2.1 a)[j]?)) H locs cells slots) (ht : gs_t S a = 16) (ha : a < gs_n S) (hlen : (S.2.1 a).length ≤ w) (hw0 : 2 ≤ w) (hw1 : w ≤ 1000) (hel : ∀ x ∈ S.2.1 a, g_okE (gs_t S x) = true) (hX : ∀ x, gs_t S x ≠ 0 → x < gs_n S) (hz : H1.size = H.size) (hq : ∀ q, q ≠ a → H1[q]? = H[q]?)
    (hob : ∃ mc : Int32, t_OB a (gg_C G 16) 3 (gg_I G 16) H1 (vp_V [.int mc, .ref (gs_n S), .int (nI (S.2.1 a).length)])) : gw_I G S0 (g_gw S a w) H1 (locs ++ [⟨a, k⟩]) cells slots := by
  obtain ⟨hw, hloc, hc1, hk1⟩ := hI
  have hna : a ≠ gs_n S := by omega
  have htn := g_mkA_t (S := S) (w := w) (f := fun j => (S.2.1 a)[j]?)
  have hta : gs_t (g_mkA S w (fun j => (S.2.1 a)[j]?)) a = 16 := by unfold gs_t; rw [g_mkA_o hna]; exact ht
  have t_n := g_gw_tn (S := S) (a := a) (w := w)
  have o_n := g_gw_on (S := S) (a := a) (w := w)
  have t_a := (g_gw_ta (w := w) hna).trans ht
  have c_a := g_gw_ca (S := S) (a := a) (w := w)
  have b_a := g_gw_ba (S := S) (a := a) (w := w)
  have oth : ∀ F b i, b ≠ gs_n S → b ≠ a → (g_gw S a w).1 F b i = (g_mkA S w (fun j => (S.2.1 a)[j]?)).1 F b i := fun F b i h1 h2 => (g_gw_o h1 h2).trans (g_mkA_o h1).symm
  have oE : ∀ x, g_okE (gs_t (g_mkA S w (fun j => (S.2.1 a)[j]?)) x) = true → g_okE (gs_t (g_gw S a w) x) = true := fun x hx => by
    by_cases e1 : x = gs_n S
    · rw [e1, htn] at hx; exact absurd hx (by decide)
    · by_cases e2 : x = a
      · rw [e2, hta] at hx; exact absurd hx (by decide)
      · unfold gs_t at hx ⊢; rw [oth _ _ _ e1 e2]; exact hx
  obtain ⟨w1, w2, w3, w4, w5, w6, w7, w8, w9, w10⟩ := hw
  have hza := w7 a (by rw [hta]; decide)
  refine ⟨⟨by rw [hz]; exact w1, w2, w3, w4, w5, fun q hq1 => ?_, fun b hb => ?_, fun b cell hb hc => ?_, fun b => ?_, fun hf => ?_⟩, fun q hq' => ?_, hc1, hk1⟩
  · rw [hq q (by omega)]; exact w6 q hq1
  · show gg_z G ≤ b ∧ b < gs_n S + 1
    have w7 : ∀ a_1, gs_t (g_mkA S w (fun j => (S.2.1 a)[j]?)) a_1 ≠ 0 → gg_z G ≤ a_1 ∧ a_1 < gs_n S + 1 := w7
    by_cases e1 : b = gs_n S
    · rw [e1]; exact w7 _ (by rw [htn]; decide)
    · by_cases e2 : b = a
      · rw [e2]; exact w7 _ (by rw [hta]; decide)
      · refine w7 b ?_
        unfold gs_t at hb ⊢; rw [← oth _ _ _ e1 e2]; exact hb
  · by_cases e : b = a
    · obtain ⟨mc, cell', r1, r2, r3, -⟩ := hob
      rw [e, r1] at hc; cases hc; exact r3
    · rw [hq b e] at hc
      exact w8 b cell hb hc
  · by_cases e1 : b = gs_n S
    · rw [e1]
      refine ⟨fun t e o => ?_, fun t e o => ?_, fun e => ?_, fun e => ?_, fun t e o1 o2 => ?_⟩
      · rw [t_n] at e; rw [← e] at o; exact absurd o (by decide)
      · rw [t_n] at e; omega
      · rw [t_n] at e; omega
      · rw [t_n] at e; omega
      · rw [t_n] at e; omega
    · by_cases e2 : b = a
      · rw [e2]
        refine ⟨fun t e o => ?_, fun t e o => ?_, fun _ => ?_, fun e => ?_, fun t e o1 o2 => ?_⟩
        · rw [t_a] at e; rw [← e] at o; exact absurd o (by decide)
        · rw [t_a] at e; omega
        · obtain ⟨mc, hob⟩ := hob
          refine ⟨mc, Or.inr ?_⟩
          rw [c_a, b_a]
          refine ⟨hw0, hlen, hw1, hob, t_n, o_n, ?_, fun x hx => oE x ?_⟩
          · rw [hq _ (Ne.symm hna)]
            have h9 := (w9 (gs_n S)).2.1 5 htn (by omega)
            have e1' : gm_N ((g_mkA S w (fun j => (S.2.1 a)[j]?)).1 1 (gs_n S) 0) = w := by simp [g_mkA, gm_N]
            rw [e1'] at h9
            rw [h9]
            congr 2
            funext j
            have e2' : (g_mkA S w (fun j => (S.2.1 a)[j]?)).1 2 (gs_n S) j = va_rf ((S.2.1 a)[j]?) := by simp [g_mkA]
            rw [e2']
            show va_rf (gm_R (va_rf ((S.2.1 a)[j]?))) = _
            rw [gm_R_rf]
            rfl
          · have := hel x hx
            have hxn : x ≠ gs_n S := fun z => by
              have hx0 : gs_t S x ≠ 0 := fun z0 => by rw [z0] at this; exact absurd this (by decide)
              exact absurd (hX x hx0) (by omega)
            unfold gs_t at this ⊢; rw [g_mkA_o hxn]; exact this
        · rw [t_a] at e; omega
        · rw [t_a] at e; omega
      · refine (w9 b).kept (fun F i => oth F b i e1 e2) rfl (fun _ => hq b e2) (fun _ _ e30 => ?_) oE
        have r1 : g_bk (g_mkA S w (fun j => (S.2.1 a)[j]?)) b ≠ gs_n S := fun z => by rw [z, htn] at e30; cases e30
        have r2 : g_bk (g_mkA S w (fun j => (S.2.1 a)[j]?)) b ≠ a := fun z => by rw [z, hta] at e30; cases e30
        refine ⟨?_, ?_, hq _ r2⟩
        · unfold gs_t; rw [oth _ _ _ r1 r2]
        · rw [oth _ _ _ r1 r2]
  · refine (w10 hf).kept (fun F i => oth F 0 i ?_ ?_) (fun b hb => ?_)
    · omega
    · omega
    · have r1 : b ≠ gs_n S := fun z => by rw [z, htn] at hb; cases hb
      have r2 : b ≠ a := fun z => by rw [z, hta] at hb; cases hb
      exact ⟨fun F i => oth F b i r1 r2, hq b r2⟩
  · rcases List.mem_append.mp hq' with h | h
    · exact hloc q h
    · rw [List.mem_singleton.mp h]; exact hza.1
