/-! LAYER 1, base: which heap holds an abstract state -/
set_option maxRecDepth 100000
def gc_C (t : Nat) : String := match t with
  | 1 => RX1 | 2 => RX2 | 3 => RX3 | 4 => RX4 | 5 => RX5 | 7 => RX7 | 8 => RX8 | 9 => RX9 | 10 => RX10 | 11 => RX11 | 13 => RX13 | 14 => RX14 | 15 => RX15 | 16 => RJ2 | 17 => RJ6 | 18 => RJ12 | _ => RJ13
def gc_T (t : Nat) : u_T := match t with
  | 1 => TX1 | 2 => TX2 | 3 => TX3 | 4 => TX4 | 5 => TX5 | 7 => TX7 | 8 => TX8 | 9 => TX9 | 10 => TX10 | 11 => TX11 | 13 => TX13 | 14 => TX14 | 15 => TX15 | 16 => TJ2 | 17 => TJ6 | 18 => TJ12 | _ => TJ13
def gc_N (t : Nat) : Nat := match t with
  | 1 => 5 | 2 => 8 | 3 => 14 | 4 => 62 | 5 => 10 | 7 => 2 | 8 => 3 | 9 => 2 | 10 => 8 | 11 => 4 | 13 => 2 | 14 => 4 | 15 => 2 | 16 => 3 | 17 => 6 | 18 => 6 | _ => 6
def gc_y (t : Nat) : Nat → FieldType := match t with
  | 1 => tyX1 | 2 => tyX2 | 3 => tyX3 | 4 => tyX4 | 5 => tyX5 | 7 => tyX7 | 8 => tyX8 | 9 => tyX9 | 10 => tyX10 | 11 => tyX11 | 13 => tyX13 | 14 => tyX14 | 15 => tyX15 | 16 => tyJ2 | 17 => tyJ6 | 18 => tyJ12 | _ => tyJ13
theorem gc_in (t : Nat) : ∀ w ∈ u_ws (gc_C t) (gc_T t) (gc_N t), w ∈ lw_all := by
  unfold gc_C gc_T gc_N
  split
  · exact in_X1
  · exact in_X2
  · exact in_X3
  · exact in_X4
  · exact in_X5
  · exact in_X7
  · exact in_X8
  · exact in_X9
  · exact in_X10
  · exact in_X11
  · exact in_X13
  · exact in_X14
  · exact in_X15
  · exact in_J2
  · exact in_J6
  · exact in_J12
  · exact in_J13
theorem gc_nm (t : Nat) : ∀ a, a < gc_N t → ∀ b, b < gc_N t → a ≠ b → (gc_T t a).2.1 ≠ (gc_T t b).2.1 := by
  unfold gc_T gc_N
  split
  · exact nmX1
  · exact nmX2
  · exact nmX3
  · exact nmX4
  · exact nmX5
  · exact nmX7
  · exact nmX8
  · exact nmX9
  · exact nmX10
  · exact nmX11
  · exact nmX13
  · exact nmX14
  · exact nmX15
  · exact nmJ2
  · exact nmJ6
  · exact nmJ12
  · exact nmJ13
theorem gc_yok (t : Nat) : ∀ k, k < gc_N t → parseFieldDescriptor (gc_T t k).2.2.1 = some (gc_y t k) := by
  unfold gc_T gc_N gc_y
  split
  · exact tyX1_ok
  · exact tyX2_ok
  · exact tyX3_ok
  · exact tyX4_ok
  · exact tyX5_ok
  · exact tyX7_ok
  · exact tyX8_ok
  · exact tyX9_ok
  · exact tyX10_ok
  · exact tyX11_ok
  · exact tyX13_ok
  · exact tyX14_ok
  · exact tyX15_ok
  · exact tyJ2_ok
  · exact tyJ6_ok
  · exact tyJ12_ok
  · exact tyJ13_ok
/-- the tags of plain objects -/
def gc_ob (t : Nat) : Bool := t == 1 || t == 2 || t == 3 || t == 4 || t == 5 || t == 7 || t == 8 || t == 9 || t == 10 || t == 11 || t == 13 || t == 14 || t == 15
def ga_ty (t : Nat) : FieldType := match t with
  | 0 => .int | 1 => .char | 2 => .double | 3 => .boolean | 4 => .long | _ => .object "java/lang/Object"
/-- the context: class numbers, slots, array classes, the heap at the law's start, the shared empty row, the model's object and its arrays, whether the model is there -/
abbrev gG : Type := (Nat → ClassId) × (Nat → Nat → Nat) × (Nat → ClassId) × Heap × Nat × Nat × (Nat → Nat) × Bool
abbrev gg_C (G : gG) : Nat → ClassId := G.1
abbrev gg_I (G : gG) : Nat → Nat → Nat := G.2.1
abbrev gg_A (G : gG) : Nat → ClassId := G.2.2.1
abbrev gg_H (G : gG) : Heap := G.2.2.2.1
abbrev gg_e (G : gG) : Nat := G.2.2.2.2.1
abbrev gg_o (G : gG) : Nat := G.2.2.2.2.2.1
abbrev gg_m (G : gG) : Nat → Nat := G.2.2.2.2.2.2.1
abbrev gg_f (G : gG) : Bool := G.2.2.2.2.2.2.2
abbrev gg_z (G : gG) : Nat := (gg_H G).size
/-- the model's fields: arrays, their kinds and lengths -/
def gx_arr (k : Nat) : Bool := match tyX4 k with
  | .array _ => true
  | _ => false
def gx_ak (k : Nat) : Nat := match tyX4 k with
  | .array .char => 1
  | .array .double => 2
  | .array .boolean => 3
  | _ => 0
def gx_al (k : Nat) : Nat := match k with
  | 3 => 160 | 9 => 2 | 10 => 2 | 11 => 2 | 12 => 2 | 13 => 2 | 14 => 32 | 15 => 32 | 16 => 32 | 17 => 32 | 18 => 48 | 19 => 48 | 20 => 48 | 21 => 48 | 22 => 48 | 23 => 128 | 24 => 128 | 25 => 128 | 26 => 128 | 27 => 128 | 28 => 128 | 29 => 128 | 30 => 128 | 31 => 128 | 32 => 128
  | 33 => 96 | 34 => 96 | 35 => 96 | 36 => 96 | 37 => 96 | 42 => 6 | 43 => 16 | 44 => 16 | 46 => 10 | 48 => 8 | 49 => 8 | 54 => 100 | 56 => 24 | 57 => 24 | 58 => 24 | 59 => 24 | _ => 20
def gw_list (G : gG) (S : gm_S) (H : Heap) (a : Nat) : Prop := ∃ mc : Int32,
  (g_cap S a = 0 ∧ S.2.1 a = [] ∧ t_OB a (gg_C G 16) 3 (gg_I G 16) H (vp_V [.int mc, .ref (gg_e G), .int 0])) ∨
  (2 ≤ g_cap S a ∧ (S.2.1 a).length ≤ g_cap S a ∧ g_cap S a ≤ 1000 ∧ t_OB a (gg_C G 16) 3 (gg_I G 16) H (vp_V [.int mc, .ref (g_bk S a), .int (nI (S.2.1 a).length)]) ∧ gs_t S (g_bk S a) = 30 ∧ gm_N (S.1 5 (g_bk S a) 0) = a ∧
    H[g_bk S a]? = some (arrV (gg_A G 5) (g_cap S a) (fun j => va_rf ((S.2.1 a)[j]?))) ∧ ∀ x ∈ S.2.1 a, g_okE (gs_t S x) = true)
def gw_at (G : gG) (S : gm_S) (H : Heap) (a : Nat) : Prop :=
  (∀ t, gs_t S a = t → gc_ob t = true → t_OB a (gg_C G t) (gc_N t) (gg_I G t) H (fun k => gm_V (gc_y t k) (S.1 (100 * t + k) a 0))) ∧
  (∀ t, gs_t S a = 100 + t → t < 6 → H[a]? = some (arrV (gg_A G t) (gm_N (S.1 1 a 0)) (fun j => gm_V (ga_ty t) (S.1 2 a j)))) ∧
  (gs_t S a = 16 → gw_list G S H a) ∧
  (gs_t S a = 32 → t_OB a (gg_C G 16) 3 (gg_I G 16) H (vp_V [.int 0, .null, .int 0]) ∧ g_cap S a = 0) ∧
  (∀ t, gs_t S a = t → 17 ≤ t → t ≤ 19 → t_OB a (gg_C G t) 0 (gg_I G t) H (fun _ => .null))
def gw_mod (G : gG) (S : gm_S) (H : Heap) : Prop :=
  gs_t S (gg_o G) = 31 ∧ gm_N (S.1 6 (gg_o G) 0) = 100 ∧ (∀ k, k < 62 → gx_arr k = true → gs_t S (gg_m G k) = 31 ∧ gm_N (S.1 6 (gg_m G k) 0) = k) ∧
  t_OB (gg_o G) (gg_C G 4) 62 (gg_I G 4) H (fun k => if gx_arr k = true then .ref (gg_m G k) else gm_V (tyX4 k) (S.1 (400 + k) 0 0)) ∧
  ∀ k, k < 62 → gx_arr k = true → H[gg_m G k]? = some (arrV (gg_A G (gx_ak k)) (gx_al k) (fun j => gm_V (ga_ty (gx_ak k)) (S.1 (400 + k) 0 j)))
def gw_W (G : gG) (S : gm_S) (H : Heap) : Prop :=
  H.size = gs_n S ∧ gg_z G + gs_c S = gs_n S ∧ gs_c S ≤ 600096 ∧ gs_k S ≤ 7301386 ∧ 0 < gg_z G ∧ (∀ q, q < gg_z G → H[q]? = (gg_H G)[q]?) ∧
  (∀ a, gs_t S a ≠ 0 → gg_z G ≤ a ∧ a < gs_n S) ∧ (∀ a cell, gg_z G ≤ a → H[a]? = some cell → cell.vm = .none) ∧ (∀ a, gw_at G S H a) ∧ (gg_f G = true → gw_mod G S H)
/-- in a walk: what was written so far, cells and slots made since the method's start S0 -/
def gw_I (G : gG) (S0 S : gm_S) (H : Heap) (locs : List Loc) (cells slots : Nat) : Prop :=
  gw_W G S H ∧ (∀ q ∈ locs, gg_z G ≤ q.base) ∧ gs_c S0 + cells = gs_c S ∧ gs_k S0 + slots = gs_k S
theorem gw_list.kept {G : gG} {S S' : gm_S} {H H' : Heap} {b : Nat} (h : gw_list G S H b) (hc : g_cap S' b = g_cap S b) (hbk : g_bk S' b = g_bk S b) (hl : S'.2.1 b = S.2.1 b) (hb : H'[b]? = H[b]?)
    (hr : 0 < g_cap S b → gs_t S' (g_bk S b) = gs_t S (g_bk S b) ∧ gm_N (S'.1 5 (g_bk S b) 0) = gm_N (S.1 5 (g_bk S b) 0) ∧ H'[g_bk S b]? = H[g_bk S b]?)
    (he : ∀ x ∈ S.2.1 b, g_okE (gs_t S x) = true → g_okE (gs_t S' x) = true) : gw_list G S' H' b := by
  obtain ⟨mc, h⟩ := h
  refine ⟨mc, ?_⟩
  rw [hc, hbk, hl]
  rcases h with ⟨h1, h2, h3⟩ | ⟨h1, h2, h3, h4, h5, h6, h7, h8⟩
  · exact Or.inl ⟨h1, h2, h3.kept hb⟩
  · obtain ⟨r1, r2, r3⟩ := hr (by omega)
    exact Or.inr ⟨h1, h2, h3, h4.kept hb, r1.trans h5, r2.trans h6, r3.trans h7, fun x hx => he x hx (h8 x hx)⟩
/-- another cell's picture stays when nothing of it was touched -/
theorem gw_at.kept {G : gG} {S S' : gm_S} {H H' : Heap} {b : Nat} (h : gw_at G S H b) (hM : ∀ F i, S'.1 F b i = S.1 F b i) (hl : S'.2.1 b = S.2.1 b) (hb : gs_t S b ≠ 0 → H'[b]? = H[b]?)
    (hr : gs_t S b = 16 → 0 < g_cap S b → gs_t S (g_bk S b) = 30 → gs_t S' (g_bk S b) = gs_t S (g_bk S b) ∧ gm_N (S'.1 5 (g_bk S b) 0) = gm_N (S.1 5 (g_bk S b) 0) ∧ H'[g_bk S b]? = H[g_bk S b]?)
    (he : ∀ x, g_okE (gs_t S x) = true → g_okE (gs_t S' x) = true) : gw_at G S' H' b := by
  have ht : gs_t S' b = gs_t S b := by unfold gs_t; rw [hM]
  obtain ⟨h1, h2, h3, h4, h5⟩ := h
  refine ⟨fun t e o => ?_, fun t e o => ?_, fun e => ?_, fun e => ?_, fun t e o1 o2 => ?_⟩
  · rw [ht] at e
    refine ((h1 t e o).kept (hb ?_)).to (fun k _ => by rw [hM])
    rw [e]; intro z; rw [z] at o; exact absurd o (by decide)
  · rw [ht] at e
    rw [hb (by rw [e]; omega), h2 t e o, hM]
    congr 2
    funext j
    rw [hM]
  · rw [ht] at e
    have hx := h3 e
    refine hx.kept (by unfold g_cap; rw [hM]) (by unfold g_bk; rw [hM]) hl (hb (by rw [e]; omega)) (fun hc => ?_) (fun x _ hx => he x hx)
    obtain ⟨mc, z | ⟨z1, z2, z3, z4, z5, z6⟩⟩ := hx
    · omega
    · exact hr e hc z5
  · rw [ht] at e
    exact ⟨(h4 e).1.kept (hb (by rw [e]; omega)), by unfold g_cap; rw [hM]; exact (h4 e).2⟩
  · rw [ht] at e
    exact (h5 t e o1 o2).kept (hb (by rw [e]; omega))
theorem gw_mod.kept {G : gG} {S S' : gm_S} {H H' : Heap} (h : gw_mod G S H) (h0 : ∀ F i, S'.1 F 0 i = S.1 F 0 i) (ht : ∀ b, gs_t S b = 31 → (∀ F i, S'.1 F b i = S.1 F b i) ∧ H'[b]? = H[b]?) : gw_mod G S' H' := by
  obtain ⟨h1, h2, h3, h4, h5⟩ := h
  have t' : ∀ b, gs_t S b = 31 → gs_t S' b = 31 := fun b hb => by unfold gs_t; rw [(ht b hb).1]; exact hb
  refine ⟨t' _ h1, by rw [(ht _ h1).1]; exact h2, fun k hk ha => ?_, (h4.kept (ht _ h1).2).to (fun k _ => by rw [h0]), fun k hk ha => ?_⟩
  · obtain ⟨r1, r2⟩ := h3 k hk ha
    exact ⟨t' _ r1, by rw [(ht _ r1).1]; exact r2⟩
  · obtain ⟨r1, r2⟩ := h3 k hk ha
    rw [(ht _ r1).2, h5 k hk ha]
    congr 2
    funext j
    rw [h0]
/-- one cell changes, its tag stays (or a raw list becomes a list) -/
theorem gw_W.one {G : gG} {S S' : gm_S} {H H' : Heap} {a : Nat} (h : gw_W G S H) (h3 : S'.2.2 = S.2.2) (hL : ∀ b, b ≠ a → S'.2.1 b = S.2.1 b) (hM : ∀ F b i, b ≠ a → S'.1 F b i = S.1 F b i)
    (ht : gs_t S' a = gs_t S a ∨ (gs_t S a = 32 ∧ gs_t S' a = 16)) (h0 : gs_t S a ≠ 0) (h30 : gs_t S a ≠ 30) (h31 : gs_t S a ≠ 31) (hz : H'.size = H.size) (hq : ∀ q, q ≠ a → H'[q]? = H[q]?)
    (hv : ∀ cell, H'[a]? = some cell → cell.vm = .none) (hat : gw_at G S' H' a) : gw_W G S' H' := by
  obtain ⟨w1, w2, w3, w4, w5, w6, w7, w8, w9, w10⟩ := h
  have ha := w7 a h0
  have htag : ∀ b, b ≠ a → gs_t S' b = gs_t S b := fun b hb => by unfold gs_t; rw [hM _ _ _ hb]
  refine ⟨?_, ?_, ?_, ?_, w5, fun q hq1 => ?_, fun b hb => ?_, fun b cell hb hc => ?_, fun b => ?_, fun hf => ?_⟩
  · rw [hz, w1]; unfold gs_n; rw [h3]
  · show gg_z G + S'.2.2.2.1 = S'.2.2.1
    rw [h3]; exact w2
  · show S'.2.2.2.1 ≤ _
    rw [h3]; exact w3
  · show S'.2.2.2.2 ≤ _
    rw [h3]; exact w4
  · rw [hq q (by omega)]; exact w6 q hq1
  · have hn : gs_n S' = gs_n S := by show S'.2.2.1 = _; rw [h3]
    rw [hn]
    by_cases e : b = a
    · rw [e]; exact ha
    · rw [htag b e] at hb
      exact w7 b hb
  · by_cases e : b = a
    · rw [e] at hc; exact hv cell hc
    · rw [hq b e] at hc
      exact w8 b cell hb hc
  · by_cases e : b = a
    · rw [e]; exact hat
    · refine (w9 b).kept (fun F i => hM F b i e) (hL b e) (fun _ => hq b e) (fun _ _ e30 => ?_) (fun x hx => ?_)
      · have hne : g_bk S b ≠ a := fun z => h30 (by rw [← z]; exact e30)
        exact ⟨htag _ hne, by rw [hM _ _ _ hne], hq _ hne⟩
      · by_cases ex : x = a
        · rcases ht with ht | ⟨ht, -⟩
          · rw [ex, ht, ← ex]; exact hx
          · rw [ex, ht] at hx; exact absurd hx (by decide)
        · rw [htag x ex]; exact hx
  · refine (w10 hf).kept (fun F i => hM F 0 i (by omega)) (fun b hb => ?_)
    have hne : b ≠ a := fun z => h31 (by rw [← z]; exact hb)
    exact ⟨fun F i => hM F b i hne, hq b hne⟩
/-- a new cell at the end -/
theorem gw_W.push {G : gG} {S S' : gm_S} {H H' : Heap} {w : Nat} (h : gw_W G S H) (hn : gs_n S' = gs_n S + 1) (hc : gs_c S' = gs_c S + 1) (hk : gs_k S' = gs_k S + w) (hc1 : gs_c S < 600096) (hk1 : gs_k S + w ≤ 7301386)
    (hL : ∀ b, b ≠ gs_n S → S'.2.1 b = S.2.1 b) (hM : ∀ F b i, b ≠ gs_n S → S'.1 F b i = S.1 F b i) (hz : H'.size = H.size + 1) (hq : ∀ q, q < gs_n S → H'[q]? = H[q]?)
    (hv : ∀ cell, H'[gs_n S]? = some cell → cell.vm = .none) (hat : gw_at G S' H' (gs_n S)) : gw_W G S' H' := by
  obtain ⟨w1, w2, w3, w4, w5, w6, w7, w8, w9, w10⟩ := h
  have htag : ∀ b, b ≠ gs_n S → gs_t S' b = gs_t S b := fun b hb => by unfold gs_t; rw [hM _ _ _ hb]
  have hlt : ∀ b, gs_t S b ≠ 0 → b ≠ gs_n S := fun b hb => by have := w7 b hb; omega
  refine ⟨by omega, by omega, by omega, by omega, w5, fun q hq1 => ?_, fun b hb => ?_, fun b cell hb hcell => ?_, fun b => ?_, fun hf => ?_⟩
  · rw [hq q (by omega)]; exact w6 q hq1
  · by_cases e : b = gs_n S
    · rw [e, hn]; omega
    · rw [htag b e] at hb
      have := w7 b hb
      rw [hn]; omega
  · by_cases e : b = gs_n S
    · rw [e] at hcell; exact hv cell hcell
    · have hlt2 : b < H'.size := (Array.getElem?_eq_some_iff.mp hcell).1
      rw [hq b (by omega)] at hcell
      exact w8 b cell hb hcell
  · by_cases e : b = gs_n S
    · rw [e]; exact hat
    · refine (w9 b).kept (fun F i => hM F b i e) (hL b e) (fun h0 => hq b (w7 b h0).2) (fun _ _ e30 => ?_) (fun x hx => ?_)
      · have h0 : gs_t S (g_bk S b) ≠ 0 := by rw [e30]; decide
        exact ⟨htag _ (hlt _ h0), by rw [hM _ _ _ (hlt _ h0)], hq _ (w7 _ h0).2⟩
      · have h0 : gs_t S x ≠ 0 := fun z => by rw [z] at hx; exact absurd hx (by decide)
        rw [htag x (hlt x h0)]; exact hx
  · refine (w10 hf).kept (fun F i => hM F 0 i (by omega)) (fun b hb => ?_)
    have h0 : gs_t S b ≠ 0 := by rw [hb]; decide
    exact ⟨fun F i => hM F b i (hlt b h0), hq b (w7 b h0).2⟩
