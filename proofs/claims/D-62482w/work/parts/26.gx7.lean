/-! LAYER 1, base: the model's own cells -/
set_option maxRecDepth 100000
theorem gw_W.modl {G : gG} {S S' : gm_S} {H H' : Heap} {a : Nat} (h : gw_W G S H) (h2 : S'.2 = S.2) (hM : ∀ F b i, ¬ (b = 0 ∧ 400 ≤ F) → S'.1 F b i = S.1 F b i) (ha : gs_t S a = 31) (hz : H'.size = H.size) (hq : ∀ q, q ≠ a → H'[q]? = H[q]?)
    (hv : ∀ cell, H'[a]? = some cell → cell.vm = .none) (hmod : gw_mod G S' H') : gw_W G S' H' := by
  obtain ⟨w1, w2, w3, w4, w5, w6, w7, w8, w9, w10⟩ := h
  have ha7 := w7 a (by rw [ha]; decide)
  have htag : ∀ b, gs_t S' b = gs_t S b := fun b => by unfold gs_t; rw [hM _ _ _ (by omega)]
  have t0 : gs_t S 0 = 0 := by
    by_cases e : gs_t S 0 = 0
    · exact e
    · have := w7 0 e; omega
  refine ⟨?_, ?_, ?_, ?_, w5, fun q hq1 => ?_, fun b hb => ?_, fun b cell hb hc => ?_, fun b => ?_, fun _ => hmod⟩
  · rw [hz, w1]; unfold gs_n; rw [h2]
  · show gg_z G + S'.2.2.2.1 = S'.2.2.1
    rw [h2]; exact w2
  · show S'.2.2.2.1 ≤ _
    rw [h2]; exact w3
  · show S'.2.2.2.2 ≤ _
    rw [h2]; exact w4
  · rw [hq q (by omega)]; exact w6 q hq1
  · have hn : gs_n S' = gs_n S := by show S'.2.2.1 = _; rw [h2]
    rw [hn]
    rw [htag b] at hb
    exact w7 b hb
  · by_cases e : b = a
    · rw [e] at hc; exact hv cell hc
    · rw [hq b e] at hc
      exact w8 b cell hb hc
  · by_cases e0 : b = 0
    · subst e0
      have hz0 : gs_t S' 0 = 0 := by rw [htag, t0]
      refine ⟨fun t' e o => ?_, fun t' e o => ?_, fun e => ?_, fun e => ?_, fun t' e o1 o2 => ?_⟩
      · rw [hz0] at e; rw [← e] at o; exact absurd o (by decide)
      · rw [hz0] at e; omega
      · rw [hz0] at e; omega
      · rw [hz0] at e; omega
      · rw [hz0] at e; omega
    · by_cases e : b = a
      · have hz0 : gs_t S' b = 31 := by rw [htag, e, ha]
        refine ⟨fun t' e o => ?_, fun t' e o => ?_, fun e => ?_, fun e => ?_, fun t' e o1 o2 => ?_⟩
        · rw [hz0] at e; rw [← e] at o; exact absurd o (by decide)
        · rw [hz0] at e; omega
        · rw [hz0] at e; omega
        · rw [hz0] at e; omega
        · rw [hz0] at e; omega
      · refine (w9 b).kept (fun F i => hM F b i (by omega)) (by rw [h2]) (fun _ => hq b e) (fun _ _ e30 => ?_) (fun x hx => by rw [htag x]; exact hx)
        have hne : g_bk S b ≠ a := fun z => by rw [z, ha] at e30; exact absurd e30 (by decide)
        exact ⟨htag _, by rw [hM _ _ _ (by omega)], hq _ hne⟩
theorem gx_4 {k : Nat} : gc_T 4 k = TX4 k := rfl
section GM
variable {p : Program} {l : Launch} {e : Env} {R : Room} {s : State} {m : MethodId} {args : Array Value} {below : List Frame} {meth : Method} {c : Code} {H : Heap} {locs : List Loc} {cells slots : Nat} {Q : State → Prop}
variable {cc : ByteArray} {pc nL : Nat} {ls : Array Slot} {rest : List Value} {G : gG} {S0 S S2 : gm_S} {own : String} {ret : Option FieldType} {d0 : Nat} {index : Nat} {C : String}
/-- the model's field k -/
theorem gr_mg (cx : gx_cx p l s m args meth c G own cc nL ret) (hf : gg_f G = true) (hI : gw_I G S0 S H locs cells slots) (k : Nat) (hk : k < 62) {O nm ds : String} {fin : Bool} (hT : TX4 k = (O, nm, ds, fin)) (hl : gl_F own index O nm ds args s)
    {v : Value} (hv : (if gx_arr k = true then .ref (gg_m G k) else gm_V (tyX4 k) (S.1 (400 + k) 0 0)) = v) (hdg : decode cc pc = .ok (.getfield index, 3)) (kk : W p l e R s m args below meth c H locs cells slots Q (F0 m (pc + 3) ls (v :: rest))) : W p l e R s m args below meth c H locs cells slots Q (F0 m pc ls (.ref (gg_o G) :: rest)) := by
  obtain ⟨hx, hb, -, hown, hts, hK, -⟩ := cx
  obtain ⟨-, -, -, ⟨cell, q1, q2, q3, q4⟩, -⟩ := hI.1.2.2.2.2.2.2.2.2.2 hf
  obtain ⟨hS, hfc, kC, hkC, hkind⟩ := hK.1 4
  obtain ⟨cf, kf, fi, f, hi, hsl⟩ := hS k hk
  have hst := (u_facts hfc hkC (u_lays hts (gc_in 4) hk) hi).1
  rw [gx_4, hT] at hi
  have hslot : cell.slots[f.slot]? = some v := by
    rw [hsl, q4 k hk]
    exact congrArg some hv
  rcases hl with hlink | ⟨host, hlink⟩
  · exact W.getf hx hb hown hlink hi hst q1 (by rw [q3]; exact fun h => by cases h) (v := v) hslot rfl rfl hdg kk
  · exact va_Wgetf hx hb hown hlink hi hst q1 (by rw [q3]; exact fun h => by cases h) (v := v) hslot rfl rfl hdg kk
theorem gr_mgI (cx : gx_cx p l s m args meth c G own cc nL ret) (hf : gg_f G = true) (hI : gw_I G S0 S H locs cells slots) (k : Nat) (hk : (decide (k < 62) && !gx_arr k) = true) (hy : ∀ v, gm_V (tyX4 k) v = .int (gm_I v)) {O nm ds : String} {fin : Bool} (hT : TX4 k = (O, nm, ds, fin)) (hl : gl_F own index O nm ds args s)
    (hdg : decode cc pc = .ok (.getfield index, 3)) (kk : W p l e R s m args below meth c H locs cells slots Q (F0 m (pc + 3) ls (.int (m_I S k 0) :: rest))) : W p l e R s m args below meth c H locs cells slots Q (F0 m pc ls (va_rf (some (gg_o G)) :: rest)) := by
  simp only [Bool.and_eq_true, decide_eq_true_eq, Bool.not_eq_true'] at hk
  exact gr_mg cx hf hI k hk.1 hT hl (by rw [if_neg (by rw [hk.2]; decide), hy]) hdg kk
theorem gr_mgD (cx : gx_cx p l s m args meth c G own cc nL ret) (hf : gg_f G = true) (hI : gw_I G S0 S H locs cells slots) (k : Nat) (hk : (decide (k < 62) && !gx_arr k) = true) (hy : ∀ v, gm_V (tyX4 k) v = .double (gm_D v)) {O nm ds : String} {fin : Bool} (hT : TX4 k = (O, nm, ds, fin)) (hl : gl_F own index O nm ds args s)
    (hdg : decode cc pc = .ok (.getfield index, 3)) (kk : W p l e R s m args below meth c H locs cells slots Q (F0 m (pc + 3) ls (.double (m_D S k 0) :: rest))) : W p l e R s m args below meth c H locs cells slots Q (F0 m pc ls (va_rf (some (gg_o G)) :: rest)) := by
  simp only [Bool.and_eq_true, decide_eq_true_eq, Bool.not_eq_true'] at hk
  exact gr_mg cx hf hI k hk.1 hT hl (by rw [if_neg (by rw [hk.2]; decide), hy]) hdg kk
theorem gr_mgA (cx : gx_cx p l s m args meth c G own cc nL ret) (hf : gg_f G = true) (hI : gw_I G S0 S H locs cells slots) (k : Nat) (hk : (decide (k < 62) && gx_arr k) = true) {O nm ds : String} {fin : Bool} (hT : TX4 k = (O, nm, ds, fin)) (hl : gl_F own index O nm ds args s)
    (hdg : decode cc pc = .ok (.getfield index, 3)) (kk : W p l e R s m args below meth c H locs cells slots Q (F0 m (pc + 3) ls (va_rf (some (gg_m G k)) :: rest))) : W p l e R s m args below meth c H locs cells slots Q (F0 m pc ls (va_rf (some (gg_o G)) :: rest)) := by
  simp only [Bool.and_eq_true, decide_eq_true_eq] at hk
  exact gr_mg cx hf hI k hk.1 hT hl (by rw [if_pos hk.2]; rfl) hdg kk
theorem gr_mel (hw : gw_W G S H) (hf : gg_f G = true) (k : Nat) (hk : (decide (k < 62) && gx_arr k) = true) {i : Int32} (hi : g_ix i (gx_al k) = true) : vp_in i (gx_al k) ∧ H[gg_m G k]? = some (arrV (gg_A G (gx_ak k)) (gx_al k) (fun j => gm_V (ga_ty (gx_ak k)) (S.1 (400 + k) 0 j))) ∧
    (arrV (gg_A G (gx_ak k)) (gx_al k) (fun j => gm_V (ga_ty (gx_ak k)) (S.1 (400 + k) 0 j))).slots[i.toNatClampNeg]? = some (gm_V (ga_ty (gx_ak k)) (S.1 (400 + k) 0 i.toNatClampNeg)) := by
  simp only [Bool.and_eq_true, decide_eq_true_eq] at hk
  have hin := g_ix_s hi
  have hlt : i.toNatClampNeg < gx_al k := Nat.not_le.mp fun q => hin (Or.inr q)
  obtain ⟨-, -, -, -, h5⟩ := hw.2.2.2.2.2.2.2.2.2 hf
  exact ⟨hin, h5 k hk.1 hk.2, arrV_read _ _ hlt⟩
theorem gr_miald (cx : gx_cx p l s m args meth c G own cc nL ret) (hf : gg_f G = true) (hI : gw_I G S0 S H locs cells slots) (k : Nat) (hk : (decide (k < 62) && gx_arr k) = true) {i x : Int32} {n : Nat} (hn : gx_al k = n) (hak : gx_ak k = 0) (hv : m_aI S k n i = some x)
    (hdg : decode cc pc = .ok (.iaload, 1)) (kk : W p l e R s m args below meth c H locs cells slots Q (F0 m (pc + 1) ls (.int x :: rest))) : W p l e R s m args below meth c H locs cells slots Q (F0 m pc ls (.int i :: va_rf (some (gg_m G k)) :: rest)) := by
  obtain ⟨hx, hb, -, hown, hts, hK, -⟩ := cx
  obtain ⟨hi, hv2⟩ := g_ifs hv
  cases hv2
  obtain ⟨hin, hc1, hs1⟩ := gr_mel hI.1 hf k hk (by rw [hn]; exact hi)
  rw [hak] at hc1 hs1
  exact W.iald (v := .int (m_I S k i.toNatClampNeg)) hx hb hc1 ((hK.2.1 0 (by omega)).1 _ _) (fun q => by cases q) (by rw [arrV_size]; exact hin) hs1 rfl rfl hdg kk
theorem gr_mcald (cx : gx_cx p l s m args meth c G own cc nL ret) (hf : gg_f G = true) (hI : gw_I G S0 S H locs cells slots) (k : Nat) (hk : (decide (k < 62) && gx_arr k) = true) {i x : Int32} {n : Nat} (hn : gx_al k = n) (hak : gx_ak k = 1) (hv : m_aI S k n i = some x)
    (hdg : decode cc pc = .ok (.caload, 1)) (kk : W p l e R s m args below meth c H locs cells slots Q (F0 m (pc + 1) ls (.int x :: rest))) : W p l e R s m args below meth c H locs cells slots Q (F0 m pc ls (.int i :: va_rf (some (gg_m G k)) :: rest)) := by
  obtain ⟨hx, hb, -, hown, hts, hK, -⟩ := cx
  obtain ⟨hi, hv2⟩ := g_ifs hv
  cases hv2
  obtain ⟨hin, hc1, hs1⟩ := gr_mel hI.1 hf k hk (by rw [hn]; exact hi)
  rw [hak] at hc1 hs1
  exact W.cald (v := .int (m_I S k i.toNatClampNeg)) hx hb hc1 ((hK.2.1 1 (by omega)).1 _ _) (fun q => by cases q) (by rw [arrV_size]; exact hin) hs1 rfl rfl hdg kk
theorem gr_mzald (cx : gx_cx p l s m args meth c G own cc nL ret) (hf : gg_f G = true) (hI : gw_I G S0 S H locs cells slots) (k : Nat) (hk : (decide (k < 62) && gx_arr k) = true) {i x : Int32} {n : Nat} (hn : gx_al k = n) (hak : gx_ak k = 3) (hv : m_aI S k n i = some x)
    (hdg : decode cc pc = .ok (.baload, 1)) (kk : W p l e R s m args below meth c H locs cells slots Q (F0 m (pc + 1) ls (.int x :: rest))) : W p l e R s m args below meth c H locs cells slots Q (F0 m pc ls (.int i :: va_rf (some (gg_m G k)) :: rest)) := by
  obtain ⟨hx, hb, -, hown, hts, hK, -⟩ := cx
  obtain ⟨hi, hv2⟩ := g_ifs hv
  cases hv2
  obtain ⟨hin, hc1, hs1⟩ := gr_mel hI.1 hf k hk (by rw [hn]; exact hi)
  rw [hak] at hc1 hs1
  exact W.zald (v := .int (m_I S k i.toNatClampNeg)) hx hb hc1 ((hK.2.1 3 (by omega)).1 _ _) (fun q => by cases q) (by rw [arrV_size]; exact hin) hs1 rfl rfl hdg kk
theorem gr_mdald (cx : gx_cx p l s m args meth c G own cc nL ret) (hf : gg_f G = true) (hI : gw_I G S0 S H locs cells slots) (k : Nat) (hk : (decide (k < 62) && gx_arr k) = true) {i : Int32} {x : UInt64} {n : Nat} (hn : gx_al k = n) (hak : gx_ak k = 2) (hv : m_aD S k n i = some x)
    (hdg : decode cc pc = .ok (.daload, 1)) (kk : W p l e R s m args below meth c H locs cells slots Q (F0 m (pc + 1) ls (.double x :: rest))) : W p l e R s m args below meth c H locs cells slots Q (F0 m pc ls (.int i :: va_rf (some (gg_m G k)) :: rest)) := by
  obtain ⟨hx, hb, -, hown, hts, hK, -⟩ := cx
  obtain ⟨hi, hv2⟩ := g_ifs hv
  cases hv2
  obtain ⟨hin, hc1, hs1⟩ := gr_mel hI.1 hf k hk (by rw [hn]; exact hi)
  rw [hak] at hc1 hs1
  exact W.dald (v := .double (m_D S k i.toNatClampNeg)) hx hb hc1 ((hK.2.1 2 (by omega)).1 _ _) (fun q => by cases q) (by rw [arrV_size]; exact hin) hs1 rfl rfl hdg kk
/-- a store into the model's field k -/
theorem gr_mp (cx : gx_cx p l s m args meth c G own cc nL ret) (hf : gg_f G = true) (hI : gw_I G S0 S H locs cells slots) (k : Nat) (hk : k < 62) (hna : gx_arr k = false) {O nm ds : String} (hT : TX4 k = (O, nm, ds, false)) (hl : gl_F own index O nm ds args s)
    {v : Value} (hn : narrow (tyX4 k) v = v) (hfit : fits (tyX4 k) v = true) (hv : gm_V (tyX4 k) v = v) (hdg : decode cc pc = .ok (.putfield index, 3))
    (kk : ∀ (H' : Heap) (locs' : List Loc), gw_I G S0 (gs_put S (400 + k) 0 0 v) H' locs' cells slots → W p l e R s m args below meth c H' locs' cells slots Q (F0 m (pc + 3) ls rest)) : W p l e R s m args below meth c H locs cells slots Q (F0 m pc ls (v :: .ref (gg_o G) :: rest)) := by
  obtain ⟨hw, hloc, hc1, hk1⟩ := hI
  obtain ⟨m1, m2, m3, m4, m5⟩ := hw.2.2.2.2.2.2.2.2.2 hf
  have hz := hw.2.2.2.2.2.2.1 (gg_o G) (by rw [m1]; decide)
  have hM : ∀ F b i, ¬ (b = 0 ∧ 400 ≤ F) → (gs_put S (400 + k) 0 0 v).1 F b i = S.1 F b i := fun F b i h => by
    show gm_st S.1 (400 + k) 0 0 v F b i = _
    simp only [gm_st]
    rw [if_neg (by omega)]
  refine gr_put0 cx (t := 4) m4 k hk hT hl (Or.inl rfl) hn hfit hdg (fun H' i hsz hq hob => ?_)
  refine kk H' _ ⟨hw.modl (a := gg_o G) rfl hM m1 hsz hq (fun cell hcl => ?_) ⟨?_, ?_, fun j hj ha => ?_, ?_, fun j hj ha => ?_⟩, gi_mem hloc hz.1, hc1, hk1⟩
  · obtain ⟨cell', r1, r2, r3, -⟩ := hob
    rw [r1] at hcl
    cases hcl
    exact r3
  · unfold gs_t; rw [hM _ _ _ (by omega)]; exact m1
  · rw [hM _ _ _ (by omega)]; exact m2
  · unfold gs_t; rw [hM _ _ _ (by omega), hM _ _ _ (by omega)]; exact m3 j hj ha
  · refine hob.to (fun j hj => ?_)
    by_cases ej : j = k
    · subst ej
      rw [if_neg (by rw [hna]; decide)]
      simp only [updV, if_pos]
      show v = gm_V (tyX4 j) (gm_st S.1 (400 + j) 0 0 v (400 + j) 0 0)
      rw [gm_st_e, hv]
    · simp only [updV, if_neg ej]
      show _ = (if gx_arr j = true then _ else gm_V (tyX4 j) (gm_st S.1 (400 + k) 0 0 v (400 + j) 0 0))
      rw [gm_st_F (by omega)]
  · obtain ⟨r1, r2⟩ := m3 j hj ha
    have hne : gg_m G j ≠ gg_o G := fun z => by rw [z, m2] at r2; omega
    rw [hq _ hne, m5 j hj ha]
    congr 2
    funext i'
    have : j ≠ k := fun z => by rw [z, hna] at ha; exact absurd ha (by decide)
    show _ = gm_V _ (gm_st S.1 (400 + k) 0 0 v (400 + j) 0 i')
    rw [gm_st_F (by omega)]
theorem gr_mpI (cx : gx_cx p l s m args meth c G own cc nL ret) (hf : gg_f G = true) (hI : gw_I G S0 S H locs cells slots) (k : Nat) (hk : (decide (k < 62) && !gx_arr k) = true) (hy : tyX4 k = .int) {O nm ds : String} (hT : TX4 k = (O, nm, ds, false)) (hl : gl_F own index O nm ds args s)
    {x : Int32} (hdg : decode cc pc = .ok (.putfield index, 3)) (kk : ∀ (H' : Heap) (locs' : List Loc), gw_I G S0 (m_p S k x) H' locs' cells slots → W p l e R s m args below meth c H' locs' cells slots Q (F0 m (pc + 3) ls rest)) : W p l e R s m args below meth c H locs cells slots Q (F0 m pc ls (.int x :: va_rf (some (gg_o G)) :: rest)) := by
  simp only [Bool.and_eq_true, decide_eq_true_eq, Bool.not_eq_true'] at hk
  exact gr_mp cx hf hI k hk.1 hk.2 hT hl (by rw [hy]; rfl) (by rw [hy]; rfl) (by rw [hy]; rfl) hdg kk
theorem gr_mpZ (cx : gx_cx p l s m args meth c G own cc nL ret) (hf : gg_f G = true) (hI : gw_I G S0 S H locs cells slots) (k : Nat) (hk : (decide (k < 62) && !gx_arr k) = true) (hy : tyX4 k = .boolean) {O nm ds : String} (hT : TX4 k = (O, nm, ds, false)) (hl : gl_F own index O nm ds args s)
    {x : Int32} (hv : m_pZ S k x = some S2) (hdg : decode cc pc = .ok (.putfield index, 3)) (kk : ∀ (H' : Heap) (locs' : List Loc), gw_I G S0 S2 H' locs' cells slots → W p l e R s m args below meth c H' locs' cells slots Q (F0 m (pc + 3) ls rest)) : W p l e R s m args below meth c H locs cells slots Q (F0 m pc ls (.int x :: va_rf (some (gg_o G)) :: rest)) := by
  simp only [Bool.and_eq_true, decide_eq_true_eq, Bool.not_eq_true'] at hk
  obtain ⟨hok, hv2⟩ := g_ifs hv
  cases hv2
  exact gr_mp cx hf hI k hk.1 hk.2 hT hl (by rw [hy]; exact (gl_okZ hok).2) (by rw [hy]; exact (gl_okZ hok).1) (by rw [hy]; rfl) hdg kk
theorem gr_mpD (cx : gx_cx p l s m args meth c G own cc nL ret) (hf : gg_f G = true) (hI : gw_I G S0 S H locs cells slots) (k : Nat) (hk : (decide (k < 62) && !gx_arr k) = true) (hy : tyX4 k = .double) {O nm ds : String} (hT : TX4 k = (O, nm, ds, false)) (hl : gl_F own index O nm ds args s)
    {x : UInt64} (hdg : decode cc pc = .ok (.putfield index, 3)) (kk : ∀ (H' : Heap) (locs' : List Loc), gw_I G S0 (m_pD S k x) H' locs' cells slots → W p l e R s m args below meth c H' locs' cells slots Q (F0 m (pc + 3) ls rest)) : W p l e R s m args below meth c H locs cells slots Q (F0 m pc ls (.double x :: va_rf (some (gg_o G)) :: rest)) := by
  simp only [Bool.and_eq_true, decide_eq_true_eq, Bool.not_eq_true'] at hk
  exact gr_mp cx hf hI k hk.1 hk.2 hT hl (by rw [hy]; rfl) (by rw [hy]; rfl) (by rw [hy]; rfl) hdg kk
/-- a store into the model's array k: the world behind it -/
theorem gr_mas (hI : gw_I G S0 S H locs cells slots) (hf : gg_f G = true) (k : Nat) (hk : (decide (k < 62) && gx_arr k) = true) {i : Int32} {v : Value} (hi : g_ix i (gx_al k) = true) (hvv : gm_V (ga_ty (gx_ak k)) v = v) : vp_in i (gx_al k) ∧ H[gg_m G k]? = some (arrV (gg_A G (gx_ak k)) (gx_al k) (fun j => gm_V (ga_ty (gx_ak k)) (S.1 (400 + k) 0 j))) ∧
    ∀ H' : Heap, H'[gg_m G k]? = some ((arrV (gg_A G (gx_ak k)) (gx_al k) (fun j => gm_V (ga_ty (gx_ak k)) (S.1 (400 + k) 0 j))).setSlot i.toNatClampNeg v) → H'.size = H.size → (∀ q, q ≠ gg_m G k → H'[q]? = H[q]?) → gw_I G S0 (gs_put S (400 + k) 0 i.toNatClampNeg v) H' (locs ++ [⟨gg_m G k, i.toNatClampNeg⟩]) cells slots := by
  simp only [Bool.and_eq_true, decide_eq_true_eq] at hk
  have hin := g_ix_s hi
  obtain ⟨hw, hloc, hc1, hk1⟩ := hI
  obtain ⟨m1, m2, m3, m4, m5⟩ := hw.2.2.2.2.2.2.2.2.2 hf
  obtain ⟨r1, r2⟩ := m3 k hk.1 hk.2
  have hz := hw.2.2.2.2.2.2.1 (gg_m G k) (by rw [r1]; decide)
  have hM : ∀ F b i', ¬ (b = 0 ∧ 400 ≤ F) → (gs_put S (400 + k) 0 i.toNatClampNeg v).1 F b i' = S.1 F b i' := fun F b i' h => by
    show gm_st S.1 (400 + k) 0 i.toNatClampNeg v F b i' = _
    simp only [gm_st]
    rw [if_neg (by omega)]
  refine ⟨hin, m5 k hk.1 hk.2, fun H' e1 e2 e3 => ⟨hw.modl (a := gg_m G k) rfl hM r1 e2 e3 (fun cell hcl => ?_) ⟨?_, ?_, fun j hj ha => ?_, ?_, fun j hj ha => ?_⟩, gi_mem hloc hz.1, hc1, hk1⟩⟩
  · rw [e1] at hcl; cases hcl; rfl
  · unfold gs_t; rw [hM _ _ _ (by omega)]; exact m1
  · rw [hM _ _ _ (by omega)]; exact m2
  · unfold gs_t; rw [hM _ _ _ (by omega), hM _ _ _ (by omega)]; exact m3 j hj ha
  · have hne : gg_o G ≠ gg_m G k := fun z => by rw [← z, m2] at r2; omega
    refine (m4.kept (e3 _ hne)).to (fun j hj => ?_)
    by_cases ej : gx_arr j = true
    · rw [if_pos ej, if_pos ej]
    · rw [if_neg ej, if_neg ej]
      have : j ≠ k := fun z => ej (by rw [z]; exact hk.2)
      show _ = gm_V (tyX4 j) (gm_st S.1 (400 + k) 0 i.toNatClampNeg v (400 + j) 0 0)
      rw [gm_st_F (by omega)]
  · by_cases ej : j = k
    · subst ej
      rw [e1, arrV_store]
      congr 2
      funext i'
      by_cases hj : i' = i.toNatClampNeg
      · rw [hj]
        show (if _ then v else _) = gm_V _ (gm_st S.1 (400 + j) 0 i.toNatClampNeg v (400 + j) 0 i.toNatClampNeg)
        rw [if_pos rfl, gm_st_e, hvv]
      · show (if i' = i.toNatClampNeg then v else _) = gm_V _ (gm_st S.1 (400 + j) 0 i.toNatClampNeg v (400 + j) 0 i')
        rw [if_neg hj, gm_st_i hj]
    · obtain ⟨s1, s2⟩ := m3 j hj ha
      have hne : gg_m G j ≠ gg_m G k := fun z => by rw [z, r2] at s2; exact ej s2.symm
      rw [e3 _ hne, m5 j hj ha]
      congr 2
      funext i'
      show _ = gm_V _ (gm_st S.1 (400 + k) 0 i.toNatClampNeg v (400 + j) 0 i')
      rw [gm_st_F (by omega)]
theorem gr_miast (cx : gx_cx p l s m args meth c G own cc nL ret) (hf : gg_f G = true) (hI : gw_I G S0 S H locs cells slots) (k : Nat) (hk : (decide (k < 62) && gx_arr k) = true) {i x : Int32} {n : Nat} (hn : gx_al k = n) (hak : gx_ak k = 0) (hv : m_sI S k n i x = some S2)
    (hdg : decode cc pc = .ok (.iastore, 1)) (kk : ∀ (H' : Heap) (locs' : List Loc), gw_I G S0 S2 H' locs' cells slots → W p l e R s m args below meth c H' locs' cells slots Q (F0 m (pc + 1) ls rest)) : W p l e R s m args below meth c H locs cells slots Q (F0 m pc ls (.int x :: .int i :: va_rf (some (gg_m G k)) :: rest)) := by
  obtain ⟨hx, hb, -, hown, hts, hK, -⟩ := cx
  obtain ⟨hi, hv2⟩ := g_ifs hv
  cases hv2
  obtain ⟨hin, hc1, hkk⟩ := gr_mas (v := .int x) hI hf k hk (by rw [hn]; exact hi) (by rw [hak]; rfl)
  rw [hak] at hc1 hkk
  exact W.iast hx hb hc1 ((hK.2.1 0 (by omega)).1 _ _) (fun q => by cases q) (by rw [arrV_size]; exact hin) rfl rfl hdg fun H1 e z oq => kk H1 _ (hkk H1 e z oq)
theorem gr_mcast (cx : gx_cx p l s m args meth c G own cc nL ret) (hf : gg_f G = true) (hI : gw_I G S0 S H locs cells slots) (k : Nat) (hk : (decide (k < 62) && gx_arr k) = true) {i x : Int32} {n : Nat} (hn : gx_al k = n) (hak : gx_ak k = 1) (hv : m_sC S k n i x = some S2)
    (hdg : decode cc pc = .ok (.castore, 1)) (kk : ∀ (H' : Heap) (locs' : List Loc), gw_I G S0 S2 H' locs' cells slots → W p l e R s m args below meth c H' locs' cells slots Q (F0 m (pc + 1) ls rest)) : W p l e R s m args below meth c H locs cells slots Q (F0 m pc ls (.int x :: .int i :: va_rf (some (gg_m G k)) :: rest)) := by
  obtain ⟨hx, hb, -, hown, hts, hK, -⟩ := cx
  obtain ⟨hok, hv1⟩ := g_ifs hv
  obtain ⟨hi, hv2⟩ := g_ifs hv1
  cases hv2
  obtain ⟨hin, hc1, hkk⟩ := gr_mas (v := .int x) hI hf k hk (by rw [hn]; exact hi) (by rw [hak]; rfl)
  rw [hak] at hc1 hkk
  exact W.cast hx hb hc1 ((hK.2.1 1 (by omega)).1 _ _) (fun q => by cases q) (by rw [arrV_size]; exact hin) rfl rfl hdg fun H1 e z oq => kk H1 _ (hkk H1 (by rw [(gl_okC hok).2] at e; exact e) z oq)
theorem gr_mzast (cx : gx_cx p l s m args meth c G own cc nL ret) (hf : gg_f G = true) (hI : gw_I G S0 S H locs cells slots) (k : Nat) (hk : (decide (k < 62) && gx_arr k) = true) {i x : Int32} {n : Nat} (hn : gx_al k = n) (hak : gx_ak k = 3) (hv : m_sZ S k n i x = some S2)
    (hdg : decode cc pc = .ok (.bastore, 1)) (kk : ∀ (H' : Heap) (locs' : List Loc), gw_I G S0 S2 H' locs' cells slots → W p l e R s m args below meth c H' locs' cells slots Q (F0 m (pc + 1) ls rest)) : W p l e R s m args below meth c H locs cells slots Q (F0 m pc ls (.int x :: .int i :: va_rf (some (gg_m G k)) :: rest)) := by
  obtain ⟨hx, hb, -, hown, hts, hK, -⟩ := cx
  obtain ⟨hok, hv1⟩ := g_ifs hv
  obtain ⟨hi, hv2⟩ := g_ifs hv1
  cases hv2
  obtain ⟨hin, hc1, hkk⟩ := gr_mas (v := .int x) hI hf k hk (by rw [hn]; exact hi) (by rw [hak]; rfl)
  rw [hak] at hc1 hkk
  exact W.zast hx hb hc1 ((hK.2.1 3 (by omega)).1 _ _) (fun q => by cases q) (by rw [arrV_size]; exact hin) rfl rfl hdg fun H1 e z oq => kk H1 _ (hkk H1 (by rw [(gl_okZ hok).2] at e; exact e) z oq)
theorem gr_mdast (cx : gx_cx p l s m args meth c G own cc nL ret) (hf : gg_f G = true) (hI : gw_I G S0 S H locs cells slots) (k : Nat) (hk : (decide (k < 62) && gx_arr k) = true) {i : Int32} {x : UInt64} {n : Nat} (hn : gx_al k = n) (hak : gx_ak k = 2) (hv : m_sD S k n i x = some S2)
    (hdg : decode cc pc = .ok (.dastore, 1)) (kk : ∀ (H' : Heap) (locs' : List Loc), gw_I G S0 S2 H' locs' cells slots → W p l e R s m args below meth c H' locs' cells slots Q (F0 m (pc + 1) ls rest)) : W p l e R s m args below meth c H locs cells slots Q (F0 m pc ls (.double x :: .int i :: va_rf (some (gg_m G k)) :: rest)) := by
  obtain ⟨hx, hb, -, hown, hts, hK, -⟩ := cx
  obtain ⟨hi, hv2⟩ := g_ifs hv
  cases hv2
  obtain ⟨hin, hc1, hkk⟩ := gr_mas (v := .double x) hI hf k hk (by rw [hn]; exact hi) (by rw [hak]; rfl)
  rw [hak] at hc1 hkk
  exact W.dast hx hb hc1 ((hK.2.1 2 (by omega)).1 _ _) (fun q => by cases q) (by rw [arrV_size]; exact hin) rfl rfl hdg fun H1 e z oq => kk H1 _ (hkk H1 e z oq)
end GM
