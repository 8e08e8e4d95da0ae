/-! LAYER 1 (printed): contracts -/
set_option maxRecDepth 100000
abbrev B_X12_holds_14 (l : Launch) (d0 : Nat) (G : gG) (S0 : gm_S) : Nat → List (Nat × Value) → List Value → gm_S → Outcome → gm_S → Prop := gz_B l RX12 "holds" cX12_holds 2 (Option.some Jvm.ClassFile.FieldType.boolean) [] d0 G S0
theorem T_X12_holds_14 {l : Launch} {G : gG} {S0 : gm_S} {d0 fu : Nat} {r : Outcome × gm_S} (hD : 5 ≤ d0) {x0 : Option Nat} {x1 : Option Nat} {S : gm_S} (h : F_X12_holds_14 fu x0 x1 S = some r) : B_X12_holds_14 l d0 G S0 0 [(0, va_rf x0), (1, va_rf x1)] [] S r.1 r.2 := by
  unfold F_X12_holds_14 at h
  intro p e s m args below meth c H locs cells slots ls cx hnm hex hI hl
  have hx := cx.1
  have hb := cx.2.1
  have hown := cx.2.2.2.1
  have hts := cx.2.2.2.2.1
  have hK := cx.2.2.2.2.2.1
  refine gr_aload_n hx hb x0 dX12_holds_0 rfl (lv_at hl 0 rfl) ?_
  refine gr_aload_n hx hb x1 dX12_holds_1 rfl (lv_at hl 1 rfl) ?_
  obtain ⟨a1, t1, h⟩ := gz_q_s h
  refine C_X14_is_U cx (gz_nh hex) hI (hts _ q886) hl.1 (gz_cs (Nat.le_of_ble_eq_true rfl)) (by omega) dX12_holds_2 t1 h (fun v1 S1 h H locs cells slots hI => ?_)
  refine gr_aload_n hx hb x0 dX12_holds_5 rfl (lv_at hl 0 rfl) ?_
  obtain ⟨v2, e2, h⟩ := g_bind h
  refine gr_getI cx hI e2 rfl (fun _ => rfl) rfl (Or.inl (hts _ q691)) dX12_holds_6 ?_
  refine lv_icmp_eq (tgt := 16) hx hb dX12_holds_9 rfl (fun hc => ?_) (fun hc => ?_)
  · have h := gz_t h hc
    refine lv_iconst hx hb dX12_holds_16 gz_ic_0 ?_
    obtain ⟨hz, h⟩ := g_ifs h
    cases h
    exact gr_zret cx hz hI dX12_holds_17
  · have h := gz_f h hc
    refine lv_iconst hx hb dX12_holds_12 gz_ic_1 ?_
    refine lv_goto (tgt := 17) hx hb dX12_holds_13 rfl ?_
    obtain ⟨hz, h⟩ := g_ifs h
    cases h
    exact gr_zret cx hz hI dX12_holds_17
theorem M_X12_holds_14 {l : Launch} {G : gG} {fu d0 : Nat} (hfl : l.flags = flags0) (hD : 5 ≤ d0) {x0 : Option Nat} {x1 : Option Nat} {S : gm_S} {o : Outcome} {S2 : gm_S} (h : F_X12_holds_14 fu x0 x1 S = some (o, S2)) : gx_Met l yX12_holds (ws_ yX12_holds cX12_holds 2 (Option.some Jvm.ClassFile.FieldType.boolean)) d0 G S [va_rf x0, va_rf x1] o S2 := by
  refine gx_of hfl (by decide) (fun p e s m below meth c cx hnm hex hI => ?_)
  rw [lg_entry_eq]
  cases x0 <;> cases x1 <;> exact T_X12_holds_14 (r := (o, S2)) hD h p e s m _ below meth c _ _ _ _ _ cx hnm (gz_nh0 hex) hI (lv_entry _ (Nat.le_of_ble_eq_true rfl))
theorem C_X12_holds_14 {p : Program} {l : Launch} {e : Env} {s : State} {m : MethodId} {args : Array Value} {below : List Frame} {meth : Method} {c : Code} {H : Heap} {locs : List Loc} {cells slots : Nat} {cc : ByteArray} {pc nL : Nat} {ls : Array Slot} {rest : List Value} {G : gG} {S0 S : gm_S} {own : String} {ret : Option FieldType} {d0 index fu : Nat} {x0 : Option Nat} {x1 : Option Nat} {k : Int32 → gm_S → gR} {r : Outcome × gm_S} (cx : gx_cx p l s m args meth c G own cc nL ret) (hex : ∀ x ∈ c.exceptionTable.toList, covers x pc = false) (hI : gw_I G S0 S H locs cells slots) (hl : gl_M own index yX12_holds args s) (hlv : ls.size = nL) (hrest : (rest.map fun v => v.category).sum ≤ 8) (hD : 6 ≤ d0) (hdg : decode cc pc = .ok (.invokevirtual index, 3)) {b : Nat} (hat : g_at S x0 14 = some b) (h : gz_cI (F_X12_holds_14 fu x0 x1 S) k = some r)
    (kk : ∀ (v : Int32) (z : gm_S), k v z = some r → ∀ (H : Heap) (locs : List Loc) (cells slots : Nat), gw_I G S0 z H locs cells slots → W p l e (gx_rm d0 S0) s m args below meth c H locs cells slots (gx_MQ below G S0 r.2 r.1 s) (F0 m (pc + 3) ls (.int v :: rest))) : W p l e (gx_rm d0 S0) s m args below meth c H locs cells slots (gx_MQ below G S0 r.2 r.1 s) (F0 m pc ls (va_rf x1 :: va_rf x0 :: rest)) := by
  obtain ⟨rfl, ht⟩ := g_at_s hat
  have hts := cx.2.2.2.2.1
  have hK := cx.2.2.2.2.2.1
  exact gz_goI (d := d0 - 1) (fun S => S) cx hex hI hlv hrest (by omega) (Nat.le_of_ble_eq_true rfl) (gz_ws (lw_meth q885) hts) (hts _ q96) (gb_rawV (As := [va_rf x1]) cx hl (hts _ q881) (hts _ q883) (gl_C.code (hts _ q885)) hy_X12_holds (gr_recv hK hI.1 ht rfl) rfl rfl hdg) (fun o S2 e => M_X12_holds_14 (x0 := some b) cx.2.2.2.2.2.2.2.2 (by omega) e) h kk
theorem C_holds {p : Program} {l : Launch} {e : Env} {s : State} {m : MethodId} {args : Array Value} {below : List Frame} {meth : Method} {c : Code} {H : Heap} {locs : List Loc} {cells slots : Nat} {cc : ByteArray} {pc nL : Nat} {ls : Array Slot} {rest : List Value} {G : gG} {S0 S : gm_S} {own : String} {ret : Option FieldType} {d0 index fu : Nat} {x0 x1 : Option Nat} {k : Int32 → gm_S → gR} {r : Outcome × gm_S} (cx : gx_cx p l s m args meth c G own cc nL ret) (hex : ∀ x ∈ c.exceptionTable.toList, covers x pc = false) (hI : gw_I G S0 S H locs cells slots) (hl : gl_M own index yX12_holds args s) (hlv : ls.size = nL) (hrest : (rest.map fun v => v.category).sum ≤ 8) (hD : 6 ≤ d0) (hdg : decode cc pc = .ok (.invokevirtual index, 3)) (h : gz_cI (F_holds fu x0 x1 S) k = some r)
    (kk : ∀ (v : Int32) (z : gm_S), k v z = some r → ∀ (H : Heap) (locs : List Loc) (cells slots : Nat), gw_I G S0 z H locs cells slots → W p l e (gx_rm d0 S0) s m args below meth c H locs cells slots (gx_MQ below G S0 r.2 r.1 s) (F0 m (pc + 3) ls (.int v :: rest))) : W p l e (gx_rm d0 S0) s m args below meth c H locs cells slots (gx_MQ below G S0 r.2 r.1 s) (F0 m pc ls (va_rf x1 :: va_rf x0 :: rest)) := by
  unfold F_holds at h
  by_cases h1 : (g_at S x0 13).isSome = true
  · obtain ⟨b, hb1⟩ := Option.isSome_iff_exists.mp h1
    rw [if_pos h1] at h
    exact C_X12_holds_13 cx hex hI hl hlv hrest (by omega) hdg hb1 h kk
  · rw [if_neg h1] at h
    by_cases h2 : (g_at S x0 14).isSome = true
    · obtain ⟨b, hb1⟩ := Option.isSome_iff_exists.mp h2
      rw [if_pos h2] at h
      exact C_X12_holds_14 cx hex hI hl hlv hrest (by omega) hdg hb1 h kk
    · rw [if_neg h2] at h
      cases h
abbrev B_X10_isEnabled (l : Launch) (d0 : Nat) (G : gG) (S0 : gm_S) : Nat → List (Nat × Value) → List Value → gm_S → Outcome → gm_S → Prop := gz_B l RX10 "isEnabled" cX10_isEnabled 4 (Option.some Jvm.ClassFile.FieldType.boolean) [] d0 G S0
theorem T_X10_isEnabled_12 {l : Launch} {G : gG} {S0 : gm_S} {d0 fu : Nat} {r : Outcome × gm_S} (hD : 11 ≤ d0) : ∀ (n : Nat) (x0 : Option Nat) (x1 : Option Nat) (x3 : Int32) (S : gm_S), F_X10_isEnabled_12 fu n x0 x1 x3 S = some r → B_X10_isEnabled l d0 G S0 12 [(0, va_rf x0), (1, va_rf x1), (3, .int x3)] [] S r.1 r.2 := by
  intro n
  induction n with
  | zero => intro x0 x1 x3 S h; exact nomatch (show (none : gR) = some r from h)
  | succ n ih =>
    intro x0 x1 x3 S h
    rw [F_X10_isEnabled_12] at h
    intro p e s m args below meth c H locs cells slots ls cx hnm hex hI hl
    have hx := cx.1
    have hb := cx.2.1
    have hown := cx.2.2.2.1
    have hts := cx.2.2.2.2.1
    have hK := cx.2.2.2.2.2.1
    refine lv_iload_n hx hb dX10_isEnabled_12 rfl (lv_at hl 2 rfl) ?_
    refine gr_aload_n hx hb x0 dX10_isEnabled_13 rfl (lv_at hl 0 rfl) ?_
    obtain ⟨v1, e1, h⟩ := g_bind h
    refine gr_getR cx hI e1 rfl (fun _ => rfl) rfl (Or.inl (hts _ q625)) dX10_isEnabled_14 ?_
    obtain ⟨v2, e2, h⟩ := g_bind h
    refine gr_lsize cx (gz_nh hex) hI (Or.inl (hts _ q877)) hl.1 (gz_cs (Nat.le_of_ble_eq_true rfl)) (by omega) dX10_isEnabled_17 e2 (fun H locs cells slots hI => ?_)
    refine lv_icmp_ge (tgt := 49) hx hb dX10_isEnabled_20 rfl (fun hc => ?_) (fun hc => ?_)
    · have h := gz_t h hc
      refine lv_iconst hx hb dX10_isEnabled_49 gz_ic_1 ?_
      obtain ⟨hz, h⟩ := g_ifs h
      cases h
      exact gr_zret cx hz hI dX10_isEnabled_50
    · have h := gz_f h hc
      refine gr_aload_n hx hb x0 dX10_isEnabled_23 rfl (lv_at hl 0 rfl) ?_
      obtain ⟨v3, e3, h⟩ := g_bind h
      refine gr_getR cx hI e3 rfl (fun _ => rfl) rfl (Or.inl (hts _ q625)) dX10_isEnabled_24 ?_
      refine lv_iload_n hx hb dX10_isEnabled_27 rfl (lv_at hl 2 rfl) ?_
      obtain ⟨v4, e4, h⟩ := g_bind h
      refine gr_lgetr cx (gz_nh hex) hI (Or.inl (hts _ q878)) hl.1 (gz_cs (Nat.le_of_ble_eq_true rfl)) (by omega) dX10_isEnabled_28 e4 (fun H locs cells slots hI => ?_)
      obtain ⟨c5, h⟩ := g_ifs h
      refine gr_ck2 cx hI c5 rfl rfl (hts _ q879) q1412 q1411 dX10_isEnabled_31 ?_
      refine gr_aload_n hx hb x1 dX10_isEnabled_34 rfl (lv_at hl 1 rfl) ?_
      refine C_holds cx (gz_nh hex) hI (Or.inl (hts _ q880)) hl.1 (gz_cs (Nat.le_of_ble_eq_true rfl)) (by omega) dX10_isEnabled_35 h (fun v6 S6 h H locs cells slots hI => ?_)
      refine lv_if_ne (tgt := 43) hx hb dX10_isEnabled_38 rfl (fun hc => ?_) (fun hc => ?_)
      · have h := gz_f h hc
        refine gz_iinc (k := 2) (v := (x3 + (1 : Int32))) hx hb dX10_isEnabled_43 hl rfl (congrArg (fun z => x3 + z) gz_ic_1) (by decide) [0, 1] rfl (gz_con ⟨gz_ne rfl, Or.inl (gz_ne rfl)⟩ (gz_con ⟨gz_ne rfl, Or.inl (gz_ne rfl)⟩ gz_nil)) (fun ls hl => ?_)
        refine lv_goto (tgt := 12) hx hb dX10_isEnabled_46 rfl ?_
        exact ih _ _ _ _ h p e s m args below meth c H locs cells slots ls cx hnm hex hI (lv_sub hl [1, 2, 0] rfl)
      · have h := gz_t h hc
        refine lv_iconst hx hb dX10_isEnabled_41 gz_ic_0 ?_
        obtain ⟨hz, h⟩ := g_ifs h
        cases h
        exact gr_zret cx hz hI dX10_isEnabled_42
theorem T_X10_isEnabled {l : Launch} {G : gG} {S0 : gm_S} {d0 fu : Nat} {r : Outcome × gm_S} (hD : 11 ≤ d0) {x0 : Option Nat} {x1 : Option Nat} {x2 : Int32} {S : gm_S} (h : F_X10_isEnabled fu x0 x1 x2 S = some r) : B_X10_isEnabled l d0 G S0 0 [(0, va_rf x0), (1, va_rf x1), (2, .int x2)] [] S r.1 r.2 := by
  unfold F_X10_isEnabled at h
  intro p e s m args below meth c H locs cells slots ls cx hnm hex hI hl
  have hx := cx.1
  have hb := cx.2.1
  have hown := cx.2.2.2.1
  have hts := cx.2.2.2.2.1
  have hK := cx.2.2.2.2.2.1
  refine gr_aload_n hx hb x0 dX10_isEnabled_0 rfl (lv_at hl 0 rfl) ?_
  obtain ⟨v1, e1, h⟩ := g_bind h
  refine gr_getI cx hI e1 rfl (fun _ => rfl) rfl (Or.inl (hts _ q624)) dX10_isEnabled_1 ?_
  refine lv_iload_n hx hb dX10_isEnabled_4 rfl (lv_at hl 2 rfl) ?_
  refine lv_icmp_eq (tgt := 10) hx hb dX10_isEnabled_5 rfl (fun hc => ?_) (fun hc => ?_)
  · have h := gz_t h hc
    refine lv_iconst hx hb dX10_isEnabled_10 gz_ic_0 ?_
    refine gz_istore_n hx hb dX10_isEnabled_11 rfl hl (by decide) [0, 1] rfl (gz_con ⟨gz_ne rfl, Or.inl (gz_ne rfl)⟩ (gz_con ⟨gz_ne rfl, Or.inl (gz_ne rfl)⟩ gz_nil)) (fun ls hl => ?_)
    exact T_X10_isEnabled_12 hD fu _ _ _ _ h p e s m args below meth c H locs cells slots ls cx hnm hex hI (lv_sub hl [1, 2, 0] rfl)
  · have h := gz_f h hc
    refine lv_iconst hx hb dX10_isEnabled_8 gz_ic_0 ?_
    obtain ⟨hz, h⟩ := g_ifs h
    cases h
    exact gr_zret cx hz hI dX10_isEnabled_9
theorem M_X10_isEnabled {l : Launch} {G : gG} {fu d0 : Nat} (hfl : l.flags = flags0) (hD : 11 ≤ d0) {x0 : Option Nat} {x1 : Option Nat} {x2 : Int32} {S : gm_S} {o : Outcome} {S2 : gm_S} (h : F_X10_isEnabled fu x0 x1 x2 S = some (o, S2)) : gx_Met l yX10_isEnabled (ws_ yX10_isEnabled cX10_isEnabled 4 (Option.some Jvm.ClassFile.FieldType.boolean)) d0 G S [va_rf x0, va_rf x1, .int x2] o S2 := by
  refine gx_of hfl (by decide) (fun p e s m below meth c cx hnm hex hI => ?_)
  rw [lg_entry_eq]
  cases x0 <;> cases x1 <;> exact T_X10_isEnabled (r := (o, S2)) hD h p e s m _ below meth c _ _ _ _ _ cx hnm (gz_nh0 hex) hI (lv_entry _ (Nat.le_of_ble_eq_true rfl))
theorem C_X10_isEnabled {p : Program} {l : Launch} {e : Env} {s : State} {m : MethodId} {args : Array Value} {below : List Frame} {meth : Method} {c : Code} {H : Heap} {locs : List Loc} {cells slots : Nat} {cc : ByteArray} {pc nL : Nat} {ls : Array Slot} {rest : List Value} {G : gG} {S0 S : gm_S} {own : String} {ret : Option FieldType} {d0 index fu : Nat} {x0 : Option Nat} {x1 : Option Nat} {x2 : Int32} {k : Int32 → gm_S → gR} {r : Outcome × gm_S} (cx : gx_cx p l s m args meth c G own cc nL ret) (hex : ∀ x ∈ c.exceptionTable.toList, covers x pc = false) (hI : gw_I G S0 S H locs cells slots) (hl : gl_M own index yX10_isEnabled args s) (hlv : ls.size = nL) (hrest : (rest.map fun v => v.category).sum ≤ 8) (hD : 12 ≤ d0) (hdg : decode cc pc = .ok (.invokevirtual index, 3)) {b : Nat} (hat : g_at S x0 10 = some b) (h : gz_cI (F_X10_isEnabled fu x0 x1 x2 S) k = some r)
    (kk : ∀ (v : Int32) (z : gm_S), k v z = some r → ∀ (H : Heap) (locs : List Loc) (cells slots : Nat), gw_I G S0 z H locs cells slots → W p l e (gx_rm d0 S0) s m args below meth c H locs cells slots (gx_MQ below G S0 r.2 r.1 s) (F0 m (pc + 3) ls (.int v :: rest))) : W p l e (gx_rm d0 S0) s m args below meth c H locs cells slots (gx_MQ below G S0 r.2 r.1 s) (F0 m pc ls (.int x2 :: va_rf x1 :: va_rf x0 :: rest)) := by
  obtain ⟨rfl, ht⟩ := g_at_s hat
  have hts := cx.2.2.2.2.1
  have hK := cx.2.2.2.2.2.1
  exact gz_goI (d := d0 - 1) (fun S => S) cx hex hI hlv hrest (by omega) (Nat.le_of_ble_eq_true rfl) (gz_ws (lw_meth q876) hts) (hts _ q94) (gb_rawV (As := [va_rf x1, .int x2]) cx hl (hts _ q874) (hts _ q875) (gl_C.code (hts _ q876)) hy_X10_isEnabled (gr_recv hK hI.1 ht rfl) rfl rfl hdg) (fun o S2 e => M_X10_isEnabled (x0 := some b) cx.2.2.2.2.2.2.2.2 (by omega) e) h kk
abbrev B_X3_enabled (l : Launch) (d0 : Nat) (G : gG) (S0 : gm_S) : Nat → List (Nat × Value) → List Value → gm_S → Outcome → gm_S → Prop := gz_B l RX3 "enabled" cX3_enabled 5 (Option.some (Jvm.ClassFile.FieldType.object "NestChart$Transition")) [] d0 G S0
theorem T_X3_enabled_2 {l : Launch} {G : gG} {S0 : gm_S} {d0 fu : Nat} {r : Outcome × gm_S} (hD : 12 ≤ d0) : ∀ (n : Nat) (x0 : Option Nat) (x1 : Option Nat) (x2 : Int32) (x3 : Int32) (S : gm_S), F_X3_enabled_2 fu n x0 x1 x2 x3 S = some r → B_X3_enabled l d0 G S0 2 [(0, va_rf x0), (1, va_rf x1), (2, .int x2), (3, .int x3)] [] S r.1 r.2 := by
  intro n
  induction n with
  | zero => intro x0 x1 x2 x3 S h; exact nomatch (show (none : gR) = some r from h)
  | succ n ih =>
    intro x0 x1 x2 x3 S h
    rw [F_X3_enabled_2] at h
    intro p e s m args below meth c H locs cells slots ls cx hnm hex hI hl
    have hx := cx.1
    have hb := cx.2.1
    have hown := cx.2.2.2.1
    have hts := cx.2.2.2.2.1
    have hK := cx.2.2.2.2.2.1
    refine lv_iload_n hx hb dX3_enabled_2 rfl (lv_at hl 3 rfl) ?_
    refine gr_aload_n hx hb x1 dX3_enabled_3 rfl (lv_at hl 1 rfl) ?_
    obtain ⟨v1, e1, h⟩ := g_bind h
    refine gr_getR cx hI e1 rfl (fun _ => rfl) rfl (Or.inr ⟨_, gk_w hK q428 rfl⟩) dX3_enabled_4 ?_
    obtain ⟨v2, e2, h⟩ := g_bind h
    refine gr_lsize cx (gz_nh hex) hI (Or.inl (hts _ q759)) hl.1 (gz_cs (Nat.le_of_ble_eq_true rfl)) (by omega) dX3_enabled_7 e2 (fun H locs cells slots hI => ?_)
    refine lv_icmp_ge (tgt := 45) hx hb dX3_enabled_10 rfl (fun hc => ?_) (fun hc => ?_)
    · have h := gz_t h hc
      refine gz_null hx hb dX3_enabled_45 ?_
      cases h
      exact gr_aret cx (Or.inl ⟨_, rfl⟩) hI dX3_enabled_46
    · have h := gz_f h hc
      refine gr_aload_n hx hb x1 dX3_enabled_13 rfl (lv_at hl 1 rfl) ?_
      obtain ⟨v3, e3, h⟩ := g_bind h
      refine gr_getR cx hI e3 rfl (fun _ => rfl) rfl (Or.inr ⟨_, gk_w hK q428 rfl⟩) dX3_enabled_14 ?_
      refine lv_iload_n hx hb dX3_enabled_17 rfl (lv_at hl 3 rfl) ?_
      obtain ⟨v4, e4, h⟩ := g_bind h
      refine gr_lgetr cx (gz_nh hex) hI (Or.inl (hts _ q760)) hl.1 (gz_cs (Nat.le_of_ble_eq_true rfl)) (by omega) dX3_enabled_18 e4 (fun H locs cells slots hI => ?_)
      obtain ⟨a5, e5, h⟩ := gz_q_s h
      refine gr_ck1 cx hI e5 rfl (hts _ q872) dX3_enabled_21 ?_
      refine gz_astore hx hb dX3_enabled_24 hl (by decide) [0, 1, 2, 3] rfl (gz_con ⟨gz_ne rfl, Or.inl (gz_ne rfl)⟩ (gz_con ⟨gz_ne rfl, Or.inl (gz_ne rfl)⟩ (gz_con ⟨gz_ne rfl, Or.inl (gz_ne rfl)⟩ (gz_con ⟨gz_ne rfl, Or.inr rfl⟩ gz_nil)))) (fun ls hl => ?_)
      refine gr_aload hx hb (some v4) dX3_enabled_26 (lv_at hl 0 rfl) ?_
      refine gr_aload_n hx hb x0 dX3_enabled_28 rfl (lv_at hl 1 rfl) ?_
      refine lv_iload_n hx hb dX3_enabled_29 rfl (lv_at hl 3 rfl) ?_
      obtain ⟨a6, t6, h⟩ := gz_q_s h
      refine C_X10_isEnabled cx (gz_nh hex) hI (Or.inl (hts _ q873)) hl.1 (gz_cs (Nat.le_of_ble_eq_true rfl)) (by omega) dX3_enabled_30 t6 h (fun v6 S6 h H locs cells slots hI => ?_)
      refine lv_if_eq (tgt := 39) hx hb dX3_enabled_33 rfl (fun hc => ?_) (fun hc => ?_)
      · have h := gz_t h hc
        refine gz_iinc (k := 4) (v := (x3 + (1 : Int32))) hx hb dX3_enabled_39 hl rfl (congrArg (fun z => x3 + z) gz_ic_1) (by decide) [1, 2, 3] rfl (gz_con ⟨gz_ne rfl, Or.inl (gz_ne rfl)⟩ (gz_con ⟨gz_ne rfl, Or.inl (gz_ne rfl)⟩ (gz_con ⟨gz_ne rfl, Or.inr rfl⟩ gz_nil))) (fun ls hl => ?_)
        refine lv_goto (tgt := 2) hx hb dX3_enabled_42 rfl ?_
        exact ih _ _ _ _ _ h p e s m args below meth c H locs cells slots ls cx hnm hex hI (lv_sub hl [1, 2, 3, 0] rfl)
      · have h := gz_f h hc
        refine gr_aload hx hb (some v4) dX3_enabled_36 (lv_at hl 0 rfl) ?_
        cases h
        exact gr_aret cx (Or.inl ⟨_, rfl⟩) hI dX3_enabled_38
theorem T_X3_enabled {l : Launch} {G : gG} {S0 : gm_S} {d0 fu : Nat} {r : Outcome × gm_S} (hD : 12 ≤ d0) {x0 : Option Nat} {x1 : Option Nat} {x2 : Int32} {S : gm_S} (h : F_X3_enabled fu x0 x1 x2 S = some r) : B_X3_enabled l d0 G S0 0 [(0, va_rf x0), (1, va_rf x1), (2, .int x2)] [] S r.1 r.2 := by
  unfold F_X3_enabled at h
  intro p e s m args below meth c H locs cells slots ls cx hnm hex hI hl
  have hx := cx.1
  have hb := cx.2.1
  have hown := cx.2.2.2.1
  have hts := cx.2.2.2.2.1
  have hK := cx.2.2.2.2.2.1
  refine lv_iconst hx hb dX3_enabled_0 gz_ic_0 ?_
  refine gz_istore_n hx hb dX3_enabled_1 rfl hl (by decide) [0, 1, 2] rfl (gz_con ⟨gz_ne rfl, Or.inl (gz_ne rfl)⟩ (gz_con ⟨gz_ne rfl, Or.inl (gz_ne rfl)⟩ (gz_con ⟨gz_ne rfl, Or.inr rfl⟩ gz_nil))) (fun ls hl => ?_)
  exact T_X3_enabled_2 hD fu _ _ _ _ _ h p e s m args below meth c H locs cells slots ls cx hnm hex hI (lv_sub hl [1, 2, 3, 0] rfl)
theorem M_X3_enabled {l : Launch} {G : gG} {fu d0 : Nat} (hfl : l.flags = flags0) (hD : 12 ≤ d0) {x0 : Option Nat} {x1 : Option Nat} {x2 : Int32} {S : gm_S} {o : Outcome} {S2 : gm_S} (h : F_X3_enabled fu x0 x1 x2 S = some (o, S2)) : gx_Met l yX3_enabled (ws_ yX3_enabled cX3_enabled 5 (Option.some (Jvm.ClassFile.FieldType.object "NestChart$Transition"))) d0 G S [va_rf x0, va_rf x1, .int x2] o S2 := by
  refine gx_of hfl (by decide) (fun p e s m below meth c cx hnm hex hI => ?_)
  rw [lg_entry_eq]
  cases x0 <;> cases x1 <;> exact T_X3_enabled (r := (o, S2)) hD h p e s m _ below meth c _ _ _ _ _ cx hnm (gz_nh0 hex) hI (lv_entry _ (Nat.le_of_ble_eq_true rfl))
theorem C_X3_enabled {p : Program} {l : Launch} {e : Env} {s : State} {m : MethodId} {args : Array Value} {below : List Frame} {meth : Method} {c : Code} {H : Heap} {locs : List Loc} {cells slots : Nat} {cc : ByteArray} {pc nL : Nat} {ls : Array Slot} {rest : List Value} {G : gG} {S0 S : gm_S} {own : String} {ret : Option FieldType} {d0 index fu : Nat} {x0 : Option Nat} {x1 : Option Nat} {x2 : Int32} {k : Option Nat → gm_S → gR} {r : Outcome × gm_S} (cx : gx_cx p l s m args meth c G own cc nL ret) (hex : ∀ x ∈ c.exceptionTable.toList, covers x pc = false) (hI : gw_I G S0 S H locs cells slots) (hl : gl_M own index yX3_enabled args s) (hlv : ls.size = nL) (hrest : (rest.map fun v => v.category).sum ≤ 8) (hD : 13 ≤ d0) (hdg : decode cc pc = .ok (.invokevirtual index, 3)) {b : Nat} (hat : g_at S x0 3 = some b) (h : gz_cR (F_X3_enabled fu x0 x1 x2 S) k = some r)
    (kk : ∀ (v : Option Nat) (z : gm_S), k v z = some r → ∀ (H : Heap) (locs : List Loc) (cells slots : Nat), gw_I G S0 z H locs cells slots → W p l e (gx_rm d0 S0) s m args below meth c H locs cells slots (gx_MQ below G S0 r.2 r.1 s) (F0 m (pc + 3) ls (va_rf v :: rest))) : W p l e (gx_rm d0 S0) s m args below meth c H locs cells slots (gx_MQ below G S0 r.2 r.1 s) (F0 m pc ls (.int x2 :: va_rf x1 :: va_rf x0 :: rest)) := by
  obtain ⟨rfl, ht⟩ := g_at_s hat
  have hts := cx.2.2.2.2.1
  have hK := cx.2.2.2.2.2.1
  exact gz_goR (d := d0 - 1) (fun S => S) cx hex hI hlv hrest (by omega) (Nat.le_of_ble_eq_true rfl) (gz_ws (lw_meth q871) hts) (hts _ q74) (gb_rawV (As := [va_rf x1, .int x2]) cx hl (hts _ q870) (hts _ qs19) (gl_C.code (hts _ q871)) hy_X3_enabled (gr_recv hK hI.1 ht rfl) rfl rfl hdg) (fun o S2 e => M_X3_enabled (x0 := some b) cx.2.2.2.2.2.2.2.2 (by omega) e) h kk
abbrev B_X3_isChosen (l : Launch) (d0 : Nat) (G : gG) (S0 : gm_S) : Nat → List (Nat × Value) → List Value → gm_S → Outcome → gm_S → Prop := gz_B l RX3 "isChosen" cX3_isChosen 3 (Option.some Jvm.ClassFile.FieldType.boolean) [] d0 G S0
theorem T_X3_isChosen_2 {l : Launch} {G : gG} {S0 : gm_S} {d0 fu : Nat} {r : Outcome × gm_S} (hD : 11 ≤ d0) : ∀ (n : Nat) (x0 : Option Nat) (x1 : Option Nat) (x2 : Int32) (S : gm_S), F_X3_isChosen_2 fu n x0 x1 x2 S = some r → B_X3_isChosen l d0 G S0 2 [(0, va_rf x0), (1, va_rf x1), (2, .int x2)] [] S r.1 r.2 := by
  intro n
  induction n with
  | zero => intro x0 x1 x2 S h; exact nomatch (show (none : gR) = some r from h)
  | succ n ih =>
    intro x0 x1 x2 S h
    rw [F_X3_isChosen_2] at h
    intro p e s m args below meth c H locs cells slots ls cx hnm hex hI hl
    have hx := cx.1
    have hb := cx.2.1
    have hown := cx.2.2.2.1
    have hts := cx.2.2.2.2.1
    have hK := cx.2.2.2.2.2.1
    refine lv_iload_n hx hb dX3_isChosen_2 rfl (lv_at hl 2 rfl) ?_
    refine gr_aload_n hx hb x0 dX3_isChosen_3 rfl (lv_at hl 0 rfl) ?_
    obtain ⟨v1, e1, h⟩ := g_bind h
    refine gr_getR cx hI e1 rfl (fun _ => rfl) rfl (Or.inl (hts _ q199)) dX3_isChosen_4 ?_
    obtain ⟨v2, e2, h⟩ := g_bind h
    refine gr_lsize cx (gz_nh hex) hI (Or.inl (hts _ q759)) hl.1 (gz_cs (Nat.le_of_ble_eq_true rfl)) (by omega) dX3_isChosen_7 e2 (fun H locs cells slots hI => ?_)
    refine lv_icmp_ge (tgt := 33) hx hb dX3_isChosen_10 rfl (fun hc => ?_) (fun hc => ?_)
    · have h := gz_t h hc
      refine lv_iconst hx hb dX3_isChosen_33 gz_ic_0 ?_
      obtain ⟨hz, h⟩ := g_ifs h
      cases h
      exact gr_zret cx hz hI dX3_isChosen_34
    · have h := gz_f h hc
      refine gr_aload_n hx hb x0 dX3_isChosen_13 rfl (lv_at hl 0 rfl) ?_
      obtain ⟨v3, e3, h⟩ := g_bind h
      refine gr_getR cx hI e3 rfl (fun _ => rfl) rfl (Or.inl (hts _ q199)) dX3_isChosen_14 ?_
      refine lv_iload_n hx hb dX3_isChosen_17 rfl (lv_at hl 2 rfl) ?_
      obtain ⟨v4, e4, h⟩ := g_bind h
      refine gr_lgetr cx (gz_nh hex) hI (Or.inl (hts _ q760)) hl.1 (gz_cs (Nat.le_of_ble_eq_true rfl)) (by omega) dX3_isChosen_18 e4 (fun H locs cells slots hI => ?_)
      refine gr_aload_n hx hb x1 dX3_isChosen_21 rfl (lv_at hl 1 rfl) ?_
      refine lv_acmp_ne (tgt := 27) hx hb dX3_isChosen_22 rfl (fun hc => ?_) (fun hc => ?_)
      · have h := gz_f h hc
        refine gz_iinc (k := 2) (v := (x2 + (1 : Int32))) hx hb dX3_isChosen_27 hl rfl (congrArg (fun z => x2 + z) gz_ic_1) (by decide) [0, 1] rfl (gz_con ⟨gz_ne rfl, Or.inl (gz_ne rfl)⟩ (gz_con ⟨gz_ne rfl, Or.inr (gl_cat x1)⟩ gz_nil)) (fun ls hl => ?_)
        refine lv_goto (tgt := 2) hx hb dX3_isChosen_30 rfl ?_
        exact ih _ _ _ _ h p e s m args below meth c H locs cells slots ls cx hnm hex hI (lv_sub hl [1, 2, 0] rfl)
      · have h := gz_t h hc
        refine lv_iconst hx hb dX3_isChosen_25 gz_ic_1 ?_
        obtain ⟨hz, h⟩ := g_ifs h
        cases h
        exact gr_zret cx hz hI dX3_isChosen_26
theorem T_X3_isChosen {l : Launch} {G : gG} {S0 : gm_S} {d0 fu : Nat} {r : Outcome × gm_S} (hD : 11 ≤ d0) {x0 : Option Nat} {x1 : Option Nat} {S : gm_S} (h : F_X3_isChosen fu x0 x1 S = some r) : B_X3_isChosen l d0 G S0 0 [(0, va_rf x0), (1, va_rf x1)] [] S r.1 r.2 := by
  unfold F_X3_isChosen at h
  intro p e s m args below meth c H locs cells slots ls cx hnm hex hI hl
  have hx := cx.1
  have hb := cx.2.1
  have hown := cx.2.2.2.1
  have hts := cx.2.2.2.2.1
  have hK := cx.2.2.2.2.2.1
  refine lv_iconst hx hb dX3_isChosen_0 gz_ic_0 ?_
  refine gz_istore_n hx hb dX3_isChosen_1 rfl hl (by decide) [0, 1] rfl (gz_con ⟨gz_ne rfl, Or.inl (gz_ne rfl)⟩ (gz_con ⟨gz_ne rfl, Or.inr (gl_cat x1)⟩ gz_nil)) (fun ls hl => ?_)
  exact T_X3_isChosen_2 hD fu _ _ _ _ h p e s m args below meth c H locs cells slots ls cx hnm hex hI (lv_sub hl [1, 2, 0] rfl)
theorem M_X3_isChosen {l : Launch} {G : gG} {fu d0 : Nat} (hfl : l.flags = flags0) (hD : 11 ≤ d0) {x0 : Option Nat} {x1 : Option Nat} {S : gm_S} {o : Outcome} {S2 : gm_S} (h : F_X3_isChosen fu x0 x1 S = some (o, S2)) : gx_Met l yX3_isChosen (ws_ yX3_isChosen cX3_isChosen 3 (Option.some Jvm.ClassFile.FieldType.boolean)) d0 G S [va_rf x0, va_rf x1] o S2 := by
  refine gx_of hfl (by decide) (fun p e s m below meth c cx hnm hex hI => ?_)
  rw [lg_entry_eq]
  cases x0 <;> cases x1 <;> exact T_X3_isChosen (r := (o, S2)) hD h p e s m _ below meth c _ _ _ _ _ cx hnm (gz_nh0 hex) hI (lv_entry _ (Nat.le_of_ble_eq_true rfl))
theorem C_X3_isChosen {p : Program} {l : Launch} {e : Env} {s : State} {m : MethodId} {args : Array Value} {below : List Frame} {meth : Method} {c : Code} {H : Heap} {locs : List Loc} {cells slots : Nat} {cc : ByteArray} {pc nL : Nat} {ls : Array Slot} {rest : List Value} {G : gG} {S0 S : gm_S} {own : String} {ret : Option FieldType} {d0 index fu : Nat} {x0 : Option Nat} {x1 : Option Nat} {k : Int32 → gm_S → gR} {r : Outcome × gm_S} (cx : gx_cx p l s m args meth c G own cc nL ret) (hex : ∀ x ∈ c.exceptionTable.toList, covers x pc = false) (hI : gw_I G S0 S H locs cells slots) (hl : gl_M own index yX3_isChosen args s) (hlv : ls.size = nL) (hrest : (rest.map fun v => v.category).sum ≤ 8) (hD : 12 ≤ d0) (hdg : decode cc pc = .ok (.invokevirtual index, 3)) {b : Nat} (hat : g_at S x0 3 = some b) (h : gz_cI (F_X3_isChosen fu x0 x1 S) k = some r)
    (kk : ∀ (v : Int32) (z : gm_S), k v z = some r → ∀ (H : Heap) (locs : List Loc) (cells slots : Nat), gw_I G S0 z H locs cells slots → W p l e (gx_rm d0 S0) s m args below meth c H locs cells slots (gx_MQ below G S0 r.2 r.1 s) (F0 m (pc + 3) ls (.int v :: rest))) : W p l e (gx_rm d0 S0) s m args below meth c H locs cells slots (gx_MQ below G S0 r.2 r.1 s) (F0 m pc ls (va_rf x1 :: va_rf x0 :: rest)) := by
  obtain ⟨rfl, ht⟩ := g_at_s hat
  have hts := cx.2.2.2.2.1
  have hK := cx.2.2.2.2.2.1
  exact gz_goI (d := d0 - 1) (fun S => S) cx hex hI hlv hrest (by omega) (Nat.le_of_ble_eq_true rfl) (gz_ws (lw_meth q906) hts) (hts _ q74) (gb_rawV (As := [va_rf x1]) cx hl (hts _ q905) (hts _ qs20) (gl_C.code (hts _ q906)) hy_X3_isChosen (gr_recv hK hI.1 ht rfl) rfl rfl hdg) (fun o S2 e => M_X3_isChosen (x0 := some b) cx.2.2.2.2.2.2.2.2 (by omega) e) h kk
abbrev B_X3_isBelow (l : Launch) (d0 : Nat) (G : gG) (S0 : gm_S) : Nat → List (Nat × Value) → List Value → gm_S → Outcome → gm_S → Prop := gz_B l RX3 "isBelow" cX3_isBelow 2 (Option.some Jvm.ClassFile.FieldType.boolean) [] d0 G S0
theorem T_X3_isBelow {l : Launch} {G : gG} {S0 : gm_S} {d0 fu : Nat} {r : Outcome × gm_S} (hD : 3 ≤ d0) {x0 : Option Nat} {x1 : Option Nat} {S : gm_S} (h : F_X3_isBelow fu x0 x1 S = some r) : B_X3_isBelow l d0 G S0 0 [(0, va_rf x0), (1, va_rf x1)] [] S r.1 r.2 := by
  unfold F_X3_isBelow at h
  intro p e s m args below meth c H locs cells slots ls cx hnm hex hI hl
  have hx := cx.1
  have hb := cx.2.1
  have hown := cx.2.2.2.1
  have hts := cx.2.2.2.2.1
  have hK := cx.2.2.2.2.2.1
  refine gr_aload_n hx hb x1 dX3_isBelow_0 rfl (lv_at hl 1 rfl) ?_
  obtain ⟨v1, e1, h⟩ := g_bind h
  refine gr_getI cx hI e1 rfl (fun _ => rfl) rfl (Or.inr ⟨_, gk_w hK q437 rfl⟩) dX3_isBelow_1 ?_
  refine gr_aload_n hx hb x0 dX3_isBelow_4 rfl (lv_at hl 0 rfl) ?_
  obtain ⟨a2, t2, h⟩ := gz_q_s h
  refine C_X5_bit cx (gz_nh hex) hI (Or.inl (hts _ q775)) hl.1 (gz_cs (Nat.le_of_ble_eq_true rfl)) (by omega) dX3_isBelow_5 t2 h (fun v2 S2 h H locs cells slots hI => ?_)
  refine lv_iand hx hb dX3_isBelow_8 ?_
  refine lv_if_eq (tgt := 16) hx hb dX3_isBelow_9 rfl (fun hc => ?_) (fun hc => ?_)
  · have h := gz_t h hc
    refine lv_iconst hx hb dX3_isBelow_16 gz_ic_0 ?_
    obtain ⟨hz, h⟩ := g_ifs h
    cases h
    exact gr_zret cx hz hI dX3_isBelow_17
  · have h := gz_f h hc
    refine lv_iconst hx hb dX3_isBelow_12 gz_ic_1 ?_
    refine lv_goto (tgt := 17) hx hb dX3_isBelow_13 rfl ?_
    obtain ⟨hz, h⟩ := g_ifs h
    cases h
    exact gr_zret cx hz hI dX3_isBelow_17
theorem M_X3_isBelow {l : Launch} {G : gG} {fu d0 : Nat} (hfl : l.flags = flags0) (hD : 3 ≤ d0) {x0 : Option Nat} {x1 : Option Nat} {S : gm_S} {o : Outcome} {S2 : gm_S} (h : F_X3_isBelow fu x0 x1 S = some (o, S2)) : gx_Met l yX3_isBelow (ws_ yX3_isBelow cX3_isBelow 2 (Option.some Jvm.ClassFile.FieldType.boolean)) d0 G S [va_rf x0, va_rf x1] o S2 := by
  refine gx_of hfl (by decide) (fun p e s m below meth c cx hnm hex hI => ?_)
  rw [lg_entry_eq]
  cases x0 <;> cases x1 <;> exact T_X3_isBelow (r := (o, S2)) hD h p e s m _ below meth c _ _ _ _ _ cx hnm (gz_nh0 hex) hI (lv_entry _ (Nat.le_of_ble_eq_true rfl))
theorem C_X3_isBelow {p : Program} {l : Launch} {e : Env} {s : State} {m : MethodId} {args : Array Value} {below : List Frame} {meth : Method} {c : Code} {H : Heap} {locs : List Loc} {cells slots : Nat} {cc : ByteArray} {pc nL : Nat} {ls : Array Slot} {rest : List Value} {G : gG} {S0 S : gm_S} {own : String} {ret : Option FieldType} {d0 index fu : Nat} {x0 : Option Nat} {x1 : Option Nat} {k : Int32 → gm_S → gR} {r : Outcome × gm_S} (cx : gx_cx p l s m args meth c G own cc nL ret) (hex : ∀ x ∈ c.exceptionTable.toList, covers x pc = false) (hI : gw_I G S0 S H locs cells slots) (hl : gl_M own index yX3_isBelow args s) (hlv : ls.size = nL) (hrest : (rest.map fun v => v.category).sum ≤ 8) (hD : 4 ≤ d0) (hdg : decode cc pc = .ok (.invokestatic index, 3)) (h : gz_cI (F_X3_isBelow fu x0 x1 S) k = some r)
    (kk : ∀ (v : Int32) (z : gm_S), k v z = some r → ∀ (H : Heap) (locs : List Loc) (cells slots : Nat), gw_I G S0 z H locs cells slots → W p l e (gx_rm d0 S0) s m args below meth c H locs cells slots (gx_MQ below G S0 r.2 r.1 s) (F0 m (pc + 3) ls (.int v :: rest))) : W p l e (gx_rm d0 S0) s m args below meth c H locs cells slots (gx_MQ below G S0 r.2 r.1 s) (F0 m pc ls (va_rf x1 :: va_rf x0 :: rest)) := by
  have hts := cx.2.2.2.2.1
  have hK := cx.2.2.2.2.2.1
  exact gz_goI (d := d0 - 1) (fun S => S) cx hex hI hlv hrest (by omega) (Nat.le_of_ble_eq_true rfl) (gz_ws (lw_meth q917) hts) (hts _ q74) (gb_rawS (As := [va_rf x0, va_rf x1]) cx hl (hts _ q916) (hts _ q74) (gl_C.code (hts _ q917)) hy_X3_isBelow rfl rfl hdg) (fun o S2 e => M_X3_isBelow cx.2.2.2.2.2.2.2.2 (by omega) e) h kk
abbrev B_X3_settle (l : Launch) (d0 : Nat) (G : gG) (S0 : gm_S) : Nat → List (Nat × Value) → List Value → gm_S → Outcome → gm_S → Prop := gz_B l RX3 "settle" cX3_settle 6 (Option.none : Option Jvm.ClassFile.FieldType) [] d0 G S0
theorem T_X3_settle_123 {l : Launch} {G : gG} {S0 : gm_S} {d0 fu : Nat} {k9 : Option Nat → Int32 → gm_S → gR} {r : Outcome × gm_S} (hD : 11 ≤ d0)
    (hk9 : ∀ (x0 : Option Nat) (x1 : Int32) (S : gm_S), k9 x0 x1 S = some r → B_X3_settle l d0 G S0 9 [(0, va_rf x0), (1, .int x1)] [] S r.1 r.2) : ∀ (n : Nat) (x0 : Option Nat) (x1 : Int32) (x2 : Option Nat) (x4 : Int32) (S : gm_S), F_X3_settle_123 fu k9 n x0 x1 x2 x4 S = some r → B_X3_settle l d0 G S0 123 [(0, va_rf x0), (1, .int x1), (2, va_rf x2), (4, .int x4)] [] S r.1 r.2 := by
  intro n
  induction n with
  | zero => intro x0 x1 x2 x4 S h; exact nomatch (show (none : gR) = some r from h)
  | succ n ih =>
    intro x0 x1 x2 x4 S h
    rw [F_X3_settle_123] at h
    intro p e s m args below meth c H locs cells slots ls cx hnm hex hI hl
    have hx := cx.1
    have hb := cx.2.1
    have hown := cx.2.2.2.1
    have hts := cx.2.2.2.2.1
    have hK := cx.2.2.2.2.2.1
    refine lv_iload hx hb dX3_settle_123 (lv_at hl 3 rfl) ?_
    refine lv_if_lt (tgt := 167) hx hb dX3_settle_125 rfl (fun hc => ?_) (fun hc => ?_)
    · have h := gz_t h hc
      refine gr_aload_n hx hb x0 dX3_settle_167 rfl (lv_at hl 0 rfl) ?_
      obtain ⟨v1, e1, h⟩ := g_bind h
      refine gr_getR cx hI e1 rfl (fun _ => rfl) rfl (Or.inl (hts _ q200)) dX3_settle_168 ?_
      refine gr_aload_n hx hb x2 dX3_settle_171 rfl (lv_at hl 2 rfl) ?_
      obtain ⟨S2, e2, h⟩ := g_bind h
      refine gr_laddr cx (gz_nh hex) hI (Or.inl (hts _ q858)) hl.1 (gz_cs (Nat.le_of_ble_eq_true rfl)) (by omega) dX3_settle_172 e2 (fun H locs cells slots hI => ?_)
      refine lv_pop hx hb dX3_settle_175 rfl ?_
      refine gz_iinc (k := 1) (v := (x1 + (1 : Int32))) hx hb dX3_settle_176 hl rfl (congrArg (fun z => x1 + z) gz_ic_1) (by decide) [0] rfl (gz_con ⟨gz_ne rfl, Or.inr (gl_cat x0)⟩ gz_nil) (fun ls hl => ?_)
      refine lv_goto (tgt := 9) hx hb dX3_settle_179 rfl ?_
      exact hk9 _ _ _ h p e s m args below meth c H locs cells slots ls cx hnm hex hI (lv_sub hl [1, 0] rfl)
    · have h := gz_f h hc
      refine gr_aload_n hx hb x0 dX3_settle_128 rfl (lv_at hl 0 rfl) ?_
      obtain ⟨v3, e3, h⟩ := g_bind h
      refine gr_getR cx hI e3 rfl (fun _ => rfl) rfl (Or.inl (hts _ q200)) dX3_settle_129 ?_
      refine lv_iload hx hb dX3_settle_132 (lv_at hl 3 rfl) ?_
      obtain ⟨v4, e4, h⟩ := g_bind h
      refine gr_lgetr cx (gz_nh hex) hI (Or.inl (hts _ q760)) hl.1 (gz_cs (Nat.le_of_ble_eq_true rfl)) (by omega) dX3_settle_134 e4 (fun H locs cells slots hI => ?_)
      obtain ⟨a5, e5, h⟩ := gz_q_s h
      refine gr_ck1 cx hI e5 rfl (hts _ q872) dX3_settle_137 ?_
      obtain ⟨v6, e6, h⟩ := g_bind h
      refine gr_getI cx hI e6 rfl (fun _ => rfl) rfl (Or.inr ⟨_, gk_w hK q634 rfl⟩) dX3_settle_140 ?_
      refine gr_aload_n hx hb x2 dX3_settle_143 rfl (lv_at hl 2 rfl) ?_
      obtain ⟨v7, e7, h⟩ := g_bind h
      refine gr_getI cx hI e7 rfl (fun _ => rfl) rfl (Or.inr ⟨_, gk_w hK q634 rfl⟩) dX3_settle_144 ?_
      refine lv_iand hx hb dX3_settle_147 ?_
      refine lv_if_eq (tgt := 161) hx hb dX3_settle_148 rfl (fun hc => ?_) (fun hc => ?_)
      · have h := gz_t h hc
        refine gz_iinc (k := 3) (v := (x4 + (-1 : Int32))) hx hb dX3_settle_161 hl rfl (congrArg (fun z => x4 + z) gz_ic_m1) (by decide) [0, 1, 2] rfl (gz_con ⟨gz_ne rfl, Or.inl (gz_ne rfl)⟩ (gz_con ⟨gz_ne rfl, Or.inl (gz_ne rfl)⟩ (gz_con ⟨gz_ne rfl, Or.inl (gz_ne rfl)⟩ gz_nil))) (fun ls hl => ?_)
        refine lv_goto (tgt := 123) hx hb dX3_settle_164 rfl ?_
        exact ih _ _ _ _ _ h p e s m args below meth c H locs cells slots ls cx hnm hex hI (lv_sub hl [1, 2, 3, 0] rfl)
      · have h := gz_f h hc
        refine gr_aload_n hx hb x0 dX3_settle_151 rfl (lv_at hl 0 rfl) ?_
        obtain ⟨v8, e8, h⟩ := g_bind h
        refine gr_getR cx hI e8 rfl (fun _ => rfl) rfl (Or.inl (hts _ q200)) dX3_settle_152 ?_
        refine lv_iload hx hb dX3_settle_155 (lv_at hl 3 rfl) ?_
        obtain ⟨q9, e9, h⟩ := g_bind h
        refine gr_lremove cx (gz_nh hex) hI (Or.inl (hts _ q918)) hl.1 (gz_cs (Nat.le_of_ble_eq_true rfl)) (by omega) dX3_settle_157 e9 (fun H locs cells slots hI => ?_)
        refine lv_pop hx hb dX3_settle_160 (gl_cat (some q9.1)) ?_
        refine gz_iinc (k := 3) (v := (x4 + (-1 : Int32))) hx hb dX3_settle_161 hl rfl (congrArg (fun z => x4 + z) gz_ic_m1) (by decide) [0, 1, 2] rfl (gz_con ⟨gz_ne rfl, Or.inl (gz_ne rfl)⟩ (gz_con ⟨gz_ne rfl, Or.inl (gz_ne rfl)⟩ (gz_con ⟨gz_ne rfl, Or.inl (gz_ne rfl)⟩ gz_nil))) (fun ls hl => ?_)
        refine lv_goto (tgt := 123) hx hb dX3_settle_164 rfl ?_
        exact ih _ _ _ _ _ h p e s m args below meth c H locs cells slots ls cx hnm hex hI (lv_sub hl [1, 2, 3, 0] rfl)
theorem T_X3_settle_37 {l : Launch} {G : gG} {S0 : gm_S} {d0 fu : Nat} {k9 : Option Nat → Int32 → gm_S → gR} {r : Outcome × gm_S} (hD : 11 ≤ d0)
    (hk9 : ∀ (x0 : Option Nat) (x1 : Int32) (S : gm_S), k9 x0 x1 S = some r → B_X3_settle l d0 G S0 9 [(0, va_rf x0), (1, .int x1)] [] S r.1 r.2) : ∀ (n : Nat) (x0 : Option Nat) (x1 : Int32) (x2 : Option Nat) (x3 : Int32) (x4 : Int32) (S : gm_S), F_X3_settle_37 fu k9 n x0 x1 x2 x3 x4 S = some r → B_X3_settle l d0 G S0 37 [(0, va_rf x0), (1, .int x1), (2, va_rf x2), (3, .int x3), (4, .int x4)] [] S r.1 r.2 := by
  intro n
  induction n with
  | zero => intro x0 x1 x2 x3 x4 S h; exact nomatch (show (none : gR) = some r from h)
  | succ n ih =>
    intro x0 x1 x2 x3 x4 S h
    rw [F_X3_settle_37] at h
    intro p e s m args below meth c H locs cells slots ls cx hnm hex hI hl
    have hx := cx.1
    have hb := cx.2.1
    have hown := cx.2.2.2.1
    have hts := cx.2.2.2.2.1
    have hK := cx.2.2.2.2.2.1
    refine lv_iload hx hb dX3_settle_37 (lv_at hl 4 rfl) ?_
    refine gr_aload_n hx hb x0 dX3_settle_39 rfl (lv_at hl 0 rfl) ?_
    obtain ⟨v1, e1, h⟩ := g_bind h
    refine gr_getR cx hI e1 rfl (fun _ => rfl) rfl (Or.inl (hts _ q200)) dX3_settle_40 ?_
    obtain ⟨v2, e2, h⟩ := g_bind h
    refine gr_lsize cx (gz_nh hex) hI (Or.inl (hts _ q759)) hl.1 (gz_cs (Nat.le_of_ble_eq_true rfl)) (by omega) dX3_settle_43 e2 (fun H locs cells slots hI => ?_)
    refine lv_icmp_ge (tgt := 105) hx hb dX3_settle_46 rfl (fun hc => ?_) (fun hc => ?_)
    · have h := gz_t h hc
      refine lv_iload_n hx hb dX3_settle_105 rfl (lv_at hl 3 rfl) ?_
      refine lv_if_ne (tgt := 112) hx hb dX3_settle_106 rfl (fun hc => ?_) (fun hc => ?_)
      · have h := gz_f h hc
        refine gr_aload_n hx hb x0 dX3_settle_112 rfl (lv_at hl 0 rfl) ?_
        obtain ⟨v3, e3, h⟩ := g_bind h
        refine gr_getR cx hI e3 rfl (fun _ => rfl) rfl (Or.inl (hts _ q200)) dX3_settle_113 ?_
        obtain ⟨v4, e4, h⟩ := g_bind h
        refine gr_lsize cx (gz_nh hex) hI (Or.inl (hts _ q759)) hl.1 (gz_cs (Nat.le_of_ble_eq_true rfl)) (by omega) dX3_settle_116 e4 (fun H locs cells slots hI => ?_)
        refine lv_iconst hx hb dX3_settle_119 gz_ic_1 ?_
        refine lv_isub hx hb dX3_settle_120 ?_
        refine gz_istore hx hb dX3_settle_121 hl (by decide) [0, 1, 2] rfl (gz_con ⟨gz_ne rfl, Or.inl (gz_ne rfl)⟩ (gz_con ⟨gz_ne rfl, Or.inl (gz_ne rfl)⟩ (gz_con ⟨gz_ne rfl, Or.inl (gz_ne rfl)⟩ gz_nil))) (fun ls hl => ?_)
        exact T_X3_settle_123 hD hk9 fu _ _ _ _ _ h p e s m args below meth c H locs cells slots ls cx hnm hex hI (lv_sub hl [1, 2, 3, 0] rfl)
      · have h := gz_t h hc
        refine lv_goto (tgt := 176) hx hb dX3_settle_109 rfl ?_
        refine gz_iinc (k := 1) (v := (x1 + (1 : Int32))) hx hb dX3_settle_176 hl rfl (congrArg (fun z => x1 + z) gz_ic_1) (by decide) [0] rfl (gz_con ⟨gz_ne rfl, Or.inr (gl_cat x0)⟩ gz_nil) (fun ls hl => ?_)
        refine lv_goto (tgt := 9) hx hb dX3_settle_179 rfl ?_
        exact hk9 _ _ _ h p e s m args below meth c H locs cells slots ls cx hnm hex hI (lv_sub hl [1, 0] rfl)
    · have h := gz_f h hc
      refine gr_aload_n hx hb x0 dX3_settle_49 rfl (lv_at hl 0 rfl) ?_
      obtain ⟨v5, e5, h⟩ := g_bind h
      refine gr_getR cx hI e5 rfl (fun _ => rfl) rfl (Or.inl (hts _ q200)) dX3_settle_50 ?_
      refine lv_iload hx hb dX3_settle_53 (lv_at hl 4 rfl) ?_
      obtain ⟨v6, e6, h⟩ := g_bind h
      refine gr_lgetr cx (gz_nh hex) hI (Or.inl (hts _ q760)) hl.1 (gz_cs (Nat.le_of_ble_eq_true rfl)) (by omega) dX3_settle_55 e6 (fun H locs cells slots hI => ?_)
      obtain ⟨a7, e7, h⟩ := gz_q_s h
      refine gr_ck1 cx hI e7 rfl (hts _ q872) dX3_settle_58 ?_
      refine gz_astore hx hb dX3_settle_61 hl (by decide) [0, 1, 2, 3, 4] rfl (gz_con ⟨gz_ne rfl, Or.inl (gz_ne rfl)⟩ (gz_con ⟨gz_ne rfl, Or.inl (gz_ne rfl)⟩ (gz_con ⟨gz_ne rfl, Or.inl (gz_ne rfl)⟩ (gz_con ⟨gz_ne rfl, Or.inl (gz_ne rfl)⟩ (gz_con ⟨gz_ne rfl, Or.inr rfl⟩ gz_nil))))) (fun ls hl => ?_)
      refine lv_iload_n hx hb dX3_settle_63 rfl (lv_at hl 4 rfl) ?_
      refine gr_aload hx hb (some v6) dX3_settle_64 (lv_at hl 0 rfl) ?_
      obtain ⟨v8, e8, h⟩ := g_bind h
      refine gr_getI cx hI e8 rfl (fun _ => rfl) rfl (Or.inr ⟨_, gk_w hK q634 rfl⟩) dX3_settle_66 ?_
      refine gr_aload_n hx hb x2 dX3_settle_69 rfl (lv_at hl 3 rfl) ?_
      obtain ⟨v9, e9, h⟩ := g_bind h
      refine gr_getI cx hI e9 rfl (fun _ => rfl) rfl (Or.inr ⟨_, gk_w hK q634 rfl⟩) dX3_settle_70 ?_
      refine lv_iand hx hb dX3_settle_73 ?_
      refine lv_if_eq (tgt := 92) hx hb dX3_settle_74 rfl (fun hc => ?_) (fun hc => ?_)
      · have h := gz_t h hc
        refine lv_iconst hx hb dX3_settle_92 gz_ic_1 ?_
        refine lv_goto (tgt := 97) hx hb dX3_settle_93 rfl ?_
        refine lv_iand hx hb dX3_settle_97 ?_
        refine gz_istore_n hx hb dX3_settle_98 rfl hl (by decide) [1, 2, 3, 5] rfl (gz_con ⟨gz_ne rfl, Or.inl (gz_ne rfl)⟩ (gz_con ⟨gz_ne rfl, Or.inl (gz_ne rfl)⟩ (gz_con ⟨gz_ne rfl, Or.inr (gl_cat x2)⟩ (gz_con ⟨gz_ne rfl, Or.inl (gz_ne rfl)⟩ gz_nil)))) (fun ls hl => ?_)
        refine gz_iinc (k := 4) (v := (x4 + (1 : Int32))) hx hb dX3_settle_99 hl rfl (congrArg (fun z => x4 + z) gz_ic_1) (by decide) [0, 1, 2, 3] rfl (gz_con ⟨gz_ne rfl, Or.inr rfl⟩ (gz_con ⟨gz_ne rfl, Or.inl (gz_ne rfl)⟩ (gz_con ⟨gz_ne rfl, Or.inl (gz_ne rfl)⟩ (gz_con ⟨gz_ne rfl, Or.inl (gz_ne rfl)⟩ gz_nil)))) (fun ls hl => ?_)
        refine lv_goto (tgt := 37) hx hb dX3_settle_102 rfl ?_
        exact ih _ _ _ _ _ _ h p e s m args below meth c H locs cells slots ls cx hnm hex hI (lv_sub hl [2, 3, 4, 1, 0] rfl)
      · have h := gz_f h hc
        refine gr_aload_n hx hb x2 dX3_settle_77 rfl (lv_at hl 3 rfl) ?_
        obtain ⟨v10, e10, h⟩ := g_bind h
        refine gr_getR cx hI e10 rfl (fun _ => rfl) rfl (Or.inr ⟨_, gk_w hK q623 rfl⟩) dX3_settle_78 ?_
        refine gr_aload hx hb (some v6) dX3_settle_81 (lv_at hl 0 rfl) ?_
        obtain ⟨v11, e11, h⟩ := g_bind h
        refine gr_getR cx hI e11 rfl (fun _ => rfl) rfl (Or.inr ⟨_, gk_w hK q623 rfl⟩) dX3_settle_83 ?_
        refine C_X3_isBelow cx (gz_nh hex) hI (Or.inl (hts _ q915)) hl.1 (gz_cs (Nat.le_of_ble_eq_true rfl)) (by omega) dX3_settle_86 h (fun v12 S12 h H locs cells slots hI => ?_)
        refine lv_if_eq (tgt := 96) hx hb dX3_settle_89 rfl (fun hc => ?_) (fun hc => ?_)
        · have h := gz_t h hc
          refine lv_iconst hx hb dX3_settle_96 gz_ic_0 ?_
          refine lv_iand hx hb dX3_settle_97 ?_
          refine gz_istore_n hx hb dX3_settle_98 rfl hl (by decide) [1, 2, 3, 5] rfl (gz_con ⟨gz_ne rfl, Or.inl (gz_ne rfl)⟩ (gz_con ⟨gz_ne rfl, Or.inl (gz_ne rfl)⟩ (gz_con ⟨gz_ne rfl, Or.inr (gl_cat x2)⟩ (gz_con ⟨gz_ne rfl, Or.inl (gz_ne rfl)⟩ gz_nil)))) (fun ls hl => ?_)
          refine gz_iinc (k := 4) (v := (x4 + (1 : Int32))) hx hb dX3_settle_99 hl rfl (congrArg (fun z => x4 + z) gz_ic_1) (by decide) [0, 1, 2, 3] rfl (gz_con ⟨gz_ne rfl, Or.inr rfl⟩ (gz_con ⟨gz_ne rfl, Or.inl (gz_ne rfl)⟩ (gz_con ⟨gz_ne rfl, Or.inl (gz_ne rfl)⟩ (gz_con ⟨gz_ne rfl, Or.inl (gz_ne rfl)⟩ gz_nil)))) (fun ls hl => ?_)
          refine lv_goto (tgt := 37) hx hb dX3_settle_102 rfl ?_
          exact ih _ _ _ _ _ _ h p e s m args below meth c H locs cells slots ls cx hnm hex hI (lv_sub hl [2, 3, 4, 1, 0] rfl)
        · have h := gz_f h hc
          refine lv_iconst hx hb dX3_settle_92 gz_ic_1 ?_
          refine lv_goto (tgt := 97) hx hb dX3_settle_93 rfl ?_
          refine lv_iand hx hb dX3_settle_97 ?_
          refine gz_istore_n hx hb dX3_settle_98 rfl hl (by decide) [1, 2, 3, 5] rfl (gz_con ⟨gz_ne rfl, Or.inl (gz_ne rfl)⟩ (gz_con ⟨gz_ne rfl, Or.inl (gz_ne rfl)⟩ (gz_con ⟨gz_ne rfl, Or.inr (gl_cat x2)⟩ (gz_con ⟨gz_ne rfl, Or.inl (gz_ne rfl)⟩ gz_nil)))) (fun ls hl => ?_)
          refine gz_iinc (k := 4) (v := (x4 + (1 : Int32))) hx hb dX3_settle_99 hl rfl (congrArg (fun z => x4 + z) gz_ic_1) (by decide) [0, 1, 2, 3] rfl (gz_con ⟨gz_ne rfl, Or.inr rfl⟩ (gz_con ⟨gz_ne rfl, Or.inl (gz_ne rfl)⟩ (gz_con ⟨gz_ne rfl, Or.inl (gz_ne rfl)⟩ (gz_con ⟨gz_ne rfl, Or.inl (gz_ne rfl)⟩ gz_nil)))) (fun ls hl => ?_)
          refine lv_goto (tgt := 37) hx hb dX3_settle_102 rfl ?_
          exact ih _ _ _ _ _ _ h p e s m args below meth c H locs cells slots ls cx hnm hex hI (lv_sub hl [2, 3, 4, 1, 0] rfl)
theorem T_X3_settle_9 {l : Launch} {G : gG} {S0 : gm_S} {d0 fu : Nat} {r : Outcome × gm_S} (hD : 11 ≤ d0) : ∀ (n : Nat) (x0 : Option Nat) (x1 : Int32) (S : gm_S), F_X3_settle_9 fu n x0 x1 S = some r → B_X3_settle l d0 G S0 9 [(0, va_rf x0), (1, .int x1)] [] S r.1 r.2 := by
  intro n
  induction n with
  | zero => intro x0 x1 S h; exact nomatch (show (none : gR) = some r from h)
  | succ n ih =>
    intro x0 x1 S h
    rw [F_X3_settle_9] at h
    intro p e s m args below meth c H locs cells slots ls cx hnm hex hI hl
    have hx := cx.1
    have hb := cx.2.1
    have hown := cx.2.2.2.1
    have hts := cx.2.2.2.2.1
    have hK := cx.2.2.2.2.2.1
    refine lv_iload_n hx hb dX3_settle_9 rfl (lv_at hl 1 rfl) ?_
    refine gr_aload_n hx hb x0 dX3_settle_10 rfl (lv_at hl 0 rfl) ?_
    obtain ⟨v1, e1, h⟩ := g_bind h
    refine gr_getR cx hI e1 rfl (fun _ => rfl) rfl (Or.inl (hts _ q199)) dX3_settle_11 ?_
    obtain ⟨v2, e2, h⟩ := g_bind h
    refine gr_lsize cx (gz_nh hex) hI (Or.inl (hts _ q759)) hl.1 (gz_cs (Nat.le_of_ble_eq_true rfl)) (by omega) dX3_settle_14 e2 (fun H locs cells slots hI => ?_)
    refine lv_icmp_ge (tgt := 182) hx hb dX3_settle_17 rfl (fun hc => ?_) (fun hc => ?_)
    · have h := gz_t h hc
      refine gr_aload_n hx hb x0 dX3_settle_182 rfl (lv_at hl 0 rfl) ?_
      obtain ⟨v3, e3, h⟩ := g_bind h
      refine gr_getR cx hI e3 rfl (fun _ => rfl) rfl (Or.inl (hts _ q200)) dX3_settle_183 ?_
      refine gz_astore_n hx hb dX3_settle_186 rfl hl (by decide) [0] rfl (gz_con ⟨gz_ne rfl, Or.inr (gl_cat x0)⟩ gz_nil) (fun ls hl => ?_)
      refine gr_aload_n hx hb x0 dX3_settle_187 rfl (lv_at hl 1 rfl) ?_
      refine gr_aload_n hx hb x0 dX3_settle_188 rfl (lv_at hl 1 rfl) ?_
      obtain ⟨v4, e4, h⟩ := g_bind h
      refine gr_getR cx hI e4 rfl (fun _ => rfl) rfl (Or.inl (hts _ q199)) dX3_settle_189 ?_
      obtain ⟨S5, e5, h⟩ := g_bind h
      refine gr_putR cx hI e5 rfl rfl rfl (Or.inl (hts _ q200)) (Or.inl rfl) dX3_settle_192 (fun H locs hI => ?_)
      refine gr_aload_n hx hb x0 dX3_settle_195 rfl (lv_at hl 1 rfl) ?_
      refine gr_aload_n hx hb v3 dX3_settle_196 rfl (lv_at hl 0 rfl) ?_
      obtain ⟨S6, e6, h⟩ := g_bind h
      refine gr_putR cx hI e6 rfl rfl rfl (Or.inl (hts _ q199)) (Or.inl rfl) dX3_settle_197 (fun H locs hI => ?_)
      cases h
      exact gr_vret cx hI dX3_settle_200
    · have h := gz_f h hc
      refine gr_aload_n hx hb x0 dX3_settle_20 rfl (lv_at hl 0 rfl) ?_
      obtain ⟨v7, e7, h⟩ := g_bind h
      refine gr_getR cx hI e7 rfl (fun _ => rfl) rfl (Or.inl (hts _ q199)) dX3_settle_21 ?_
      refine lv_iload_n hx hb dX3_settle_24 rfl (lv_at hl 1 rfl) ?_
      obtain ⟨v8, e8, h⟩ := g_bind h
      refine gr_lgetr cx (gz_nh hex) hI (Or.inl (hts _ q760)) hl.1 (gz_cs (Nat.le_of_ble_eq_true rfl)) (by omega) dX3_settle_25 e8 (fun H locs cells slots hI => ?_)
      obtain ⟨a9, e9, h⟩ := gz_q_s h
      refine gr_ck1 cx hI e9 rfl (hts _ q872) dX3_settle_28 ?_
      refine gz_astore_n hx hb dX3_settle_31 rfl hl (by decide) [0, 1] rfl (gz_con ⟨gz_ne rfl, Or.inl (gz_ne rfl)⟩ (gz_con ⟨gz_ne rfl, Or.inr rfl⟩ gz_nil)) (fun ls hl => ?_)
      refine lv_iconst hx hb dX3_settle_32 gz_ic_1 ?_
      refine gz_istore_n hx hb dX3_settle_33 rfl hl (by decide) [0, 1, 2] rfl (gz_con ⟨gz_ne rfl, Or.inr (gl_cat (some v8))⟩ (gz_con ⟨gz_ne rfl, Or.inl (gz_ne rfl)⟩ (gz_con ⟨gz_ne rfl, Or.inl (gz_ne rfl)⟩ gz_nil))) (fun ls hl => ?_)
      refine lv_iconst hx hb dX3_settle_34 gz_ic_0 ?_
      refine gz_istore hx hb dX3_settle_35 hl (by decide) [0, 1, 2, 3] rfl (gz_con ⟨gz_ne rfl, Or.inr rfl⟩ (gz_con ⟨gz_ne rfl, Or.inl (gz_ne rfl)⟩ (gz_con ⟨gz_ne rfl, Or.inl (gz_ne rfl)⟩ (gz_con ⟨gz_ne rfl, Or.inl (gz_ne rfl)⟩ gz_nil)))) (fun ls hl => ?_)
      exact T_X3_settle_37 hD ih fu _ _ _ _ _ _ h p e s m args below meth c H locs cells slots ls cx hnm hex hI (lv_sub hl [3, 4, 2, 1, 0] rfl)
theorem T_X3_settle {l : Launch} {G : gG} {S0 : gm_S} {d0 fu : Nat} {r : Outcome × gm_S} (hD : 11 ≤ d0) {x0 : Option Nat} {S : gm_S} (h : F_X3_settle fu x0 S = some r) : B_X3_settle l d0 G S0 0 [(0, va_rf x0)] [] S r.1 r.2 := by
  unfold F_X3_settle at h
  intro p e s m args below meth c H locs cells slots ls cx hnm hex hI hl
  have hx := cx.1
  have hb := cx.2.1
  have hown := cx.2.2.2.1
  have hts := cx.2.2.2.2.1
  have hK := cx.2.2.2.2.2.1
  refine gr_aload_n hx hb x0 dX3_settle_0 rfl (lv_at hl 0 rfl) ?_
  obtain ⟨v1, e1, h⟩ := g_bind h
  refine gr_getR cx hI e1 rfl (fun _ => rfl) rfl (Or.inl (hts _ q200)) dX3_settle_1 ?_
  obtain ⟨S2, e2, h⟩ := g_bind h
  refine gr_lclear cx (gz_nh hex) hI (Or.inl (hts _ q723)) hl.1 (gz_cs (Nat.le_of_ble_eq_true rfl)) (by omega) dX3_settle_4 e2 (fun H locs cells slots hI => ?_)
  refine lv_iconst hx hb dX3_settle_7 gz_ic_0 ?_
  refine gz_istore_n hx hb dX3_settle_8 rfl hl (by decide) [0] rfl (gz_con ⟨gz_ne rfl, Or.inr (gl_cat x0)⟩ gz_nil) (fun ls hl => ?_)
  exact T_X3_settle_9 hD fu _ _ _ h p e s m args below meth c H locs cells slots ls cx hnm hex hI (lv_sub hl [1, 0] rfl)
theorem M_X3_settle {l : Launch} {G : gG} {fu d0 : Nat} (hfl : l.flags = flags0) (hD : 11 ≤ d0) {x0 : Option Nat} {S : gm_S} {o : Outcome} {S2 : gm_S} (h : F_X3_settle fu x0 S = some (o, S2)) : gx_Met l yX3_settle (ws_ yX3_settle cX3_settle 6 (Option.none : Option Jvm.ClassFile.FieldType)) d0 G S [va_rf x0] o S2 := by
  refine gx_of hfl (by decide) (fun p e s m below meth c cx hnm hex hI => ?_)
  rw [lg_entry_eq]
  cases x0 <;> exact T_X3_settle (r := (o, S2)) hD h p e s m _ below meth c _ _ _ _ _ cx hnm (gz_nh0 hex) hI (lv_entry _ (Nat.le_of_ble_eq_true rfl))
theorem C_X3_settle {p : Program} {l : Launch} {e : Env} {s : State} {m : MethodId} {args : Array Value} {below : List Frame} {meth : Method} {c : Code} {H : Heap} {locs : List Loc} {cells slots : Nat} {cc : ByteArray} {pc nL : Nat} {ls : Array Slot} {rest : List Value} {G : gG} {S0 S : gm_S} {own : String} {ret : Option FieldType} {d0 index fu : Nat} {x0 : Option Nat} {k : gm_S → gR} {r : Outcome × gm_S} (cx : gx_cx p l s m args meth c G own cc nL ret) (hex : ∀ x ∈ c.exceptionTable.toList, covers x pc = false) (hI : gw_I G S0 S H locs cells slots) (hl : gl_M own index yX3_settle args s) (hlv : ls.size = nL) (hrest : (rest.map fun v => v.category).sum ≤ 8) (hD : 12 ≤ d0) (hdg : decode cc pc = .ok (.invokevirtual index, 3)) {b : Nat} (hat : g_at S x0 3 = some b) (h : gz_cV (F_X3_settle fu x0 S) k = some r)
    (kk : ∀ (z : gm_S), k z = some r → ∀ (H : Heap) (locs : List Loc) (cells slots : Nat), gw_I G S0 z H locs cells slots → W p l e (gx_rm d0 S0) s m args below meth c H locs cells slots (gx_MQ below G S0 r.2 r.1 s) (F0 m (pc + 3) ls rest)) : W p l e (gx_rm d0 S0) s m args below meth c H locs cells slots (gx_MQ below G S0 r.2 r.1 s) (F0 m pc ls (va_rf x0 :: rest)) := by
  obtain ⟨rfl, ht⟩ := g_at_s hat
  have hts := cx.2.2.2.2.1
  have hK := cx.2.2.2.2.2.1
  exact gz_goV (d := d0 - 1) (fun S => S) cx hex hI hlv hrest (by omega) (Nat.le_of_ble_eq_true rfl) (gz_ws (lw_meth q914) hts) (hts _ q74) (gb_rawV (As := []) cx hl (hts _ q913) (hts _ qs22) (gl_C.code (hts _ q914)) hy_X3_settle (gr_recv hK hI.1 ht rfl) rfl rfl hdg) (fun o S2 e => M_X3_settle (x0 := some b) cx.2.2.2.2.2.2.2.2 (by omega) e) h kk
abbrev B_X3_choose (l : Launch) (d0 : Nat) (G : gG) (S0 : gm_S) : Nat → List (Nat × Value) → List Value → gm_S → Outcome → gm_S → Prop := gz_B l RX3 "choose" cX3_choose 6 (Option.none : Option Jvm.ClassFile.FieldType) [] d0 G S0
theorem T_X3_choose_120 {l : Launch} {G : gG} {S0 : gm_S} {d0 fu : Nat} {r : Outcome × gm_S} (hD : 13 ≤ d0) : ∀ (n : Nat) (x0 : Option Nat) (x2 : Int32) (S : gm_S), F_X3_choose_120 fu n x0 x2 S = some r → B_X3_choose l d0 G S0 120 [(0, va_rf x0), (2, .int x2)] [] S r.1 r.2 := by
  intro n
  induction n with
  | zero => intro x0 x2 S h; exact nomatch (show (none : gR) = some r from h)
  | succ n ih =>
    intro x0 x2 S h
    rw [F_X3_choose_120] at h
    intro p e s m args below meth c H locs cells slots ls cx hnm hex hI hl
    have hx := cx.1
    have hb := cx.2.1
    have hown := cx.2.2.2.1
    have hts := cx.2.2.2.2.1
    have hK := cx.2.2.2.2.2.1
    refine lv_iload_n hx hb dX3_choose_120 rfl (lv_at hl 1 rfl) ?_
    refine gr_aload_n hx hb x0 dX3_choose_121 rfl (lv_at hl 0 rfl) ?_
    obtain ⟨v1, e1, h⟩ := g_bind h
    refine gr_getR cx hI e1 rfl (fun _ => rfl) rfl (Or.inl (hts _ q199)) dX3_choose_122 ?_
    obtain ⟨v2, e2, h⟩ := g_bind h
    refine gr_lsize cx (gz_nh hex) hI (Or.inl (hts _ q759)) hl.1 (gz_cs (Nat.le_of_ble_eq_true rfl)) (by omega) dX3_choose_125 e2 (fun H locs cells slots hI => ?_)
    refine lv_icmp_ge (tgt := 152) hx hb dX3_choose_128 rfl (fun hc => ?_) (fun hc => ?_)
    · have h := gz_t h hc
      refine gr_aload_n hx hb x0 dX3_choose_152 rfl (lv_at hl 0 rfl) ?_
      obtain ⟨a3, t3, h⟩ := gz_q_s h
      refine C_X3_settle cx (gz_nh hex) hI (Or.inl (hts _ q911)) hl.1 (gz_cs (Nat.le_of_ble_eq_true rfl)) (by omega) dX3_choose_153 t3 h (fun S3 h H locs cells slots hI => ?_)
      cases h
      exact gr_vret cx hI dX3_choose_156
    · have h := gz_f h hc
      refine gr_aload_n hx hb x0 dX3_choose_131 rfl (lv_at hl 0 rfl) ?_
      refine gr_aload_n hx hb x0 dX3_choose_132 rfl (lv_at hl 0 rfl) ?_
      obtain ⟨v4, e4, h⟩ := g_bind h
      refine gr_getR cx hI e4 rfl (fun _ => rfl) rfl (Or.inl (hts _ q199)) dX3_choose_133 ?_
      refine lv_iload_n hx hb dX3_choose_136 rfl (lv_at hl 1 rfl) ?_
      obtain ⟨v5, e5, h⟩ := g_bind h
      refine gr_lgetr cx (gz_nh hex) hI (Or.inl (hts _ q760)) hl.1 (gz_cs (Nat.le_of_ble_eq_true rfl)) (by omega) dX3_choose_137 e5 (fun H locs cells slots hI => ?_)
      obtain ⟨a6, e6, h⟩ := gz_q_s h
      refine gr_ck1 cx hI e6 rfl (hts _ q872) dX3_choose_140 ?_
      obtain ⟨a7, t7, h⟩ := gz_q_s h
      refine C_X3_aim cx (gz_nh hex) hI (Or.inl (hts _ q907)) hl.1 (gz_cs (Nat.le_of_ble_eq_true rfl)) (by omega) dX3_choose_143 t7 h (fun S7 h H locs cells slots hI => ?_)
      refine gz_iinc (k := 1) (v := (x2 + (1 : Int32))) hx hb dX3_choose_146 hl rfl (congrArg (fun z => x2 + z) gz_ic_1) (by decide) [0] rfl (gz_con ⟨gz_ne rfl, Or.inl (gz_ne rfl)⟩ gz_nil) (fun ls hl => ?_)
      refine lv_goto (tgt := 120) hx hb dX3_choose_149 rfl ?_
      exact ih _ _ _ h p e s m args below meth c H locs cells slots ls cx hnm hex hI (lv_sub hl [1, 0] rfl)
theorem T_X3_choose_88 {l : Launch} {G : gG} {S0 : gm_S} {d0 fu : Nat} {k9 : Option Nat → Int32 → Int32 → gm_S → gR} {r : Outcome × gm_S} (hD : 13 ≤ d0)
    (hk9 : ∀ (x0 : Option Nat) (x1 : Int32) (x2 : Int32) (S : gm_S), k9 x0 x1 x2 S = some r → B_X3_choose l d0 G S0 9 [(0, va_rf x0), (1, .int x1), (2, .int x2)] [] S r.1 r.2) {x0 : Option Nat} {x1 : Int32} {x2 : Int32} {x4 : Option Nat} {S : gm_S} (h : F_X3_choose_88 fu k9 x0 x1 x2 x4 S = some r) : B_X3_choose l d0 G S0 88 [(0, va_rf x0), (1, .int x1), (2, .int x2), (4, va_rf x4)] [] S r.1 r.2 := by
  unfold F_X3_choose_88 at h
  intro p e s m args below meth c H locs cells slots ls cx hnm hex hI hl
  have hx := cx.1
  have hb := cx.2.1
  have hown := cx.2.2.2.1
  have hts := cx.2.2.2.2.1
  have hK := cx.2.2.2.2.2.1
  refine gr_aload hx hb x4 dX3_choose_88 (lv_at hl 3 rfl) ?_
  refine gr_ifnull (tgt := 112) hx hb dX3_choose_90 rfl (fun hc => ?_) (fun hc => ?_)
  · have h := gz_t h hc
    refine gz_iinc (k := 2) (v := (x2 + (1 : Int32))) hx hb dX3_choose_112 hl rfl (congrArg (fun z => x2 + z) gz_ic_1) (by decide) [0, 1] rfl (gz_con ⟨gz_ne rfl, Or.inl (gz_ne rfl)⟩ (gz_con ⟨gz_ne rfl, Or.inr rfl⟩ gz_nil)) (fun ls hl => ?_)
    refine lv_goto (tgt := 9) hx hb dX3_choose_115 rfl ?_
    exact hk9 _ _ _ _ h p e s m args below meth c H locs cells slots ls cx hnm hex hI (lv_sub hl [1, 2, 0] rfl)
  · have h := gz_f h hc
    refine gr_aload_n hx hb x0 dX3_choose_93 rfl (lv_at hl 0 rfl) ?_
    refine gr_aload hx hb x4 dX3_choose_94 (lv_at hl 3 rfl) ?_
    obtain ⟨a1, t1, h⟩ := gz_q_s h
    refine C_X3_isChosen cx (gz_nh hex) hI (Or.inl (hts _ q903)) hl.1 (gz_cs (Nat.le_of_ble_eq_true rfl)) (by omega) dX3_choose_96 t1 h (fun v1 S1 h H locs cells slots hI => ?_)
    refine lv_if_ne (tgt := 112) hx hb dX3_choose_99 rfl (fun hc => ?_) (fun hc => ?_)
    · have h := gz_f h hc
      refine gz_iinc (k := 2) (v := (x2 + (1 : Int32))) hx hb dX3_choose_112 hl rfl (congrArg (fun z => x2 + z) gz_ic_1) (by decide) [0, 1] rfl (gz_con ⟨gz_ne rfl, Or.inl (gz_ne rfl)⟩ (gz_con ⟨gz_ne rfl, Or.inr rfl⟩ gz_nil)) (fun ls hl => ?_)
      refine lv_goto (tgt := 9) hx hb dX3_choose_115 rfl ?_
      exact hk9 _ _ _ _ h p e s m args below meth c H locs cells slots ls cx hnm hex hI (lv_sub hl [1, 2, 0] rfl)
    · have h := gz_t h hc
      refine gr_aload_n hx hb x0 dX3_choose_102 rfl (lv_at hl 0 rfl) ?_
      obtain ⟨v2, e2, h⟩ := g_bind h
      refine gr_getR cx hI e2 rfl (fun _ => rfl) rfl (Or.inl (hts _ q199)) dX3_choose_103 ?_
      refine gr_aload hx hb x4 dX3_choose_106 (lv_at hl 3 rfl) ?_
      obtain ⟨S3, e3, h⟩ := g_bind h
      refine gr_laddr cx (gz_nh hex) hI (Or.inl (hts _ q858)) hl.1 (gz_cs (Nat.le_of_ble_eq_true rfl)) (by omega) dX3_choose_108 e3 (fun H locs cells slots hI => ?_)
      refine lv_pop hx hb dX3_choose_111 rfl ?_
      refine gz_iinc (k := 2) (v := (x2 + (1 : Int32))) hx hb dX3_choose_112 hl rfl (congrArg (fun z => x2 + z) gz_ic_1) (by decide) [0, 1] rfl (gz_con ⟨gz_ne rfl, Or.inl (gz_ne rfl)⟩ (gz_con ⟨gz_ne rfl, Or.inr rfl⟩ gz_nil)) (fun ls hl => ?_)
      refine lv_goto (tgt := 9) hx hb dX3_choose_115 rfl ?_
      exact hk9 _ _ _ _ h p e s m args below meth c H locs cells slots ls cx hnm hex hI (lv_sub hl [1, 2, 0] rfl)
theorem T_X3_choose_59 {l : Launch} {G : gG} {S0 : gm_S} {d0 fu : Nat} {k9 : Option Nat → Int32 → Int32 → gm_S → gR} {r : Outcome × gm_S} (hD : 13 ≤ d0)
    (hk9 : ∀ (x0 : Option Nat) (x1 : Int32) (x2 : Int32) (S : gm_S), k9 x0 x1 x2 S = some r → B_X3_choose l d0 G S0 9 [(0, va_rf x0), (1, .int x1), (2, .int x2)] [] S r.1 r.2) : ∀ (n : Nat) (x0 : Option Nat) (x1 : Int32) (x2 : Int32) (x4 : Option Nat) (x5 : Option Nat) (S : gm_S), F_X3_choose_59 fu k9 n x0 x1 x2 x4 x5 S = some r → B_X3_choose l d0 G S0 59 [(0, va_rf x0), (1, .int x1), (2, .int x2), (4, va_rf x4), (5, va_rf x5)] [] S r.1 r.2 := by
  intro n
  induction n with
  | zero => intro x0 x1 x2 x4 x5 S h; exact nomatch (show (none : gR) = some r from h)
  | succ n ih =>
    intro x0 x1 x2 x4 x5 S h
    rw [F_X3_choose_59] at h
    intro p e s m args below meth c H locs cells slots ls cx hnm hex hI hl
    have hx := cx.1
    have hb := cx.2.1
    have hown := cx.2.2.2.1
    have hts := cx.2.2.2.2.1
    have hK := cx.2.2.2.2.2.1
    refine gr_aload hx hb x5 dX3_choose_59 (lv_at hl 4 rfl) ?_
    refine gr_ifnull (tgt := 88) hx hb dX3_choose_61 rfl (fun hc => ?_) (fun hc => ?_)
    · have h := gz_t h hc
      exact T_X3_choose_88 hD hk9 h p e s m args below meth c H locs cells slots ls cx hnm hex hI (lv_sub hl [0, 1, 2, 3] rfl)
    · have h := gz_f h hc
      refine gr_aload hx hb x4 dX3_choose_64 (lv_at hl 3 rfl) ?_
      refine gr_ifnonnull (tgt := 88) hx hb dX3_choose_66 rfl (fun hc => ?_) (fun hc => ?_)
      · have h := gz_f h hc
        exact T_X3_choose_88 hD hk9 h p e s m args below meth c H locs cells slots ls cx hnm hex hI (lv_sub hl [0, 1, 2, 3] rfl)
      · have h := gz_t h hc
        refine gr_aload_n hx hb x0 dX3_choose_69 rfl (lv_at hl 0 rfl) ?_
        refine gr_aload hx hb x5 dX3_choose_70 (lv_at hl 4 rfl) ?_
        refine lv_iload_n hx hb dX3_choose_72 rfl (lv_at hl 1 rfl) ?_
        obtain ⟨a1, t1, h⟩ := gz_q_s h
        refine C_X3_enabled cx (gz_nh hex) hI (Or.inl (hts _ q868)) hl.1 (gz_cs (Nat.le_of_ble_eq_true rfl)) (by omega) dX3_choose_73 t1 h (fun v1 S1 h H locs cells slots hI => ?_)
        refine gz_astore hx hb dX3_choose_76 hl (by decide) [0, 1, 2, 4] rfl (gz_con ⟨gz_ne rfl, Or.inl (gz_ne rfl)⟩ (gz_con ⟨gz_ne rfl, Or.inl (gz_ne rfl)⟩ (gz_con ⟨gz_ne rfl, Or.inl (gz_ne rfl)⟩ (gz_con ⟨gz_ne rfl, Or.inl (gz_ne rfl)⟩ gz_nil)))) (fun ls hl => ?_)
        refine gr_aload hx hb x5 dX3_choose_78 (lv_at hl 4 rfl) ?_
        obtain ⟨v2, e2, h⟩ := g_bind h
        refine gr_getR cx hI e2 rfl (fun _ => rfl) rfl (Or.inr ⟨_, gk_w hK q418 rfl⟩) dX3_choose_80 ?_
        refine gz_astore hx hb dX3_choose_83 hl (by decide) [0, 1, 2, 3] rfl (gz_con ⟨gz_ne rfl, Or.inr (gl_cat v1)⟩ (gz_con ⟨gz_ne rfl, Or.inl (gz_ne rfl)⟩ (gz_con ⟨gz_ne rfl, Or.inl (gz_ne rfl)⟩ (gz_con ⟨gz_ne rfl, Or.inl (gz_ne rfl)⟩ gz_nil)))) (fun ls hl => ?_)
        refine lv_goto (tgt := 59) hx hb dX3_choose_85 rfl ?_
        exact ih _ _ _ _ _ _ h p e s m args below meth c H locs cells slots ls cx hnm hex hI (lv_sub hl [2, 3, 4, 1, 0] rfl)
theorem T_X3_choose_9 {l : Launch} {G : gG} {S0 : gm_S} {d0 fu : Nat} {r : Outcome × gm_S} (hD : 13 ≤ d0) : ∀ (n : Nat) (x0 : Option Nat) (x1 : Int32) (x2 : Int32) (S : gm_S), F_X3_choose_9 fu n x0 x1 x2 S = some r → B_X3_choose l d0 G S0 9 [(0, va_rf x0), (1, .int x1), (2, .int x2)] [] S r.1 r.2 := by
  intro n
  induction n with
  | zero => intro x0 x1 x2 S h; exact nomatch (show (none : gR) = some r from h)
  | succ n ih =>
    intro x0 x1 x2 S h
    rw [F_X3_choose_9] at h
    intro p e s m args below meth c H locs cells slots ls cx hnm hex hI hl
    have hx := cx.1
    have hb := cx.2.1
    have hown := cx.2.2.2.1
    have hts := cx.2.2.2.2.1
    have hK := cx.2.2.2.2.2.1
    refine lv_iload_n hx hb dX3_choose_9 rfl (lv_at hl 2 rfl) ?_
    refine gr_aload_n hx hb x0 dX3_choose_10 rfl (lv_at hl 0 rfl) ?_
    obtain ⟨v1, e1, h⟩ := g_bind h
    refine gr_getR cx hI e1 rfl (fun _ => rfl) rfl (Or.inl (hts _ q180)) dX3_choose_11 ?_
    obtain ⟨v2, e2, h⟩ := g_bind h
    refine gr_lsize cx (gz_nh hex) hI (Or.inl (hts _ q759)) hl.1 (gz_cs (Nat.le_of_ble_eq_true rfl)) (by omega) dX3_choose_14 e2 (fun H locs cells slots hI => ?_)
    refine lv_icmp_ge (tgt := 118) hx hb dX3_choose_17 rfl (fun hc => ?_) (fun hc => ?_)
    · have h := gz_t h hc
      refine lv_iconst hx hb dX3_choose_118 gz_ic_0 ?_
      refine gz_istore_n hx hb dX3_choose_119 rfl hl (by decide) [0] rfl (gz_con ⟨gz_ne rfl, Or.inl (gz_ne rfl)⟩ gz_nil) (fun ls hl => ?_)
      exact T_X3_choose_120 hD fu _ _ _ h p e s m args below meth c H locs cells slots ls cx hnm hex hI (lv_sub hl [1, 0] rfl)
    · have h := gz_f h hc
      refine gr_aload_n hx hb x0 dX3_choose_20 rfl (lv_at hl 0 rfl) ?_
      obtain ⟨v3, e3, h⟩ := g_bind h
      refine gr_getR cx hI e3 rfl (fun _ => rfl) rfl (Or.inl (hts _ q180)) dX3_choose_21 ?_
      refine lv_iload_n hx hb dX3_choose_24 rfl (lv_at hl 2 rfl) ?_
      obtain ⟨v4, e4, h⟩ := g_bind h
      refine gr_lgetr cx (gz_nh hex) hI (Or.inl (hts _ q760)) hl.1 (gz_cs (Nat.le_of_ble_eq_true rfl)) (by omega) dX3_choose_25 e4 (fun H locs cells slots hI => ?_)
      obtain ⟨a5, e5, h⟩ := gz_q_s h
      refine gr_ck1 cx hI e5 rfl (hts _ q761) dX3_choose_28 ?_
      refine gz_astore_n hx hb dX3_choose_31 rfl hl (by decide) [0, 1, 2] rfl (gz_con ⟨gz_ne rfl, Or.inl (gz_ne rfl)⟩ (gz_con ⟨gz_ne rfl, Or.inl (gz_ne rfl)⟩ (gz_con ⟨gz_ne rfl, Or.inr rfl⟩ gz_nil))) (fun ls hl => ?_)
      refine gr_aload_n hx hb (some v4) dX3_choose_32 rfl (lv_at hl 0 rfl) ?_
      obtain ⟨v6, e6, h⟩ := g_bind h
      refine gr_getI cx hI e6 rfl (fun _ => rfl) rfl (Or.inr ⟨_, gk_w hK q421 rfl⟩) dX3_choose_33 ?_
      refine lv_if_ne (tgt := 112) hx hb dX3_choose_36 rfl (fun hc => ?_) (fun hc => ?_)
      · have h := gz_f h hc
        refine gz_iinc (k := 3) (v := (x2 + (1 : Int32))) hx hb dX3_choose_112 hl rfl (congrArg (fun z => x2 + z) gz_ic_1) (by decide) [1, 2] rfl (gz_con ⟨gz_ne rfl, Or.inl (gz_ne rfl)⟩ (gz_con ⟨gz_ne rfl, Or.inr rfl⟩ gz_nil)) (fun ls hl => ?_)
        refine lv_goto (tgt := 9) hx hb dX3_choose_115 rfl ?_
        exact ih _ _ _ _ h p e s m args below meth c H locs cells slots ls cx hnm hex hI (lv_sub hl [1, 2, 0] rfl)
      · have h := gz_t h hc
        refine gr_aload_n hx hb x0 dX3_choose_39 rfl (lv_at hl 1 rfl) ?_
        refine gr_aload_n hx hb (some v4) dX3_choose_40 rfl (lv_at hl 0 rfl) ?_
        obtain ⟨v7, e7, h⟩ := g_bind h
        refine gr_getI cx hI e7 rfl (fun _ => rfl) rfl (Or.inr ⟨_, gk_w hK q415 rfl⟩) dX3_choose_41 ?_
        obtain ⟨a8, t8, h⟩ := gz_q_s h
        refine C_X3_isActive cx (gz_nh hex) hI (Or.inl (hts _ q867)) hl.1 (gz_cs (Nat.le_of_ble_eq_true rfl)) (by omega) dX3_choose_44 t8 h (fun v8 S8 h H locs cells slots hI => ?_)
        refine lv_if_ne (tgt := 53) hx hb dX3_choose_47 rfl (fun hc => ?_) (fun hc => ?_)
        · have h := gz_f h hc
          refine gz_null hx hb dX3_choose_53 ?_
          refine gz_astore hx hb dX3_choose_54 hl (by decide) [0, 1, 2, 3] rfl (gz_con ⟨gz_ne rfl, Or.inr (gl_cat (some v4))⟩ (gz_con ⟨gz_ne rfl, Or.inl (gz_ne rfl)⟩ (gz_con ⟨gz_ne rfl, Or.inl (gz_ne rfl)⟩ (gz_con ⟨gz_ne rfl, Or.inl (gz_ne rfl)⟩ gz_nil)))) (fun ls hl => ?_)
          refine gr_aload_n hx hb (some v4) dX3_choose_56 rfl (lv_at hl 1 rfl) ?_
          refine gz_astore hx hb dX3_choose_57 hl (by decide) [0, 2, 3, 4] rfl (gz_con ⟨gz_ne rfl, Or.inr (gl_cat none)⟩ (gz_con ⟨gz_ne rfl, Or.inl (gz_ne rfl)⟩ (gz_con ⟨gz_ne rfl, Or.inl (gz_ne rfl)⟩ (gz_con ⟨gz_ne rfl, Or.inl (gz_ne rfl)⟩ gz_nil)))) (fun ls hl => ?_)
          exact T_X3_choose_59 hD ih fu _ _ _ _ _ _ h p e s m args below meth c H locs cells slots ls cx hnm hex hI (lv_sub hl [2, 3, 4, 1, 0] rfl)
        · have h := gz_t h hc
          refine lv_goto (tgt := 112) hx hb dX3_choose_50 rfl ?_
          refine gz_iinc (k := 3) (v := (x2 + (1 : Int32))) hx hb dX3_choose_112 hl rfl (congrArg (fun z => x2 + z) gz_ic_1) (by decide) [1, 2] rfl (gz_con ⟨gz_ne rfl, Or.inl (gz_ne rfl)⟩ (gz_con ⟨gz_ne rfl, Or.inr rfl⟩ gz_nil)) (fun ls hl => ?_)
          refine lv_goto (tgt := 9) hx hb dX3_choose_115 rfl ?_
          exact ih _ _ _ _ h p e s m args below meth c H locs cells slots ls cx hnm hex hI (lv_sub hl [1, 2, 0] rfl)
theorem T_X3_choose {l : Launch} {G : gG} {S0 : gm_S} {d0 fu : Nat} {r : Outcome × gm_S} (hD : 13 ≤ d0) {x0 : Option Nat} {x1 : Int32} {S : gm_S} (h : F_X3_choose fu x0 x1 S = some r) : B_X3_choose l d0 G S0 0 [(0, va_rf x0), (1, .int x1)] [] S r.1 r.2 := by
  unfold F_X3_choose at h
  intro p e s m args below meth c H locs cells slots ls cx hnm hex hI hl
  have hx := cx.1
  have hb := cx.2.1
  have hown := cx.2.2.2.1
  have hts := cx.2.2.2.2.1
  have hK := cx.2.2.2.2.2.1
  refine gr_aload_n hx hb x0 dX3_choose_0 rfl (lv_at hl 0 rfl) ?_
  obtain ⟨v1, e1, h⟩ := g_bind h
  refine gr_getR cx hI e1 rfl (fun _ => rfl) rfl (Or.inl (hts _ q199)) dX3_choose_1 ?_
  obtain ⟨S2, e2, h⟩ := g_bind h
  refine gr_lclear cx (gz_nh hex) hI (Or.inl (hts _ q723)) hl.1 (gz_cs (Nat.le_of_ble_eq_true rfl)) (by omega) dX3_choose_4 e2 (fun H locs cells slots hI => ?_)
  refine lv_iconst hx hb dX3_choose_7 gz_ic_0 ?_
  refine gz_istore_n hx hb dX3_choose_8 rfl hl (by decide) [0, 1] rfl (gz_con ⟨gz_ne rfl, Or.inl (gz_ne rfl)⟩ (gz_con ⟨gz_ne rfl, Or.inr rfl⟩ gz_nil)) (fun ls hl => ?_)
  exact T_X3_choose_9 hD fu _ _ _ _ h p e s m args below meth c H locs cells slots ls cx hnm hex hI (lv_sub hl [1, 2, 0] rfl)
theorem M_X3_choose {l : Launch} {G : gG} {fu d0 : Nat} (hfl : l.flags = flags0) (hD : 13 ≤ d0) {x0 : Option Nat} {x1 : Int32} {S : gm_S} {o : Outcome} {S2 : gm_S} (h : F_X3_choose fu x0 x1 S = some (o, S2)) : gx_Met l yX3_choose (ws_ yX3_choose cX3_choose 6 (Option.none : Option Jvm.ClassFile.FieldType)) d0 G S [va_rf x0, .int x1] o S2 := by
  refine gx_of hfl (by decide) (fun p e s m below meth c cx hnm hex hI => ?_)
  rw [lg_entry_eq]
  cases x0 <;> exact T_X3_choose (r := (o, S2)) hD h p e s m _ below meth c _ _ _ _ _ cx hnm (gz_nh0 hex) hI (lv_entry _ (Nat.le_of_ble_eq_true rfl))
theorem C_X3_choose {p : Program} {l : Launch} {e : Env} {s : State} {m : MethodId} {args : Array Value} {below : List Frame} {meth : Method} {c : Code} {H : Heap} {locs : List Loc} {cells slots : Nat} {cc : ByteArray} {pc nL : Nat} {ls : Array Slot} {rest : List Value} {G : gG} {S0 S : gm_S} {own : String} {ret : Option FieldType} {d0 index fu : Nat} {x0 : Option Nat} {x1 : Int32} {k : gm_S → gR} {r : Outcome × gm_S} (cx : gx_cx p l s m args meth c G own cc nL ret) (hex : ∀ x ∈ c.exceptionTable.toList, covers x pc = false) (hI : gw_I G S0 S H locs cells slots) (hl : gl_M own index yX3_choose args s) (hlv : ls.size = nL) (hrest : (rest.map fun v => v.category).sum ≤ 8) (hD : 14 ≤ d0) (hdg : decode cc pc = .ok (.invokevirtual index, 3)) {b : Nat} (hat : g_at S x0 3 = some b) (h : gz_cV (F_X3_choose fu x0 x1 S) k = some r)
    (kk : ∀ (z : gm_S), k z = some r → ∀ (H : Heap) (locs : List Loc) (cells slots : Nat), gw_I G S0 z H locs cells slots → W p l e (gx_rm d0 S0) s m args below meth c H locs cells slots (gx_MQ below G S0 r.2 r.1 s) (F0 m (pc + 3) ls rest)) : W p l e (gx_rm d0 S0) s m args below meth c H locs cells slots (gx_MQ below G S0 r.2 r.1 s) (F0 m pc ls (.int x1 :: va_rf x0 :: rest)) := by
  obtain ⟨rfl, ht⟩ := g_at_s hat
  have hts := cx.2.2.2.2.1
  have hK := cx.2.2.2.2.2.1
  exact gz_goV (d := d0 - 1) (fun S => S) cx hex hI hlv hrest (by omega) (Nat.le_of_ble_eq_true rfl) (gz_ws (lw_meth q866) hts) (hts _ q74) (gb_rawV (As := [.int x1]) cx hl (hts _ q865) (hts _ qs18) (gl_C.code (hts _ q866)) hy_X3_choose (gr_recv hK hI.1 ht rfl) rfl rfl hdg) (fun o S2 e => M_X3_choose (x0 := some b) cx.2.2.2.2.2.2.2.2 (by omega) e) h kk
abbrev B_X3_raise (l : Launch) (d0 : Nat) (G : gG) (S0 : gm_S) : Nat → List (Nat × Value) → List Value → gm_S → Outcome → gm_S → Prop := gz_B l RX3 "raise" cX3_raise 2 (Option.none : Option Jvm.ClassFile.FieldType) [] d0 G S0
theorem T_X3_raise {l : Launch} {G : gG} {S0 : gm_S} {d0 fu : Nat} {r : Outcome × gm_S} (hD : 2 ≤ d0) {x0 : Option Nat} {x1 : Int32} {S : gm_S} (h : F_X3_raise fu x0 x1 S = some r) : B_X3_raise l d0 G S0 0 [(0, va_rf x0), (1, .int x1)] [] S r.1 r.2 := by
  unfold F_X3_raise at h
  intro p e s m args below meth c H locs cells slots ls cx hnm hex hI hl
  have hx := cx.1
  have hb := cx.2.1
  have hown := cx.2.2.2.1
  have hts := cx.2.2.2.2.1
  have hK := cx.2.2.2.2.2.1
  refine gr_aload_n hx hb x0 dX3_raise_0 rfl (lv_at hl 0 rfl) ?_
  obtain ⟨v1, e1, h⟩ := g_bind h
  refine gr_getI cx hI e1 rfl (fun _ => rfl) rfl (Or.inl (hts _ q189)) dX3_raise_1 ?_
  refine lv_bipush hx hb dX3_raise_4 gz_bp_10 ?_
  refine lv_icmp_ne (tgt := 10) hx hb dX3_raise_6 rfl (fun hc => ?_) (fun hc => ?_)
  · have h := gz_f h hc
    refine gr_aload_n hx hb x0 dX3_raise_10 rfl (lv_at hl 0 rfl) ?_
    obtain ⟨v2, e2, h⟩ := g_bind h
    refine gr_getR cx hI e2 rfl (fun _ => rfl) rfl (Or.inl (hts _ q187)) dX3_raise_11 ?_
    refine gr_aload_n hx hb x0 dX3_raise_14 rfl (lv_at hl 0 rfl) ?_
    obtain ⟨v3, e3, h⟩ := g_bind h
    refine gr_getI cx hI e3 rfl (fun _ => rfl) rfl (Or.inl (hts _ q188)) dX3_raise_15 ?_
    refine gr_aload_n hx hb x0 dX3_raise_18 rfl (lv_at hl 0 rfl) ?_
    obtain ⟨v4, e4, h⟩ := g_bind h
    refine gr_getI cx hI e4 rfl (fun _ => rfl) rfl (Or.inl (hts _ q189)) dX3_raise_19 ?_
    refine lv_iadd hx hb dX3_raise_22 ?_
    refine lv_bipush hx hb dX3_raise_23 gz_bp_10 ?_
    refine lv_irem hx hb dX3_raise_25 (by decide) ?_
    refine lv_iload_n hx hb dX3_raise_26 rfl (lv_at hl 1 rfl) ?_
    obtain ⟨S5, e5, h⟩ := g_bind h
    refine gr_cast cx hI e5 dX3_raise_27 (fun H locs hI => ?_)
    refine gr_aload_n hx hb x0 dX3_raise_28 rfl (lv_at hl 0 rfl) ?_
    refine lv_dup hx hb dX3_raise_29 (gl_cat x0) ?_
    obtain ⟨v6, e6, h⟩ := g_bind h
    refine gr_getI cx hI e6 rfl (fun _ => rfl) rfl (Or.inl (hts _ q189)) dX3_raise_30 ?_
    refine lv_iconst hx hb dX3_raise_33 gz_ic_1 ?_
    refine lv_iadd hx hb dX3_raise_34 ?_
    obtain ⟨S7, e7, h⟩ := g_bind h
    refine gr_putI cx hI e7 rfl rfl rfl (Or.inl (hts _ q189)) (Or.inl rfl) dX3_raise_35 (fun H locs hI => ?_)
    cases h
    exact gr_vret cx hI dX3_raise_38
  · have h := gz_t h hc
    cases h
    exact gr_vret cx hI dX3_raise_9
theorem M_X3_raise {l : Launch} {G : gG} {fu d0 : Nat} (hfl : l.flags = flags0) (hD : 2 ≤ d0) {x0 : Option Nat} {x1 : Int32} {S : gm_S} {o : Outcome} {S2 : gm_S} (h : F_X3_raise fu x0 x1 S = some (o, S2)) : gx_Met l yX3_raise (ws_ yX3_raise cX3_raise 2 (Option.none : Option Jvm.ClassFile.FieldType)) d0 G S [va_rf x0, .int x1] o S2 := by
  refine gx_of hfl (by decide) (fun p e s m below meth c cx hnm hex hI => ?_)
  rw [lg_entry_eq]
  cases x0 <;> exact T_X3_raise (r := (o, S2)) hD h p e s m _ below meth c _ _ _ _ _ cx hnm (gz_nh0 hex) hI (lv_entry _ (Nat.le_of_ble_eq_true rfl))
theorem C_X3_raise_F {p : Program} {l : Launch} {e : Env} {s : State} {m : MethodId} {args : Array Value} {below : List Frame} {meth : Method} {c : Code} {H : Heap} {locs : List Loc} {cells slots : Nat} {cc : ByteArray} {pc nL : Nat} {ls : Array Slot} {rest : List Value} {G : gG} {S0 S : gm_S} {own : String} {ret : Option FieldType} {d0 index fu : Nat} {count : Nat} {x0 : Option Nat} {x1 : Int32} {k : gm_S → gR} {r : Outcome × gm_S} (cx : gx_cx p l s m args meth c G own cc nL ret) (hex : ∀ x ∈ c.exceptionTable.toList, covers x pc = false) (hI : gw_I G S0 S H locs cells slots) (hl : (Cond.methodLink own index ⟨"NestChart$Machine", "raise", "(C)V"⟩).before args s = true) (hlv : ls.size = nL) (hrest : (rest.map fun v => v.category).sum ≤ 8) (hD : 3 ≤ d0) (hdg : decode cc pc = .ok (.invokeinterface index count, 5)) {b : Nat} (hat : g_at S x0 3 = some b) (h : gz_cV (F_X3_raise fu x0 x1 S) k = some r)
    (kk : ∀ (z : gm_S), k z = some r → ∀ (H : Heap) (locs : List Loc) (cells slots : Nat), gw_I G S0 z H locs cells slots → W p l e (gx_rm d0 S0) s m args below meth c H locs cells slots (gx_MQ below G S0 r.2 r.1 s) (F0 m (pc + 5) ls rest)) : W p l e (gx_rm d0 S0) s m args below meth c H locs cells slots (gx_MQ below G S0 r.2 r.1 s) (F0 m pc ls (.int x1 :: va_rf x0 :: rest)) := by
  obtain ⟨rfl, ht⟩ := g_at_s hat
  have hts := cx.2.2.2.2.1
  have hK := cx.2.2.2.2.2.1
  exact gz_goV (d := d0 - 1) (fun S => S) cx hex hI hlv hrest (by omega) (Nat.le_of_ble_eq_true rfl) (gz_ws (lw_meth q833) hts) (hts _ q74) (gb_rawF (As := [.int x1]) cx hl (hK.2.2.2.2.1 ("raise", "(C)V") (by decide)) (hts _ q829) (hts _ q831) (gl_C.code (hts _ q833)) (hK.1 3).2 ⟨by decide +kernel, hy_X3_raise.2⟩ (gr_recv hK hI.1 ht rfl) rfl rfl hdg) (fun o S2 e => M_X3_raise (x0 := some b) cx.2.2.2.2.2.2.2.2 (by omega) e) h kk
abbrev B_X15_init (l : Launch) (d0 : Nat) (G : gG) (S0 : gm_S) : Nat → List (Nat × Value) → List Value → gm_S → Outcome → gm_S → Prop := gz_B l RX15 "<init>" cX15_init 3 (Option.none : Option Jvm.ClassFile.FieldType) [] d0 G S0
theorem T_X15_init {l : Launch} {G : gG} {S0 : gm_S} {d0 fu : Nat} {r : Outcome × gm_S} (hD : 2 ≤ d0) {x0 : Option Nat} {x1 : Int32} {x2 : Int32} {S : gm_S} (h : F_X15_init fu x0 x1 x2 S = some r) : B_X15_init l d0 G S0 0 [(0, va_rf x0), (1, .int x1), (2, .int x2)] [] S r.1 r.2 := by
  unfold F_X15_init at h
  intro p e s m args below meth c H locs cells slots ls cx hnm hex hI hl
  have hx := cx.1
  have hb := cx.2.1
  have hown := cx.2.2.2.1
  have hts := cx.2.2.2.2.1
  have hK := cx.2.2.2.2.2.1
  refine gr_aload_n hx hb x0 dX15_init_0 rfl (lv_at hl 0 rfl) ?_
  obtain ⟨a1, e1, h⟩ := gz_q_s h
  refine gz_objI cx hl.1 (hts _ q848) (gz_cs (Nat.le_of_ble_eq_true rfl)) (by omega) e1 dX15_init_1 ?_
  refine gr_aload_n hx hb x0 dX15_init_4 rfl (lv_at hl 0 rfl) ?_
  refine lv_iload_n hx hb dX15_init_5 rfl (lv_at hl 1 rfl) ?_
  obtain ⟨S2, e2, h⟩ := g_bind h
  refine gr_putC cx hI e2 rfl rfl rfl (Or.inl (hts _ q849)) (Or.inr ⟨hnm, rfl⟩) dX15_init_6 (fun H locs hI => ?_)
  refine gr_aload_n hx hb x0 dX15_init_9 rfl (lv_at hl 0 rfl) ?_
  refine lv_iload_n hx hb dX15_init_10 rfl (lv_at hl 2 rfl) ?_
  obtain ⟨S3, e3, h⟩ := g_bind h
  refine gr_putI cx hI e3 rfl rfl rfl (Or.inl (hts _ q851)) (Or.inr ⟨hnm, rfl⟩) dX15_init_11 (fun H locs hI => ?_)
  cases h
  exact gr_vret cx hI dX15_init_14
theorem M_X15_init {l : Launch} {G : gG} {fu d0 : Nat} (hfl : l.flags = flags0) (hD : 2 ≤ d0) {x0 : Option Nat} {x1 : Int32} {x2 : Int32} {S : gm_S} {o : Outcome} {S2 : gm_S} (h : F_X15_init fu x0 x1 x2 S = some (o, S2)) : gx_Met l yX15_init (ws_ yX15_init cX15_init 3 (Option.none : Option Jvm.ClassFile.FieldType)) d0 G S [va_rf x0, .int x1, .int x2] o S2 := by
  refine gx_of hfl (by decide) (fun p e s m below meth c cx hnm hex hI => ?_)
  rw [lg_entry_eq]
  cases x0 <;> exact T_X15_init (r := (o, S2)) hD h p e s m _ below meth c _ _ _ _ _ cx hnm (gz_nh0 hex) hI (lv_entry _ (Nat.le_of_ble_eq_true rfl))
theorem C_X15_init {p : Program} {l : Launch} {e : Env} {s : State} {m : MethodId} {args : Array Value} {below : List Frame} {meth : Method} {c : Code} {H : Heap} {locs : List Loc} {cells slots : Nat} {cc : ByteArray} {pc nL : Nat} {ls : Array Slot} {rest : List Value} {G : gG} {S0 S : gm_S} {own : String} {ret : Option FieldType} {d0 index fu : Nat} {x0 : Option Nat} {x1 : Int32} {x2 : Int32} {k : gm_S → gR} {r : Outcome × gm_S} (cx : gx_cx p l s m args meth c G own cc nL ret) (hex : ∀ x ∈ c.exceptionTable.toList, covers x pc = false) (hI : gw_I G S0 S H locs cells slots) (hl : gl_M own index yX15_init args s) (hlv : ls.size = nL) (hrest : (rest.map fun v => v.category).sum ≤ 8) (hD : 3 ≤ d0) (hdg : decode cc pc = .ok (.invokespecial index, 3)) {b : Nat} (hat : g_at S x0 15 = some b) (h : gz_cV (F_X15_init fu x0 x1 x2 S) k = some r)
    (kk : ∀ (z : gm_S), k z = some r → ∀ (H : Heap) (locs : List Loc) (cells slots : Nat), gw_I G S0 z H locs cells slots → W p l e (gx_rm d0 S0) s m args below meth c H locs cells slots (gx_MQ below G S0 r.2 r.1 s) (F0 m (pc + 3) ls rest)) : W p l e (gx_rm d0 S0) s m args below meth c H locs cells slots (gx_MQ below G S0 r.2 r.1 s) (F0 m pc ls (.int x2 :: .int x1 :: va_rf x0 :: rest)) := by
  obtain ⟨rfl, ht⟩ := g_at_s hat
  have hts := cx.2.2.2.2.1
  have hK := cx.2.2.2.2.2.1
  exact gz_goV (d := d0 - 1) (fun S => S) cx hex hI hlv hrest (by omega) (Nat.le_of_ble_eq_true rfl) (gz_ws (lw_meth q847) hts) (hts _ q100) (gb_rawI (As := [.int x1, .int x2]) cx hl (hts _ q846) (hts _ q847) hy_X15_init rfl rfl rfl hdg) (fun o S2 e => M_X15_init (x0 := some b) cx.2.2.2.2.2.2.2.2 (by omega) e) h kk
abbrev B_X3_send (l : Launch) (d0 : Nat) (G : gG) (S0 : gm_S) : Nat → List (Nat × Value) → List Value → gm_S → Outcome → gm_S → Prop := gz_B l RX3 "send" cX3_send 3 (Option.none : Option Jvm.ClassFile.FieldType) [] d0 G S0
theorem T_X3_send {l : Launch} {G : gG} {S0 : gm_S} {d0 fu : Nat} {r : Outcome × gm_S} (hD : 11 ≤ d0) {x0 : Option Nat} {x1 : Int32} {x2 : Int32} {S : gm_S} (h : F_X3_send fu x0 x1 x2 S = some r) : B_X3_send l d0 G S0 0 [(0, va_rf x0), (1, .int x1), (2, .int x2)] [] S r.1 r.2 := by
  unfold F_X3_send at h
  intro p e s m args below meth c H locs cells slots ls cx hnm hex hI hl
  have hx := cx.1
  have hb := cx.2.1
  have hown := cx.2.2.2.1
  have hts := cx.2.2.2.2.1
  have hK := cx.2.2.2.2.2.1
  refine gr_aload_n hx hb x0 dX3_send_0 rfl (lv_at hl 0 rfl) ?_
  obtain ⟨v1, e1, h⟩ := g_bind h
  refine gr_getR cx hI e1 rfl (fun _ => rfl) rfl (Or.inl (hts _ q190)) dX3_send_1 ?_
  obtain ⟨v2, e2, h⟩ := g_bind h
  refine gr_lsize cx (gz_nh hex) hI (Or.inl (hts _ q759)) hl.1 (gz_cs (Nat.le_of_ble_eq_true rfl)) (by omega) dX3_send_4 e2 (fun H locs cells slots hI => ?_)
  refine lv_bipush hx hb dX3_send_7 gz_bp_8 ?_
  refine lv_icmp_ge (tgt := 34) hx hb dX3_send_9 rfl (fun hc => ?_) (fun hc => ?_)
  · have h := gz_t h hc
    cases h
    exact gr_vret cx hI dX3_send_34
  · have h := gz_f h hc
    refine gr_aload_n hx hb x0 dX3_send_12 rfl (lv_at hl 0 rfl) ?_
    obtain ⟨v3, e3, h⟩ := g_bind h
    refine gr_getR cx hI e3 rfl (fun _ => rfl) rfl (Or.inl (hts _ q190)) dX3_send_13 ?_
    obtain ⟨q4, e4, h⟩ := g_bind h
    refine gr_fnew cx hI (t := 15) (a := q4.1) (S2 := q4.2) e4 rfl (hts _ q843) (hts _ q844) (hts _ q100) dX3_send_16 (fun H cells slots hI => ?_)
    refine lv_dup hx hb dX3_send_19 (gl_cat (some q4.1)) ?_
    refine lv_iload_n hx hb dX3_send_20 rfl (lv_at hl 1 rfl) ?_
    refine gr_aload_n hx hb x0 dX3_send_21 rfl (lv_at hl 0 rfl) ?_
    obtain ⟨v5, e5, h⟩ := g_bind h
    refine gr_getI cx hI e5 rfl (fun _ => rfl) rfl (Or.inl (hts _ q192)) dX3_send_22 ?_
    refine lv_iload_n hx hb dX3_send_25 rfl (lv_at hl 2 rfl) ?_
    refine lv_iadd hx hb dX3_send_26 ?_
    obtain ⟨a6, t6, h⟩ := gz_q_s h
    refine C_X15_init cx (gz_nh hex) hI (Or.inl (hts _ q845)) hl.1 (gz_cs (Nat.le_of_ble_eq_true rfl)) (by omega) dX3_send_27 t6 h (fun S6 h H locs cells slots hI => ?_)
    obtain ⟨S7, e7, h⟩ := g_bind h
    refine gr_laddr cx (gz_nh hex) hI (Or.inl (hts _ q858)) hl.1 (gz_cs (Nat.le_of_ble_eq_true rfl)) (by omega) dX3_send_30 e7 (fun H locs cells slots hI => ?_)
    refine lv_pop hx hb dX3_send_33 rfl ?_
    cases h
    exact gr_vret cx hI dX3_send_34
theorem M_X3_send {l : Launch} {G : gG} {fu d0 : Nat} (hfl : l.flags = flags0) (hD : 11 ≤ d0) {x0 : Option Nat} {x1 : Int32} {x2 : Int32} {S : gm_S} {o : Outcome} {S2 : gm_S} (h : F_X3_send fu x0 x1 x2 S = some (o, S2)) : gx_Met l yX3_send (ws_ yX3_send cX3_send 3 (Option.none : Option Jvm.ClassFile.FieldType)) d0 G S [va_rf x0, .int x1, .int x2] o S2 := by
  refine gx_of hfl (by decide) (fun p e s m below meth c cx hnm hex hI => ?_)
  rw [lg_entry_eq]
  cases x0 <;> exact T_X3_send (r := (o, S2)) hD h p e s m _ below meth c _ _ _ _ _ cx hnm (gz_nh0 hex) hI (lv_entry _ (Nat.le_of_ble_eq_true rfl))
theorem C_X3_send_F {p : Program} {l : Launch} {e : Env} {s : State} {m : MethodId} {args : Array Value} {below : List Frame} {meth : Method} {c : Code} {H : Heap} {locs : List Loc} {cells slots : Nat} {cc : ByteArray} {pc nL : Nat} {ls : Array Slot} {rest : List Value} {G : gG} {S0 S : gm_S} {own : String} {ret : Option FieldType} {d0 index fu : Nat} {count : Nat} {x0 : Option Nat} {x1 : Int32} {x2 : Int32} {k : gm_S → gR} {r : Outcome × gm_S} (cx : gx_cx p l s m args meth c G own cc nL ret) (hex : ∀ x ∈ c.exceptionTable.toList, covers x pc = false) (hI : gw_I G S0 S H locs cells slots) (hl : (Cond.methodLink own index ⟨"NestChart$Machine", "send", "(CI)V"⟩).before args s = true) (hlv : ls.size = nL) (hrest : (rest.map fun v => v.category).sum ≤ 8) (hD : 12 ≤ d0) (hdg : decode cc pc = .ok (.invokeinterface index count, 5)) {b : Nat} (hat : g_at S x0 3 = some b) (h : gz_cV (F_X3_send fu x0 x1 x2 S) k = some r)
    (kk : ∀ (z : gm_S), k z = some r → ∀ (H : Heap) (locs : List Loc) (cells slots : Nat), gw_I G S0 z H locs cells slots → W p l e (gx_rm d0 S0) s m args below meth c H locs cells slots (gx_MQ below G S0 r.2 r.1 s) (F0 m (pc + 5) ls rest)) : W p l e (gx_rm d0 S0) s m args below meth c H locs cells slots (gx_MQ below G S0 r.2 r.1 s) (F0 m pc ls (.int x2 :: .int x1 :: va_rf x0 :: rest)) := by
  obtain ⟨rfl, ht⟩ := g_at_s hat
  have hts := cx.2.2.2.2.1
  have hK := cx.2.2.2.2.2.1
  exact gz_goV (d := d0 - 1) (fun S => S) cx hex hI hlv hrest (by omega) (Nat.le_of_ble_eq_true rfl) (gz_ws (lw_meth q842) hts) (hts _ q74) (gb_rawF (As := [.int x1, .int x2]) cx hl (hK.2.2.2.2.1 ("send", "(CI)V") (by decide)) (hts _ q838) (hts _ q840) (gl_C.code (hts _ q842)) (hK.1 3).2 ⟨by decide +kernel, hy_X3_send.2⟩ (gr_recv hK hI.1 ht rfl) rfl rfl hdg) (fun o S2 e => M_X3_send (x0 := some b) cx.2.2.2.2.2.2.2.2 (by omega) e) h kk
abbrev B_X7_act (l : Launch) (d0 : Nat) (G : gG) (S0 : gm_S) : Nat → List (Nat × Value) → List Value → gm_S → Outcome → gm_S → Prop := gz_B l RX7 "act" cX7_act 2 (Option.none : Option Jvm.ClassFile.FieldType) [] d0 G S0
theorem T_X7_act {l : Launch} {G : gG} {S0 : gm_S} {d0 fu : Nat} {r : Outcome × gm_S} (hD : 12 ≤ d0) {x0 : Option Nat} {x1 : Option Nat} {S : gm_S} (h : F_X7_act fu x0 x1 S = some r) : B_X7_act l d0 G S0 0 [(0, va_rf x0), (1, va_rf x1)] [] S r.1 r.2 := by
  unfold F_X7_act at h
  intro p e s m args below meth c H locs cells slots ls cx hnm hex hI hl
  have hx := cx.1
  have hb := cx.2.1
  have hown := cx.2.2.2.1
  have hts := cx.2.2.2.2.1
  have hK := cx.2.2.2.2.2.1
  refine gr_aload_n hx hb x0 dX7_act_0 rfl (lv_at hl 0 rfl) ?_
  obtain ⟨v1, e1, h⟩ := g_bind h
  refine gr_getI cx hI e1 rfl (fun _ => rfl) rfl (Or.inl (hts _ q566)) dX7_act_1 ?_
  refine lv_if_ne (tgt := 20) hx hb dX7_act_4 rfl (fun hc => ?_) (fun hc => ?_)
  · have h := gz_f h hc
    refine gr_aload_n hx hb x1 dX7_act_20 rfl (lv_at hl 1 rfl) ?_
    refine gr_aload_n hx hb x0 dX7_act_21 rfl (lv_at hl 0 rfl) ?_
    obtain ⟨v2, e2, h⟩ := g_bind h
    refine gr_getI cx hI e2 rfl (fun _ => rfl) rfl (Or.inl (hts _ q565)) dX7_act_22 ?_
    refine gr_aload_n hx hb x0 dX7_act_25 rfl (lv_at hl 0 rfl) ?_
    obtain ⟨v3, e3, h⟩ := g_bind h
    refine gr_getI cx hI e3 rfl (fun _ => rfl) rfl (Or.inl (hts _ q566)) dX7_act_26 ?_
    obtain ⟨a4, t4, h⟩ := gz_q_s h
    refine C_X3_send_F cx (gz_nh hex) hI (hts _ q835) hl.1 (gz_cs (Nat.le_of_ble_eq_true rfl)) (by omega) dX7_act_29 t4 h (fun S4 h H locs cells slots hI => ?_)
    cases h
    exact gr_vret cx hI dX7_act_34
  · have h := gz_t h hc
    refine gr_aload_n hx hb x1 dX7_act_7 rfl (lv_at hl 1 rfl) ?_
    refine gr_aload_n hx hb x0 dX7_act_8 rfl (lv_at hl 0 rfl) ?_
    obtain ⟨v5, e5, h⟩ := g_bind h
    refine gr_getI cx hI e5 rfl (fun _ => rfl) rfl (Or.inl (hts _ q565)) dX7_act_9 ?_
    obtain ⟨a6, t6, h⟩ := gz_q_s h
    refine C_X3_raise_F cx (gz_nh hex) hI (hts _ q826) hl.1 (gz_cs (Nat.le_of_ble_eq_true rfl)) (by omega) dX7_act_12 t6 h (fun S6 h H locs cells slots hI => ?_)
    refine lv_goto (tgt := 34) hx hb dX7_act_17 rfl ?_
    cases h
    exact gr_vret cx hI dX7_act_34
theorem M_X7_act {l : Launch} {G : gG} {fu d0 : Nat} (hfl : l.flags = flags0) (hD : 12 ≤ d0) {x0 : Option Nat} {x1 : Option Nat} {S : gm_S} {o : Outcome} {S2 : gm_S} (h : F_X7_act fu x0 x1 S = some (o, S2)) : gx_Met l yX7_act (ws_ yX7_act cX7_act 2 (Option.none : Option Jvm.ClassFile.FieldType)) d0 G S [va_rf x0, va_rf x1] o S2 := by
  refine gx_of hfl (by decide) (fun p e s m below meth c cx hnm hex hI => ?_)
  rw [lg_entry_eq]
  cases x0 <;> cases x1 <;> exact T_X7_act (r := (o, S2)) hD h p e s m _ below meth c _ _ _ _ _ cx hnm (gz_nh0 hex) hI (lv_entry _ (Nat.le_of_ble_eq_true rfl))
theorem C_X7_act_U {p : Program} {l : Launch} {e : Env} {s : State} {m : MethodId} {args : Array Value} {below : List Frame} {meth : Method} {c : Code} {H : Heap} {locs : List Loc} {cells slots : Nat} {cc : ByteArray} {pc nL : Nat} {ls : Array Slot} {rest : List Value} {G : gG} {S0 S : gm_S} {own : String} {ret : Option FieldType} {d0 index fu : Nat} {x0 : Option Nat} {x1 : Option Nat} {k : gm_S → gR} {r : Outcome × gm_S} (cx : gx_cx p l s m args meth c G own cc nL ret) (hex : ∀ x ∈ c.exceptionTable.toList, covers x pc = false) (hI : gw_I G S0 S H locs cells slots) (hl : (Cond.methodLink own index ⟨"NestChart$Action", "act", "(LNestChart$Machine;)V"⟩).before args s = true) (hlv : ls.size = nL) (hrest : (rest.map fun v => v.category).sum ≤ 8) (hD : 13 ≤ d0) (hdg : decode cc pc = .ok (.invokevirtual index, 3)) {b : Nat} (hat : g_at S x0 7 = some b) (h : gz_cV (F_X7_act fu x0 x1 S) k = some r)
    (kk : ∀ (z : gm_S), k z = some r → ∀ (H : Heap) (locs : List Loc) (cells slots : Nat), gw_I G S0 z H locs cells slots → W p l e (gx_rm d0 S0) s m args below meth c H locs cells slots (gx_MQ below G S0 r.2 r.1 s) (F0 m (pc + 3) ls rest)) : W p l e (gx_rm d0 S0) s m args below meth c H locs cells slots (gx_MQ below G S0 r.2 r.1 s) (F0 m pc ls (va_rf x1 :: va_rf x0 :: rest)) := by
  obtain ⟨rfl, ht⟩ := g_at_s hat
  have hts := cx.2.2.2.2.1
  have hK := cx.2.2.2.2.2.1
  exact gz_goV (d := d0 - 1) (fun S => S) cx hex hI hlv hrest (by omega) (Nat.le_of_ble_eq_true rfl) (gz_ws (lw_meth q824) hts) (hts _ q91) (gb_rawU (As := [va_rf x1]) (owner := "NestChart$Action") cx hl (hts _ q787) (gk_w hK q786 rfl) (hts _ q822) (hts _ q823) (gl_C.code (hts _ q824)) ⟨by decide +kernel, hy_X7_act.2⟩ (gr_recv hK hI.1 ht rfl) rfl rfl hdg) (fun o S2 e => M_X7_act (x0 := some b) cx.2.2.2.2.2.2.2.2 (by omega) e) h kk
