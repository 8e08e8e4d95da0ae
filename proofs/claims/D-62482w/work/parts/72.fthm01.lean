/-! LAYER 1 (printed): contracts -/
set_option maxRecDepth 100000
abbrev B_X2_look (l : Launch) (d0 : Nat) (G : gG) (S0 : gm_S) : Nat → List (Nat × Value) → List Value → gm_S → Outcome → gm_S → Prop := gz_B l RX2 "look" cX2_look 1 (Option.some Jvm.ClassFile.FieldType.char) [] d0 G S0
theorem T_X2_look {l : Launch} {G : gG} {S0 : gm_S} {d0 fu : Nat} {r : Outcome × gm_S} (hD : 2 ≤ d0) {x0 : Option Nat} {S : gm_S} (h : F_X2_look fu x0 S = some r) : B_X2_look l d0 G S0 0 [(0, va_rf x0)] [] S r.1 r.2 := by
  unfold F_X2_look at h
  intro p e s m args below meth c H locs cells slots ls cx hnm hex hI hl
  have hx := cx.1
  have hb := cx.2.1
  have hown := cx.2.2.2.1
  have hts := cx.2.2.2.2.1
  have hK := cx.2.2.2.2.2.1
  refine gr_aload_n hx hb x0 dX2_look_0 rfl (lv_at hl 0 rfl) ?_
  obtain ⟨v1, e1, h⟩ := g_bind h
  refine gr_getI cx hI e1 rfl (fun _ => rfl) rfl (Or.inl (hts _ q120)) dX2_look_1 ?_
  refine gr_aload_n hx hb x0 dX2_look_4 rfl (lv_at hl 0 rfl) ?_
  obtain ⟨v2, e2, h⟩ := g_bind h
  refine gr_getI cx hI e2 rfl (fun _ => rfl) rfl (Or.inl (hts _ q118)) dX2_look_5 ?_
  refine lv_icmp_ge (tgt := 23) hx hb dX2_look_8 rfl (fun hc => ?_) (fun hc => ?_)
  · have h := gz_t h hc
    refine lv_iconst hx hb dX2_look_23 gz_ic_0 ?_
    obtain ⟨hz, h⟩ := g_ifs h
    cases h
    exact gr_cret cx hz hI dX2_look_24
  · have h := gz_f h hc
    refine gr_aload_n hx hb x0 dX2_look_11 rfl (lv_at hl 0 rfl) ?_
    obtain ⟨v3, e3, h⟩ := g_bind h
    refine gr_getR cx hI e3 rfl (fun _ => rfl) rfl (Or.inl (hts _ q116)) dX2_look_12 ?_
    refine gr_aload_n hx hb x0 dX2_look_15 rfl (lv_at hl 0 rfl) ?_
    obtain ⟨v4, e4, h⟩ := g_bind h
    refine gr_getI cx hI e4 rfl (fun _ => rfl) rfl (Or.inl (hts _ q120)) dX2_look_16 ?_
    obtain ⟨v5, e5, h⟩ := g_bind h
    refine gr_cald cx hI e5 dX2_look_19 ?_
    refine lv_goto (tgt := 24) hx hb dX2_look_20 rfl ?_
    obtain ⟨hz, h⟩ := g_ifs h
    cases h
    exact gr_cret cx hz hI dX2_look_24
theorem M_X2_look {l : Launch} {G : gG} {fu d0 : Nat} (hfl : l.flags = flags0) (hD : 2 ≤ d0) {x0 : Option Nat} {S : gm_S} {o : Outcome} {S2 : gm_S} (h : F_X2_look fu x0 S = some (o, S2)) : gx_Met l yX2_look (ws_ yX2_look cX2_look 1 (Option.some Jvm.ClassFile.FieldType.char)) d0 G S [va_rf x0] o S2 := by
  refine gx_of hfl (by decide) (fun p e s m below meth c cx hnm hex hI => ?_)
  rw [lg_entry_eq]
  cases x0 <;> exact T_X2_look (r := (o, S2)) hD h p e s m _ below meth c _ _ _ _ _ cx hnm (gz_nh0 hex) hI (lv_entry _ (Nat.le_of_ble_eq_true rfl))
theorem C_X2_look {p : Program} {l : Launch} {e : Env} {s : State} {m : MethodId} {args : Array Value} {below : List Frame} {meth : Method} {c : Code} {H : Heap} {locs : List Loc} {cells slots : Nat} {cc : ByteArray} {pc nL : Nat} {ls : Array Slot} {rest : List Value} {G : gG} {S0 S : gm_S} {own : String} {ret : Option FieldType} {d0 index fu : Nat} {x0 : Option Nat} {k : Int32 → gm_S → gR} {r : Outcome × gm_S} (cx : gx_cx p l s m args meth c G own cc nL ret) (hex : ∀ x ∈ c.exceptionTable.toList, covers x pc = false) (hI : gw_I G S0 S H locs cells slots) (hl : gl_M own index yX2_look args s) (hlv : ls.size = nL) (hrest : (rest.map fun v => v.category).sum ≤ 8) (hD : 3 ≤ d0) (hdg : decode cc pc = .ok (.invokevirtual index, 3)) {b : Nat} (hat : g_at S x0 2 = some b) (h : gz_cI (F_X2_look fu x0 S) k = some r)
    (kk : ∀ (v : Int32) (z : gm_S), k v z = some r → ∀ (H : Heap) (locs : List Loc) (cells slots : Nat), gw_I G S0 z H locs cells slots → W p l e (gx_rm d0 S0) s m args below meth c H locs cells slots (gx_MQ below G S0 r.2 r.1 s) (F0 m (pc + 3) ls (.int v :: rest))) : W p l e (gx_rm d0 S0) s m args below meth c H locs cells slots (gx_MQ below G S0 r.2 r.1 s) (F0 m pc ls (va_rf x0 :: rest)) := by
  obtain ⟨rfl, ht⟩ := g_at_s hat
  have hts := cx.2.2.2.2.1
  have hK := cx.2.2.2.2.2.1
  exact gz_goI (d := d0 - 1) (fun S => S) cx hex hI hlv hrest (by omega) (Nat.le_of_ble_eq_true rfl) (gz_ws (lw_meth q335) hts) (hts _ q73) (gb_rawV (As := []) cx hl (hts _ q333) (hts _ q334) (gl_C.code (hts _ q335)) hy_X2_look (gr_recv hK hI.1 ht rfl) rfl rfl hdg) (fun o S2 e => M_X2_look (x0 := some b) cx.2.2.2.2.2.2.2.2 (by omega) e) h kk
abbrev B_X2_isAmong (l : Launch) (d0 : Nat) (G : gG) (S0 : gm_S) : Nat → List (Nat × Value) → List Value → gm_S → Outcome → gm_S → Prop := gz_B l RX2 "isAmong" cX2_isAmong 3 (Option.some Jvm.ClassFile.FieldType.boolean) [] d0 G S0
theorem T_X2_isAmong {l : Launch} {G : gG} {S0 : gm_S} {d0 fu : Nat} {r : Outcome × gm_S} (hD : 3 ≤ d0) {x0 : Option Nat} {x1 : Int32} {x2 : Int32} {S : gm_S} (h : F_X2_isAmong fu x0 x1 x2 S = some r) : B_X2_isAmong l d0 G S0 0 [(0, va_rf x0), (1, .int x1), (2, .int x2)] [] S r.1 r.2 := by
  unfold F_X2_isAmong at h
  intro p e s m args below meth c H locs cells slots ls cx hnm hex hI hl
  have hx := cx.1
  have hb := cx.2.1
  have hown := cx.2.2.2.1
  have hts := cx.2.2.2.2.1
  have hK := cx.2.2.2.2.2.1
  refine gr_aload_n hx hb x0 dX2_isAmong_0 rfl (lv_at hl 0 rfl) ?_
  obtain ⟨a1, t1, h⟩ := gz_q_s h
  refine C_X2_look cx (gz_nh hex) hI (Or.inl (hts _ q332)) hl.1 (gz_cs (Nat.le_of_ble_eq_true rfl)) (by omega) dX2_isAmong_1 t1 h (fun v1 S1 h H locs cells slots hI => ?_)
  refine lv_iload_n hx hb dX2_isAmong_4 rfl (lv_at hl 1 rfl) ?_
  refine lv_icmp_lt (tgt := 20) hx hb dX2_isAmong_5 rfl (fun hc => ?_) (fun hc => ?_)
  · have h := gz_t h hc
    refine lv_iconst hx hb dX2_isAmong_20 gz_ic_0 ?_
    obtain ⟨hz, h⟩ := g_ifs h
    cases h
    exact gr_zret cx hz hI dX2_isAmong_21
  · have h := gz_f h hc
    refine gr_aload_n hx hb x0 dX2_isAmong_8 rfl (lv_at hl 0 rfl) ?_
    obtain ⟨a2, t2, h⟩ := gz_q_s h
    refine C_X2_look cx (gz_nh hex) hI (Or.inl (hts _ q332)) hl.1 (gz_cs (Nat.le_of_ble_eq_true rfl)) (by omega) dX2_isAmong_9 t2 h (fun v2 S2 h H locs cells slots hI => ?_)
    refine lv_iload_n hx hb dX2_isAmong_12 rfl (lv_at hl 2 rfl) ?_
    refine lv_icmp_gt (tgt := 20) hx hb dX2_isAmong_13 rfl (fun hc => ?_) (fun hc => ?_)
    · have h := gz_t h hc
      refine lv_iconst hx hb dX2_isAmong_20 gz_ic_0 ?_
      obtain ⟨hz, h⟩ := g_ifs h
      cases h
      exact gr_zret cx hz hI dX2_isAmong_21
    · have h := gz_f h hc
      refine lv_iconst hx hb dX2_isAmong_16 gz_ic_1 ?_
      refine lv_goto (tgt := 21) hx hb dX2_isAmong_17 rfl ?_
      obtain ⟨hz, h⟩ := g_ifs h
      cases h
      exact gr_zret cx hz hI dX2_isAmong_21
theorem M_X2_isAmong {l : Launch} {G : gG} {fu d0 : Nat} (hfl : l.flags = flags0) (hD : 3 ≤ d0) {x0 : Option Nat} {x1 : Int32} {x2 : Int32} {S : gm_S} {o : Outcome} {S2 : gm_S} (h : F_X2_isAmong fu x0 x1 x2 S = some (o, S2)) : gx_Met l yX2_isAmong (ws_ yX2_isAmong cX2_isAmong 3 (Option.some Jvm.ClassFile.FieldType.boolean)) d0 G S [va_rf x0, .int x1, .int x2] o S2 := by
  refine gx_of hfl (by decide) (fun p e s m below meth c cx hnm hex hI => ?_)
  rw [lg_entry_eq]
  cases x0 <;> exact T_X2_isAmong (r := (o, S2)) hD h p e s m _ below meth c _ _ _ _ _ cx hnm (gz_nh0 hex) hI (lv_entry _ (Nat.le_of_ble_eq_true rfl))
theorem C_X2_isAmong {p : Program} {l : Launch} {e : Env} {s : State} {m : MethodId} {args : Array Value} {below : List Frame} {meth : Method} {c : Code} {H : Heap} {locs : List Loc} {cells slots : Nat} {cc : ByteArray} {pc nL : Nat} {ls : Array Slot} {rest : List Value} {G : gG} {S0 S : gm_S} {own : String} {ret : Option FieldType} {d0 index fu : Nat} {x0 : Option Nat} {x1 : Int32} {x2 : Int32} {k : Int32 → gm_S → gR} {r : Outcome × gm_S} (cx : gx_cx p l s m args meth c G own cc nL ret) (hex : ∀ x ∈ c.exceptionTable.toList, covers x pc = false) (hI : gw_I G S0 S H locs cells slots) (hl : gl_M own index yX2_isAmong args s) (hlv : ls.size = nL) (hrest : (rest.map fun v => v.category).sum ≤ 8) (hD : 4 ≤ d0) (hdg : decode cc pc = .ok (.invokevirtual index, 3)) {b : Nat} (hat : g_at S x0 2 = some b) (h : gz_cI (F_X2_isAmong fu x0 x1 x2 S) k = some r)
    (kk : ∀ (v : Int32) (z : gm_S), k v z = some r → ∀ (H : Heap) (locs : List Loc) (cells slots : Nat), gw_I G S0 z H locs cells slots → W p l e (gx_rm d0 S0) s m args below meth c H locs cells slots (gx_MQ below G S0 r.2 r.1 s) (F0 m (pc + 3) ls (.int v :: rest))) : W p l e (gx_rm d0 S0) s m args below meth c H locs cells slots (gx_MQ below G S0 r.2 r.1 s) (F0 m pc ls (.int x2 :: .int x1 :: va_rf x0 :: rest)) := by
  obtain ⟨rfl, ht⟩ := g_at_s hat
  have hts := cx.2.2.2.2.1
  have hK := cx.2.2.2.2.2.1
  exact gz_goI (d := d0 - 1) (fun S => S) cx hex hI hlv hrest (by omega) (Nat.le_of_ble_eq_true rfl) (gz_ws (lw_meth q331) hts) (hts _ q73) (gb_rawV (As := [.int x1, .int x2]) cx hl (hts _ q329) (hts _ q330) (gl_C.code (hts _ q331)) hy_X2_isAmong (gr_recv hK hI.1 ht rfl) rfl rfl hdg) (fun o S2 e => M_X2_isAmong (x0 := some b) cx.2.2.2.2.2.2.2.2 (by omega) e) h kk
abbrev B_X2_next (l : Launch) (d0 : Nat) (G : gG) (S0 : gm_S) : Nat → List (Nat × Value) → List Value → gm_S → Outcome → gm_S → Prop := gz_B l RX2 "next" cX2_next 1 (Option.some Jvm.ClassFile.FieldType.char) [] d0 G S0
theorem T_X2_next {l : Launch} {G : gG} {S0 : gm_S} {d0 fu : Nat} {r : Outcome × gm_S} (hD : 2 ≤ d0) {x0 : Option Nat} {S : gm_S} (h : F_X2_next fu x0 S = some r) : B_X2_next l d0 G S0 0 [(0, va_rf x0)] [] S r.1 r.2 := by
  unfold F_X2_next at h
  intro p e s m args below meth c H locs cells slots ls cx hnm hex hI hl
  have hx := cx.1
  have hb := cx.2.1
  have hown := cx.2.2.2.1
  have hts := cx.2.2.2.2.1
  have hK := cx.2.2.2.2.2.1
  refine gr_aload_n hx hb x0 dX2_next_0 rfl (lv_at hl 0 rfl) ?_
  refine lv_dup hx hb dX2_next_1 (gl_cat x0) ?_
  obtain ⟨v1, e1, h⟩ := g_bind h
  refine gr_getI cx hI e1 rfl (fun _ => rfl) rfl (Or.inl (hts _ q120)) dX2_next_2 ?_
  refine lv_iconst hx hb dX2_next_5 gz_ic_1 ?_
  refine lv_iadd hx hb dX2_next_6 ?_
  obtain ⟨S2, e2, h⟩ := g_bind h
  refine gr_putI cx hI e2 rfl rfl rfl (Or.inl (hts _ q120)) (Or.inl rfl) dX2_next_7 (fun H locs hI => ?_)
  refine gr_aload_n hx hb x0 dX2_next_10 rfl (lv_at hl 0 rfl) ?_
  obtain ⟨v3, e3, h⟩ := g_bind h
  refine gr_getR cx hI e3 rfl (fun _ => rfl) rfl (Or.inl (hts _ q116)) dX2_next_11 ?_
  refine gr_aload_n hx hb x0 dX2_next_14 rfl (lv_at hl 0 rfl) ?_
  obtain ⟨v4, e4, h⟩ := g_bind h
  refine gr_getI cx hI e4 rfl (fun _ => rfl) rfl (Or.inl (hts _ q120)) dX2_next_15 ?_
  refine lv_iconst hx hb dX2_next_18 gz_ic_1 ?_
  refine lv_isub hx hb dX2_next_19 ?_
  obtain ⟨v5, e5, h⟩ := g_bind h
  refine gr_cald cx hI e5 dX2_next_20 ?_
  obtain ⟨hz, h⟩ := g_ifs h
  cases h
  exact gr_cret cx hz hI dX2_next_21
theorem M_X2_next {l : Launch} {G : gG} {fu d0 : Nat} (hfl : l.flags = flags0) (hD : 2 ≤ d0) {x0 : Option Nat} {S : gm_S} {o : Outcome} {S2 : gm_S} (h : F_X2_next fu x0 S = some (o, S2)) : gx_Met l yX2_next (ws_ yX2_next cX2_next 1 (Option.some Jvm.ClassFile.FieldType.char)) d0 G S [va_rf x0] o S2 := by
  refine gx_of hfl (by decide) (fun p e s m below meth c cx hnm hex hI => ?_)
  rw [lg_entry_eq]
  cases x0 <;> exact T_X2_next (r := (o, S2)) hD h p e s m _ below meth c _ _ _ _ _ cx hnm (gz_nh0 hex) hI (lv_entry _ (Nat.le_of_ble_eq_true rfl))
theorem C_X2_next {p : Program} {l : Launch} {e : Env} {s : State} {m : MethodId} {args : Array Value} {below : List Frame} {meth : Method} {c : Code} {H : Heap} {locs : List Loc} {cells slots : Nat} {cc : ByteArray} {pc nL : Nat} {ls : Array Slot} {rest : List Value} {G : gG} {S0 S : gm_S} {own : String} {ret : Option FieldType} {d0 index fu : Nat} {x0 : Option Nat} {k : Int32 → gm_S → gR} {r : Outcome × gm_S} (cx : gx_cx p l s m args meth c G own cc nL ret) (hex : ∀ x ∈ c.exceptionTable.toList, covers x pc = false) (hI : gw_I G S0 S H locs cells slots) (hl : gl_M own index yX2_next args s) (hlv : ls.size = nL) (hrest : (rest.map fun v => v.category).sum ≤ 8) (hD : 3 ≤ d0) (hdg : decode cc pc = .ok (.invokevirtual index, 3)) {b : Nat} (hat : g_at S x0 2 = some b) (h : gz_cI (F_X2_next fu x0 S) k = some r)
    (kk : ∀ (v : Int32) (z : gm_S), k v z = some r → ∀ (H : Heap) (locs : List Loc) (cells slots : Nat), gw_I G S0 z H locs cells slots → W p l e (gx_rm d0 S0) s m args below meth c H locs cells slots (gx_MQ below G S0 r.2 r.1 s) (F0 m (pc + 3) ls (.int v :: rest))) : W p l e (gx_rm d0 S0) s m args below meth c H locs cells slots (gx_MQ below G S0 r.2 r.1 s) (F0 m pc ls (va_rf x0 :: rest)) := by
  obtain ⟨rfl, ht⟩ := g_at_s hat
  have hts := cx.2.2.2.2.1
  have hK := cx.2.2.2.2.2.1
  exact gz_goI (d := d0 - 1) (fun S => S) cx hex hI hlv hrest (by omega) (Nat.le_of_ble_eq_true rfl) (gz_ws (lw_meth q530) hts) (hts _ q73) (gb_rawV (As := []) cx hl (hts _ q528) (hts _ q529) (gl_C.code (hts _ q530)) hy_X2_next (gr_recv hK hI.1 ht rfl) rfl rfl hdg) (fun o S2 e => M_X2_next (x0 := some b) cx.2.2.2.2.2.2.2.2 (by omega) e) h kk
abbrev B_X2_takes (l : Launch) (d0 : Nat) (G : gG) (S0 : gm_S) : Nat → List (Nat × Value) → List Value → gm_S → Outcome → gm_S → Prop := gz_B l RX2 "takes" cX2_takes 2 (Option.some Jvm.ClassFile.FieldType.boolean) [] d0 G S0
theorem T_X2_takes {l : Launch} {G : gG} {S0 : gm_S} {d0 fu : Nat} {r : Outcome × gm_S} (hD : 3 ≤ d0) {x0 : Option Nat} {x1 : Int32} {S : gm_S} (h : F_X2_takes fu x0 x1 S = some r) : B_X2_takes l d0 G S0 0 [(0, va_rf x0), (1, .int x1)] [] S r.1 r.2 := by
  unfold F_X2_takes at h
  intro p e s m args below meth c H locs cells slots ls cx hnm hex hI hl
  have hx := cx.1
  have hb := cx.2.1
  have hown := cx.2.2.2.1
  have hts := cx.2.2.2.2.1
  have hK := cx.2.2.2.2.2.1
  refine gr_aload_n hx hb x0 dX2_takes_0 rfl (lv_at hl 0 rfl) ?_
  obtain ⟨a1, t1, h⟩ := gz_q_s h
  refine C_X2_look cx (gz_nh hex) hI (Or.inl (hts _ q332)) hl.1 (gz_cs (Nat.le_of_ble_eq_true rfl)) (by omega) dX2_takes_1 t1 h (fun v1 S1 h H locs cells slots hI => ?_)
  refine lv_iload_n hx hb dX2_takes_4 rfl (lv_at hl 1 rfl) ?_
  refine lv_icmp_eq (tgt := 10) hx hb dX2_takes_5 rfl (fun hc => ?_) (fun hc => ?_)
  · have h := gz_t h hc
    refine gr_aload_n hx hb x0 dX2_takes_10 rfl (lv_at hl 0 rfl) ?_
    refine lv_dup hx hb dX2_takes_11 (gl_cat x0) ?_
    obtain ⟨v2, e2, h⟩ := g_bind h
    refine gr_getI cx hI e2 rfl (fun _ => rfl) rfl (Or.inl (hts _ q120)) dX2_takes_12 ?_
    refine lv_iconst hx hb dX2_takes_15 gz_ic_1 ?_
    refine lv_iadd hx hb dX2_takes_16 ?_
    obtain ⟨S3, e3, h⟩ := g_bind h
    refine gr_putI cx hI e3 rfl rfl rfl (Or.inl (hts _ q120)) (Or.inl rfl) dX2_takes_17 (fun H locs hI => ?_)
    refine lv_iconst hx hb dX2_takes_20 gz_ic_1 ?_
    obtain ⟨hz, h⟩ := g_ifs h
    cases h
    exact gr_zret cx hz hI dX2_takes_21
  · have h := gz_f h hc
    refine lv_iconst hx hb dX2_takes_8 gz_ic_0 ?_
    obtain ⟨hz, h⟩ := g_ifs h
    cases h
    exact gr_zret cx hz hI dX2_takes_9
theorem M_X2_takes {l : Launch} {G : gG} {fu d0 : Nat} (hfl : l.flags = flags0) (hD : 3 ≤ d0) {x0 : Option Nat} {x1 : Int32} {S : gm_S} {o : Outcome} {S2 : gm_S} (h : F_X2_takes fu x0 x1 S = some (o, S2)) : gx_Met l yX2_takes (ws_ yX2_takes cX2_takes 2 (Option.some Jvm.ClassFile.FieldType.boolean)) d0 G S [va_rf x0, .int x1] o S2 := by
  refine gx_of hfl (by decide) (fun p e s m below meth c cx hnm hex hI => ?_)
  rw [lg_entry_eq]
  cases x0 <;> exact T_X2_takes (r := (o, S2)) hD h p e s m _ below meth c _ _ _ _ _ cx hnm (gz_nh0 hex) hI (lv_entry _ (Nat.le_of_ble_eq_true rfl))
theorem C_X2_takes {p : Program} {l : Launch} {e : Env} {s : State} {m : MethodId} {args : Array Value} {below : List Frame} {meth : Method} {c : Code} {H : Heap} {locs : List Loc} {cells slots : Nat} {cc : ByteArray} {pc nL : Nat} {ls : Array Slot} {rest : List Value} {G : gG} {S0 S : gm_S} {own : String} {ret : Option FieldType} {d0 index fu : Nat} {x0 : Option Nat} {x1 : Int32} {k : Int32 → gm_S → gR} {r : Outcome × gm_S} (cx : gx_cx p l s m args meth c G own cc nL ret) (hex : ∀ x ∈ c.exceptionTable.toList, covers x pc = false) (hI : gw_I G S0 S H locs cells slots) (hl : gl_M own index yX2_takes args s) (hlv : ls.size = nL) (hrest : (rest.map fun v => v.category).sum ≤ 8) (hD : 4 ≤ d0) (hdg : decode cc pc = .ok (.invokevirtual index, 3)) {b : Nat} (hat : g_at S x0 2 = some b) (h : gz_cI (F_X2_takes fu x0 x1 S) k = some r)
    (kk : ∀ (v : Int32) (z : gm_S), k v z = some r → ∀ (H : Heap) (locs : List Loc) (cells slots : Nat), gw_I G S0 z H locs cells slots → W p l e (gx_rm d0 S0) s m args below meth c H locs cells slots (gx_MQ below G S0 r.2 r.1 s) (F0 m (pc + 3) ls (.int v :: rest))) : W p l e (gx_rm d0 S0) s m args below meth c H locs cells slots (gx_MQ below G S0 r.2 r.1 s) (F0 m pc ls (.int x1 :: va_rf x0 :: rest)) := by
  obtain ⟨rfl, ht⟩ := g_at_s hat
  have hts := cx.2.2.2.2.1
  have hK := cx.2.2.2.2.2.1
  exact gz_goI (d := d0 - 1) (fun S => S) cx hex hI hlv hrest (by omega) (Nat.le_of_ble_eq_true rfl) (gz_ws (lw_meth q534) hts) (hts _ q73) (gb_rawV (As := [.int x1]) cx hl (hts _ q532) (hts _ q533) (gl_C.code (hts _ q534)) hy_X2_takes (gr_recv hK hI.1 ht rfl) rfl rfl hdg) (fun o S2 e => M_X2_takes (x0 := some b) cx.2.2.2.2.2.2.2.2 (by omega) e) h kk
abbrev B_X2_want (l : Launch) (d0 : Nat) (G : gG) (S0 : gm_S) : Nat → List (Nat × Value) → List Value → gm_S → Outcome → gm_S → Prop := gz_B l RX2 "want" cX2_want 2 (Option.none : Option Jvm.ClassFile.FieldType) [] d0 G S0
theorem T_X2_want {l : Launch} {G : gG} {S0 : gm_S} {d0 fu : Nat} {r : Outcome × gm_S} (hD : 8 ≤ d0) {x0 : Option Nat} {x1 : Int32} {S : gm_S} (h : F_X2_want fu x0 x1 S = some r) : B_X2_want l d0 G S0 0 [(0, va_rf x0), (1, .int x1)] [] S r.1 r.2 := by
  unfold F_X2_want at h
  intro p e s m args below meth c H locs cells slots ls cx hnm hex hI hl
  have hx := cx.1
  have hb := cx.2.1
  have hown := cx.2.2.2.1
  have hts := cx.2.2.2.2.1
  have hK := cx.2.2.2.2.2.1
  refine lv_iload_n hx hb dX2_want_0 rfl (lv_at hl 1 rfl) ?_
  refine lv_if_ne (tgt := 12) hx hb dX2_want_1 rfl (fun hc => ?_) (fun hc => ?_)
  · have h := gz_f h hc
    cases h
    exact gr_vret cx hI dX2_want_12
  · have h := gz_t h hc
    obtain ⟨q1, e1, h⟩ := g_bind h
    cases h
    exact gr_throw cx hI (t := 17) (a := q1.1) (S2 := q1.2) (ic := 28) e1 (by decide) q340 q341 q82 gt_own_Reader_17_P (by decide) (by omega) (gz_cs (Nat.le_of_ble_eq_true rfl)) hl.1 (gz_nh hex) dX2_want_4 dX2_want_7 dX2_want_8 dX2_want_11
theorem M_X2_want {l : Launch} {G : gG} {fu d0 : Nat} (hfl : l.flags = flags0) (hD : 8 ≤ d0) {x0 : Option Nat} {x1 : Int32} {S : gm_S} {o : Outcome} {S2 : gm_S} (h : F_X2_want fu x0 x1 S = some (o, S2)) : gx_Met l yX2_want (ws_ yX2_want cX2_want 2 (Option.none : Option Jvm.ClassFile.FieldType)) d0 G S [va_rf x0, .int x1] o S2 := by
  refine gx_of hfl (by decide) (fun p e s m below meth c cx hnm hex hI => ?_)
  rw [lg_entry_eq]
  cases x0 <;> exact T_X2_want (r := (o, S2)) hD h p e s m _ below meth c _ _ _ _ _ cx hnm (gz_nh0 hex) hI (lv_entry _ (Nat.le_of_ble_eq_true rfl))
theorem C_X2_want {p : Program} {l : Launch} {e : Env} {s : State} {m : MethodId} {args : Array Value} {below : List Frame} {meth : Method} {c : Code} {H : Heap} {locs : List Loc} {cells slots : Nat} {cc : ByteArray} {pc nL : Nat} {ls : Array Slot} {rest : List Value} {G : gG} {S0 S : gm_S} {own : String} {ret : Option FieldType} {d0 index fu : Nat} {x0 : Option Nat} {x1 : Int32} {k : gm_S → gR} {r : Outcome × gm_S} (cx : gx_cx p l s m args meth c G own cc nL ret) (hex : ∀ x ∈ c.exceptionTable.toList, covers x pc = false) (hI : gw_I G S0 S H locs cells slots) (hl : gl_M own index yX2_want args s) (hlv : ls.size = nL) (hrest : (rest.map fun v => v.category).sum ≤ 8) (hD : 9 ≤ d0) (hdg : decode cc pc = .ok (.invokevirtual index, 3)) {b : Nat} (hat : g_at S x0 2 = some b) (h : gz_cV (F_X2_want fu x0 x1 S) k = some r)
    (kk : ∀ (z : gm_S), k z = some r → ∀ (H : Heap) (locs : List Loc) (cells slots : Nat), gw_I G S0 z H locs cells slots → W p l e (gx_rm d0 S0) s m args below meth c H locs cells slots (gx_MQ below G S0 r.2 r.1 s) (F0 m (pc + 3) ls rest)) : W p l e (gx_rm d0 S0) s m args below meth c H locs cells slots (gx_MQ below G S0 r.2 r.1 s) (F0 m pc ls (.int x1 :: va_rf x0 :: rest)) := by
  obtain ⟨rfl, ht⟩ := g_at_s hat
  have hts := cx.2.2.2.2.1
  have hK := cx.2.2.2.2.2.1
  exact gz_goV (d := d0 - 1) (fun S => S) cx hex hI hlv hrest (by omega) (Nat.le_of_ble_eq_true rfl) (gz_ws (lw_meth q339) hts) (hts _ q73) (gb_rawV (As := [.int x1]) cx hl (hts _ q337) (hts _ q338) (gl_C.code (hts _ q339)) hy_X2_want (gr_recv hK hI.1 ht rfl) rfl rfl hdg) (fun o S2 e => M_X2_want (x0 := some b) cx.2.2.2.2.2.2.2.2 (by omega) e) h kk
abbrev B_X9_init (l : Launch) (d0 : Nat) (G : gG) (S0 : gm_S) : Nat → List (Nat × Value) → List Value → gm_S → Outcome → gm_S → Prop := gz_B l RX9 "<init>" cX9_init 4 (Option.none : Option Jvm.ClassFile.FieldType) [] d0 G S0
theorem T_X9_init {l : Launch} {G : gG} {S0 : gm_S} {d0 fu : Nat} {r : Outcome × gm_S} (hD : 2 ≤ d0) {x0 : Option Nat} {x1 : Int32} {x2 : UInt64} {S : gm_S} (h : F_X9_init fu x0 x1 x2 S = some r) : B_X9_init l d0 G S0 0 [(0, va_rf x0), (1, .int x1), (2, .double x2)] [] S r.1 r.2 := by
  unfold F_X9_init at h
  intro p e s m args below meth c H locs cells slots ls cx hnm hex hI hl
  have hx := cx.1
  have hb := cx.2.1
  have hown := cx.2.2.2.1
  have hts := cx.2.2.2.2.1
  have hK := cx.2.2.2.2.2.1
  refine gr_aload_n hx hb x0 dX9_init_0 rfl (lv_at hl 0 rfl) ?_
  obtain ⟨a1, e1, h⟩ := gz_q_s h
  refine gz_objI cx hl.1 (hts _ q587) (gz_cs (Nat.le_of_ble_eq_true rfl)) (by omega) e1 dX9_init_1 ?_
  refine gr_aload_n hx hb x0 dX9_init_4 rfl (lv_at hl 0 rfl) ?_
  refine lv_iload_n hx hb dX9_init_5 rfl (lv_at hl 1 rfl) ?_
  obtain ⟨S2, e2, h⟩ := g_bind h
  refine gr_putI cx hI e2 rfl rfl rfl (Or.inl (hts _ q588)) (Or.inr ⟨hnm, rfl⟩) dX9_init_6 (fun H locs hI => ?_)
  refine gr_aload_n hx hb x0 dX9_init_9 rfl (lv_at hl 0 rfl) ?_
  refine lv_dload_n hx hb dX9_init_10 rfl (lv_at hl 2 rfl) ?_
  obtain ⟨S3, e3, h⟩ := g_bind h
  refine gr_putD cx hI e3 rfl rfl rfl (Or.inl (hts _ q589)) (Or.inr ⟨hnm, rfl⟩) dX9_init_11 (fun H locs hI => ?_)
  cases h
  exact gr_vret cx hI dX9_init_14
theorem M_X9_init {l : Launch} {G : gG} {fu d0 : Nat} (hfl : l.flags = flags0) (hD : 2 ≤ d0) {x0 : Option Nat} {x1 : Int32} {x2 : UInt64} {S : gm_S} {o : Outcome} {S2 : gm_S} (h : F_X9_init fu x0 x1 x2 S = some (o, S2)) : gx_Met l yX9_init (ws_ yX9_init cX9_init 4 (Option.none : Option Jvm.ClassFile.FieldType)) d0 G S [va_rf x0, .int x1, .double x2] o S2 := by
  refine gx_of hfl (by decide) (fun p e s m below meth c cx hnm hex hI => ?_)
  rw [lg_entry_eq]
  cases x0 <;> exact T_X9_init (r := (o, S2)) hD h p e s m _ below meth c _ _ _ _ _ cx hnm (gz_nh0 hex) hI (lv_entry _ (Nat.le_of_ble_eq_true rfl))
theorem C_X9_init {p : Program} {l : Launch} {e : Env} {s : State} {m : MethodId} {args : Array Value} {below : List Frame} {meth : Method} {c : Code} {H : Heap} {locs : List Loc} {cells slots : Nat} {cc : ByteArray} {pc nL : Nat} {ls : Array Slot} {rest : List Value} {G : gG} {S0 S : gm_S} {own : String} {ret : Option FieldType} {d0 index fu : Nat} {x0 : Option Nat} {x1 : Int32} {x2 : UInt64} {k : gm_S → gR} {r : Outcome × gm_S} (cx : gx_cx p l s m args meth c G own cc nL ret) (hex : ∀ x ∈ c.exceptionTable.toList, covers x pc = false) (hI : gw_I G S0 S H locs cells slots) (hl : gl_M own index yX9_init args s) (hlv : ls.size = nL) (hrest : (rest.map fun v => v.category).sum ≤ 8) (hD : 3 ≤ d0) (hdg : decode cc pc = .ok (.invokespecial index, 3)) {b : Nat} (hat : g_at S x0 9 = some b) (h : gz_cV (F_X9_init fu x0 x1 x2 S) k = some r)
    (kk : ∀ (z : gm_S), k z = some r → ∀ (H : Heap) (locs : List Loc) (cells slots : Nat), gw_I G S0 z H locs cells slots → W p l e (gx_rm d0 S0) s m args below meth c H locs cells slots (gx_MQ below G S0 r.2 r.1 s) (F0 m (pc + 3) ls rest)) : W p l e (gx_rm d0 S0) s m args below meth c H locs cells slots (gx_MQ below G S0 r.2 r.1 s) (F0 m pc ls (.double x2 :: .int x1 :: va_rf x0 :: rest)) := by
  obtain ⟨rfl, ht⟩ := g_at_s hat
  have hts := cx.2.2.2.2.1
  have hK := cx.2.2.2.2.2.1
  exact gz_goV (d := d0 - 1) (fun S => S) cx hex hI hlv hrest (by omega) (Nat.le_of_ble_eq_true rfl) (gz_ws (lw_meth q586) hts) (hts _ q93) (gb_rawI (As := [.int x1, .double x2]) cx hl (hts _ q585) (hts _ q586) hy_X9_init rfl rfl rfl hdg) (fun o S2 e => M_X9_init (x0 := some b) cx.2.2.2.2.2.2.2.2 (by omega) e) h kk
abbrev B_X2_operand (l : Launch) (d0 : Nat) (G : gG) (S0 : gm_S) : Nat → List (Nat × Value) → List Value → gm_S → Outcome → gm_S → Prop := gz_B l RX2 "operand" cX2_operand 4 (Option.some (Jvm.ClassFile.FieldType.object "NestChart$Operand")) [] d0 G S0
theorem T_X2_operand_120 {l : Launch} {G : gG} {S0 : gm_S} {d0 fu : Nat} {r : Outcome × gm_S} (hD : 9 ≤ d0) {x1 : UInt64} {S : gm_S} (h : F_X2_operand_120 fu x1 S = some r) : B_X2_operand l d0 G S0 120 [(1, .double x1)] [] S r.1 r.2 := by
  unfold F_X2_operand_120 at h
  intro p e s m args below meth c H locs cells slots ls cx hnm hex hI hl
  have hx := cx.1
  have hb := cx.2.1
  have hown := cx.2.2.2.1
  have hts := cx.2.2.2.2.1
  have hK := cx.2.2.2.2.2.1
  obtain ⟨q1, e1, h⟩ := g_bind h
  refine gr_fnew cx hI (t := 9) (a := q1.1) (S2 := q1.2) e1 rfl (hts _ q582) (hts _ q583) (hts _ q93) dX2_operand_120 (fun H cells slots hI => ?_)
  refine lv_dup hx hb dX2_operand_123 (gl_cat (some q1.1)) ?_
  refine lv_iconst hx hb dX2_operand_124 gz_ic_m1 ?_
  refine lv_dload_n hx hb dX2_operand_125 rfl (lv_at hl 0 rfl) ?_
  obtain ⟨a2, t2, h⟩ := gz_q_s h
  refine C_X9_init cx (gz_nh hex) hI (Or.inl (hts _ q584)) hl.1 (gz_cs (Nat.le_of_ble_eq_true rfl)) (by omega) dX2_operand_126 t2 h (fun S2 h H locs cells slots hI => ?_)
  cases h
  exact gr_aret cx (Or.inl ⟨_, rfl⟩) hI dX2_operand_129
theorem T_X2_operand_80 {l : Launch} {G : gG} {S0 : gm_S} {d0 fu : Nat} {r : Outcome × gm_S} (hD : 9 ≤ d0) {x0 : Option Nat} {x1 : UInt64} {S : gm_S} (h : F_X2_operand_80 fu x0 x1 S = some r) : B_X2_operand l d0 G S0 80 [(0, va_rf x0), (1, .double x1)] [] S r.1 r.2 := by
  unfold F_X2_operand_80 at h
  intro p e s m args below meth c H locs cells slots ls cx hnm hex hI hl
  have hx := cx.1
  have hb := cx.2.1
  have hown := cx.2.2.2.1
  have hts := cx.2.2.2.2.1
  have hK := cx.2.2.2.2.2.1
  refine gr_aload_n hx hb x0 dX2_operand_80 rfl (lv_at hl 0 rfl) ?_
  refine lv_bipush hx hb dX2_operand_81 gz_bp_46 ?_
  obtain ⟨a1, t1, h⟩ := gz_q_s h
  refine C_X2_takes cx (gz_nh hex) hI (Or.inl (hts _ q531)) hl.1 (gz_cs (Nat.le_of_ble_eq_true rfl)) (by omega) dX2_operand_83 t1 h (fun v1 S1 h H locs cells slots hI => ?_)
  refine lv_if_eq (tgt := 120) hx hb dX2_operand_86 rfl (fun hc => ?_) (fun hc => ?_)
  · have h := gz_t h hc
    exact T_X2_operand_120 hD h p e s m args below meth c H locs cells slots ls cx hnm hex hI (lv_sub hl [1] rfl)
  · have h := gz_f h hc
    refine gr_aload_n hx hb x0 dX2_operand_89 rfl (lv_at hl 0 rfl) ?_
    refine gr_aload_n hx hb x0 dX2_operand_90 rfl (lv_at hl 0 rfl) ?_
    refine lv_bipush hx hb dX2_operand_91 gz_bp_48 ?_
    refine lv_bipush hx hb dX2_operand_93 gz_bp_57 ?_
    obtain ⟨a2, t2, h⟩ := gz_q_s h
    refine C_X2_isAmong cx (gz_nh hex) hI (Or.inl (hts _ q328)) hl.1 (gz_cs (Nat.le_of_ble_eq_true rfl)) (by omega) dX2_operand_95 t2 h (fun v2 S2 h H locs cells slots hI => ?_)
    obtain ⟨a3, t3, h⟩ := gz_q_s h
    refine C_X2_want cx (gz_nh hex) hI (Or.inl (hts _ q336)) hl.1 (gz_cs (Nat.le_of_ble_eq_true rfl)) (by omega) dX2_operand_98 t3 h (fun S3 h H locs cells slots hI => ?_)
    refine lv_ldc2d hx hb hown (hts _ q595) dX2_operand_101 ?_
    refine lv_dload_n hx hb dX2_operand_104 rfl (lv_at hl 1 rfl) ?_
    obtain ⟨v4, e4, h⟩ := g_bind h
    obtain ⟨n4, w4⟩ := g_nn_s e4
    refine lv_dmul hx hb dX2_operand_105 n4 ?_
    rw [← w4]
    refine gr_aload_n hx hb x0 dX2_operand_106 rfl (lv_at hl 0 rfl) ?_
    obtain ⟨a5, t5, h⟩ := gz_q_s h
    refine C_X2_next cx (gz_nh hex) hI (Or.inl (hts _ q527)) hl.1 (gz_cs (Nat.le_of_ble_eq_true rfl)) (by omega) dX2_operand_107 t5 h (fun v5 S5 h H locs cells slots hI => ?_)
    refine lv_bipush hx hb dX2_operand_110 gz_bp_48 ?_
    refine lv_isub hx hb dX2_operand_112 ?_
    refine lv_i2d hx hb dX2_operand_113 ?_
    obtain ⟨v6, e6, h⟩ := g_bind h
    obtain ⟨n6, w6⟩ := g_nn_s e6
    refine lv_dadd hx hb dX2_operand_114 n6 ?_
    rw [← w6]
    refine lv_ldc2d hx hb hown (hts _ q595) dX2_operand_115 ?_
    obtain ⟨v7, e7, h⟩ := g_bind h
    obtain ⟨n7, w7⟩ := g_nn_s e7
    refine lv_ddiv hx hb dX2_operand_118 n7 ?_
    rw [← w7]
    refine gz_dstore_n hx hb dX2_operand_119 rfl hl (by decide) [] rfl gz_nil (fun ls hl => ?_)
    exact T_X2_operand_120 hD h p e s m args below meth c H locs cells slots ls cx hnm hex hI hl
theorem T_X2_operand_43 {l : Launch} {G : gG} {S0 : gm_S} {d0 fu : Nat} {r : Outcome × gm_S} (hD : 9 ≤ d0) : ∀ (n : Nat) (x0 : Option Nat) (x1 : UInt64) (x3 : Int32) (S : gm_S), F_X2_operand_43 fu n x0 x1 x3 S = some r → B_X2_operand l d0 G S0 43 [(0, va_rf x0), (1, .double x1), (3, .int x3)] [] S r.1 r.2 := by
  intro n
  induction n with
  | zero => intro x0 x1 x3 S h; exact nomatch (show (none : gR) = some r from h)
  | succ n ih =>
    intro x0 x1 x3 S h
    rw [F_X2_operand_43] at h
    intro p e s m args below meth c H locs cells slots ls cx hnm hex hI hl
    have hx := cx.1
    have hb := cx.2.1
    have hown := cx.2.2.2.1
    have hts := cx.2.2.2.2.1
    have hK := cx.2.2.2.2.2.1
    refine lv_iload_n hx hb dX2_operand_43 rfl (lv_at hl 2 rfl) ?_
    refine lv_iconst hx hb dX2_operand_44 gz_ic_3 ?_
    refine lv_icmp_ge (tgt := 80) hx hb dX2_operand_45 rfl (fun hc => ?_) (fun hc => ?_)
    · have h := gz_t h hc
      exact T_X2_operand_80 hD h p e s m args below meth c H locs cells slots ls cx hnm hex hI (lv_sub hl [0, 1] rfl)
    · have h := gz_f h hc
      refine gr_aload_n hx hb x0 dX2_operand_48 rfl (lv_at hl 0 rfl) ?_
      refine lv_bipush hx hb dX2_operand_49 gz_bp_48 ?_
      refine lv_bipush hx hb dX2_operand_51 gz_bp_57 ?_
      obtain ⟨a1, t1, h⟩ := gz_q_s h
      refine C_X2_isAmong cx (gz_nh hex) hI (Or.inl (hts _ q328)) hl.1 (gz_cs (Nat.le_of_ble_eq_true rfl)) (by omega) dX2_operand_53 t1 h (fun v1 S1 h H locs cells slots hI => ?_)
      refine lv_if_eq (tgt := 80) hx hb dX2_operand_56 rfl (fun hc => ?_) (fun hc => ?_)
      · have h := gz_t h hc
        exact T_X2_operand_80 hD h p e s m args below meth c H locs cells slots ls cx hnm hex hI (lv_sub hl [0, 1] rfl)
      · have h := gz_f h hc
        refine lv_ldc2d hx hb hown (hts _ q595) dX2_operand_59 ?_
        refine lv_dload_n hx hb dX2_operand_62 rfl (lv_at hl 1 rfl) ?_
        obtain ⟨v2, e2, h⟩ := g_bind h
        obtain ⟨n2, w2⟩ := g_nn_s e2
        refine lv_dmul hx hb dX2_operand_63 n2 ?_
        rw [← w2]
        refine gr_aload_n hx hb x0 dX2_operand_64 rfl (lv_at hl 0 rfl) ?_
        obtain ⟨a3, t3, h⟩ := gz_q_s h
        refine C_X2_next cx (gz_nh hex) hI (Or.inl (hts _ q527)) hl.1 (gz_cs (Nat.le_of_ble_eq_true rfl)) (by omega) dX2_operand_65 t3 h (fun v3 S3 h H locs cells slots hI => ?_)
        refine lv_bipush hx hb dX2_operand_68 gz_bp_48 ?_
        refine lv_isub hx hb dX2_operand_70 ?_
        refine lv_i2d hx hb dX2_operand_71 ?_
        obtain ⟨v4, e4, h⟩ := g_bind h
        obtain ⟨n4, w4⟩ := g_nn_s e4
        refine lv_dadd hx hb dX2_operand_72 n4 ?_
        rw [← w4]
        refine gz_dstore_n hx hb dX2_operand_73 rfl hl (by decide) [0, 2] rfl (gz_con ⟨gz_ne rfl, gz_ne rfl, Or.inr (gl_cat x0)⟩ (gz_con ⟨gz_ne rfl, gz_ne rfl, Or.inl (gz_ne rfl)⟩ gz_nil)) (fun ls hl => ?_)
        refine gz_iinc (k := 2) (v := (x3 + (1 : Int32))) hx hb dX2_operand_74 hl rfl (congrArg (fun z => x3 + z) gz_ic_1) (by decide) [0, 1] rfl (gz_con ⟨gz_ne rfl, Or.inl (gz_ne rfl)⟩ (gz_con ⟨gz_ne rfl, Or.inl (gz_ne rfl)⟩ gz_nil)) (fun ls hl => ?_)
        refine lv_goto (tgt := 43) hx hb dX2_operand_77 rfl ?_
        exact ih _ _ _ _ h p e s m args below meth c H locs cells slots ls cx hnm hex hI (lv_sub hl [2, 1, 0] rfl)
theorem T_X2_operand {l : Launch} {G : gG} {S0 : gm_S} {d0 fu : Nat} {r : Outcome × gm_S} (hD : 9 ≤ d0) {x0 : Option Nat} {S : gm_S} (h : F_X2_operand fu x0 S = some r) : B_X2_operand l d0 G S0 0 [(0, va_rf x0)] [] S r.1 r.2 := by
  unfold F_X2_operand at h
  intro p e s m args below meth c H locs cells slots ls cx hnm hex hI hl
  have hx := cx.1
  have hb := cx.2.1
  have hown := cx.2.2.2.1
  have hts := cx.2.2.2.2.1
  have hK := cx.2.2.2.2.2.1
  refine gr_aload_n hx hb x0 dX2_operand_0 rfl (lv_at hl 0 rfl) ?_
  refine lv_bipush hx hb dX2_operand_1 gz_bp_117 ?_
  refine lv_bipush hx hb dX2_operand_3 gz_bp_122 ?_
  obtain ⟨a1, t1, h⟩ := gz_q_s h
  refine C_X2_isAmong cx (gz_nh hex) hI (Or.inl (hts _ q328)) hl.1 (gz_cs (Nat.le_of_ble_eq_true rfl)) (by omega) dX2_operand_5 t1 h (fun v1 S1 h H locs cells slots hI => ?_)
  refine lv_if_eq (tgt := 27) hx hb dX2_operand_8 rfl (fun hc => ?_) (fun hc => ?_)
  · have h := gz_t h hc
    refine gr_aload_n hx hb x0 dX2_operand_27 rfl (lv_at hl 0 rfl) ?_
    refine gr_aload_n hx hb x0 dX2_operand_28 rfl (lv_at hl 0 rfl) ?_
    refine lv_bipush hx hb dX2_operand_29 gz_bp_48 ?_
    refine lv_bipush hx hb dX2_operand_31 gz_bp_57 ?_
    obtain ⟨a2, t2, h⟩ := gz_q_s h
    refine C_X2_isAmong cx (gz_nh hex) hI (Or.inl (hts _ q328)) hl.1 (gz_cs (Nat.le_of_ble_eq_true rfl)) (by omega) dX2_operand_33 t2 h (fun v2 S2 h H locs cells slots hI => ?_)
    obtain ⟨a3, t3, h⟩ := gz_q_s h
    refine C_X2_want cx (gz_nh hex) hI (Or.inl (hts _ q336)) hl.1 (gz_cs (Nat.le_of_ble_eq_true rfl)) (by omega) dX2_operand_36 t3 h (fun S3 h H locs cells slots hI => ?_)
    refine lv_dconst0 hx hb dX2_operand_39 ?_
    refine gz_dstore_n hx hb dX2_operand_40 rfl hl (by decide) [0] rfl (gz_con ⟨gz_ne rfl, gz_ne rfl, Or.inr (gl_cat x0)⟩ gz_nil) (fun ls hl => ?_)
    refine lv_iconst hx hb dX2_operand_41 gz_ic_0 ?_
    refine gz_istore_n hx hb dX2_operand_42 rfl hl (by decide) [0, 1] rfl (gz_con ⟨gz_ne rfl, Or.inl (gz_ne rfl)⟩ (gz_con ⟨gz_ne rfl, Or.inl (gz_ne rfl)⟩ gz_nil)) (fun ls hl => ?_)
    exact T_X2_operand_43 hD fu _ _ _ _ h p e s m args below meth c H locs cells slots ls cx hnm hex hI (lv_sub hl [2, 1, 0] rfl)
  · have h := gz_f h hc
    obtain ⟨q4, e4, h⟩ := g_bind h
    refine gr_fnew cx hI (t := 9) (a := q4.1) (S2 := q4.2) e4 rfl (hts _ q582) (hts _ q583) (hts _ q93) dX2_operand_11 (fun H cells slots hI => ?_)
    refine lv_dup hx hb dX2_operand_14 (gl_cat (some q4.1)) ?_
    refine gr_aload_n hx hb x0 dX2_operand_15 rfl (lv_at hl 0 rfl) ?_
    obtain ⟨a5, t5, h⟩ := gz_q_s h
    refine C_X2_next cx (gz_nh hex) hI (Or.inl (hts _ q527)) hl.1 (gz_cs (Nat.le_of_ble_eq_true rfl)) (by omega) dX2_operand_16 t5 h (fun v5 S5 h H locs cells slots hI => ?_)
    refine lv_bipush hx hb dX2_operand_19 gz_bp_117 ?_
    refine lv_isub hx hb dX2_operand_21 ?_
    refine lv_dconst0 hx hb dX2_operand_22 ?_
    obtain ⟨a6, t6, h⟩ := gz_q_s h
    refine C_X9_init cx (gz_nh hex) hI (Or.inl (hts _ q584)) hl.1 (gz_cs (Nat.le_of_ble_eq_true rfl)) (by omega) dX2_operand_23 t6 h (fun S6 h H locs cells slots hI => ?_)
    cases h
    exact gr_aret cx (Or.inl ⟨_, rfl⟩) hI dX2_operand_26
theorem M_X2_operand {l : Launch} {G : gG} {fu d0 : Nat} (hfl : l.flags = flags0) (hD : 9 ≤ d0) {x0 : Option Nat} {S : gm_S} {o : Outcome} {S2 : gm_S} (h : F_X2_operand fu x0 S = some (o, S2)) : gx_Met l yX2_operand (ws_ yX2_operand cX2_operand 4 (Option.some (Jvm.ClassFile.FieldType.object "NestChart$Operand"))) d0 G S [va_rf x0] o S2 := by
  refine gx_of hfl (by decide) (fun p e s m below meth c cx hnm hex hI => ?_)
  rw [lg_entry_eq]
  cases x0 <;> exact T_X2_operand (r := (o, S2)) hD h p e s m _ below meth c _ _ _ _ _ cx hnm (gz_nh0 hex) hI (lv_entry _ (Nat.le_of_ble_eq_true rfl))
theorem C_X2_operand {p : Program} {l : Launch} {e : Env} {s : State} {m : MethodId} {args : Array Value} {below : List Frame} {meth : Method} {c : Code} {H : Heap} {locs : List Loc} {cells slots : Nat} {cc : ByteArray} {pc nL : Nat} {ls : Array Slot} {rest : List Value} {G : gG} {S0 S : gm_S} {own : String} {ret : Option FieldType} {d0 index fu : Nat} {x0 : Option Nat} {k : Option Nat → gm_S → gR} {r : Outcome × gm_S} (cx : gx_cx p l s m args meth c G own cc nL ret) (hex : ∀ x ∈ c.exceptionTable.toList, covers x pc = false) (hI : gw_I G S0 S H locs cells slots) (hl : gl_M own index yX2_operand args s) (hlv : ls.size = nL) (hrest : (rest.map fun v => v.category).sum ≤ 8) (hD : 10 ≤ d0) (hdg : decode cc pc = .ok (.invokevirtual index, 3)) {b : Nat} (hat : g_at S x0 2 = some b) (h : gz_cR (F_X2_operand fu x0 S) k = some r)
    (kk : ∀ (v : Option Nat) (z : gm_S), k v z = some r → ∀ (H : Heap) (locs : List Loc) (cells slots : Nat), gw_I G S0 z H locs cells slots → W p l e (gx_rm d0 S0) s m args below meth c H locs cells slots (gx_MQ below G S0 r.2 r.1 s) (F0 m (pc + 3) ls (va_rf v :: rest))) : W p l e (gx_rm d0 S0) s m args below meth c H locs cells slots (gx_MQ below G S0 r.2 r.1 s) (F0 m pc ls (va_rf x0 :: rest)) := by
  obtain ⟨rfl, ht⟩ := g_at_s hat
  have hts := cx.2.2.2.2.1
  have hK := cx.2.2.2.2.2.1
  exact gz_goR (d := d0 - 1) (fun S => S) cx hex hI hlv hrest (by omega) (Nat.le_of_ble_eq_true rfl) (gz_ws (lw_meth q581) hts) (hts _ q73) (gb_rawV (As := []) cx hl (hts _ q580) (hts _ qs9) (gl_C.code (hts _ q581)) hy_X2_operand (gr_recv hK hI.1 ht rfl) rfl rfl hdg) (fun o S2 e => M_X2_operand (x0 := some b) cx.2.2.2.2.2.2.2.2 (by omega) e) h kk
abbrev B_X6_init_8 (l : Launch) (d0 : Nat) (G : gG) (S0 : gm_S) : Nat → List (Nat × Value) → List Value → gm_S → Outcome → gm_S → Prop := gz_B l RX6 "<init>" cX6_init 1 (Option.none : Option Jvm.ClassFile.FieldType) [] d0 G S0
theorem T_X6_init_8 {l : Launch} {G : gG} {S0 : gm_S} {d0 fu : Nat} {r : Outcome × gm_S} (hD : 2 ≤ d0) {x0 : Option Nat} {S : gm_S} (h : F_X6_init_8 fu x0 S = some r) : B_X6_init_8 l d0 G S0 0 [(0, va_rf x0)] [] S r.1 r.2 := by
  unfold F_X6_init_8 at h
  intro p e s m args below meth c H locs cells slots ls cx hnm hex hI hl
  have hx := cx.1
  have hb := cx.2.1
  have hown := cx.2.2.2.1
  have hts := cx.2.2.2.2.1
  have hK := cx.2.2.2.2.2.1
  refine gr_aload_n hx hb x0 dX6_init_0 rfl (lv_at hl 0 rfl) ?_
  obtain ⟨a1, e1, h⟩ := gz_q_s h
  refine gz_objI cx hl.1 (hts _ q564) (gz_cs (Nat.le_of_ble_eq_true rfl)) (by omega) e1 dX6_init_1 ?_
  cases h
  exact gr_vret cx hI dX6_init_4
theorem M_X6_init_8 {l : Launch} {G : gG} {fu d0 : Nat} (hfl : l.flags = flags0) (hD : 2 ≤ d0) {x0 : Option Nat} {S : gm_S} {o : Outcome} {S2 : gm_S} (h : F_X6_init_8 fu x0 S = some (o, S2)) : gx_Met l yX6_init (ws_ yX6_init cX6_init 1 (Option.none : Option Jvm.ClassFile.FieldType)) d0 G S [va_rf x0] o S2 := by
  refine gx_of hfl (by decide) (fun p e s m below meth c cx hnm hex hI => ?_)
  rw [lg_entry_eq]
  cases x0 <;> exact T_X6_init_8 (r := (o, S2)) hD h p e s m _ below meth c _ _ _ _ _ cx hnm (gz_nh0 hex) hI (lv_entry _ (Nat.le_of_ble_eq_true rfl))
theorem C_X6_init_8 {p : Program} {l : Launch} {e : Env} {s : State} {m : MethodId} {args : Array Value} {below : List Frame} {meth : Method} {c : Code} {H : Heap} {locs : List Loc} {cells slots : Nat} {cc : ByteArray} {pc nL : Nat} {ls : Array Slot} {rest : List Value} {G : gG} {S0 S : gm_S} {own : String} {ret : Option FieldType} {d0 index fu : Nat} {x0 : Option Nat} {k : gm_S → gR} {r : Outcome × gm_S} (cx : gx_cx p l s m args meth c G own cc nL ret) (hex : ∀ x ∈ c.exceptionTable.toList, covers x pc = false) (hI : gw_I G S0 S H locs cells slots) (hl : gl_M own index yX6_init args s) (hlv : ls.size = nL) (hrest : (rest.map fun v => v.category).sum ≤ 8) (hD : 3 ≤ d0) (hdg : decode cc pc = .ok (.invokespecial index, 3)) {b : Nat} (hat : g_at S x0 8 = some b) (h : gz_cV (F_X6_init_8 fu x0 S) k = some r)
    (kk : ∀ (z : gm_S), k z = some r → ∀ (H : Heap) (locs : List Loc) (cells slots : Nat), gw_I G S0 z H locs cells slots → W p l e (gx_rm d0 S0) s m args below meth c H locs cells slots (gx_MQ below G S0 r.2 r.1 s) (F0 m (pc + 3) ls rest)) : W p l e (gx_rm d0 S0) s m args below meth c H locs cells slots (gx_MQ below G S0 r.2 r.1 s) (F0 m pc ls (va_rf x0 :: rest)) := by
  obtain ⟨rfl, ht⟩ := g_at_s hat
  have hts := cx.2.2.2.2.1
  have hK := cx.2.2.2.2.2.1
  exact gz_goV (d := d0 - 1) (fun S => S) cx hex hI hlv hrest (by omega) (Nat.le_of_ble_eq_true rfl) (gz_ws (lw_meth q563) hts) (hts _ q90) (gb_rawI (As := []) cx hl (hts _ q562) (hts _ q563) hy_X6_init rfl rfl rfl hdg) (fun o S2 e => M_X6_init_8 (x0 := some b) cx.2.2.2.2.2.2.2.2 (by omega) e) h kk
abbrev B_X8_init (l : Launch) (d0 : Nat) (G : gG) (S0 : gm_S) : Nat → List (Nat × Value) → List Value → gm_S → Outcome → gm_S → Prop := gz_B l RX8 "<init>" cX8_init 4 (Option.none : Option Jvm.ClassFile.FieldType) [] d0 G S0
theorem T_X8_init {l : Launch} {G : gG} {S0 : gm_S} {d0 fu : Nat} {r : Outcome × gm_S} (hD : 3 ≤ d0) {x0 : Option Nat} {x1 : Int32} {x2 : Int32} {x3 : Option Nat} {S : gm_S} (h : F_X8_init fu x0 x1 x2 x3 S = some r) : B_X8_init l d0 G S0 0 [(0, va_rf x0), (1, .int x1), (2, .int x2), (3, va_rf x3)] [] S r.1 r.2 := by
  unfold F_X8_init at h
  intro p e s m args below meth c H locs cells slots ls cx hnm hex hI hl
  have hx := cx.1
  have hb := cx.2.1
  have hown := cx.2.2.2.1
  have hts := cx.2.2.2.2.1
  have hK := cx.2.2.2.2.2.1
  refine gr_aload_n hx hb x0 dX8_init_0 rfl (lv_at hl 0 rfl) ?_
  obtain ⟨a1, t1, h⟩ := gz_q_s h
  refine C_X6_init_8 cx (gz_nh hex) hI (Or.inr ⟨_, gk_w hK q599 rfl⟩) hl.1 (gz_cs (Nat.le_of_ble_eq_true rfl)) (by omega) dX8_init_1 t1 h (fun S1 h H locs cells slots hI => ?_)
  refine gr_aload_n hx hb x0 dX8_init_4 rfl (lv_at hl 0 rfl) ?_
  refine lv_iload_n hx hb dX8_init_5 rfl (lv_at hl 1 rfl) ?_
  obtain ⟨S2, e2, h⟩ := g_bind h
  refine gr_putI cx hI e2 rfl rfl rfl (Or.inl (hts _ q600)) (Or.inr ⟨hnm, rfl⟩) dX8_init_6 (fun H locs hI => ?_)
  refine gr_aload_n hx hb x0 dX8_init_9 rfl (lv_at hl 0 rfl) ?_
  refine lv_iload_n hx hb dX8_init_10 rfl (lv_at hl 2 rfl) ?_
  obtain ⟨S3, e3, h⟩ := g_bind h
  refine gr_putC cx hI e3 rfl rfl rfl (Or.inl (hts _ q601)) (Or.inr ⟨hnm, rfl⟩) dX8_init_11 (fun H locs hI => ?_)
  refine gr_aload_n hx hb x0 dX8_init_14 rfl (lv_at hl 0 rfl) ?_
  refine gr_aload_n hx hb x3 dX8_init_15 rfl (lv_at hl 3 rfl) ?_
  obtain ⟨S4, e4, h⟩ := g_bind h
  refine gr_putR cx hI e4 rfl rfl rfl (Or.inl (hts _ q602)) (Or.inr ⟨hnm, rfl⟩) dX8_init_16 (fun H locs hI => ?_)
  cases h
  exact gr_vret cx hI dX8_init_19
theorem M_X8_init {l : Launch} {G : gG} {fu d0 : Nat} (hfl : l.flags = flags0) (hD : 3 ≤ d0) {x0 : Option Nat} {x1 : Int32} {x2 : Int32} {x3 : Option Nat} {S : gm_S} {o : Outcome} {S2 : gm_S} (h : F_X8_init fu x0 x1 x2 x3 S = some (o, S2)) : gx_Met l yX8_init (ws_ yX8_init cX8_init 4 (Option.none : Option Jvm.ClassFile.FieldType)) d0 G S [va_rf x0, .int x1, .int x2, va_rf x3] o S2 := by
  refine gx_of hfl (by decide) (fun p e s m below meth c cx hnm hex hI => ?_)
  rw [lg_entry_eq]
  cases x0 <;> cases x3 <;> exact T_X8_init (r := (o, S2)) hD h p e s m _ below meth c _ _ _ _ _ cx hnm (gz_nh0 hex) hI (lv_entry _ (Nat.le_of_ble_eq_true rfl))
theorem C_X8_init {p : Program} {l : Launch} {e : Env} {s : State} {m : MethodId} {args : Array Value} {below : List Frame} {meth : Method} {c : Code} {H : Heap} {locs : List Loc} {cells slots : Nat} {cc : ByteArray} {pc nL : Nat} {ls : Array Slot} {rest : List Value} {G : gG} {S0 S : gm_S} {own : String} {ret : Option FieldType} {d0 index fu : Nat} {x0 : Option Nat} {x1 : Int32} {x2 : Int32} {x3 : Option Nat} {k : gm_S → gR} {r : Outcome × gm_S} (cx : gx_cx p l s m args meth c G own cc nL ret) (hex : ∀ x ∈ c.exceptionTable.toList, covers x pc = false) (hI : gw_I G S0 S H locs cells slots) (hl : gl_M own index yX8_init args s) (hlv : ls.size = nL) (hrest : (rest.map fun v => v.category).sum ≤ 8) (hD : 4 ≤ d0) (hdg : decode cc pc = .ok (.invokespecial index, 3)) {b : Nat} (hat : g_at S x0 8 = some b) (h : gz_cV (F_X8_init fu x0 x1 x2 x3 S) k = some r)
    (kk : ∀ (z : gm_S), k z = some r → ∀ (H : Heap) (locs : List Loc) (cells slots : Nat), gw_I G S0 z H locs cells slots → W p l e (gx_rm d0 S0) s m args below meth c H locs cells slots (gx_MQ below G S0 r.2 r.1 s) (F0 m (pc + 3) ls rest)) : W p l e (gx_rm d0 S0) s m args below meth c H locs cells slots (gx_MQ below G S0 r.2 r.1 s) (F0 m pc ls (va_rf x3 :: .int x2 :: .int x1 :: va_rf x0 :: rest)) := by
  obtain ⟨rfl, ht⟩ := g_at_s hat
  have hts := cx.2.2.2.2.1
  have hK := cx.2.2.2.2.2.1
  exact gz_goV (d := d0 - 1) (fun S => S) cx hex hI hlv hrest (by omega) (Nat.le_of_ble_eq_true rfl) (gz_ws (lw_meth q598) hts) (hts _ q92) (gb_rawI (As := [.int x1, .int x2, va_rf x3]) cx hl (hts _ q597) (hts _ q598) hy_X8_init rfl rfl rfl hdg) (fun o S2 e => M_X8_init (x0 := some b) cx.2.2.2.2.2.2.2.2 (by omega) e) h kk
abbrev B_X2_assigning (l : Launch) (d0 : Nat) (G : gG) (S0 : gm_S) : Nat → List (Nat × Value) → List Value → gm_S → Outcome → gm_S → Prop := gz_B l RX2 "assigning" cX2_assigning 3 (Option.some (Jvm.ClassFile.FieldType.object "NestChart$Action")) [] d0 G S0
theorem T_X2_assigning_35 {l : Launch} {G : gG} {S0 : gm_S} {d0 fu : Nat} {r : Outcome × gm_S} (hD : 10 ≤ d0) {x0 : Option Nat} {x1 : Int32} {x2 : Int32} {s0 : Int32} {s1 : Option Nat} {S : gm_S} (h : F_X2_assigning_35 fu x0 x1 x2 s0 s1 S = some r) : B_X2_assigning l d0 G S0 35 [(0, va_rf x0), (1, .int x1), (2, .int x2)] [.int s0, va_rf s1] S r.1 r.2 := by
  unfold F_X2_assigning_35 at h
  intro p e s m args below meth c H locs cells slots ls cx hnm hex hI hl
  have hx := cx.1
  have hb := cx.2.1
  have hown := cx.2.2.2.1
  have hts := cx.2.2.2.2.1
  have hK := cx.2.2.2.2.2.1
  obtain ⟨a1, t1, h⟩ := gz_q_s h
  refine C_X2_want cx (gz_nh hex) hI (Or.inl (hts _ q336)) hl.1 (gz_cs (Nat.le_of_ble_eq_true rfl)) (by omega) dX2_assigning_35 t1 h (fun S1 h H locs cells slots hI => ?_)
  refine gr_aload_n hx hb x0 dX2_assigning_38 rfl (lv_at hl 0 rfl) ?_
  refine lv_dup hx hb dX2_assigning_39 (gl_cat x0) ?_
  obtain ⟨v2, e2, h⟩ := g_bind h
  refine gr_getI cx hI e2 rfl (fun _ => rfl) rfl (Or.inl (hts _ q120)) dX2_assigning_40 ?_
  refine lv_iconst hx hb dX2_assigning_43 gz_ic_1 ?_
  refine lv_iadd hx hb dX2_assigning_44 ?_
  obtain ⟨S3, e3, h⟩ := g_bind h
  refine gr_putI cx hI e3 rfl rfl rfl (Or.inl (hts _ q120)) (Or.inl rfl) dX2_assigning_45 (fun H locs hI => ?_)
  obtain ⟨q4, e4, h⟩ := g_bind h
  refine gr_fnew cx hI (t := 8) (a := q4.1) (S2 := q4.2) e4 rfl (hts _ q576) (hts _ q577) (hts _ q92) dX2_assigning_48 (fun H cells slots hI => ?_)
  refine lv_dup hx hb dX2_assigning_51 (gl_cat (some q4.1)) ?_
  refine lv_iload_n hx hb dX2_assigning_52 rfl (lv_at hl 1 rfl) ?_
  refine lv_bipush hx hb dX2_assigning_53 gz_bp_117 ?_
  refine lv_isub hx hb dX2_assigning_55 ?_
  refine lv_iload_n hx hb dX2_assigning_56 rfl (lv_at hl 2 rfl) ?_
  refine gr_aload_n hx hb x0 dX2_assigning_57 rfl (lv_at hl 0 rfl) ?_
  obtain ⟨a5, t5, h⟩ := gz_q_s h
  refine C_X2_operand cx (gz_nh hex) hI (Or.inl (hts _ q578)) hl.1 (gz_cs (Nat.le_of_ble_eq_true rfl)) (by omega) dX2_assigning_58 t5 h (fun v5 S5 h H locs cells slots hI => ?_)
  obtain ⟨a6, t6, h⟩ := gz_q_s h
  refine C_X8_init cx (gz_nh hex) hI (Or.inl (hts _ q596)) hl.1 (gz_cs (Nat.le_of_ble_eq_true rfl)) (by omega) dX2_assigning_61 t6 h (fun S6 h H locs cells slots hI => ?_)
  cases h
  exact gr_aret cx (Or.inl ⟨_, rfl⟩) hI dX2_assigning_64
theorem T_X2_assigning {l : Launch} {G : gG} {S0 : gm_S} {d0 fu : Nat} {r : Outcome × gm_S} (hD : 10 ≤ d0) {x0 : Option Nat} {x1 : Int32} {S : gm_S} (h : F_X2_assigning fu x0 x1 S = some r) : B_X2_assigning l d0 G S0 0 [(0, va_rf x0), (1, .int x1)] [] S r.1 r.2 := by
  unfold F_X2_assigning at h
  intro p e s m args below meth c H locs cells slots ls cx hnm hex hI hl
  have hx := cx.1
  have hb := cx.2.1
  have hown := cx.2.2.2.1
  have hts := cx.2.2.2.2.1
  have hK := cx.2.2.2.2.2.1
  refine gr_aload_n hx hb x0 dX2_assigning_0 rfl (lv_at hl 0 rfl) ?_
  obtain ⟨a1, t1, h⟩ := gz_q_s h
  refine C_X2_look cx (gz_nh hex) hI (Or.inl (hts _ q332)) hl.1 (gz_cs (Nat.le_of_ble_eq_true rfl)) (by omega) dX2_assigning_1 t1 h (fun v1 S1 h H locs cells slots hI => ?_)
  refine gz_istore_n hx hb dX2_assigning_4 rfl hl (by decide) [0, 1] rfl (gz_con ⟨gz_ne rfl, Or.inl (gz_ne rfl)⟩ (gz_con ⟨gz_ne rfl, Or.inr rfl⟩ gz_nil)) (fun ls hl => ?_)
  refine gr_aload_n hx hb x0 dX2_assigning_5 rfl (lv_at hl 1 rfl) ?_
  refine lv_iload_n hx hb dX2_assigning_6 rfl (lv_at hl 0 rfl) ?_
  refine lv_bipush hx hb dX2_assigning_7 gz_bp_61 ?_
  refine lv_icmp_eq (tgt := 30) hx hb dX2_assigning_9 rfl (fun hc => ?_) (fun hc => ?_)
  · have h := gz_t h hc
    refine lv_iconst hx hb dX2_assigning_30 gz_ic_1 ?_
    refine lv_goto (tgt := 35) hx hb dX2_assigning_31 rfl ?_
    exact T_X2_assigning_35 hD h p e s m args below meth c H locs cells slots ls cx hnm hex hI (lv_sub hl [1, 2, 0] rfl)
  · have h := gz_f h hc
    refine lv_iload_n hx hb dX2_assigning_12 rfl (lv_at hl 0 rfl) ?_
    refine lv_bipush hx hb dX2_assigning_13 gz_bp_43 ?_
    refine lv_icmp_eq (tgt := 30) hx hb dX2_assigning_15 rfl (fun hc => ?_) (fun hc => ?_)
    · have h := gz_t h hc
      refine lv_iconst hx hb dX2_assigning_30 gz_ic_1 ?_
      refine lv_goto (tgt := 35) hx hb dX2_assigning_31 rfl ?_
      exact T_X2_assigning_35 hD h p e s m args below meth c H locs cells slots ls cx hnm hex hI (lv_sub hl [1, 2, 0] rfl)
    · have h := gz_f h hc
      refine lv_iload_n hx hb dX2_assigning_18 rfl (lv_at hl 0 rfl) ?_
      refine lv_bipush hx hb dX2_assigning_19 gz_bp_45 ?_
      refine lv_icmp_eq (tgt := 30) hx hb dX2_assigning_21 rfl (fun hc => ?_) (fun hc => ?_)
      · have h := gz_t h hc
        refine lv_iconst hx hb dX2_assigning_30 gz_ic_1 ?_
        refine lv_goto (tgt := 35) hx hb dX2_assigning_31 rfl ?_
        exact T_X2_assigning_35 hD h p e s m args below meth c H locs cells slots ls cx hnm hex hI (lv_sub hl [1, 2, 0] rfl)
      · have h := gz_f h hc
        refine lv_iload_n hx hb dX2_assigning_24 rfl (lv_at hl 0 rfl) ?_
        refine lv_bipush hx hb dX2_assigning_25 gz_bp_42 ?_
        refine lv_icmp_ne (tgt := 34) hx hb dX2_assigning_27 rfl (fun hc => ?_) (fun hc => ?_)
        · have h := gz_f h hc
          refine lv_iconst hx hb dX2_assigning_34 gz_ic_0 ?_
          exact T_X2_assigning_35 hD h p e s m args below meth c H locs cells slots ls cx hnm hex hI (lv_sub hl [1, 2, 0] rfl)
        · have h := gz_t h hc
          refine lv_iconst hx hb dX2_assigning_30 gz_ic_1 ?_
          refine lv_goto (tgt := 35) hx hb dX2_assigning_31 rfl ?_
          exact T_X2_assigning_35 hD h p e s m args below meth c H locs cells slots ls cx hnm hex hI (lv_sub hl [1, 2, 0] rfl)
theorem M_X2_assigning {l : Launch} {G : gG} {fu d0 : Nat} (hfl : l.flags = flags0) (hD : 10 ≤ d0) {x0 : Option Nat} {x1 : Int32} {S : gm_S} {o : Outcome} {S2 : gm_S} (h : F_X2_assigning fu x0 x1 S = some (o, S2)) : gx_Met l yX2_assigning (ws_ yX2_assigning cX2_assigning 3 (Option.some (Jvm.ClassFile.FieldType.object "NestChart$Action"))) d0 G S [va_rf x0, .int x1] o S2 := by
  refine gx_of hfl (by decide) (fun p e s m below meth c cx hnm hex hI => ?_)
  rw [lg_entry_eq]
  cases x0 <;> exact T_X2_assigning (r := (o, S2)) hD h p e s m _ below meth c _ _ _ _ _ cx hnm (gz_nh0 hex) hI (lv_entry _ (Nat.le_of_ble_eq_true rfl))
theorem C_X2_assigning {p : Program} {l : Launch} {e : Env} {s : State} {m : MethodId} {args : Array Value} {below : List Frame} {meth : Method} {c : Code} {H : Heap} {locs : List Loc} {cells slots : Nat} {cc : ByteArray} {pc nL : Nat} {ls : Array Slot} {rest : List Value} {G : gG} {S0 S : gm_S} {own : String} {ret : Option FieldType} {d0 index fu : Nat} {x0 : Option Nat} {x1 : Int32} {k : Option Nat → gm_S → gR} {r : Outcome × gm_S} (cx : gx_cx p l s m args meth c G own cc nL ret) (hex : ∀ x ∈ c.exceptionTable.toList, covers x pc = false) (hI : gw_I G S0 S H locs cells slots) (hl : gl_M own index yX2_assigning args s) (hlv : ls.size = nL) (hrest : (rest.map fun v => v.category).sum ≤ 8) (hD : 11 ≤ d0) (hdg : decode cc pc = .ok (.invokevirtual index, 3)) {b : Nat} (hat : g_at S x0 2 = some b) (h : gz_cR (F_X2_assigning fu x0 x1 S) k = some r)
    (kk : ∀ (v : Option Nat) (z : gm_S), k v z = some r → ∀ (H : Heap) (locs : List Loc) (cells slots : Nat), gw_I G S0 z H locs cells slots → W p l e (gx_rm d0 S0) s m args below meth c H locs cells slots (gx_MQ below G S0 r.2 r.1 s) (F0 m (pc + 3) ls (va_rf v :: rest))) : W p l e (gx_rm d0 S0) s m args below meth c H locs cells slots (gx_MQ below G S0 r.2 r.1 s) (F0 m pc ls (.int x1 :: va_rf x0 :: rest)) := by
  obtain ⟨rfl, ht⟩ := g_at_s hat
  have hts := cx.2.2.2.2.1
  have hK := cx.2.2.2.2.2.1
  exact gz_goR (d := d0 - 1) (fun S => S) cx hex hI hlv hrest (by omega) (Nat.le_of_ble_eq_true rfl) (gz_ws (lw_meth q575) hts) (hts _ q73) (gb_rawV (As := [.int x1]) cx hl (hts _ q574) (hts _ qs8) (gl_C.code (hts _ q575)) hy_X2_assigning (gr_recv hK hI.1 ht rfl) rfl rfl hdg) (fun o S2 e => M_X2_assigning (x0 := some b) cx.2.2.2.2.2.2.2.2 (by omega) e) h kk
abbrev B_X6_init_7 (l : Launch) (d0 : Nat) (G : gG) (S0 : gm_S) : Nat → List (Nat × Value) → List Value → gm_S → Outcome → gm_S → Prop := gz_B l RX6 "<init>" cX6_init 1 (Option.none : Option Jvm.ClassFile.FieldType) [] d0 G S0
theorem T_X6_init_7 {l : Launch} {G : gG} {S0 : gm_S} {d0 fu : Nat} {r : Outcome × gm_S} (hD : 2 ≤ d0) {x0 : Option Nat} {S : gm_S} (h : F_X6_init_7 fu x0 S = some r) : B_X6_init_7 l d0 G S0 0 [(0, va_rf x0)] [] S r.1 r.2 := by
  unfold F_X6_init_7 at h
  intro p e s m args below meth c H locs cells slots ls cx hnm hex hI hl
  have hx := cx.1
  have hb := cx.2.1
  have hown := cx.2.2.2.1
  have hts := cx.2.2.2.2.1
  have hK := cx.2.2.2.2.2.1
  refine gr_aload_n hx hb x0 dX6_init_0 rfl (lv_at hl 0 rfl) ?_
  obtain ⟨a1, e1, h⟩ := gz_q_s h
  refine gz_objI cx hl.1 (hts _ q564) (gz_cs (Nat.le_of_ble_eq_true rfl)) (by omega) e1 dX6_init_1 ?_
  cases h
  exact gr_vret cx hI dX6_init_4
theorem M_X6_init_7 {l : Launch} {G : gG} {fu d0 : Nat} (hfl : l.flags = flags0) (hD : 2 ≤ d0) {x0 : Option Nat} {S : gm_S} {o : Outcome} {S2 : gm_S} (h : F_X6_init_7 fu x0 S = some (o, S2)) : gx_Met l yX6_init (ws_ yX6_init cX6_init 1 (Option.none : Option Jvm.ClassFile.FieldType)) d0 G S [va_rf x0] o S2 := by
  refine gx_of hfl (by decide) (fun p e s m below meth c cx hnm hex hI => ?_)
  rw [lg_entry_eq]
  cases x0 <;> exact T_X6_init_7 (r := (o, S2)) hD h p e s m _ below meth c _ _ _ _ _ cx hnm (gz_nh0 hex) hI (lv_entry _ (Nat.le_of_ble_eq_true rfl))
theorem C_X6_init_7 {p : Program} {l : Launch} {e : Env} {s : State} {m : MethodId} {args : Array Value} {below : List Frame} {meth : Method} {c : Code} {H : Heap} {locs : List Loc} {cells slots : Nat} {cc : ByteArray} {pc nL : Nat} {ls : Array Slot} {rest : List Value} {G : gG} {S0 S : gm_S} {own : String} {ret : Option FieldType} {d0 index fu : Nat} {x0 : Option Nat} {k : gm_S → gR} {r : Outcome × gm_S} (cx : gx_cx p l s m args meth c G own cc nL ret) (hex : ∀ x ∈ c.exceptionTable.toList, covers x pc = false) (hI : gw_I G S0 S H locs cells slots) (hl : gl_M own index yX6_init args s) (hlv : ls.size = nL) (hrest : (rest.map fun v => v.category).sum ≤ 8) (hD : 3 ≤ d0) (hdg : decode cc pc = .ok (.invokespecial index, 3)) {b : Nat} (hat : g_at S x0 7 = some b) (h : gz_cV (F_X6_init_7 fu x0 S) k = some r)
    (kk : ∀ (z : gm_S), k z = some r → ∀ (H : Heap) (locs : List Loc) (cells slots : Nat), gw_I G S0 z H locs cells slots → W p l e (gx_rm d0 S0) s m args below meth c H locs cells slots (gx_MQ below G S0 r.2 r.1 s) (F0 m (pc + 3) ls rest)) : W p l e (gx_rm d0 S0) s m args below meth c H locs cells slots (gx_MQ below G S0 r.2 r.1 s) (F0 m pc ls (va_rf x0 :: rest)) := by
  obtain ⟨rfl, ht⟩ := g_at_s hat
  have hts := cx.2.2.2.2.1
  have hK := cx.2.2.2.2.2.1
  exact gz_goV (d := d0 - 1) (fun S => S) cx hex hI hlv hrest (by omega) (Nat.le_of_ble_eq_true rfl) (gz_ws (lw_meth q563) hts) (hts _ q90) (gb_rawI (As := []) cx hl (hts _ q562) (hts _ q563) hy_X6_init rfl rfl rfl hdg) (fun o S2 e => M_X6_init_7 (x0 := some b) cx.2.2.2.2.2.2.2.2 (by omega) e) h kk
abbrev B_X7_init (l : Launch) (d0 : Nat) (G : gG) (S0 : gm_S) : Nat → List (Nat × Value) → List Value → gm_S → Outcome → gm_S → Prop := gz_B l RX7 "<init>" cX7_init 3 (Option.none : Option Jvm.ClassFile.FieldType) [] d0 G S0
theorem T_X7_init {l : Launch} {G : gG} {S0 : gm_S} {d0 fu : Nat} {r : Outcome × gm_S} (hD : 3 ≤ d0) {x0 : Option Nat} {x1 : Int32} {x2 : Int32} {S : gm_S} (h : F_X7_init fu x0 x1 x2 S = some r) : B_X7_init l d0 G S0 0 [(0, va_rf x0), (1, .int x1), (2, .int x2)] [] S r.1 r.2 := by
  unfold F_X7_init at h
  intro p e s m args below meth c H locs cells slots ls cx hnm hex hI hl
  have hx := cx.1
  have hb := cx.2.1
  have hown := cx.2.2.2.1
  have hts := cx.2.2.2.2.1
  have hK := cx.2.2.2.2.2.1
  refine gr_aload_n hx hb x0 dX7_init_0 rfl (lv_at hl 0 rfl) ?_
  obtain ⟨a1, t1, h⟩ := gz_q_s h
  refine C_X6_init_7 cx (gz_nh hex) hI (Or.inr ⟨_, gk_w hK q561 rfl⟩) hl.1 (gz_cs (Nat.le_of_ble_eq_true rfl)) (by omega) dX7_init_1 t1 h (fun S1 h H locs cells slots hI => ?_)
  refine gr_aload_n hx hb x0 dX7_init_4 rfl (lv_at hl 0 rfl) ?_
  refine lv_iload_n hx hb dX7_init_5 rfl (lv_at hl 1 rfl) ?_
  obtain ⟨S2, e2, h⟩ := g_bind h
  refine gr_putC cx hI e2 rfl rfl rfl (Or.inl (hts _ q565)) (Or.inr ⟨hnm, rfl⟩) dX7_init_6 (fun H locs hI => ?_)
  refine gr_aload_n hx hb x0 dX7_init_9 rfl (lv_at hl 0 rfl) ?_
  refine lv_iload_n hx hb dX7_init_10 rfl (lv_at hl 2 rfl) ?_
  obtain ⟨S3, e3, h⟩ := g_bind h
  refine gr_putI cx hI e3 rfl rfl rfl (Or.inl (hts _ q566)) (Or.inr ⟨hnm, rfl⟩) dX7_init_11 (fun H locs hI => ?_)
  cases h
  exact gr_vret cx hI dX7_init_14
theorem M_X7_init {l : Launch} {G : gG} {fu d0 : Nat} (hfl : l.flags = flags0) (hD : 3 ≤ d0) {x0 : Option Nat} {x1 : Int32} {x2 : Int32} {S : gm_S} {o : Outcome} {S2 : gm_S} (h : F_X7_init fu x0 x1 x2 S = some (o, S2)) : gx_Met l yX7_init (ws_ yX7_init cX7_init 3 (Option.none : Option Jvm.ClassFile.FieldType)) d0 G S [va_rf x0, .int x1, .int x2] o S2 := by
  refine gx_of hfl (by decide) (fun p e s m below meth c cx hnm hex hI => ?_)
  rw [lg_entry_eq]
  cases x0 <;> exact T_X7_init (r := (o, S2)) hD h p e s m _ below meth c _ _ _ _ _ cx hnm (gz_nh0 hex) hI (lv_entry _ (Nat.le_of_ble_eq_true rfl))
theorem C_X7_init {p : Program} {l : Launch} {e : Env} {s : State} {m : MethodId} {args : Array Value} {below : List Frame} {meth : Method} {c : Code} {H : Heap} {locs : List Loc} {cells slots : Nat} {cc : ByteArray} {pc nL : Nat} {ls : Array Slot} {rest : List Value} {G : gG} {S0 S : gm_S} {own : String} {ret : Option FieldType} {d0 index fu : Nat} {x0 : Option Nat} {x1 : Int32} {x2 : Int32} {k : gm_S → gR} {r : Outcome × gm_S} (cx : gx_cx p l s m args meth c G own cc nL ret) (hex : ∀ x ∈ c.exceptionTable.toList, covers x pc = false) (hI : gw_I G S0 S H locs cells slots) (hl : gl_M own index yX7_init args s) (hlv : ls.size = nL) (hrest : (rest.map fun v => v.category).sum ≤ 8) (hD : 4 ≤ d0) (hdg : decode cc pc = .ok (.invokespecial index, 3)) {b : Nat} (hat : g_at S x0 7 = some b) (h : gz_cV (F_X7_init fu x0 x1 x2 S) k = some r)
    (kk : ∀ (z : gm_S), k z = some r → ∀ (H : Heap) (locs : List Loc) (cells slots : Nat), gw_I G S0 z H locs cells slots → W p l e (gx_rm d0 S0) s m args below meth c H locs cells slots (gx_MQ below G S0 r.2 r.1 s) (F0 m (pc + 3) ls rest)) : W p l e (gx_rm d0 S0) s m args below meth c H locs cells slots (gx_MQ below G S0 r.2 r.1 s) (F0 m pc ls (.int x2 :: .int x1 :: va_rf x0 :: rest)) := by
  obtain ⟨rfl, ht⟩ := g_at_s hat
  have hts := cx.2.2.2.2.1
  have hK := cx.2.2.2.2.2.1
  exact gz_goV (d := d0 - 1) (fun S => S) cx hex hI hlv hrest (by omega) (Nat.le_of_ble_eq_true rfl) (gz_ws (lw_meth q560) hts) (hts _ q91) (gb_rawI (As := [.int x1, .int x2]) cx hl (hts _ q559) (hts _ q560) hy_X7_init rfl rfl rfl hdg) (fun o S2 e => M_X7_init (x0 := some b) cx.2.2.2.2.2.2.2.2 (by omega) e) h kk
abbrev B_X2_raising (l : Launch) (d0 : Nat) (G : gG) (S0 : gm_S) : Nat → List (Nat × Value) → List Value → gm_S → Outcome → gm_S → Prop := gz_B l RX2 "raising" cX2_raising 2 (Option.some (Jvm.ClassFile.FieldType.object "NestChart$Action")) [] d0 G S0
theorem T_X2_raising {l : Launch} {G : gG} {S0 : gm_S} {d0 fu : Nat} {r : Outcome × gm_S} (hD : 9 ≤ d0) {x0 : Option Nat} {x1 : Int32} {S : gm_S} (h : F_X2_raising fu x0 x1 S = some r) : B_X2_raising l d0 G S0 0 [(0, va_rf x0), (1, .int x1)] [] S r.1 r.2 := by
  unfold F_X2_raising at h
  intro p e s m args below meth c H locs cells slots ls cx hnm hex hI hl
  have hx := cx.1
  have hb := cx.2.1
  have hown := cx.2.2.2.1
  have hts := cx.2.2.2.2.1
  have hK := cx.2.2.2.2.2.1
  refine gr_aload_n hx hb x0 dX2_raising_0 rfl (lv_at hl 0 rfl) ?_
  refine lv_bipush hx hb dX2_raising_1 gz_bp_64 ?_
  obtain ⟨a1, t1, h⟩ := gz_q_s h
  refine C_X2_takes cx (gz_nh hex) hI (Or.inl (hts _ q531)) hl.1 (gz_cs (Nat.le_of_ble_eq_true rfl)) (by omega) dX2_raising_3 t1 h (fun v1 S1 h H locs cells slots hI => ?_)
  refine lv_if_ne (tgt := 19) hx hb dX2_raising_6 rfl (fun hc => ?_) (fun hc => ?_)
  · have h := gz_f h hc
    refine gr_aload_n hx hb x0 dX2_raising_19 rfl (lv_at hl 0 rfl) ?_
    refine gr_aload_n hx hb x0 dX2_raising_20 rfl (lv_at hl 0 rfl) ?_
    refine lv_bipush hx hb dX2_raising_21 gz_bp_49 ?_
    refine lv_bipush hx hb dX2_raising_23 gz_bp_57 ?_
    obtain ⟨a2, t2, h⟩ := gz_q_s h
    refine C_X2_isAmong cx (gz_nh hex) hI (Or.inl (hts _ q328)) hl.1 (gz_cs (Nat.le_of_ble_eq_true rfl)) (by omega) dX2_raising_25 t2 h (fun v2 S2 h H locs cells slots hI => ?_)
    obtain ⟨a3, t3, h⟩ := gz_q_s h
    refine C_X2_want cx (gz_nh hex) hI (Or.inl (hts _ q336)) hl.1 (gz_cs (Nat.le_of_ble_eq_true rfl)) (by omega) dX2_raising_28 t3 h (fun S3 h H locs cells slots hI => ?_)
    obtain ⟨q4, e4, h⟩ := g_bind h
    refine gr_fnew cx hI (t := 7) (a := q4.1) (S2 := q4.2) e4 rfl (hts _ q556) (hts _ q557) (hts _ q91) dX2_raising_31 (fun H cells slots hI => ?_)
    refine lv_dup hx hb dX2_raising_34 (gl_cat (some q4.1)) ?_
    refine lv_iload_n hx hb dX2_raising_35 rfl (lv_at hl 1 rfl) ?_
    refine gr_aload_n hx hb x0 dX2_raising_36 rfl (lv_at hl 0 rfl) ?_
    obtain ⟨a5, t5, h⟩ := gz_q_s h
    refine C_X2_next cx (gz_nh hex) hI (Or.inl (hts _ q527)) hl.1 (gz_cs (Nat.le_of_ble_eq_true rfl)) (by omega) dX2_raising_37 t5 h (fun v5 S5 h H locs cells slots hI => ?_)
    refine lv_bipush hx hb dX2_raising_40 gz_bp_48 ?_
    refine lv_isub hx hb dX2_raising_42 ?_
    obtain ⟨a6, t6, h⟩ := gz_q_s h
    refine C_X7_init cx (gz_nh hex) hI (Or.inl (hts _ q558)) hl.1 (gz_cs (Nat.le_of_ble_eq_true rfl)) (by omega) dX2_raising_43 t6 h (fun S6 h H locs cells slots hI => ?_)
    cases h
    exact gr_aret cx (Or.inl ⟨_, rfl⟩) hI dX2_raising_46
  · have h := gz_t h hc
    obtain ⟨q7, e7, h⟩ := g_bind h
    refine gr_fnew cx hI (t := 7) (a := q7.1) (S2 := q7.2) e7 rfl (hts _ q556) (hts _ q557) (hts _ q91) dX2_raising_9 (fun H cells slots hI => ?_)
    refine lv_dup hx hb dX2_raising_12 (gl_cat (some q7.1)) ?_
    refine lv_iload_n hx hb dX2_raising_13 rfl (lv_at hl 1 rfl) ?_
    refine lv_iconst hx hb dX2_raising_14 gz_ic_0 ?_
    obtain ⟨a8, t8, h⟩ := gz_q_s h
    refine C_X7_init cx (gz_nh hex) hI (Or.inl (hts _ q558)) hl.1 (gz_cs (Nat.le_of_ble_eq_true rfl)) (by omega) dX2_raising_15 t8 h (fun S8 h H locs cells slots hI => ?_)
    cases h
    exact gr_aret cx (Or.inl ⟨_, rfl⟩) hI dX2_raising_18
theorem M_X2_raising {l : Launch} {G : gG} {fu d0 : Nat} (hfl : l.flags = flags0) (hD : 9 ≤ d0) {x0 : Option Nat} {x1 : Int32} {S : gm_S} {o : Outcome} {S2 : gm_S} (h : F_X2_raising fu x0 x1 S = some (o, S2)) : gx_Met l yX2_raising (ws_ yX2_raising cX2_raising 2 (Option.some (Jvm.ClassFile.FieldType.object "NestChart$Action"))) d0 G S [va_rf x0, .int x1] o S2 := by
  refine gx_of hfl (by decide) (fun p e s m below meth c cx hnm hex hI => ?_)
  rw [lg_entry_eq]
  cases x0 <;> exact T_X2_raising (r := (o, S2)) hD h p e s m _ below meth c _ _ _ _ _ cx hnm (gz_nh0 hex) hI (lv_entry _ (Nat.le_of_ble_eq_true rfl))
theorem C_X2_raising {p : Program} {l : Launch} {e : Env} {s : State} {m : MethodId} {args : Array Value} {below : List Frame} {meth : Method} {c : Code} {H : Heap} {locs : List Loc} {cells slots : Nat} {cc : ByteArray} {pc nL : Nat} {ls : Array Slot} {rest : List Value} {G : gG} {S0 S : gm_S} {own : String} {ret : Option FieldType} {d0 index fu : Nat} {x0 : Option Nat} {x1 : Int32} {k : Option Nat → gm_S → gR} {r : Outcome × gm_S} (cx : gx_cx p l s m args meth c G own cc nL ret) (hex : ∀ x ∈ c.exceptionTable.toList, covers x pc = false) (hI : gw_I G S0 S H locs cells slots) (hl : gl_M own index yX2_raising args s) (hlv : ls.size = nL) (hrest : (rest.map fun v => v.category).sum ≤ 8) (hD : 10 ≤ d0) (hdg : decode cc pc = .ok (.invokevirtual index, 3)) {b : Nat} (hat : g_at S x0 2 = some b) (h : gz_cR (F_X2_raising fu x0 x1 S) k = some r)
    (kk : ∀ (v : Option Nat) (z : gm_S), k v z = some r → ∀ (H : Heap) (locs : List Loc) (cells slots : Nat), gw_I G S0 z H locs cells slots → W p l e (gx_rm d0 S0) s m args below meth c H locs cells slots (gx_MQ below G S0 r.2 r.1 s) (F0 m (pc + 3) ls (va_rf v :: rest))) : W p l e (gx_rm d0 S0) s m args below meth c H locs cells slots (gx_MQ below G S0 r.2 r.1 s) (F0 m pc ls (.int x1 :: va_rf x0 :: rest)) := by
  obtain ⟨rfl, ht⟩ := g_at_s hat
  have hts := cx.2.2.2.2.1
  have hK := cx.2.2.2.2.2.1
  exact gz_goR (d := d0 - 1) (fun S => S) cx hex hI hlv hrest (by omega) (Nat.le_of_ble_eq_true rfl) (gz_ws (lw_meth q555) hts) (hts _ q73) (gb_rawV (As := [.int x1]) cx hl (hts _ q554) (hts _ qs7) (gl_C.code (hts _ q555)) hy_X2_raising (gr_recv hK hI.1 ht rfl) rfl rfl hdg) (fun o S2 e => M_X2_raising (x0 := some b) cx.2.2.2.2.2.2.2.2 (by omega) e) h kk
abbrev B_X2_actions (l : Launch) (d0 : Nat) (G : gG) (S0 : gm_S) : Nat → List (Nat × Value) → List Value → gm_S → Outcome → gm_S → Prop := gz_B l RX2 "actions" cX2_actions 3 (Option.none : Option Jvm.ClassFile.FieldType) [] d0 G S0
theorem T_X2_actions_75 {l : Launch} {G : gG} {S0 : gm_S} {d0 fu : Nat} {k0 : Option Nat → Option Nat → gm_S → gR} {r : Outcome × gm_S} (hD : 11 ≤ d0)
    (hk0 : ∀ (x0 : Option Nat) (x1 : Option Nat) (S : gm_S), k0 x0 x1 S = some r → B_X2_actions l d0 G S0 0 [(0, va_rf x0), (1, va_rf x1)] [] S r.1 r.2) {x0 : Option Nat} {x1 : Option Nat} {s0 : Option Nat} {s1 : Option Nat} {S : gm_S} (h : F_X2_actions_75 fu k0 x0 x1 s0 s1 S = some r) : B_X2_actions l d0 G S0 75 [(0, va_rf x0), (1, va_rf x1)] [va_rf s0, va_rf s1] S r.1 r.2 := by
  unfold F_X2_actions_75 at h
  intro p e s m args below meth c H locs cells slots ls cx hnm hex hI hl
  have hx := cx.1
  have hb := cx.2.1
  have hown := cx.2.2.2.1
  have hts := cx.2.2.2.2.1
  have hK := cx.2.2.2.2.2.1
  obtain ⟨S1, e1, h⟩ := g_bind h
  refine gr_laddr cx (gz_nh hex) hI (Or.inl (hts _ q463)) hl.1 (gz_cs (Nat.le_of_ble_eq_true rfl)) (by omega) dX2_actions_75 e1 (fun H locs cells slots hI => ?_)
  refine lv_pop hx hb dX2_actions_78 rfl ?_
  refine gr_aload_n hx hb x0 dX2_actions_79 rfl (lv_at hl 0 rfl) ?_
  refine lv_bipush hx hb dX2_actions_80 gz_bp_44 ?_
  obtain ⟨a2, t2, h⟩ := gz_q_s h
  refine C_X2_takes cx (gz_nh hex) hI (Or.inl (hts _ q531)) hl.1 (gz_cs (Nat.le_of_ble_eq_true rfl)) (by omega) dX2_actions_82 t2 h (fun v2 S2 h H locs cells slots hI => ?_)
  refine lv_if_ne (tgt := 0) hx hb dX2_actions_85 rfl (fun hc => ?_) (fun hc => ?_)
  · have h := gz_f h hc
    exact hk0 _ _ _ h p e s m args below meth c H locs cells slots ls cx hnm hex hI hl
  · have h := gz_t h hc
    cases h
    exact gr_vret cx hI dX2_actions_88
theorem T_X2_actions_37 {l : Launch} {G : gG} {S0 : gm_S} {d0 fu : Nat} {k0 : Option Nat → Option Nat → gm_S → gR} {r : Outcome × gm_S} (hD : 11 ≤ d0)
    (hk0 : ∀ (x0 : Option Nat) (x1 : Option Nat) (S : gm_S), k0 x0 x1 S = some r → B_X2_actions l d0 G S0 0 [(0, va_rf x0), (1, va_rf x1)] [] S r.1 r.2) {x0 : Option Nat} {x1 : Option Nat} {s0 : Int32} {s1 : Option Nat} {S : gm_S} (h : F_X2_actions_37 fu k0 x0 x1 s0 s1 S = some r) : B_X2_actions l d0 G S0 37 [(0, va_rf x0), (1, va_rf x1)] [.int s0, va_rf s1] S r.1 r.2 := by
  unfold F_X2_actions_37 at h
  intro p e s m args below meth c H locs cells slots ls cx hnm hex hI hl
  have hx := cx.1
  have hb := cx.2.1
  have hown := cx.2.2.2.1
  have hts := cx.2.2.2.2.1
  have hK := cx.2.2.2.2.2.1
  obtain ⟨a1, t1, h⟩ := gz_q_s h
  refine C_X2_want cx (gz_nh hex) hI (Or.inl (hts _ q336)) hl.1 (gz_cs (Nat.le_of_ble_eq_true rfl)) (by omega) dX2_actions_37 t1 h (fun S1 h H locs cells slots hI => ?_)
  refine gr_aload_n hx hb x0 dX2_actions_40 rfl (lv_at hl 0 rfl) ?_
  refine lv_dup hx hb dX2_actions_41 (gl_cat x0) ?_
  obtain ⟨v2, e2, h⟩ := g_bind h
  refine gr_getI cx hI e2 rfl (fun _ => rfl) rfl (Or.inl (hts _ q128)) dX2_actions_42 ?_
  refine lv_iconst hx hb dX2_actions_45 gz_ic_1 ?_
  refine lv_iadd hx hb dX2_actions_46 ?_
  obtain ⟨S3, e3, h⟩ := g_bind h
  refine gr_putI cx hI e3 rfl rfl rfl (Or.inl (hts _ q128)) (Or.inl rfl) dX2_actions_47 (fun H locs hI => ?_)
  refine gr_aload_n hx hb x0 dX2_actions_50 rfl (lv_at hl 0 rfl) ?_
  obtain ⟨a4, t4, h⟩ := gz_q_s h
  refine C_X2_next cx (gz_nh hex) hI (Or.inl (hts _ q527)) hl.1 (gz_cs (Nat.le_of_ble_eq_true rfl)) (by omega) dX2_actions_51 t4 h (fun v4 S4 h H locs cells slots hI => ?_)
  refine gz_istore_n hx hb dX2_actions_54 rfl hl (by decide) [0, 1] rfl (gz_con ⟨gz_ne rfl, Or.inl (gz_ne rfl)⟩ (gz_con ⟨gz_ne rfl, Or.inr (gl_cat x1)⟩ gz_nil)) (fun ls hl => ?_)
  refine gr_aload_n hx hb x1 dX2_actions_55 rfl (lv_at hl 2 rfl) ?_
  refine lv_iload_n hx hb dX2_actions_56 rfl (lv_at hl 0 rfl) ?_
  refine lv_bipush hx hb dX2_actions_57 gz_bp_72 ?_
  refine lv_icmp_gt (tgt := 70) hx hb dX2_actions_59 rfl (fun hc => ?_) (fun hc => ?_)
  · have h := gz_t h hc
    refine gr_aload_n hx hb x0 dX2_actions_70 rfl (lv_at hl 1 rfl) ?_
    refine lv_iload_n hx hb dX2_actions_71 rfl (lv_at hl 0 rfl) ?_
    obtain ⟨a5, t5, h⟩ := gz_q_s h
    refine C_X2_assigning cx (gz_nh hex) hI (Or.inl (hts _ q572)) hl.1 (gz_cs (Nat.le_of_ble_eq_true rfl)) (by omega) dX2_actions_72 t5 h (fun v5 S5 h H locs cells slots hI => ?_)
    exact T_X2_actions_75 hD hk0 h p e s m args below meth c H locs cells slots ls cx hnm hex hI (lv_sub hl [1, 2] rfl)
  · have h := gz_f h hc
    refine gr_aload_n hx hb x0 dX2_actions_62 rfl (lv_at hl 1 rfl) ?_
    refine lv_iload_n hx hb dX2_actions_63 rfl (lv_at hl 0 rfl) ?_
    obtain ⟨a6, t6, h⟩ := gz_q_s h
    refine C_X2_raising cx (gz_nh hex) hI (Or.inl (hts _ q552)) hl.1 (gz_cs (Nat.le_of_ble_eq_true rfl)) (by omega) dX2_actions_64 t6 h (fun v6 S6 h H locs cells slots hI => ?_)
    refine lv_goto (tgt := 75) hx hb dX2_actions_67 rfl ?_
    exact T_X2_actions_75 hD hk0 h p e s m args below meth c H locs cells slots ls cx hnm hex hI (lv_sub hl [1, 2] rfl)
theorem T_X2_actions_23 {l : Launch} {G : gG} {S0 : gm_S} {d0 fu : Nat} {k0 : Option Nat → Option Nat → gm_S → gR} {r : Outcome × gm_S} (hD : 11 ≤ d0)
    (hk0 : ∀ (x0 : Option Nat) (x1 : Option Nat) (S : gm_S), k0 x0 x1 S = some r → B_X2_actions l d0 G S0 0 [(0, va_rf x0), (1, va_rf x1)] [] S r.1 r.2) {x0 : Option Nat} {x1 : Option Nat} {s0 : Option Nat} {S : gm_S} (h : F_X2_actions_23 fu k0 x0 x1 s0 S = some r) : B_X2_actions l d0 G S0 23 [(0, va_rf x0), (1, va_rf x1)] [va_rf s0] S r.1 r.2 := by
  unfold F_X2_actions_23 at h
  intro p e s m args below meth c H locs cells slots ls cx hnm hex hI hl
  have hx := cx.1
  have hb := cx.2.1
  have hown := cx.2.2.2.1
  have hts := cx.2.2.2.2.1
  have hK := cx.2.2.2.2.2.1
  refine gr_aload_n hx hb x0 dX2_actions_23 rfl (lv_at hl 0 rfl) ?_
  obtain ⟨v1, e1, h⟩ := g_bind h
  refine gr_getI cx hI e1 rfl (fun _ => rfl) rfl (Or.inl (hts _ q128)) dX2_actions_24 ?_
  refine lv_bipush hx hb dX2_actions_27 gz_bp_40 ?_
  refine lv_icmp_ge (tgt := 36) hx hb dX2_actions_29 rfl (fun hc => ?_) (fun hc => ?_)
  · have h := gz_t h hc
    refine lv_iconst hx hb dX2_actions_36 gz_ic_0 ?_
    exact T_X2_actions_37 hD hk0 h p e s m args below meth c H locs cells slots ls cx hnm hex hI hl
  · have h := gz_f h hc
    refine lv_iconst hx hb dX2_actions_32 gz_ic_1 ?_
    refine lv_goto (tgt := 37) hx hb dX2_actions_33 rfl ?_
    exact T_X2_actions_37 hD hk0 h p e s m args below meth c H locs cells slots ls cx hnm hex hI hl
theorem T_X2_actions_0 {l : Launch} {G : gG} {S0 : gm_S} {d0 fu : Nat} {r : Outcome × gm_S} (hD : 11 ≤ d0) : ∀ (n : Nat) (x0 : Option Nat) (x1 : Option Nat) (S : gm_S), F_X2_actions_0 fu n x0 x1 S = some r → B_X2_actions l d0 G S0 0 [(0, va_rf x0), (1, va_rf x1)] [] S r.1 r.2 := by
  intro n
  induction n with
  | zero => intro x0 x1 S h; exact nomatch (show (none : gR) = some r from h)
  | succ n ih =>
    intro x0 x1 S h
    rw [F_X2_actions_0] at h
    intro p e s m args below meth c H locs cells slots ls cx hnm hex hI hl
    have hx := cx.1
    have hb := cx.2.1
    have hown := cx.2.2.2.1
    have hts := cx.2.2.2.2.1
    have hK := cx.2.2.2.2.2.1
    refine gr_aload_n hx hb x0 dX2_actions_0 rfl (lv_at hl 0 rfl) ?_
    refine gr_aload_n hx hb x0 dX2_actions_1 rfl (lv_at hl 0 rfl) ?_
    refine lv_bipush hx hb dX2_actions_2 gz_bp_65 ?_
    refine lv_bipush hx hb dX2_actions_4 gz_bp_72 ?_
    obtain ⟨a1, t1, h⟩ := gz_q_s h
    refine C_X2_isAmong cx (gz_nh hex) hI (Or.inl (hts _ q328)) hl.1 (gz_cs (Nat.le_of_ble_eq_true rfl)) (by omega) dX2_actions_6 t1 h (fun v1 S1 h H locs cells slots hI => ?_)
    refine lv_if_ne (tgt := 23) hx hb dX2_actions_9 rfl (fun hc => ?_) (fun hc => ?_)
    · have h := gz_f h hc
      exact T_X2_actions_23 hD ih h p e s m args below meth c H locs cells slots ls cx hnm hex hI hl
    · have h := gz_t h hc
      refine gr_aload_n hx hb x0 dX2_actions_12 rfl (lv_at hl 0 rfl) ?_
      refine lv_bipush hx hb dX2_actions_13 gz_bp_117 ?_
      refine lv_bipush hx hb dX2_actions_15 gz_bp_122 ?_
      obtain ⟨a2, t2, h⟩ := gz_q_s h
      refine C_X2_isAmong cx (gz_nh hex) hI (Or.inl (hts _ q328)) hl.1 (gz_cs (Nat.le_of_ble_eq_true rfl)) (by omega) dX2_actions_17 t2 h (fun v2 S2 h H locs cells slots hI => ?_)
      refine lv_if_eq (tgt := 36) hx hb dX2_actions_20 rfl (fun hc => ?_) (fun hc => ?_)
      · have h := gz_t h hc
        refine lv_iconst hx hb dX2_actions_36 gz_ic_0 ?_
        exact T_X2_actions_37 hD ih h p e s m args below meth c H locs cells slots ls cx hnm hex hI hl
      · have h := gz_f h hc
        exact T_X2_actions_23 hD ih h p e s m args below meth c H locs cells slots ls cx hnm hex hI hl
theorem T_X2_actions {l : Launch} {G : gG} {S0 : gm_S} {d0 fu : Nat} {r : Outcome × gm_S} (hD : 11 ≤ d0) {x0 : Option Nat} {x1 : Option Nat} {S : gm_S} (h : F_X2_actions fu x0 x1 S = some r) : B_X2_actions l d0 G S0 0 [(0, va_rf x0), (1, va_rf x1)] [] S r.1 r.2 := by
  unfold F_X2_actions at h
  intro p e s m args below meth c H locs cells slots ls cx hnm hex hI hl
  have hx := cx.1
  have hb := cx.2.1
  have hown := cx.2.2.2.1
  have hts := cx.2.2.2.2.1
  have hK := cx.2.2.2.2.2.1
  exact T_X2_actions_0 hD fu _ _ _ h p e s m args below meth c H locs cells slots ls cx hnm hex hI hl
theorem M_X2_actions {l : Launch} {G : gG} {fu d0 : Nat} (hfl : l.flags = flags0) (hD : 11 ≤ d0) {x0 : Option Nat} {x1 : Option Nat} {S : gm_S} {o : Outcome} {S2 : gm_S} (h : F_X2_actions fu x0 x1 S = some (o, S2)) : gx_Met l yX2_actions (ws_ yX2_actions cX2_actions 3 (Option.none : Option Jvm.ClassFile.FieldType)) d0 G S [va_rf x0, va_rf x1] o S2 := by
  refine gx_of hfl (by decide) (fun p e s m below meth c cx hnm hex hI => ?_)
  rw [lg_entry_eq]
  cases x0 <;> cases x1 <;> exact T_X2_actions (r := (o, S2)) hD h p e s m _ below meth c _ _ _ _ _ cx hnm (gz_nh0 hex) hI (lv_entry _ (Nat.le_of_ble_eq_true rfl))
theorem C_X2_actions {p : Program} {l : Launch} {e : Env} {s : State} {m : MethodId} {args : Array Value} {below : List Frame} {meth : Method} {c : Code} {H : Heap} {locs : List Loc} {cells slots : Nat} {cc : ByteArray} {pc nL : Nat} {ls : Array Slot} {rest : List Value} {G : gG} {S0 S : gm_S} {own : String} {ret : Option FieldType} {d0 index fu : Nat} {x0 : Option Nat} {x1 : Option Nat} {k : gm_S → gR} {r : Outcome × gm_S} (cx : gx_cx p l s m args meth c G own cc nL ret) (hex : ∀ x ∈ c.exceptionTable.toList, covers x pc = false) (hI : gw_I G S0 S H locs cells slots) (hl : gl_M own index yX2_actions args s) (hlv : ls.size = nL) (hrest : (rest.map fun v => v.category).sum ≤ 8) (hD : 12 ≤ d0) (hdg : decode cc pc = .ok (.invokevirtual index, 3)) {b : Nat} (hat : g_at S x0 2 = some b) (h : gz_cV (F_X2_actions fu x0 x1 S) k = some r)
    (kk : ∀ (z : gm_S), k z = some r → ∀ (H : Heap) (locs : List Loc) (cells slots : Nat), gw_I G S0 z H locs cells slots → W p l e (gx_rm d0 S0) s m args below meth c H locs cells slots (gx_MQ below G S0 r.2 r.1 s) (F0 m (pc + 3) ls rest)) : W p l e (gx_rm d0 S0) s m args below meth c H locs cells slots (gx_MQ below G S0 r.2 r.1 s) (F0 m pc ls (va_rf x1 :: va_rf x0 :: rest)) := by
  obtain ⟨rfl, ht⟩ := g_at_s hat
  have hts := cx.2.2.2.2.1
  have hK := cx.2.2.2.2.2.1
  exact gz_goV (d := d0 - 1) (fun S => S) cx hex hI hlv hrest (by omega) (Nat.le_of_ble_eq_true rfl) (gz_ws (lw_meth q551) hts) (hts _ q73) (gb_rawV (As := [va_rf x1]) cx hl (hts _ q550) (hts _ qs6) (gl_C.code (hts _ q551)) hy_X2_actions (gr_recv hK hI.1 ht rfl) rfl rfl hdg) (fun o S2 e => M_X2_actions (x0 := some b) cx.2.2.2.2.2.2.2.2 (by omega) e) h kk
abbrev B_X2_take (l : Launch) (d0 : Nat) (G : gG) (S0 : gm_S) : Nat → List (Nat × Value) → List Value → gm_S → Outcome → gm_S → Prop := gz_B l RX2 "take" cX2_take 2 (Option.none : Option Jvm.ClassFile.FieldType) [] d0 G S0
theorem T_X2_take {l : Launch} {G : gG} {S0 : gm_S} {d0 fu : Nat} {r : Outcome × gm_S} (hD : 9 ≤ d0) {x0 : Option Nat} {x1 : Int32} {S : gm_S} (h : F_X2_take fu x0 x1 S = some r) : B_X2_take l d0 G S0 0 [(0, va_rf x0), (1, .int x1)] [] S r.1 r.2 := by
  unfold F_X2_take at h
  intro p e s m args below meth c H locs cells slots ls cx hnm hex hI hl
  have hx := cx.1
  have hb := cx.2.1
  have hown := cx.2.2.2.1
  have hts := cx.2.2.2.2.1
  have hK := cx.2.2.2.2.2.1
  refine gr_aload_n hx hb x0 dX2_take_0 rfl (lv_at hl 0 rfl) ?_
  refine gr_aload_n hx hb x0 dX2_take_1 rfl (lv_at hl 0 rfl) ?_
  refine lv_iload_n hx hb dX2_take_2 rfl (lv_at hl 1 rfl) ?_
  obtain ⟨a1, t1, h⟩ := gz_q_s h
  refine C_X2_takes cx (gz_nh hex) hI (Or.inl (hts _ q531)) hl.1 (gz_cs (Nat.le_of_ble_eq_true rfl)) (by omega) dX2_take_3 t1 h (fun v1 S1 h H locs cells slots hI => ?_)
  obtain ⟨a2, t2, h⟩ := gz_q_s h
  refine C_X2_want cx (gz_nh hex) hI (Or.inl (hts _ q336)) hl.1 (gz_cs (Nat.le_of_ble_eq_true rfl)) (by omega) dX2_take_6 t2 h (fun S2 h H locs cells slots hI => ?_)
  cases h
  exact gr_vret cx hI dX2_take_9
theorem M_X2_take {l : Launch} {G : gG} {fu d0 : Nat} (hfl : l.flags = flags0) (hD : 9 ≤ d0) {x0 : Option Nat} {x1 : Int32} {S : gm_S} {o : Outcome} {S2 : gm_S} (h : F_X2_take fu x0 x1 S = some (o, S2)) : gx_Met l yX2_take (ws_ yX2_take cX2_take 2 (Option.none : Option Jvm.ClassFile.FieldType)) d0 G S [va_rf x0, .int x1] o S2 := by
  refine gx_of hfl (by decide) (fun p e s m below meth c cx hnm hex hI => ?_)
  rw [lg_entry_eq]
  cases x0 <;> exact T_X2_take (r := (o, S2)) hD h p e s m _ below meth c _ _ _ _ _ cx hnm (gz_nh0 hex) hI (lv_entry _ (Nat.le_of_ble_eq_true rfl))
theorem C_X2_take {p : Program} {l : Launch} {e : Env} {s : State} {m : MethodId} {args : Array Value} {below : List Frame} {meth : Method} {c : Code} {H : Heap} {locs : List Loc} {cells slots : Nat} {cc : ByteArray} {pc nL : Nat} {ls : Array Slot} {rest : List Value} {G : gG} {S0 S : gm_S} {own : String} {ret : Option FieldType} {d0 index fu : Nat} {x0 : Option Nat} {x1 : Int32} {k : gm_S → gR} {r : Outcome × gm_S} (cx : gx_cx p l s m args meth c G own cc nL ret) (hex : ∀ x ∈ c.exceptionTable.toList, covers x pc = false) (hI : gw_I G S0 S H locs cells slots) (hl : gl_M own index yX2_take args s) (hlv : ls.size = nL) (hrest : (rest.map fun v => v.category).sum ≤ 8) (hD : 10 ≤ d0) (hdg : decode cc pc = .ok (.invokevirtual index, 3)) {b : Nat} (hat : g_at S x0 2 = some b) (h : gz_cV (F_X2_take fu x0 x1 S) k = some r)
    (kk : ∀ (z : gm_S), k z = some r → ∀ (H : Heap) (locs : List Loc) (cells slots : Nat), gw_I G S0 z H locs cells slots → W p l e (gx_rm d0 S0) s m args below meth c H locs cells slots (gx_MQ below G S0 r.2 r.1 s) (F0 m (pc + 3) ls rest)) : W p l e (gx_rm d0 S0) s m args below meth c H locs cells slots (gx_MQ below G S0 r.2 r.1 s) (F0 m pc ls (.int x1 :: va_rf x0 :: rest)) := by
  obtain ⟨rfl, ht⟩ := g_at_s hat
  have hts := cx.2.2.2.2.1
  have hK := cx.2.2.2.2.2.1
  exact gz_goV (d := d0 - 1) (fun S => S) cx hex hI hlv hrest (by omega) (Nat.le_of_ble_eq_true rfl) (gz_ws (lw_meth q538) hts) (hts _ q73) (gb_rawV (As := [.int x1]) cx hl (hts _ q536) (hts _ q537) (gl_C.code (hts _ q538)) hy_X2_take (gr_recv hK hI.1 ht rfl) rfl rfl hdg) (fun o S2 e => M_X2_take (x0 := some b) cx.2.2.2.2.2.2.2.2 (by omega) e) h kk
abbrev B_X10_init (l : Launch) (d0 : Nat) (G : gG) (S0 : gm_S) : Nat → List (Nat × Value) → List Value → gm_S → Outcome → gm_S → Prop := gz_B l RX10 "<init>" cX10_init 3 (Option.none : Option Jvm.ClassFile.FieldType) [] d0 G S0
theorem T_X10_init {l : Launch} {G : gG} {S0 : gm_S} {d0 fu : Nat} {r : Outcome × gm_S} (hD : 11 ≤ d0) {x0 : Option Nat} {x1 : Option Nat} {x2 : Int32} {S : gm_S} (h : F_X10_init fu x0 x1 x2 S = some r) : B_X10_init l d0 G S0 0 [(0, va_rf x0), (1, va_rf x1), (2, .int x2)] [] S r.1 r.2 := by
  unfold F_X10_init at h
  intro p e s m args below meth c H locs cells slots ls cx hnm hex hI hl
  have hx := cx.1
  have hb := cx.2.1
  have hown := cx.2.2.2.1
  have hts := cx.2.2.2.2.1
  have hK := cx.2.2.2.2.2.1
  refine gr_aload_n hx hb x0 dX10_init_0 rfl (lv_at hl 0 rfl) ?_
  obtain ⟨a1, e1, h⟩ := gz_q_s h
  refine gz_objI cx hl.1 (hts _ q619) (gz_cs (Nat.le_of_ble_eq_true rfl)) (by omega) e1 dX10_init_1 ?_
  refine gr_aload_n hx hb x0 dX10_init_4 rfl (lv_at hl 0 rfl) ?_
  obtain ⟨q2, e2, h⟩ := g_bind h
  refine gr_fnewL cx hI (a := q2.1) (S2 := q2.2) e2 (hts _ q620) (hts _ q155) (hts _ q77) dX10_init_5 (fun H cells slots hI => ?_)
  refine lv_dup hx hb dX10_init_8 (gl_cat (some q2.1)) ?_
  obtain ⟨S3, e3, h⟩ := g_bind h
  refine gr_linit cx (gz_nh hex) hI (Or.inl (hts _ q621)) hl.1 (gz_cs (Nat.le_of_ble_eq_true rfl)) (by omega) dX10_init_9 e3 (fun H locs cells slots hI => ?_)
  obtain ⟨S4, e4, h⟩ := g_bind h
  refine gr_putR cx hI e4 rfl rfl rfl (Or.inl (hts _ q625)) (Or.inr ⟨hnm, rfl⟩) dX10_init_12 (fun H locs hI => ?_)
  refine gr_aload_n hx hb x0 dX10_init_15 rfl (lv_at hl 0 rfl) ?_
  obtain ⟨q5, e5, h⟩ := g_bind h
  refine gr_fnewL cx hI (a := q5.1) (S2 := q5.2) e5 (hts _ q620) (hts _ q155) (hts _ q77) dX10_init_16 (fun H cells slots hI => ?_)
  refine lv_dup hx hb dX10_init_19 (gl_cat (some q5.1)) ?_
  obtain ⟨S6, e6, h⟩ := g_bind h
  refine gr_linit cx (gz_nh hex) hI (Or.inl (hts _ q621)) hl.1 (gz_cs (Nat.le_of_ble_eq_true rfl)) (by omega) dX10_init_20 e6 (fun H locs cells slots hI => ?_)
  obtain ⟨S7, e7, h⟩ := g_bind h
  refine gr_putR cx hI e7 rfl rfl rfl (Or.inl (hts _ q627)) (Or.inr ⟨hnm, rfl⟩) dX10_init_23 (fun H locs hI => ?_)
  refine gr_aload_n hx hb x0 dX10_init_26 rfl (lv_at hl 0 rfl) ?_
  refine gr_aload_n hx hb x1 dX10_init_27 rfl (lv_at hl 1 rfl) ?_
  obtain ⟨S8, e8, h⟩ := g_bind h
  refine gr_putR cx hI e8 rfl rfl rfl (Or.inl (hts _ q622)) (Or.inr ⟨hnm, rfl⟩) dX10_init_28 (fun H locs hI => ?_)
  refine gr_aload_n hx hb x0 dX10_init_31 rfl (lv_at hl 0 rfl) ?_
  refine lv_iload_n hx hb dX10_init_32 rfl (lv_at hl 2 rfl) ?_
  obtain ⟨S9, e9, h⟩ := g_bind h
  refine gr_putC cx hI e9 rfl rfl rfl (Or.inl (hts _ q624)) (Or.inr ⟨hnm, rfl⟩) dX10_init_33 (fun H locs hI => ?_)
  cases h
  exact gr_vret cx hI dX10_init_36
theorem M_X10_init {l : Launch} {G : gG} {fu d0 : Nat} (hfl : l.flags = flags0) (hD : 11 ≤ d0) {x0 : Option Nat} {x1 : Option Nat} {x2 : Int32} {S : gm_S} {o : Outcome} {S2 : gm_S} (h : F_X10_init fu x0 x1 x2 S = some (o, S2)) : gx_Met l yX10_init (ws_ yX10_init cX10_init 3 (Option.none : Option Jvm.ClassFile.FieldType)) d0 G S [va_rf x0, va_rf x1, .int x2] o S2 := by
  refine gx_of hfl (by decide) (fun p e s m below meth c cx hnm hex hI => ?_)
  rw [lg_entry_eq]
  cases x0 <;> cases x1 <;> exact T_X10_init (r := (o, S2)) hD h p e s m _ below meth c _ _ _ _ _ cx hnm (gz_nh0 hex) hI (lv_entry _ (Nat.le_of_ble_eq_true rfl))
theorem C_X10_init {p : Program} {l : Launch} {e : Env} {s : State} {m : MethodId} {args : Array Value} {below : List Frame} {meth : Method} {c : Code} {H : Heap} {locs : List Loc} {cells slots : Nat} {cc : ByteArray} {pc nL : Nat} {ls : Array Slot} {rest : List Value} {G : gG} {S0 S : gm_S} {own : String} {ret : Option FieldType} {d0 index fu : Nat} {x0 : Option Nat} {x1 : Option Nat} {x2 : Int32} {k : gm_S → gR} {r : Outcome × gm_S} (cx : gx_cx p l s m args meth c G own cc nL ret) (hex : ∀ x ∈ c.exceptionTable.toList, covers x pc = false) (hI : gw_I G S0 S H locs cells slots) (hl : gl_M own index yX10_init args s) (hlv : ls.size = nL) (hrest : (rest.map fun v => v.category).sum ≤ 8) (hD : 12 ≤ d0) (hdg : decode cc pc = .ok (.invokespecial index, 3)) {b : Nat} (hat : g_at S x0 10 = some b) (h : gz_cV (F_X10_init fu x0 x1 x2 S) k = some r)
    (kk : ∀ (z : gm_S), k z = some r → ∀ (H : Heap) (locs : List Loc) (cells slots : Nat), gw_I G S0 z H locs cells slots → W p l e (gx_rm d0 S0) s m args below meth c H locs cells slots (gx_MQ below G S0 r.2 r.1 s) (F0 m (pc + 3) ls rest)) : W p l e (gx_rm d0 S0) s m args below meth c H locs cells slots (gx_MQ below G S0 r.2 r.1 s) (F0 m pc ls (.int x2 :: va_rf x1 :: va_rf x0 :: rest)) := by
  obtain ⟨rfl, ht⟩ := g_at_s hat
  have hts := cx.2.2.2.2.1
  have hK := cx.2.2.2.2.2.1
  exact gz_goV (d := d0 - 1) (fun S => S) cx hex hI hlv hrest (by omega) (Nat.le_of_ble_eq_true rfl) (gz_ws (lw_meth q618) hts) (hts _ q94) (gb_rawI (As := [va_rf x1, .int x2]) cx hl (hts _ q617) (hts _ q618) hy_X10_init rfl rfl rfl hdg) (fun o S2 e => M_X10_init (x0 := some b) cx.2.2.2.2.2.2.2.2 (by omega) e) h kk
abbrev B_X11_init (l : Launch) (d0 : Nat) (G : gG) (S0 : gm_S) : Nat → List (Nat × Value) → List Value → gm_S → Outcome → gm_S → Prop := gz_B l RX11 "<init>" cX11_init 4 (Option.none : Option Jvm.ClassFile.FieldType) [] d0 G S0
theorem T_X11_init {l : Launch} {G : gG} {S0 : gm_S} {d0 fu : Nat} {r : Outcome × gm_S} (hD : 2 ≤ d0) {x0 : Option Nat} {x1 : Int32} {x2 : Int32} {x3 : Int32} {S : gm_S} (h : F_X11_init fu x0 x1 x2 x3 S = some r) : B_X11_init l d0 G S0 0 [(0, va_rf x0), (1, .int x1), (2, .int x2), (3, .int x3)] [] S r.1 r.2 := by
  unfold F_X11_init at h
  intro p e s m args below meth c H locs cells slots ls cx hnm hex hI hl
  have hx := cx.1
  have hb := cx.2.1
  have hown := cx.2.2.2.1
  have hts := cx.2.2.2.2.1
  have hK := cx.2.2.2.2.2.1
  refine gr_aload_n hx hb x0 dX11_init_0 rfl (lv_at hl 0 rfl) ?_
  obtain ⟨a1, e1, h⟩ := gz_q_s h
  refine gz_objI cx hl.1 (hts _ q661) (gz_cs (Nat.le_of_ble_eq_true rfl)) (by omega) e1 dX11_init_1 ?_
  refine gr_aload_n hx hb x0 dX11_init_4 rfl (lv_at hl 0 rfl) ?_
  refine lv_iload_n hx hb dX11_init_5 rfl (lv_at hl 1 rfl) ?_
  obtain ⟨S2, e2, h⟩ := g_bind h
  refine gr_putC cx hI e2 rfl rfl rfl (Or.inl (hts _ q662)) (Or.inr ⟨hnm, rfl⟩) dX11_init_6 (fun H locs hI => ?_)
  refine gr_aload_n hx hb x0 dX11_init_9 rfl (lv_at hl 0 rfl) ?_
  refine lv_iload_n hx hb dX11_init_10 rfl (lv_at hl 2 rfl) ?_
  obtain ⟨S3, e3, h⟩ := g_bind h
  refine gr_putI cx hI e3 rfl rfl rfl (Or.inl (hts _ q664)) (Or.inr ⟨hnm, rfl⟩) dX11_init_11 (fun H locs hI => ?_)
  refine gr_aload_n hx hb x0 dX11_init_14 rfl (lv_at hl 0 rfl) ?_
  refine lv_iload_n hx hb dX11_init_15 rfl (lv_at hl 3 rfl) ?_
  obtain ⟨S4, e4, h⟩ := g_bind h
  refine gr_putI cx hI e4 rfl rfl rfl (Or.inl (hts _ q666)) (Or.inr ⟨hnm, rfl⟩) dX11_init_16 (fun H locs hI => ?_)
  cases h
  exact gr_vret cx hI dX11_init_19
theorem M_X11_init {l : Launch} {G : gG} {fu d0 : Nat} (hfl : l.flags = flags0) (hD : 2 ≤ d0) {x0 : Option Nat} {x1 : Int32} {x2 : Int32} {x3 : Int32} {S : gm_S} {o : Outcome} {S2 : gm_S} (h : F_X11_init fu x0 x1 x2 x3 S = some (o, S2)) : gx_Met l yX11_init (ws_ yX11_init cX11_init 4 (Option.none : Option Jvm.ClassFile.FieldType)) d0 G S [va_rf x0, .int x1, .int x2, .int x3] o S2 := by
  refine gx_of hfl (by decide) (fun p e s m below meth c cx hnm hex hI => ?_)
  rw [lg_entry_eq]
  cases x0 <;> exact T_X11_init (r := (o, S2)) hD h p e s m _ below meth c _ _ _ _ _ cx hnm (gz_nh0 hex) hI (lv_entry _ (Nat.le_of_ble_eq_true rfl))
theorem C_X11_init {p : Program} {l : Launch} {e : Env} {s : State} {m : MethodId} {args : Array Value} {below : List Frame} {meth : Method} {c : Code} {H : Heap} {locs : List Loc} {cells slots : Nat} {cc : ByteArray} {pc nL : Nat} {ls : Array Slot} {rest : List Value} {G : gG} {S0 S : gm_S} {own : String} {ret : Option FieldType} {d0 index fu : Nat} {x0 : Option Nat} {x1 : Int32} {x2 : Int32} {x3 : Int32} {k : gm_S → gR} {r : Outcome × gm_S} (cx : gx_cx p l s m args meth c G own cc nL ret) (hex : ∀ x ∈ c.exceptionTable.toList, covers x pc = false) (hI : gw_I G S0 S H locs cells slots) (hl : gl_M own index yX11_init args s) (hlv : ls.size = nL) (hrest : (rest.map fun v => v.category).sum ≤ 8) (hD : 3 ≤ d0) (hdg : decode cc pc = .ok (.invokespecial index, 3)) {b : Nat} (hat : g_at S x0 11 = some b) (h : gz_cV (F_X11_init fu x0 x1 x2 x3 S) k = some r)
    (kk : ∀ (z : gm_S), k z = some r → ∀ (H : Heap) (locs : List Loc) (cells slots : Nat), gw_I G S0 z H locs cells slots → W p l e (gx_rm d0 S0) s m args below meth c H locs cells slots (gx_MQ below G S0 r.2 r.1 s) (F0 m (pc + 3) ls rest)) : W p l e (gx_rm d0 S0) s m args below meth c H locs cells slots (gx_MQ below G S0 r.2 r.1 s) (F0 m pc ls (.int x3 :: .int x2 :: .int x1 :: va_rf x0 :: rest)) := by
  obtain ⟨rfl, ht⟩ := g_at_s hat
  have hts := cx.2.2.2.2.1
  have hK := cx.2.2.2.2.2.1
  exact gz_goV (d := d0 - 1) (fun S => S) cx hex hI hlv hrest (by omega) (Nat.le_of_ble_eq_true rfl) (gz_ws (lw_meth q660) hts) (hts _ q95) (gb_rawI (As := [.int x1, .int x2, .int x3]) cx hl (hts _ q659) (hts _ q660) hy_X11_init rfl rfl rfl hdg) (fun o S2 e => M_X11_init (x0 := some b) cx.2.2.2.2.2.2.2.2 (by omega) e) h kk
