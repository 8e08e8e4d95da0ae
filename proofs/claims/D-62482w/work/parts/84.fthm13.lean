/-! LAYER 1 (printed): contracts -/
set_option maxRecDepth 100000
abbrev B_X4_come (l : Launch) (d0 : Nat) (G : gG) (S0 : gm_S) : Nat → List (Nat × Value) → List Value → gm_S → Outcome → gm_S → Prop := gz_B l RX4 "come" cX4_come 2 (Option.none : Option Jvm.ClassFile.FieldType) [] d0 G S0
theorem T_X4_come_16 {l : Launch} {G : gG} {S0 S : gm_S} {d0 fu : Nat} {r : Outcome × gM} (hf : gg_f G = true) (hD : 8 ≤ d0)  {M : gM} (h : F_X4_come_16 fu  M = some r) : B_X4_come l d0 G S0 16 [(0, va_rf (some (gg_o G)))] [] (gm_w S M) r.1 (gm_w S r.2) := by
  unfold F_X4_come_16 at h
  intro p e s m args below meth c H locs cells slots ls cx hnm hex hI hl
  have hx := cx.1
  have hb := cx.2.1
  have hown := cx.2.2.2.1
  have hts := cx.2.2.2.2.1
  have hK := cx.2.2.2.2.2.1
  refine gr_aload_n hx hb (some (gg_o G)) dX4_come_16 rfl (lv_at hl 0 rfl) ?_
  refine C_X4_runOn hf cx (gz_nh hex) hI (Or.inl (hts _ q1315)) hl.1 (gz_cs (Nat.le_of_ble_eq_true rfl)) (by omega) dX4_come_17 h (fun M1 h H locs cells slots hI => ?_)
  cases h
  exact gr_vret cx hI dX4_come_20
theorem T_X4_come {l : Launch} {G : gG} {S0 S : gm_S} {d0 fu : Nat} {r : Outcome × gM} (hf : gg_f G = true) (hD : 8 ≤ d0) {x1 : Int32} {M : gM} (h : F_X4_come fu x1 M = some r) : B_X4_come l d0 G S0 0 [(0, va_rf (some (gg_o G))), (1, .int x1)] [] (gm_w S M) r.1 (gm_w S r.2) := by
  unfold F_X4_come at h
  intro p e s m args below meth c H locs cells slots ls cx hnm hex hI hl
  have hx := cx.1
  have hb := cx.2.1
  have hown := cx.2.2.2.1
  have hts := cx.2.2.2.2.1
  have hK := cx.2.2.2.2.2.1
  refine gr_aload_n hx hb (some (gg_o G)) dX4_come_0 rfl (lv_at hl 0 rfl) ?_
  refine lv_iload_n hx hb dX4_come_1 rfl (lv_at hl 1 rfl) ?_
  refine C_X4_choose hf cx (gz_nh hex) hI (Or.inl (hts _ q1319)) hl.1 (gz_cs (Nat.le_of_ble_eq_true rfl)) (by omega) dX4_come_2 h (fun M1 h H locs cells slots hI => ?_)
  refine gr_aload_n hx hb (some (gg_o G)) dX4_come_5 rfl (lv_at hl 0 rfl) ?_
  refine nr_gI cx hf hI 55 rfl (fun _ => rfl) rfl (Or.inl (hts _ q1047)) dX4_come_6 ?_
  refine lv_if_le (tgt := 16) hx hb dX4_come_9 rfl (fun hc => ?_) (fun hc => ?_)
  · have h := gz_t h hc
    exact T_X4_come_16 hf hD h p e s m args below meth c H locs cells slots ls cx hnm hex hI (lv_sub hl [0] rfl)
  · have h := gz_f h hc
    refine gr_aload_n hx hb (some (gg_o G)) dX4_come_12 rfl (lv_at hl 0 rfl) ?_
    refine C_X4_step hf cx (gz_nh hex) hI (Or.inl (hts _ q1347)) hl.1 (gz_cs (Nat.le_of_ble_eq_true rfl)) (by omega) dX4_come_13 h (fun M3 h H locs cells slots hI => ?_)
    exact T_X4_come_16 hf hD h p e s m args below meth c H locs cells slots ls cx hnm hex hI (lv_sub hl [0] rfl)
theorem M_X4_come {l : Launch} {G : gG} {fu d0 : Nat} (hf : gg_f G = true) (hfl : l.flags = flags0) (hD : 8 ≤ d0) {x1 : Int32} {S : gm_S} {M : gM} {o : Outcome} {M2 : gM} (h : F_X4_come fu x1 M = some (o, M2)) : gx_Met l yX4_come (ws_ yX4_come cX4_come 2 (Option.none : Option Jvm.ClassFile.FieldType)) d0 G (gm_w S M) [va_rf (some (gg_o G)), .int x1] o (gm_w S M2) := by
  refine gx_of hfl (by decide) (fun p e s m below meth c cx hnm hex hI => ?_)
  rw [lg_entry_eq]
  exact T_X4_come (r := (o, M2)) hf hD h p e s m _ below meth c _ _ _ _ _ cx hnm (gz_nh0 hex) hI (lv_entry _ (Nat.le_of_ble_eq_true rfl))
theorem C_X4_come {p : Program} {l : Launch} {e : Env} {s : State} {m : MethodId} {args : Array Value} {below : List Frame} {meth : Method} {c : Code} {H : Heap} {locs : List Loc} {cells slots : Nat} {cc : ByteArray} {pc nL : Nat} {ls : Array Slot} {rest : List Value} {G : gG} {S0 S : gm_S} {own : String} {ret : Option FieldType} {d0 index fu : Nat} {M : gM} {x1 : Int32} {k : gM → gQ} {r : Outcome × gM} (hf : gg_f G = true) (cx : gx_cx p l s m args meth c G own cc nL ret) (hex : ∀ x ∈ c.exceptionTable.toList, covers x pc = false) (hI : gw_I G S0 (gm_w S M) H locs cells slots) (hl : gl_M own index yX4_come args s) (hlv : ls.size = nL) (hrest : (rest.map fun v => v.category).sum ≤ 8) (hD : 9 ≤ d0) (hdg : decode cc pc = .ok (.invokevirtual index, 3)) (h : gz_cV (F_X4_come fu x1 M) k = some r)
    (kk : ∀ (z : gM), k z = some r → ∀ (H : Heap) (locs : List Loc) (cells slots : Nat), gw_I G S0 (gm_w S z) H locs cells slots → W p l e (gx_rm d0 S0) s m args below meth c H locs cells slots (gx_MQ below G S0 (gm_w S r.2) r.1 s) (F0 m (pc + 3) ls rest)) : W p l e (gx_rm d0 S0) s m args below meth c H locs cells slots (gx_MQ below G S0 (gm_w S r.2) r.1 s) (F0 m pc ls (.int x1 :: va_rf (some (gg_o G)) :: rest)) := by
  have hts := cx.2.2.2.2.1
  have hK := cx.2.2.2.2.2.1
  exact gz_goV (d := d0 - 1) (gm_w S) cx hex hI hlv hrest (by omega) (Nat.le_of_ble_eq_true rfl) (gz_ws (lw_meth q1370) hts) (hts _ q78) (gb_rawV (As := [.int x1]) cx hl (hts _ q1369) (hts _ qs68) (gl_C.code (hts _ q1370)) hy_X4_come (gr_recvM hK hI.1 hf) rfl rfl hdg) (fun o S2 e => M_X4_come hf cx.2.2.2.2.2.2.2.2 (by omega) e) h kk
abbrev B_X4_open (l : Launch) (d0 : Nat) (G : gG) (S0 : gm_S) : Nat → List (Nat × Value) → List Value → gm_S → Outcome → gm_S → Prop := gz_B l RX4 "open" cX4_open 1 (Option.none : Option Jvm.ClassFile.FieldType) [] d0 G S0
theorem T_X4_open {l : Launch} {G : gG} {S0 S : gm_S} {d0 fu : Nat} {r : Outcome × gM} (hf : gg_f G = true) (hD : 2 ≤ d0)  {M : gM} (h : F_X4_open fu  M = some r) : B_X4_open l d0 G S0 0 [(0, va_rf (some (gg_o G)))] [] (gm_w S M) r.1 (gm_w S r.2) := by
  unfold F_X4_open at h
  intro p e s m args below meth c H locs cells slots ls cx hnm hex hI hl
  have hx := cx.1
  have hb := cx.2.1
  have hown := cx.2.2.2.1
  have hts := cx.2.2.2.2.1
  have hK := cx.2.2.2.2.2.1
  refine gr_aload_n hx hb (some (gg_o G)) dX4_open_0 rfl (lv_at hl 0 rfl) ?_
  refine lv_iconst hx hb dX4_open_1 gz_ic_0 ?_
  obtain ⟨M1, e1, h⟩ := g_bind h
  refine nr_pI cx hf hI 51 rfl rfl rfl (Or.inl (hts _ q1043)) e1 dX4_open_2 (fun H locs hI => ?_)
  refine gr_aload_n hx hb (some (gg_o G)) dX4_open_5 rfl (lv_at hl 0 rfl) ?_
  refine lv_iconst hx hb dX4_open_6 gz_ic_0 ?_
  obtain ⟨M2, e2, h⟩ := g_bind h
  refine nr_pI cx hf hI 53 rfl rfl rfl (Or.inl (hts _ q1045)) e2 dX4_open_7 (fun H locs hI => ?_)
  refine gr_aload_n hx hb (some (gg_o G)) dX4_open_10 rfl (lv_at hl 0 rfl) ?_
  refine lv_iconst hx hb dX4_open_11 gz_ic_0 ?_
  obtain ⟨M3, e3, h⟩ := g_bind h
  refine nr_pZ cx hf hI 52 rfl rfl rfl (Or.inl (hts _ q1044)) e3 dX4_open_12 (fun H locs hI => ?_)
  cases h
  exact gr_vret cx hI dX4_open_15
theorem M_X4_open {l : Launch} {G : gG} {fu d0 : Nat} (hf : gg_f G = true) (hfl : l.flags = flags0) (hD : 2 ≤ d0)  {S : gm_S} {M : gM} {o : Outcome} {M2 : gM} (h : F_X4_open fu  M = some (o, M2)) : gx_Met l yX4_open (ws_ yX4_open cX4_open 1 (Option.none : Option Jvm.ClassFile.FieldType)) d0 G (gm_w S M) [va_rf (some (gg_o G))] o (gm_w S M2) := by
  refine gx_of hfl (by decide) (fun p e s m below meth c cx hnm hex hI => ?_)
  rw [lg_entry_eq]
  exact T_X4_open (r := (o, M2)) hf hD h p e s m _ below meth c _ _ _ _ _ cx hnm (gz_nh0 hex) hI (lv_entry _ (Nat.le_of_ble_eq_true rfl))
theorem C_X4_open {p : Program} {l : Launch} {e : Env} {s : State} {m : MethodId} {args : Array Value} {below : List Frame} {meth : Method} {c : Code} {H : Heap} {locs : List Loc} {cells slots : Nat} {cc : ByteArray} {pc nL : Nat} {ls : Array Slot} {rest : List Value} {G : gG} {S0 S : gm_S} {own : String} {ret : Option FieldType} {d0 index fu : Nat} {M : gM}  {k : gM → gQ} {r : Outcome × gM} (hf : gg_f G = true) (cx : gx_cx p l s m args meth c G own cc nL ret) (hex : ∀ x ∈ c.exceptionTable.toList, covers x pc = false) (hI : gw_I G S0 (gm_w S M) H locs cells slots) (hl : gl_M own index yX4_open args s) (hlv : ls.size = nL) (hrest : (rest.map fun v => v.category).sum ≤ 8) (hD : 3 ≤ d0) (hdg : decode cc pc = .ok (.invokevirtual index, 3)) (h : gz_cV (F_X4_open fu  M) k = some r)
    (kk : ∀ (z : gM), k z = some r → ∀ (H : Heap) (locs : List Loc) (cells slots : Nat), gw_I G S0 (gm_w S z) H locs cells slots → W p l e (gx_rm d0 S0) s m args below meth c H locs cells slots (gx_MQ below G S0 (gm_w S r.2) r.1 s) (F0 m (pc + 3) ls rest)) : W p l e (gx_rm d0 S0) s m args below meth c H locs cells slots (gx_MQ below G S0 (gm_w S r.2) r.1 s) (F0 m pc ls (va_rf (some (gg_o G)) :: rest)) := by
  have hts := cx.2.2.2.2.1
  have hK := cx.2.2.2.2.2.1
  exact gz_goV (d := d0 - 1) (gm_w S) cx hex hI hlv hrest (by omega) (Nat.le_of_ble_eq_true rfl) (gz_ws (lw_meth q1276) hts) (hts _ q78) (gb_rawV (As := []) cx hl (hts _ q1275) (hts _ qs46) (gl_C.code (hts _ q1276)) hy_X4_open (gr_recvM hK hI.1 hf) rfl rfl hdg) (fun o S2 e => M_X4_open hf cx.2.2.2.2.2.2.2.2 (by omega) e) h kk
abbrev B_X4_event (l : Launch) (d0 : Nat) (G : gG) (S0 : gm_S) : Nat → List (Nat × Value) → List Value → gm_S → Outcome → gm_S → Prop := gz_B l RX4 "event" cX4_event 2 (Option.some Jvm.ClassFile.FieldType.int) [] d0 G S0
theorem T_X4_event_29 {l : Launch} {G : gG} {S0 S : gm_S} {d0 fu : Nat} {r : Outcome × gM} (hf : gg_f G = true) (hD : 9 ≤ d0) {x1 : Int32} {s0 : Int32} {M : gM} (h : F_X4_event_29 fu x1 s0 M = some r) : B_X4_event l d0 G S0 29 [(0, va_rf (some (gg_o G))), (1, .int x1)] [.int s0, va_rf (some (gg_o G))] (gm_w S M) r.1 (gm_w S r.2) := by
  unfold F_X4_event_29 at h
  intro p e s m args below meth c H locs cells slots ls cx hnm hex hI hl
  have hx := cx.1
  have hb := cx.2.1
  have hown := cx.2.2.2.1
  have hts := cx.2.2.2.2.1
  have hK := cx.2.2.2.2.2.1
  obtain ⟨M1, e1, h⟩ := g_bind h
  refine nr_pI cx hf hI 0 rfl rfl rfl (Or.inl (hts _ q992)) e1 dX4_event_29 (fun H locs hI => ?_)
  refine gr_aload_n hx hb (some (gg_o G)) dX4_event_32 rfl (lv_at hl 0 rfl) ?_
  refine nr_gI cx hf hI 0 rfl (fun _ => rfl) rfl (Or.inl (hts _ q992)) dX4_event_33 ?_
  refine lv_if_eq (tgt := 41) hx hb dX4_event_36 rfl (fun hc => ?_) (fun hc => ?_)
  · have h := gz_t h hc
    refine gr_aload_n hx hb (some (gg_o G)) dX4_event_41 rfl (lv_at hl 0 rfl) ?_
    refine C_X4_open hf cx (gz_nh hex) hI (Or.inl (hts _ q1273)) hl.1 (gz_cs (Nat.le_of_ble_eq_true rfl)) (by omega) dX4_event_42 h (fun M3 h H locs cells slots hI => ?_)
    refine gr_aload_n hx hb (some (gg_o G)) dX4_event_45 rfl (lv_at hl 0 rfl) ?_
    refine lv_iload_n hx hb dX4_event_46 rfl (lv_at hl 1 rfl) ?_
    refine C_X4_come hf cx (gz_nh hex) hI (Or.inl (hts _ q1367)) hl.1 (gz_cs (Nat.le_of_ble_eq_true rfl)) (by omega) dX4_event_47 h (fun M4 h H locs cells slots hI => ?_)
    refine gr_aload_n hx hb (some (gg_o G)) dX4_event_50 rfl (lv_at hl 0 rfl) ?_
    refine lv_iconst hx hb dX4_event_51 gz_ic_3 ?_
    refine C_X4_answer hf cx (gz_nh hex) hI (Or.inl (hts _ q1359)) hl.1 (gz_cs (Nat.le_of_ble_eq_true rfl)) (by omega) dX4_event_52 h (fun v5 M5 h H locs cells slots hI => ?_)
    cases h
    exact gr_iret cx hI dX4_event_55
  · have h := gz_f h hc
    refine lv_iconst hx hb dX4_event_39 gz_ic_0 ?_
    cases h
    exact gr_iret cx hI dX4_event_40
theorem T_X4_event {l : Launch} {G : gG} {S0 S : gm_S} {d0 fu : Nat} {r : Outcome × gM} (hf : gg_f G = true) (hD : 9 ≤ d0) {x1 : Int32} {M : gM} (h : F_X4_event fu x1 M = some r) : B_X4_event l d0 G S0 0 [(0, va_rf (some (gg_o G))), (1, .int x1)] [] (gm_w S M) r.1 (gm_w S r.2) := by
  unfold F_X4_event at h
  intro p e s m args below meth c H locs cells slots ls cx hnm hex hI hl
  have hx := cx.1
  have hb := cx.2.1
  have hown := cx.2.2.2.1
  have hts := cx.2.2.2.2.1
  have hK := cx.2.2.2.2.2.1
  refine gr_aload_n hx hb (some (gg_o G)) dX4_event_0 rfl (lv_at hl 0 rfl) ?_
  refine lv_iload_n hx hb dX4_event_1 rfl (lv_at hl 1 rfl) ?_
  refine lv_bipush hx hb dX4_event_2 gz_bp_65 ?_
  refine lv_icmp_lt (tgt := 13) hx hb dX4_event_4 rfl (fun hc => ?_) (fun hc => ?_)
  · have h := gz_t h hc
    refine lv_iconst hx hb dX4_event_13 gz_ic_1 ?_
    refine lv_goto (tgt := 29) hx hb dX4_event_14 rfl ?_
    exact T_X4_event_29 hf hD h p e s m args below meth c H locs cells slots ls cx hnm hex hI hl
  · have h := gz_f h hc
    refine lv_iload_n hx hb dX4_event_7 rfl (lv_at hl 1 rfl) ?_
    refine lv_bipush hx hb dX4_event_8 gz_bp_72 ?_
    refine lv_icmp_le (tgt := 17) hx hb dX4_event_10 rfl (fun hc => ?_) (fun hc => ?_)
    · have h := gz_t h hc
      refine gr_aload_n hx hb (some (gg_o G)) dX4_event_17 rfl (lv_at hl 0 rfl) ?_
      refine nr_gI cx hf hI 40 rfl (fun _ => rfl) rfl (Or.inl (hts _ q1032)) dX4_event_18 ?_
      refine lv_if_ne (tgt := 28) hx hb dX4_event_21 rfl (fun hc => ?_) (fun hc => ?_)
      · have h := gz_f h hc
        refine lv_iconst hx hb dX4_event_28 gz_ic_0 ?_
        exact T_X4_event_29 hf hD h p e s m args below meth c H locs cells slots ls cx hnm hex hI hl
      · have h := gz_t h hc
        refine lv_iconst hx hb dX4_event_24 gz_ic_2 ?_
        refine lv_goto (tgt := 29) hx hb dX4_event_25 rfl ?_
        exact T_X4_event_29 hf hD h p e s m args below meth c H locs cells slots ls cx hnm hex hI hl
    · have h := gz_f h hc
      refine lv_iconst hx hb dX4_event_13 gz_ic_1 ?_
      refine lv_goto (tgt := 29) hx hb dX4_event_14 rfl ?_
      exact T_X4_event_29 hf hD h p e s m args below meth c H locs cells slots ls cx hnm hex hI hl
theorem M_X4_event {l : Launch} {G : gG} {fu d0 : Nat} (hf : gg_f G = true) (hfl : l.flags = flags0) (hD : 9 ≤ d0) {x1 : Int32} {S : gm_S} {M : gM} {o : Outcome} {M2 : gM} (h : F_X4_event fu x1 M = some (o, M2)) : gx_Met l yX4_event (ws_ yX4_event cX4_event 2 (Option.some Jvm.ClassFile.FieldType.int)) d0 G (gm_w S M) [va_rf (some (gg_o G)), .int x1] o (gm_w S M2) := by
  refine gx_of hfl (by decide) (fun p e s m below meth c cx hnm hex hI => ?_)
  rw [lg_entry_eq]
  exact T_X4_event (r := (o, M2)) hf hD h p e s m _ below meth c _ _ _ _ _ cx hnm (gz_nh0 hex) hI (lv_entry _ (Nat.le_of_ble_eq_true rfl))
abbrev B_X4_history (l : Launch) (d0 : Nat) (G : gG) (S0 : gm_S) : Nat → List (Nat × Value) → List Value → gm_S → Outcome → gm_S → Prop := gz_B l RX4 "history" cX4_history 4 (Option.some Jvm.ClassFile.FieldType.int) [] d0 G S0
theorem T_X4_history {l : Launch} {G : gG} {S0 S : gm_S} {d0 fu : Nat} {r : Outcome × gM} (hf : gg_f G = true) (hD : 3 ≤ d0) {x1 : Int32} {x2 : Int32} {M : gM} (h : F_X4_history fu x1 x2 M = some r) : B_X4_history l d0 G S0 0 [(0, va_rf (some (gg_o G))), (1, .int x1), (2, .int x2)] [] (gm_w S M) r.1 (gm_w S r.2) := by
  unfold F_X4_history at h
  intro p e s m args below meth c H locs cells slots ls cx hnm hex hI hl
  have hx := cx.1
  have hb := cx.2.1
  have hown := cx.2.2.2.1
  have hts := cx.2.2.2.2.1
  have hK := cx.2.2.2.2.2.1
  refine gr_aload_n hx hb (some (gg_o G)) dX4_history_0 rfl (lv_at hl 0 rfl) ?_
  refine lv_iconst hx hb dX4_history_1 gz_ic_0 ?_
  obtain ⟨M1, e1, h⟩ := g_bind h
  refine nr_pI cx hf hI 0 rfl rfl rfl (Or.inl (hts _ q992)) e1 dX4_history_2 (fun H locs hI => ?_)
  refine gr_aload_n hx hb (some (gg_o G)) dX4_history_5 rfl (lv_at hl 0 rfl) ?_
  refine lv_iload_n hx hb dX4_history_6 rfl (lv_at hl 1 rfl) ?_
  refine C_X4_stateOf hf cx (gz_nh hex) hI (Or.inl (hts _ q1387)) hl.1 (gz_cs (Nat.le_of_ble_eq_true rfl)) (by omega) dX4_history_7 h (fun v2 M2 h H locs cells slots hI => ?_)
  refine gz_istore_n hx hb dX4_history_10 rfl hl (by decide) [0, 2] rfl (gz_con ⟨gz_ne rfl, Or.inl (gz_ne rfl)⟩ (gz_con ⟨gz_ne rfl, Or.inr rfl⟩ gz_nil)) (fun ls hl => ?_)
  refine lv_iload_n hx hb dX4_history_11 rfl (lv_at hl 0 rfl) ?_
  refine lv_if_ge (tgt := 19) hx hb dX4_history_12 rfl (fun hc => ?_) (fun hc => ?_)
  · have h := gz_t h hc
    refine lv_iload_n hx hb dX4_history_19 rfl (lv_at hl 2 rfl) ?_
    refine lv_if_eq (tgt := 32) hx hb dX4_history_20 rfl (fun hc => ?_) (fun hc => ?_)
    · have h := gz_t h hc
      refine gr_aload_n hx hb (some (gg_o G)) dX4_history_32 rfl (lv_at hl 1 rfl) ?_
      refine gr_mgA cx hf hI 43 rfl rfl (Or.inl (hts _ q1035)) dX4_history_33 ?_
      refine lv_iload_n hx hb dX4_history_36 rfl (lv_at hl 0 rfl) ?_
      obtain ⟨v4, e4, h⟩ := g_bind h
      refine gr_miald cx hf hI 43 rfl rfl rfl (nr_aI e4) dX4_history_37 ?_
      cases h
      exact gr_iret cx hI dX4_history_38
    · have h := gz_f h hc
      refine gr_aload_n hx hb (some (gg_o G)) dX4_history_23 rfl (lv_at hl 1 rfl) ?_
      refine gr_mgA cx hf hI 44 rfl rfl (Or.inl (hts _ q1036)) dX4_history_24 ?_
      refine lv_iload_n hx hb dX4_history_27 rfl (lv_at hl 0 rfl) ?_
      obtain ⟨v6, e6, h⟩ := g_bind h
      refine gr_miald cx hf hI 44 rfl rfl rfl (nr_aI e6) dX4_history_28 ?_
      refine lv_goto (tgt := 38) hx hb dX4_history_29 rfl ?_
      cases h
      exact gr_iret cx hI dX4_history_38
  · have h := gz_f h hc
    refine lv_iconst hx hb dX4_history_15 gz_ic_0 ?_
    refine lv_goto (tgt := 38) hx hb dX4_history_16 rfl ?_
    cases h
    exact gr_iret cx hI dX4_history_38
theorem M_X4_history {l : Launch} {G : gG} {fu d0 : Nat} (hf : gg_f G = true) (hfl : l.flags = flags0) (hD : 3 ≤ d0) {x1 : Int32} {x2 : Int32} {S : gm_S} {M : gM} {o : Outcome} {M2 : gM} (h : F_X4_history fu x1 x2 M = some (o, M2)) : gx_Met l yX4_history (ws_ yX4_history cX4_history 4 (Option.some Jvm.ClassFile.FieldType.int)) d0 G (gm_w S M) [va_rf (some (gg_o G)), .int x1, .int x2] o (gm_w S M2) := by
  refine gx_of hfl (by decide) (fun p e s m below meth c cx hnm hex hI => ?_)
  rw [lg_entry_eq]
  exact T_X4_history (r := (o, M2)) hf hD h p e s m _ below meth c _ _ _ _ _ cx hnm (gz_nh0 hex) hI (lv_entry _ (Nat.le_of_ble_eq_true rfl))
abbrev B_X4_init (l : Launch) (d0 : Nat) (G : gG) (S0 : gm_S) : Nat → List (Nat × Value) → List Value → gm_S → Outcome → gm_S → Prop := gz_B l RX4 "<init>" cX4_init 1 (Option.none : Option Jvm.ClassFile.FieldType) [] d0 G S0
theorem T_X4_init {l : Launch} {G : gG} {S0 : gm_S} {d0 fu : Nat} {r : Outcome × gm_S} (hD : 2 ≤ d0) {x0 : Option Nat} {S : gm_S} (h : F_X4_init fu x0 S = some r) : B_X4_init l d0 G S0 0 [(0, va_rf x0)] [] S r.1 r.2 := by
  unfold F_X4_init at h
  intro p e s m args below meth c H locs cells slots ls cx hnm hex hI hl
  have hx := cx.1
  have hb := cx.2.1
  have hown := cx.2.2.2.1
  have hts := cx.2.2.2.2.1
  have hK := cx.2.2.2.2.2.1
  refine gr_aload_n hx hb x0 dX4_init_0 rfl (lv_at hl 0 rfl) ?_
  obtain ⟨a1, e1, h⟩ := gz_q_s h
  refine gz_objI cx hl.1 (hts _ q991) (gz_cs (Nat.le_of_ble_eq_true rfl)) (by omega) e1 dX4_init_1 ?_
  refine gr_aload_n hx hb x0 dX4_init_4 rfl (lv_at hl 0 rfl) ?_
  refine lv_sipush hx hb dX4_init_5 gz_sp_160 ?_
  obtain ⟨q2, e2, h⟩ := g_bind h
  refine gr_fnewa cx hI (t := 1) (a := q2.1) (S2 := q2.2) e2 rfl (by decide) (hts _ q146) dX4_init_8 (fun H cells slots hI => ?_)
  obtain ⟨S3, e3, h⟩ := g_bind h
  refine gr_putR cx hI e3 rfl rfl rfl (Or.inl (hts _ q995)) (Or.inr ⟨hnm, rfl⟩) dX4_init_10 (fun H locs hI => ?_)
  refine gr_aload_n hx hb x0 dX4_init_13 rfl (lv_at hl 0 rfl) ?_
  refine lv_iconst hx hb dX4_init_14 gz_ic_m1 ?_
  obtain ⟨S4, e4, h⟩ := g_bind h
  refine gr_putI cx hI e4 rfl rfl rfl (Or.inl (hts _ q998)) (Or.inl rfl) dX4_init_15 (fun H locs hI => ?_)
  refine gr_aload_n hx hb x0 dX4_init_18 rfl (lv_at hl 0 rfl) ?_
  refine lv_iconst hx hb dX4_init_19 gz_ic_m1 ?_
  obtain ⟨S5, e5, h⟩ := g_bind h
  refine gr_putI cx hI e5 rfl rfl rfl (Or.inl (hts _ q999)) (Or.inl rfl) dX4_init_20 (fun H locs hI => ?_)
  refine gr_aload_n hx hb x0 dX4_init_23 rfl (lv_at hl 0 rfl) ?_
  refine lv_iconst hx hb dX4_init_24 gz_ic_2 ?_
  obtain ⟨q6, e6, h⟩ := g_bind h
  refine gr_fnewa cx hI (t := 0) (a := q6.1) (S2 := q6.2) e6 rfl (by decide) (hts _ q147) dX4_init_25 (fun H cells slots hI => ?_)
  obtain ⟨S7, e7, h⟩ := g_bind h
  refine gr_putR cx hI e7 rfl rfl rfl (Or.inl (hts _ q1001)) (Or.inr ⟨hnm, rfl⟩) dX4_init_27 (fun H locs hI => ?_)
  refine gr_aload_n hx hb x0 dX4_init_30 rfl (lv_at hl 0 rfl) ?_
  refine lv_iconst hx hb dX4_init_31 gz_ic_2 ?_
  obtain ⟨q8, e8, h⟩ := g_bind h
  refine gr_fnewa cx hI (t := 0) (a := q8.1) (S2 := q8.2) e8 rfl (by decide) (hts _ q147) dX4_init_32 (fun H cells slots hI => ?_)
  obtain ⟨S9, e9, h⟩ := g_bind h
  refine gr_putR cx hI e9 rfl rfl rfl (Or.inl (hts _ q1002)) (Or.inr ⟨hnm, rfl⟩) dX4_init_34 (fun H locs hI => ?_)
  refine gr_aload_n hx hb x0 dX4_init_37 rfl (lv_at hl 0 rfl) ?_
  refine lv_iconst hx hb dX4_init_38 gz_ic_2 ?_
  obtain ⟨q10, e10, h⟩ := g_bind h
  refine gr_fnewa cx hI (t := 0) (a := q10.1) (S2 := q10.2) e10 rfl (by decide) (hts _ q147) dX4_init_39 (fun H cells slots hI => ?_)
  obtain ⟨S11, e11, h⟩ := g_bind h
  refine gr_putR cx hI e11 rfl rfl rfl (Or.inl (hts _ q1003)) (Or.inr ⟨hnm, rfl⟩) dX4_init_41 (fun H locs hI => ?_)
  refine gr_aload_n hx hb x0 dX4_init_44 rfl (lv_at hl 0 rfl) ?_
  refine lv_iconst hx hb dX4_init_45 gz_ic_2 ?_
  obtain ⟨q12, e12, h⟩ := g_bind h
  refine gr_fnewa cx hI (t := 0) (a := q12.1) (S2 := q12.2) e12 rfl (by decide) (hts _ q147) dX4_init_46 (fun H cells slots hI => ?_)
  obtain ⟨S13, e13, h⟩ := g_bind h
  refine gr_putR cx hI e13 rfl rfl rfl (Or.inl (hts _ q1004)) (Or.inr ⟨hnm, rfl⟩) dX4_init_48 (fun H locs hI => ?_)
  refine gr_aload_n hx hb x0 dX4_init_51 rfl (lv_at hl 0 rfl) ?_
  refine lv_iconst hx hb dX4_init_52 gz_ic_2 ?_
  obtain ⟨q14, e14, h⟩ := g_bind h
  refine gr_fnewa cx hI (t := 0) (a := q14.1) (S2 := q14.2) e14 rfl (by decide) (hts _ q147) dX4_init_53 (fun H cells slots hI => ?_)
  obtain ⟨S15, e15, h⟩ := g_bind h
  refine gr_putR cx hI e15 rfl rfl rfl (Or.inl (hts _ q1005)) (Or.inr ⟨hnm, rfl⟩) dX4_init_55 (fun H locs hI => ?_)
  refine gr_aload_n hx hb x0 dX4_init_58 rfl (lv_at hl 0 rfl) ?_
  refine lv_bipush hx hb dX4_init_59 gz_bp_32 ?_
  obtain ⟨q16, e16, h⟩ := g_bind h
  refine gr_fnewa cx hI (t := 0) (a := q16.1) (S2 := q16.2) e16 rfl (by decide) (hts _ q147) dX4_init_61 (fun H cells slots hI => ?_)
  obtain ⟨S17, e17, h⟩ := g_bind h
  refine gr_putR cx hI e17 rfl rfl rfl (Or.inl (hts _ q1006)) (Or.inr ⟨hnm, rfl⟩) dX4_init_63 (fun H locs hI => ?_)
  refine gr_aload_n hx hb x0 dX4_init_66 rfl (lv_at hl 0 rfl) ?_
  refine lv_bipush hx hb dX4_init_67 gz_bp_32 ?_
  obtain ⟨q18, e18, h⟩ := g_bind h
  refine gr_fnewa cx hI (t := 0) (a := q18.1) (S2 := q18.2) e18 rfl (by decide) (hts _ q147) dX4_init_69 (fun H cells slots hI => ?_)
  obtain ⟨S19, e19, h⟩ := g_bind h
  refine gr_putR cx hI e19 rfl rfl rfl (Or.inl (hts _ q1007)) (Or.inr ⟨hnm, rfl⟩) dX4_init_71 (fun H locs hI => ?_)
  refine gr_aload_n hx hb x0 dX4_init_74 rfl (lv_at hl 0 rfl) ?_
  refine lv_bipush hx hb dX4_init_75 gz_bp_32 ?_
  obtain ⟨q20, e20, h⟩ := g_bind h
  refine gr_fnewa cx hI (t := 0) (a := q20.1) (S2 := q20.2) e20 rfl (by decide) (hts _ q147) dX4_init_77 (fun H cells slots hI => ?_)
  obtain ⟨S21, e21, h⟩ := g_bind h
  refine gr_putR cx hI e21 rfl rfl rfl (Or.inl (hts _ q1008)) (Or.inr ⟨hnm, rfl⟩) dX4_init_79 (fun H locs hI => ?_)
  refine gr_aload_n hx hb x0 dX4_init_82 rfl (lv_at hl 0 rfl) ?_
  refine lv_bipush hx hb dX4_init_83 gz_bp_32 ?_
  obtain ⟨q22, e22, h⟩ := g_bind h
  refine gr_fnewa cx hI (t := 0) (a := q22.1) (S2 := q22.2) e22 rfl (by decide) (hts _ q147) dX4_init_85 (fun H cells slots hI => ?_)
  obtain ⟨S23, e23, h⟩ := g_bind h
  refine gr_putR cx hI e23 rfl rfl rfl (Or.inl (hts _ q1009)) (Or.inr ⟨hnm, rfl⟩) dX4_init_87 (fun H locs hI => ?_)
  refine gr_aload_n hx hb x0 dX4_init_90 rfl (lv_at hl 0 rfl) ?_
  refine lv_bipush hx hb dX4_init_91 gz_bp_48 ?_
  obtain ⟨q24, e24, h⟩ := g_bind h
  refine gr_fnewa cx hI (t := 0) (a := q24.1) (S2 := q24.2) e24 rfl (by decide) (hts _ q147) dX4_init_93 (fun H cells slots hI => ?_)
  obtain ⟨S25, e25, h⟩ := g_bind h
  refine gr_putR cx hI e25 rfl rfl rfl (Or.inl (hts _ q1010)) (Or.inr ⟨hnm, rfl⟩) dX4_init_95 (fun H locs hI => ?_)
  refine gr_aload_n hx hb x0 dX4_init_98 rfl (lv_at hl 0 rfl) ?_
  refine lv_bipush hx hb dX4_init_99 gz_bp_48 ?_
  obtain ⟨q26, e26, h⟩ := g_bind h
  refine gr_fnewa cx hI (t := 0) (a := q26.1) (S2 := q26.2) e26 rfl (by decide) (hts _ q147) dX4_init_101 (fun H cells slots hI => ?_)
  obtain ⟨S27, e27, h⟩ := g_bind h
  refine gr_putR cx hI e27 rfl rfl rfl (Or.inl (hts _ q1011)) (Or.inr ⟨hnm, rfl⟩) dX4_init_103 (fun H locs hI => ?_)
  refine gr_aload_n hx hb x0 dX4_init_106 rfl (lv_at hl 0 rfl) ?_
  refine lv_bipush hx hb dX4_init_107 gz_bp_48 ?_
  obtain ⟨q28, e28, h⟩ := g_bind h
  refine gr_fnewa cx hI (t := 0) (a := q28.1) (S2 := q28.2) e28 rfl (by decide) (hts _ q147) dX4_init_109 (fun H cells slots hI => ?_)
  obtain ⟨S29, e29, h⟩ := g_bind h
  refine gr_putR cx hI e29 rfl rfl rfl (Or.inl (hts _ q1012)) (Or.inr ⟨hnm, rfl⟩) dX4_init_111 (fun H locs hI => ?_)
  refine gr_aload_n hx hb x0 dX4_init_114 rfl (lv_at hl 0 rfl) ?_
  refine lv_bipush hx hb dX4_init_115 gz_bp_48 ?_
  obtain ⟨q30, e30, h⟩ := g_bind h
  refine gr_fnewa cx hI (t := 0) (a := q30.1) (S2 := q30.2) e30 rfl (by decide) (hts _ q147) dX4_init_117 (fun H cells slots hI => ?_)
  obtain ⟨S31, e31, h⟩ := g_bind h
  refine gr_putR cx hI e31 rfl rfl rfl (Or.inl (hts _ q1013)) (Or.inr ⟨hnm, rfl⟩) dX4_init_119 (fun H locs hI => ?_)
  refine gr_aload_n hx hb x0 dX4_init_122 rfl (lv_at hl 0 rfl) ?_
  refine lv_bipush hx hb dX4_init_123 gz_bp_48 ?_
  obtain ⟨q32, e32, h⟩ := g_bind h
  refine gr_fnewa cx hI (t := 0) (a := q32.1) (S2 := q32.2) e32 rfl (by decide) (hts _ q147) dX4_init_125 (fun H cells slots hI => ?_)
  obtain ⟨S33, e33, h⟩ := g_bind h
  refine gr_putR cx hI e33 rfl rfl rfl (Or.inl (hts _ q1014)) (Or.inr ⟨hnm, rfl⟩) dX4_init_127 (fun H locs hI => ?_)
  refine gr_aload_n hx hb x0 dX4_init_130 rfl (lv_at hl 0 rfl) ?_
  refine lv_sipush hx hb dX4_init_131 gz_sp_128 ?_
  obtain ⟨q34, e34, h⟩ := g_bind h
  refine gr_fnewa cx hI (t := 0) (a := q34.1) (S2 := q34.2) e34 rfl (by decide) (hts _ q147) dX4_init_134 (fun H cells slots hI => ?_)
  obtain ⟨S35, e35, h⟩ := g_bind h
  refine gr_putR cx hI e35 rfl rfl rfl (Or.inl (hts _ q1015)) (Or.inr ⟨hnm, rfl⟩) dX4_init_136 (fun H locs hI => ?_)
  refine gr_aload_n hx hb x0 dX4_init_139 rfl (lv_at hl 0 rfl) ?_
  refine lv_sipush hx hb dX4_init_140 gz_sp_128 ?_
  obtain ⟨q36, e36, h⟩ := g_bind h
  refine gr_fnewa cx hI (t := 0) (a := q36.1) (S2 := q36.2) e36 rfl (by decide) (hts _ q147) dX4_init_143 (fun H cells slots hI => ?_)
  obtain ⟨S37, e37, h⟩ := g_bind h
  refine gr_putR cx hI e37 rfl rfl rfl (Or.inl (hts _ q1016)) (Or.inr ⟨hnm, rfl⟩) dX4_init_145 (fun H locs hI => ?_)
  refine gr_aload_n hx hb x0 dX4_init_148 rfl (lv_at hl 0 rfl) ?_
  refine lv_sipush hx hb dX4_init_149 gz_sp_128 ?_
  obtain ⟨q38, e38, h⟩ := g_bind h
  refine gr_fnewa cx hI (t := 0) (a := q38.1) (S2 := q38.2) e38 rfl (by decide) (hts _ q147) dX4_init_152 (fun H cells slots hI => ?_)
  obtain ⟨S39, e39, h⟩ := g_bind h
  refine gr_putR cx hI e39 rfl rfl rfl (Or.inl (hts _ q1017)) (Or.inr ⟨hnm, rfl⟩) dX4_init_154 (fun H locs hI => ?_)
  refine gr_aload_n hx hb x0 dX4_init_157 rfl (lv_at hl 0 rfl) ?_
  refine lv_sipush hx hb dX4_init_158 gz_sp_128 ?_
  obtain ⟨q40, e40, h⟩ := g_bind h
  refine gr_fnewa cx hI (t := 3) (a := q40.1) (S2 := q40.2) e40 rfl (by decide) (hts _ q1179) dX4_init_161 (fun H cells slots hI => ?_)
  obtain ⟨S41, e41, h⟩ := g_bind h
  refine gr_putR cx hI e41 rfl rfl rfl (Or.inl (hts _ q1018)) (Or.inr ⟨hnm, rfl⟩) dX4_init_163 (fun H locs hI => ?_)
  refine gr_aload_n hx hb x0 dX4_init_166 rfl (lv_at hl 0 rfl) ?_
  refine lv_sipush hx hb dX4_init_167 gz_sp_128 ?_
  obtain ⟨q42, e42, h⟩ := g_bind h
  refine gr_fnewa cx hI (t := 0) (a := q42.1) (S2 := q42.2) e42 rfl (by decide) (hts _ q147) dX4_init_170 (fun H cells slots hI => ?_)
  obtain ⟨S43, e43, h⟩ := g_bind h
  refine gr_putR cx hI e43 rfl rfl rfl (Or.inl (hts _ q1019)) (Or.inr ⟨hnm, rfl⟩) dX4_init_172 (fun H locs hI => ?_)
  refine gr_aload_n hx hb x0 dX4_init_175 rfl (lv_at hl 0 rfl) ?_
  refine lv_sipush hx hb dX4_init_176 gz_sp_128 ?_
  obtain ⟨q44, e44, h⟩ := g_bind h
  refine gr_fnewa cx hI (t := 0) (a := q44.1) (S2 := q44.2) e44 rfl (by decide) (hts _ q147) dX4_init_179 (fun H cells slots hI => ?_)
  obtain ⟨S45, e45, h⟩ := g_bind h
  refine gr_putR cx hI e45 rfl rfl rfl (Or.inl (hts _ q1020)) (Or.inr ⟨hnm, rfl⟩) dX4_init_181 (fun H locs hI => ?_)
  refine gr_aload_n hx hb x0 dX4_init_184 rfl (lv_at hl 0 rfl) ?_
  refine lv_sipush hx hb dX4_init_185 gz_sp_128 ?_
  obtain ⟨q46, e46, h⟩ := g_bind h
  refine gr_fnewa cx hI (t := 0) (a := q46.1) (S2 := q46.2) e46 rfl (by decide) (hts _ q147) dX4_init_188 (fun H cells slots hI => ?_)
  obtain ⟨S47, e47, h⟩ := g_bind h
  refine gr_putR cx hI e47 rfl rfl rfl (Or.inl (hts _ q1021)) (Or.inr ⟨hnm, rfl⟩) dX4_init_190 (fun H locs hI => ?_)
  refine gr_aload_n hx hb x0 dX4_init_193 rfl (lv_at hl 0 rfl) ?_
  refine lv_sipush hx hb dX4_init_194 gz_sp_128 ?_
  obtain ⟨q48, e48, h⟩ := g_bind h
  refine gr_fnewa cx hI (t := 0) (a := q48.1) (S2 := q48.2) e48 rfl (by decide) (hts _ q147) dX4_init_197 (fun H cells slots hI => ?_)
  obtain ⟨S49, e49, h⟩ := g_bind h
  refine gr_putR cx hI e49 rfl rfl rfl (Or.inl (hts _ q1022)) (Or.inr ⟨hnm, rfl⟩) dX4_init_199 (fun H locs hI => ?_)
  refine gr_aload_n hx hb x0 dX4_init_202 rfl (lv_at hl 0 rfl) ?_
  refine lv_sipush hx hb dX4_init_203 gz_sp_128 ?_
  obtain ⟨q50, e50, h⟩ := g_bind h
  refine gr_fnewa cx hI (t := 2) (a := q50.1) (S2 := q50.2) e50 rfl (by decide) (hts _ q230) dX4_init_206 (fun H cells slots hI => ?_)
  obtain ⟨S51, e51, h⟩ := g_bind h
  refine gr_putR cx hI e51 rfl rfl rfl (Or.inl (hts _ q1023)) (Or.inr ⟨hnm, rfl⟩) dX4_init_208 (fun H locs hI => ?_)
  refine gr_aload_n hx hb x0 dX4_init_211 rfl (lv_at hl 0 rfl) ?_
  refine lv_sipush hx hb dX4_init_212 gz_sp_128 ?_
  obtain ⟨q52, e52, h⟩ := g_bind h
  refine gr_fnewa cx hI (t := 2) (a := q52.1) (S2 := q52.2) e52 rfl (by decide) (hts _ q230) dX4_init_215 (fun H cells slots hI => ?_)
  obtain ⟨S53, e53, h⟩ := g_bind h
  refine gr_putR cx hI e53 rfl rfl rfl (Or.inl (hts _ q1024)) (Or.inr ⟨hnm, rfl⟩) dX4_init_217 (fun H locs hI => ?_)
  refine gr_aload_n hx hb x0 dX4_init_220 rfl (lv_at hl 0 rfl) ?_
  refine lv_bipush hx hb dX4_init_221 gz_bp_96 ?_
  obtain ⟨q54, e54, h⟩ := g_bind h
  refine gr_fnewa cx hI (t := 0) (a := q54.1) (S2 := q54.2) e54 rfl (by decide) (hts _ q147) dX4_init_223 (fun H cells slots hI => ?_)
  obtain ⟨S55, e55, h⟩ := g_bind h
  refine gr_putR cx hI e55 rfl rfl rfl (Or.inl (hts _ q1025)) (Or.inr ⟨hnm, rfl⟩) dX4_init_225 (fun H locs hI => ?_)
  refine gr_aload_n hx hb x0 dX4_init_228 rfl (lv_at hl 0 rfl) ?_
  refine lv_bipush hx hb dX4_init_229 gz_bp_96 ?_
  obtain ⟨q56, e56, h⟩ := g_bind h
  refine gr_fnewa cx hI (t := 0) (a := q56.1) (S2 := q56.2) e56 rfl (by decide) (hts _ q147) dX4_init_231 (fun H cells slots hI => ?_)
  obtain ⟨S57, e57, h⟩ := g_bind h
  refine gr_putR cx hI e57 rfl rfl rfl (Or.inl (hts _ q1026)) (Or.inr ⟨hnm, rfl⟩) dX4_init_233 (fun H locs hI => ?_)
  refine gr_aload_n hx hb x0 dX4_init_236 rfl (lv_at hl 0 rfl) ?_
  refine lv_bipush hx hb dX4_init_237 gz_bp_96 ?_
  obtain ⟨q58, e58, h⟩ := g_bind h
  refine gr_fnewa cx hI (t := 0) (a := q58.1) (S2 := q58.2) e58 rfl (by decide) (hts _ q147) dX4_init_239 (fun H cells slots hI => ?_)
  obtain ⟨S59, e59, h⟩ := g_bind h
  refine gr_putR cx hI e59 rfl rfl rfl (Or.inl (hts _ q1027)) (Or.inr ⟨hnm, rfl⟩) dX4_init_241 (fun H locs hI => ?_)
  refine gr_aload_n hx hb x0 dX4_init_244 rfl (lv_at hl 0 rfl) ?_
  refine lv_bipush hx hb dX4_init_245 gz_bp_96 ?_
  obtain ⟨q60, e60, h⟩ := g_bind h
  refine gr_fnewa cx hI (t := 0) (a := q60.1) (S2 := q60.2) e60 rfl (by decide) (hts _ q147) dX4_init_247 (fun H cells slots hI => ?_)
  obtain ⟨S61, e61, h⟩ := g_bind h
  refine gr_putR cx hI e61 rfl rfl rfl (Or.inl (hts _ q1028)) (Or.inr ⟨hnm, rfl⟩) dX4_init_249 (fun H locs hI => ?_)
  refine gr_aload_n hx hb x0 dX4_init_252 rfl (lv_at hl 0 rfl) ?_
  refine lv_bipush hx hb dX4_init_253 gz_bp_96 ?_
  obtain ⟨q62, e62, h⟩ := g_bind h
  refine gr_fnewa cx hI (t := 2) (a := q62.1) (S2 := q62.2) e62 rfl (by decide) (hts _ q230) dX4_init_255 (fun H cells slots hI => ?_)
  obtain ⟨S63, e63, h⟩ := g_bind h
  refine gr_putR cx hI e63 rfl rfl rfl (Or.inl (hts _ q1029)) (Or.inr ⟨hnm, rfl⟩) dX4_init_257 (fun H locs hI => ?_)
  refine gr_aload_n hx hb x0 dX4_init_260 rfl (lv_at hl 0 rfl) ?_
  refine lv_bipush hx hb dX4_init_261 gz_bp_6 ?_
  obtain ⟨q64, e64, h⟩ := g_bind h
  refine gr_fnewa cx hI (t := 2) (a := q64.1) (S2 := q64.2) e64 rfl (by decide) (hts _ q230) dX4_init_263 (fun H cells slots hI => ?_)
  obtain ⟨S65, e65, h⟩ := g_bind h
  refine gr_putR cx hI e65 rfl rfl rfl (Or.inl (hts _ q1034)) (Or.inr ⟨hnm, rfl⟩) dX4_init_265 (fun H locs hI => ?_)
  refine gr_aload_n hx hb x0 dX4_init_268 rfl (lv_at hl 0 rfl) ?_
  refine lv_bipush hx hb dX4_init_269 gz_bp_16 ?_
  obtain ⟨q66, e66, h⟩ := g_bind h
  refine gr_fnewa cx hI (t := 0) (a := q66.1) (S2 := q66.2) e66 rfl (by decide) (hts _ q147) dX4_init_271 (fun H cells slots hI => ?_)
  obtain ⟨S67, e67, h⟩ := g_bind h
  refine gr_putR cx hI e67 rfl rfl rfl (Or.inl (hts _ q1035)) (Or.inr ⟨hnm, rfl⟩) dX4_init_273 (fun H locs hI => ?_)
  refine gr_aload_n hx hb x0 dX4_init_276 rfl (lv_at hl 0 rfl) ?_
  refine lv_bipush hx hb dX4_init_277 gz_bp_16 ?_
  obtain ⟨q68, e68, h⟩ := g_bind h
  refine gr_fnewa cx hI (t := 0) (a := q68.1) (S2 := q68.2) e68 rfl (by decide) (hts _ q147) dX4_init_279 (fun H cells slots hI => ?_)
  obtain ⟨S69, e69, h⟩ := g_bind h
  refine gr_putR cx hI e69 rfl rfl rfl (Or.inl (hts _ q1036)) (Or.inr ⟨hnm, rfl⟩) dX4_init_281 (fun H locs hI => ?_)
  refine gr_aload_n hx hb x0 dX4_init_284 rfl (lv_at hl 0 rfl) ?_
  refine lv_bipush hx hb dX4_init_285 gz_bp_10 ?_
  obtain ⟨q70, e70, h⟩ := g_bind h
  refine gr_fnewa cx hI (t := 0) (a := q70.1) (S2 := q70.2) e70 rfl (by decide) (hts _ q147) dX4_init_287 (fun H cells slots hI => ?_)
  obtain ⟨S71, e71, h⟩ := g_bind h
  refine gr_putR cx hI e71 rfl rfl rfl (Or.inl (hts _ q1038)) (Or.inr ⟨hnm, rfl⟩) dX4_init_289 (fun H locs hI => ?_)
  refine gr_aload_n hx hb x0 dX4_init_292 rfl (lv_at hl 0 rfl) ?_
  refine lv_bipush hx hb dX4_init_293 gz_bp_8 ?_
  obtain ⟨q72, e72, h⟩ := g_bind h
  refine gr_fnewa cx hI (t := 0) (a := q72.1) (S2 := q72.2) e72 rfl (by decide) (hts _ q147) dX4_init_295 (fun H cells slots hI => ?_)
  obtain ⟨S73, e73, h⟩ := g_bind h
  refine gr_putR cx hI e73 rfl rfl rfl (Or.inl (hts _ q1040)) (Or.inr ⟨hnm, rfl⟩) dX4_init_297 (fun H locs hI => ?_)
  refine gr_aload_n hx hb x0 dX4_init_300 rfl (lv_at hl 0 rfl) ?_
  refine lv_bipush hx hb dX4_init_301 gz_bp_8 ?_
  obtain ⟨q74, e74, h⟩ := g_bind h
  refine gr_fnewa cx hI (t := 0) (a := q74.1) (S2 := q74.2) e74 rfl (by decide) (hts _ q147) dX4_init_303 (fun H cells slots hI => ?_)
  obtain ⟨S75, e75, h⟩ := g_bind h
  refine gr_putR cx hI e75 rfl rfl rfl (Or.inl (hts _ q1041)) (Or.inr ⟨hnm, rfl⟩) dX4_init_305 (fun H locs hI => ?_)
  refine gr_aload_n hx hb x0 dX4_init_308 rfl (lv_at hl 0 rfl) ?_
  refine lv_bipush hx hb dX4_init_309 gz_bp_100 ?_
  obtain ⟨q76, e76, h⟩ := g_bind h
  refine gr_fnewa cx hI (t := 0) (a := q76.1) (S2 := q76.2) e76 rfl (by decide) (hts _ q147) dX4_init_311 (fun H cells slots hI => ?_)
  obtain ⟨S77, e77, h⟩ := g_bind h
  refine gr_putR cx hI e77 rfl rfl rfl (Or.inl (hts _ q1046)) (Or.inr ⟨hnm, rfl⟩) dX4_init_313 (fun H locs hI => ?_)
  refine gr_aload_n hx hb x0 dX4_init_316 rfl (lv_at hl 0 rfl) ?_
  refine lv_bipush hx hb dX4_init_317 gz_bp_24 ?_
  obtain ⟨q78, e78, h⟩ := g_bind h
  refine gr_fnewa cx hI (t := 0) (a := q78.1) (S2 := q78.2) e78 rfl (by decide) (hts _ q147) dX4_init_319 (fun H cells slots hI => ?_)
  obtain ⟨S79, e79, h⟩ := g_bind h
  refine gr_putR cx hI e79 rfl rfl rfl (Or.inl (hts _ q1048)) (Or.inr ⟨hnm, rfl⟩) dX4_init_321 (fun H locs hI => ?_)
  refine gr_aload_n hx hb x0 dX4_init_324 rfl (lv_at hl 0 rfl) ?_
  refine lv_bipush hx hb dX4_init_325 gz_bp_24 ?_
  obtain ⟨q80, e80, h⟩ := g_bind h
  refine gr_fnewa cx hI (t := 0) (a := q80.1) (S2 := q80.2) e80 rfl (by decide) (hts _ q147) dX4_init_327 (fun H cells slots hI => ?_)
  obtain ⟨S81, e81, h⟩ := g_bind h
  refine gr_putR cx hI e81 rfl rfl rfl (Or.inl (hts _ q1049)) (Or.inr ⟨hnm, rfl⟩) dX4_init_329 (fun H locs hI => ?_)
  refine gr_aload_n hx hb x0 dX4_init_332 rfl (lv_at hl 0 rfl) ?_
  refine lv_bipush hx hb dX4_init_333 gz_bp_24 ?_
  obtain ⟨q82, e82, h⟩ := g_bind h
  refine gr_fnewa cx hI (t := 0) (a := q82.1) (S2 := q82.2) e82 rfl (by decide) (hts _ q147) dX4_init_335 (fun H cells slots hI => ?_)
  obtain ⟨S83, e83, h⟩ := g_bind h
  refine gr_putR cx hI e83 rfl rfl rfl (Or.inl (hts _ q1050)) (Or.inr ⟨hnm, rfl⟩) dX4_init_337 (fun H locs hI => ?_)
  refine gr_aload_n hx hb x0 dX4_init_340 rfl (lv_at hl 0 rfl) ?_
  refine lv_bipush hx hb dX4_init_341 gz_bp_24 ?_
  obtain ⟨q84, e84, h⟩ := g_bind h
  refine gr_fnewa cx hI (t := 0) (a := q84.1) (S2 := q84.2) e84 rfl (by decide) (hts _ q147) dX4_init_343 (fun H cells slots hI => ?_)
  obtain ⟨S85, e85, h⟩ := g_bind h
  refine gr_putR cx hI e85 rfl rfl rfl (Or.inl (hts _ q1051)) (Or.inr ⟨hnm, rfl⟩) dX4_init_345 (fun H locs hI => ?_)
  refine gr_aload_n hx hb x0 dX4_init_348 rfl (lv_at hl 0 rfl) ?_
  refine lv_bipush hx hb dX4_init_349 gz_bp_20 ?_
  obtain ⟨q86, e86, h⟩ := g_bind h
  refine gr_fnewa cx hI (t := 0) (a := q86.1) (S2 := q86.2) e86 rfl (by decide) (hts _ q147) dX4_init_351 (fun H cells slots hI => ?_)
  obtain ⟨S87, e87, h⟩ := g_bind h
  refine gr_putR cx hI e87 rfl rfl rfl (Or.inl (hts _ q1053)) (Or.inr ⟨hnm, rfl⟩) dX4_init_353 (fun H locs hI => ?_)
  cases h
  exact gr_vret cx hI dX4_init_356
theorem M_X4_init {l : Launch} {G : gG} {fu d0 : Nat} (hfl : l.flags = flags0) (hD : 2 ≤ d0) {x0 : Option Nat} {S : gm_S} {o : Outcome} {S2 : gm_S} (h : F_X4_init fu x0 S = some (o, S2)) : gx_Met l yX4_init (ws_ yX4_init cX4_init 1 (Option.none : Option Jvm.ClassFile.FieldType)) d0 G S [va_rf x0] o S2 := by
  refine gx_of hfl (by decide) (fun p e s m below meth c cx hnm hex hI => ?_)
  rw [lg_entry_eq]
  cases x0 <;> exact T_X4_init (r := (o, S2)) hD h p e s m _ below meth c _ _ _ _ _ cx hnm (gz_nh0 hex) hI (lv_entry _ (Nat.le_of_ble_eq_true rfl))
abbrev B_X4_oneTick (l : Launch) (d0 : Nat) (G : gG) (S0 : gm_S) : Nat → List (Nat × Value) → List Value → gm_S → Outcome → gm_S → Prop := gz_B l RX4 "oneTick" cX4_oneTick 6 (Option.none : Option Jvm.ClassFile.FieldType) [] d0 G S0
theorem T_X4_oneTick_71 {l : Launch} {G : gG} {S0 S : gm_S} {d0 fu : Nat} {k19 : Int32 → Int32 → Int32 → gM → gQ} {r : Outcome × gM} (hf : gg_f G = true) (hD : 9 ≤ d0)
    (hk19 : ∀ (x1 : Int32) (x2 : Int32) (x3 : Int32) (M : gM), k19 x1 x2 x3 M = some r → B_X4_oneTick l d0 G S0 19 [(0, va_rf (some (gg_o G))), (1, .int x1), (2, .int x2), (3, .int x3)] [] (gm_w S M) r.1 (gm_w S r.2)) : ∀ (n : Nat) (x1 : Int32) (x2 : Int32) (x3 : Int32) (x4 : Int32) (x5 : Int32) (M : gM), F_X4_oneTick_71 fu k19 n x1 x2 x3 x4 x5 M = some r → B_X4_oneTick l d0 G S0 71 [(0, va_rf (some (gg_o G))), (1, .int x1), (2, .int x2), (3, .int x3), (4, .int x4), (5, .int x5)] [] (gm_w S M) r.1 (gm_w S r.2) := by
  intro n
  induction n with
  | zero => intro x1 x2 x3 x4 x5 M h; exact nomatch (show (none : gQ) = some r from h)
  | succ n ih =>
    intro x1 x2 x3 x4 x5 M h
    rw [F_X4_oneTick_71] at h
    intro p e s m args below meth c H locs cells slots ls cx hnm hex hI hl
    have hx := cx.1
    have hb := cx.2.1
    have hown := cx.2.2.2.1
    have hts := cx.2.2.2.2.1
    have hK := cx.2.2.2.2.2.1
    refine lv_iload hx hb dX4_oneTick_71 (lv_at hl 5 rfl) ?_
    refine gr_aload_n hx hb (some (gg_o G)) dX4_oneTick_73 rfl (lv_at hl 0 rfl) ?_
    refine nr_gI cx hf hI 47 rfl (fun _ => rfl) rfl (Or.inl (hts _ q1039)) dX4_oneTick_74 ?_
    refine lv_icmp_ge (tgt := 118) hx hb dX4_oneTick_77 rfl (fun hc => ?_) (fun hc => ?_)
    · have h := gz_t h hc
      refine gr_aload_n hx hb (some (gg_o G)) dX4_oneTick_118 rfl (lv_at hl 0 rfl) ?_
      refine lv_iload hx hb dX4_oneTick_119 (lv_at hl 4 rfl) ?_
      refine C_X4_come hf cx (gz_nh hex) hI (Or.inl (hts _ q1367)) hl.1 (gz_cs (Nat.le_of_ble_eq_true rfl)) (by omega) dX4_oneTick_121 h (fun M2 h H locs cells slots hI => ?_)
      refine gz_iinc (k := 3) (v := (x3 + (1 : Int32))) hx hb dX4_oneTick_124 hl rfl (congrArg (fun z => x3 + z) gz_ic_1) (by decide) [0, 1, 2] rfl (gz_con ⟨gz_ne rfl, Or.inl (gz_ne rfl)⟩ (gz_con ⟨gz_ne rfl, Or.inl (gz_ne rfl)⟩ (gz_con ⟨gz_ne rfl, Or.inr rfl⟩ gz_nil))) (fun ls hl => ?_)
      refine lv_goto (tgt := 19) hx hb dX4_oneTick_127 rfl ?_
      exact hk19 _ _ _ _ h p e s m args below meth c H locs cells slots ls cx hnm hex hI (lv_sub hl [1, 2, 3, 0] rfl)
    · have h := gz_f h hc
      refine gr_aload_n hx hb (some (gg_o G)) dX4_oneTick_80 rfl (lv_at hl 0 rfl) ?_
      refine gr_mgA cx hf hI 48 rfl rfl (Or.inl (hts _ q1040)) dX4_oneTick_81 ?_
      refine lv_iload hx hb dX4_oneTick_84 (lv_at hl 5 rfl) ?_
      refine gr_aload_n hx hb (some (gg_o G)) dX4_oneTick_86 rfl (lv_at hl 0 rfl) ?_
      refine gr_mgA cx hf hI 48 rfl rfl (Or.inl (hts _ q1040)) dX4_oneTick_87 ?_
      refine lv_iload hx hb dX4_oneTick_90 (lv_at hl 5 rfl) ?_
      refine lv_iconst hx hb dX4_oneTick_92 gz_ic_1 ?_
      refine lv_iadd hx hb dX4_oneTick_93 ?_
      obtain ⟨v5, e5, h⟩ := g_bind h
      refine gr_miald cx hf hI 48 rfl rfl rfl (nr_aI e5) dX4_oneTick_94 ?_
      obtain ⟨M6, e6, h⟩ := g_bind h
      refine gr_miast cx hf hI 48 rfl rfl rfl (nr_sI e6) dX4_oneTick_95 (fun H locs hI => ?_)
      refine gr_aload_n hx hb (some (gg_o G)) dX4_oneTick_96 rfl (lv_at hl 0 rfl) ?_
      refine gr_mgA cx hf hI 49 rfl rfl (Or.inl (hts _ q1041)) dX4_oneTick_97 ?_
      refine lv_iload hx hb dX4_oneTick_100 (lv_at hl 5 rfl) ?_
      refine gr_aload_n hx hb (some (gg_o G)) dX4_oneTick_102 rfl (lv_at hl 0 rfl) ?_
      refine gr_mgA cx hf hI 49 rfl rfl (Or.inl (hts _ q1041)) dX4_oneTick_103 ?_
      refine lv_iload hx hb dX4_oneTick_106 (lv_at hl 5 rfl) ?_
      refine lv_iconst hx hb dX4_oneTick_108 gz_ic_1 ?_
      refine lv_iadd hx hb dX4_oneTick_109 ?_
      obtain ⟨v9, e9, h⟩ := g_bind h
      refine gr_miald cx hf hI 49 rfl rfl rfl (nr_aI e9) dX4_oneTick_110 ?_
      obtain ⟨M10, e10, h⟩ := g_bind h
      refine gr_miast cx hf hI 49 rfl rfl rfl (nr_sI e10) dX4_oneTick_111 (fun H locs hI => ?_)
      refine gz_iinc (k := 5) (v := (x5 + (1 : Int32))) hx hb dX4_oneTick_112 hl rfl (congrArg (fun z => x5 + z) gz_ic_1) (by decide) [0, 1, 2, 3, 4] rfl (gz_con ⟨gz_ne rfl, Or.inl (gz_ne rfl)⟩ (gz_con ⟨gz_ne rfl, Or.inl (gz_ne rfl)⟩ (gz_con ⟨gz_ne rfl, Or.inl (gz_ne rfl)⟩ (gz_con ⟨gz_ne rfl, Or.inl (gz_ne rfl)⟩ (gz_con ⟨gz_ne rfl, Or.inr rfl⟩ gz_nil))))) (fun ls hl => ?_)
      refine lv_goto (tgt := 71) hx hb dX4_oneTick_115 rfl ?_
      exact ih _ _ _ _ _ _ h p e s m args below meth c H locs cells slots ls cx hnm hex hI (lv_sub hl [1, 2, 3, 4, 5, 0] rfl)
theorem T_X4_oneTick_19 {l : Launch} {G : gG} {S0 S : gm_S} {d0 fu : Nat} {r : Outcome × gM} (hf : gg_f G = true) (hD : 9 ≤ d0) : ∀ (n : Nat) (x1 : Int32) (x2 : Int32) (x3 : Int32) (M : gM), F_X4_oneTick_19 fu n x1 x2 x3 M = some r → B_X4_oneTick l d0 G S0 19 [(0, va_rf (some (gg_o G))), (1, .int x1), (2, .int x2), (3, .int x3)] [] (gm_w S M) r.1 (gm_w S r.2) := by
  intro n
  induction n with
  | zero => intro x1 x2 x3 M h; exact nomatch (show (none : gQ) = some r from h)
  | succ n ih =>
    intro x1 x2 x3 M h
    rw [F_X4_oneTick_19] at h
    intro p e s m args below meth c H locs cells slots ls cx hnm hex hI hl
    have hx := cx.1
    have hb := cx.2.1
    have hown := cx.2.2.2.1
    have hts := cx.2.2.2.2.1
    have hK := cx.2.2.2.2.2.1
    refine lv_iload_n hx hb dX4_oneTick_19 rfl (lv_at hl 3 rfl) ?_
    refine lv_iload_n hx hb dX4_oneTick_20 rfl (lv_at hl 1 rfl) ?_
    refine lv_icmp_ge (tgt := 130) hx hb dX4_oneTick_21 rfl (fun hc => ?_) (fun hc => ?_)
    · have h := gz_t h hc
      cases h
      exact gr_vret cx hI dX4_oneTick_130
    · have h := gz_f h hc
      refine gr_aload_n hx hb (some (gg_o G)) dX4_oneTick_24 rfl (lv_at hl 0 rfl) ?_
      refine nr_gI cx hf hI 52 rfl (fun _ => rfl) rfl (Or.inl (hts _ q1044)) dX4_oneTick_25 ?_
      refine lv_if_ne (tgt := 130) hx hb dX4_oneTick_28 rfl (fun hc => ?_) (fun hc => ?_)
      · have h := gz_f h hc
        cases h
        exact gr_vret cx hI dX4_oneTick_130
      · have h := gz_t h hc
        refine gr_aload_n hx hb (some (gg_o G)) dX4_oneTick_31 rfl (lv_at hl 0 rfl) ?_
        refine gr_mgA cx hf hI 49 rfl rfl (Or.inl (hts _ q1041)) dX4_oneTick_32 ?_
        refine lv_iload_n hx hb dX4_oneTick_35 rfl (lv_at hl 2 rfl) ?_
        obtain ⟨v3, e3, h⟩ := g_bind h
        refine gr_miald cx hf hI 49 rfl rfl rfl (nr_aI e3) dX4_oneTick_36 ?_
        refine gr_aload_n hx hb (some (gg_o G)) dX4_oneTick_37 rfl (lv_at hl 0 rfl) ?_
        refine nr_gI cx hf hI 50 rfl (fun _ => rfl) rfl (Or.inl (hts _ q1042)) dX4_oneTick_38 ?_
        refine lv_icmp_le (tgt := 50) hx hb dX4_oneTick_41 rfl (fun hc => ?_) (fun hc => ?_)
        · have h := gz_t h hc
          refine gr_aload_n hx hb (some (gg_o G)) dX4_oneTick_50 rfl (lv_at hl 0 rfl) ?_
          refine gr_mgA cx hf hI 48 rfl rfl (Or.inl (hts _ q1040)) dX4_oneTick_51 ?_
          refine lv_iload_n hx hb dX4_oneTick_54 rfl (lv_at hl 2 rfl) ?_
          obtain ⟨v6, e6, h⟩ := g_bind h
          refine gr_miald cx hf hI 48 rfl rfl rfl (nr_aI e6) dX4_oneTick_55 ?_
          refine gz_istore hx hb dX4_oneTick_56 hl (by decide) [0, 1, 2, 3] rfl (gz_con ⟨gz_ne rfl, Or.inl (gz_ne rfl)⟩ (gz_con ⟨gz_ne rfl, Or.inl (gz_ne rfl)⟩ (gz_con ⟨gz_ne rfl, Or.inl (gz_ne rfl)⟩ (gz_con ⟨gz_ne rfl, Or.inr rfl⟩ gz_nil)))) (fun ls hl => ?_)
          refine gr_aload_n hx hb (some (gg_o G)) dX4_oneTick_58 rfl (lv_at hl 1 rfl) ?_
          refine lv_dup hx hb dX4_oneTick_59 (gl_cat (some (gg_o G))) ?_
          refine nr_gI cx hf hI 47 rfl (fun _ => rfl) rfl (Or.inl (hts _ q1039)) dX4_oneTick_60 ?_
          refine lv_iconst hx hb dX4_oneTick_63 gz_ic_1 ?_
          refine lv_isub hx hb dX4_oneTick_64 ?_
          obtain ⟨M8, e8, h⟩ := g_bind h
          refine nr_pI cx hf hI 47 rfl rfl rfl (Or.inl (hts _ q1039)) e8 dX4_oneTick_65 (fun H locs hI => ?_)
          refine lv_iload_n hx hb dX4_oneTick_68 rfl (lv_at hl 3 rfl) ?_
          refine gz_istore hx hb dX4_oneTick_69 hl (by decide) [0, 1, 2, 3, 4] rfl (gz_con ⟨gz_ne rfl, Or.inr rfl⟩ (gz_con ⟨gz_ne rfl, Or.inl (gz_ne rfl)⟩ (gz_con ⟨gz_ne rfl, Or.inl (gz_ne rfl)⟩ (gz_con ⟨gz_ne rfl, Or.inl (gz_ne rfl)⟩ (gz_con ⟨gz_ne rfl, Or.inl (gz_ne rfl)⟩ gz_nil))))) (fun ls hl => ?_)
          exact T_X4_oneTick_71 hf hD ih fu _ _ _ _ _ _ h p e s m args below meth c H locs cells slots ls cx hnm hex hI (lv_sub hl [2, 3, 4, 5, 1, 0] rfl)
        · have h := gz_f h hc
          refine gz_iinc (k := 2) (v := (x2 + (1 : Int32))) hx hb dX4_oneTick_44 hl rfl (congrArg (fun z => x2 + z) gz_ic_1) (by decide) [0, 1, 3] rfl (gz_con ⟨gz_ne rfl, Or.inl (gz_ne rfl)⟩ (gz_con ⟨gz_ne rfl, Or.inr rfl⟩ (gz_con ⟨gz_ne rfl, Or.inl (gz_ne rfl)⟩ gz_nil))) (fun ls hl => ?_)
          refine lv_goto (tgt := 124) hx hb dX4_oneTick_47 rfl ?_
          refine gz_iinc (k := 3) (v := (x3 + (1 : Int32))) hx hb dX4_oneTick_124 hl rfl (congrArg (fun z => x3 + z) gz_ic_1) (by decide) [0, 1, 2] rfl (gz_con ⟨gz_ne rfl, Or.inr rfl⟩ (gz_con ⟨gz_ne rfl, Or.inl (gz_ne rfl)⟩ (gz_con ⟨gz_ne rfl, Or.inl (gz_ne rfl)⟩ gz_nil))) (fun ls hl => ?_)
          refine lv_goto (tgt := 19) hx hb dX4_oneTick_127 rfl ?_
          exact ih _ _ _ _ h p e s m args below meth c H locs cells slots ls cx hnm hex hI (lv_sub hl [2, 3, 1, 0] rfl)
theorem T_X4_oneTick {l : Launch} {G : gG} {S0 S : gm_S} {d0 fu : Nat} {r : Outcome × gM} (hf : gg_f G = true) (hD : 9 ≤ d0)  {M : gM} (h : F_X4_oneTick fu  M = some r) : B_X4_oneTick l d0 G S0 0 [(0, va_rf (some (gg_o G)))] [] (gm_w S M) r.1 (gm_w S r.2) := by
  unfold F_X4_oneTick at h
  intro p e s m args below meth c H locs cells slots ls cx hnm hex hI hl
  have hx := cx.1
  have hb := cx.2.1
  have hown := cx.2.2.2.1
  have hts := cx.2.2.2.2.1
  have hK := cx.2.2.2.2.2.1
  refine gr_aload_n hx hb (some (gg_o G)) dX4_oneTick_0 rfl (lv_at hl 0 rfl) ?_
  refine lv_dup hx hb dX4_oneTick_1 (gl_cat (some (gg_o G))) ?_
  refine nr_gI cx hf hI 50 rfl (fun _ => rfl) rfl (Or.inl (hts _ q1042)) dX4_oneTick_2 ?_
  refine lv_iconst hx hb dX4_oneTick_5 gz_ic_1 ?_
  refine lv_iadd hx hb dX4_oneTick_6 ?_
  obtain ⟨M2, e2, h⟩ := g_bind h
  refine nr_pI cx hf hI 50 rfl rfl rfl (Or.inl (hts _ q1042)) e2 dX4_oneTick_7 (fun H locs hI => ?_)
  refine gr_aload_n hx hb (some (gg_o G)) dX4_oneTick_10 rfl (lv_at hl 0 rfl) ?_
  refine nr_gI cx hf hI 47 rfl (fun _ => rfl) rfl (Or.inl (hts _ q1039)) dX4_oneTick_11 ?_
  refine gz_istore_n hx hb dX4_oneTick_14 rfl hl (by decide) [0] rfl (gz_con ⟨gz_ne rfl, Or.inr (gl_cat (some (gg_o G)))⟩ gz_nil) (fun ls hl => ?_)
  refine lv_iconst hx hb dX4_oneTick_15 gz_ic_0 ?_
  refine gz_istore_n hx hb dX4_oneTick_16 rfl hl (by decide) [0, 1] rfl (gz_con ⟨gz_ne rfl, Or.inr rfl⟩ (gz_con ⟨gz_ne rfl, Or.inl (gz_ne rfl)⟩ gz_nil)) (fun ls hl => ?_)
  refine lv_iconst hx hb dX4_oneTick_17 gz_ic_0 ?_
  refine gz_istore_n hx hb dX4_oneTick_18 rfl hl (by decide) [0, 1, 2] rfl (gz_con ⟨gz_ne rfl, Or.inr rfl⟩ (gz_con ⟨gz_ne rfl, Or.inl (gz_ne rfl)⟩ (gz_con ⟨gz_ne rfl, Or.inl (gz_ne rfl)⟩ gz_nil))) (fun ls hl => ?_)
  exact T_X4_oneTick_19 hf hD fu _ _ _ _ h p e s m args below meth c H locs cells slots ls cx hnm hex hI (lv_sub hl [3, 2, 1, 0] rfl)
theorem M_X4_oneTick {l : Launch} {G : gG} {fu d0 : Nat} (hf : gg_f G = true) (hfl : l.flags = flags0) (hD : 9 ≤ d0)  {S : gm_S} {M : gM} {o : Outcome} {M2 : gM} (h : F_X4_oneTick fu  M = some (o, M2)) : gx_Met l yX4_oneTick (ws_ yX4_oneTick cX4_oneTick 6 (Option.none : Option Jvm.ClassFile.FieldType)) d0 G (gm_w S M) [va_rf (some (gg_o G))] o (gm_w S M2) := by
  refine gx_of hfl (by decide) (fun p e s m below meth c cx hnm hex hI => ?_)
  rw [lg_entry_eq]
  exact T_X4_oneTick (r := (o, M2)) hf hD h p e s m _ below meth c _ _ _ _ _ cx hnm (gz_nh0 hex) hI (lv_entry _ (Nat.le_of_ble_eq_true rfl))
theorem C_X4_oneTick {p : Program} {l : Launch} {e : Env} {s : State} {m : MethodId} {args : Array Value} {below : List Frame} {meth : Method} {c : Code} {H : Heap} {locs : List Loc} {cells slots : Nat} {cc : ByteArray} {pc nL : Nat} {ls : Array Slot} {rest : List Value} {G : gG} {S0 S : gm_S} {own : String} {ret : Option FieldType} {d0 index fu : Nat} {M : gM}  {k : gM → gQ} {r : Outcome × gM} (hf : gg_f G = true) (cx : gx_cx p l s m args meth c G own cc nL ret) (hex : ∀ x ∈ c.exceptionTable.toList, covers x pc = false) (hI : gw_I G S0 (gm_w S M) H locs cells slots) (hl : gl_M own index yX4_oneTick args s) (hlv : ls.size = nL) (hrest : (rest.map fun v => v.category).sum ≤ 8) (hD : 10 ≤ d0) (hdg : decode cc pc = .ok (.invokevirtual index, 3)) (h : gz_cV (F_X4_oneTick fu  M) k = some r)
    (kk : ∀ (z : gM), k z = some r → ∀ (H : Heap) (locs : List Loc) (cells slots : Nat), gw_I G S0 (gm_w S z) H locs cells slots → W p l e (gx_rm d0 S0) s m args below meth c H locs cells slots (gx_MQ below G S0 (gm_w S r.2) r.1 s) (F0 m (pc + 3) ls rest)) : W p l e (gx_rm d0 S0) s m args below meth c H locs cells slots (gx_MQ below G S0 (gm_w S r.2) r.1 s) (F0 m pc ls (va_rf (some (gg_o G)) :: rest)) := by
  have hts := cx.2.2.2.2.1
  have hK := cx.2.2.2.2.2.1
  exact gz_goV (d := d0 - 1) (gm_w S) cx hex hI hlv hrest (by omega) (Nat.le_of_ble_eq_true rfl) (gz_ws (lw_meth q1378) hts) (hts _ q78) (gb_rawV (As := []) cx hl (hts _ q1377) (hts _ qs69) (gl_C.code (hts _ q1378)) hy_X4_oneTick (gr_recvM hK hI.1 hf) rfl rfl hdg) (fun o S2 e => M_X4_oneTick hf cx.2.2.2.2.2.2.2.2 (by omega) e) h kk
abbrev B_X4_place (l : Launch) (d0 : Nat) (G : gG) (S0 : gm_S) : Nat → List (Nat × Value) → List Value → gm_S → Outcome → gm_S → Prop := gz_B l RX4 "place" cX4_place 1 (Option.some Jvm.ClassFile.FieldType.int) [] d0 G S0
theorem T_X4_place {l : Launch} {G : gG} {S0 S : gm_S} {d0 fu : Nat} {r : Outcome × gM} (hf : gg_f G = true) (hD : 2 ≤ d0)  {M : gM} (h : F_X4_place fu  M = some r) : B_X4_place l d0 G S0 0 [(0, va_rf (some (gg_o G)))] [] (gm_w S M) r.1 (gm_w S r.2) := by
  unfold F_X4_place at h
  intro p e s m args below meth c H locs cells slots ls cx hnm hex hI hl
  have hx := cx.1
  have hb := cx.2.1
  have hown := cx.2.2.2.1
  have hts := cx.2.2.2.2.1
  have hK := cx.2.2.2.2.2.1
  refine gr_aload_n hx hb (some (gg_o G)) dX4_place_0 rfl (lv_at hl 0 rfl) ?_
  refine lv_iconst hx hb dX4_place_1 gz_ic_0 ?_
  obtain ⟨M1, e1, h⟩ := g_bind h
  refine nr_pI cx hf hI 0 rfl rfl rfl (Or.inl (hts _ q992)) e1 dX4_place_2 (fun H locs hI => ?_)
  refine gr_aload_n hx hb (some (gg_o G)) dX4_place_5 rfl (lv_at hl 0 rfl) ?_
  refine nr_gI cx hf hI 6 rfl (fun _ => rfl) rfl (Or.inl (hts _ q998)) dX4_place_6 ?_
  cases h
  exact gr_iret cx hI dX4_place_9
theorem M_X4_place {l : Launch} {G : gG} {fu d0 : Nat} (hf : gg_f G = true) (hfl : l.flags = flags0) (hD : 2 ≤ d0)  {S : gm_S} {M : gM} {o : Outcome} {M2 : gM} (h : F_X4_place fu  M = some (o, M2)) : gx_Met l yX4_place (ws_ yX4_place cX4_place 1 (Option.some Jvm.ClassFile.FieldType.int)) d0 G (gm_w S M) [va_rf (some (gg_o G))] o (gm_w S M2) := by
  refine gx_of hfl (by decide) (fun p e s m below meth c cx hnm hex hI => ?_)
  rw [lg_entry_eq]
  exact T_X4_place (r := (o, M2)) hf hD h p e s m _ below meth c _ _ _ _ _ cx hnm (gz_nh0 hex) hI (lv_entry _ (Nat.le_of_ble_eq_true rfl))
abbrev B_X4_runs (l : Launch) (d0 : Nat) (G : gG) (S0 : gm_S) : Nat → List (Nat × Value) → List Value → gm_S → Outcome → gm_S → Prop := gz_B l RX4 "runs" cX4_runs 1 (Option.some Jvm.ClassFile.FieldType.boolean) [] d0 G S0
theorem T_X4_runs {l : Launch} {G : gG} {S0 S : gm_S} {d0 fu : Nat} {r : Outcome × gM} (hf : gg_f G = true) (hD : 2 ≤ d0)  {M : gM} (h : F_X4_runs fu  M = some r) : B_X4_runs l d0 G S0 0 [(0, va_rf (some (gg_o G)))] [] (gm_w S M) r.1 (gm_w S r.2) := by
  unfold F_X4_runs at h
  intro p e s m args below meth c H locs cells slots ls cx hnm hex hI hl
  have hx := cx.1
  have hb := cx.2.1
  have hown := cx.2.2.2.1
  have hts := cx.2.2.2.2.1
  have hK := cx.2.2.2.2.2.1
  refine gr_aload_n hx hb (some (gg_o G)) dX4_runs_0 rfl (lv_at hl 0 rfl) ?_
  refine lv_iconst hx hb dX4_runs_1 gz_ic_0 ?_
  obtain ⟨M1, e1, h⟩ := g_bind h
  refine nr_pI cx hf hI 0 rfl rfl rfl (Or.inl (hts _ q992)) e1 dX4_runs_2 (fun H locs hI => ?_)
  refine gr_aload_n hx hb (some (gg_o G)) dX4_runs_5 rfl (lv_at hl 0 rfl) ?_
  refine nr_gI cx hf hI 40 rfl (fun _ => rfl) rfl (Or.inl (hts _ q1032)) dX4_runs_6 ?_
  obtain ⟨hz, h⟩ := g_ifs h
  cases h
  exact gr_zret cx hz hI dX4_runs_9
theorem M_X4_runs {l : Launch} {G : gG} {fu d0 : Nat} (hf : gg_f G = true) (hfl : l.flags = flags0) (hD : 2 ≤ d0)  {S : gm_S} {M : gM} {o : Outcome} {M2 : gM} (h : F_X4_runs fu  M = some (o, M2)) : gx_Met l yX4_runs (ws_ yX4_runs cX4_runs 1 (Option.some Jvm.ClassFile.FieldType.boolean)) d0 G (gm_w S M) [va_rf (some (gg_o G))] o (gm_w S M2) := by
  refine gx_of hfl (by decide) (fun p e s m below meth c cx hnm hex hI => ?_)
  rw [lg_entry_eq]
  exact T_X4_runs (r := (o, M2)) hf hD h p e s m _ below meth c _ _ _ _ _ cx hnm (gz_nh0 hex) hI (lv_entry _ (Nat.le_of_ble_eq_true rfl))
abbrev B_X4_sent (l : Launch) (d0 : Nat) (G : gG) (S0 : gm_S) : Nat → List (Nat × Value) → List Value → gm_S → Outcome → gm_S → Prop := gz_B l RX4 "sent" cX4_sent 1 (Option.some Jvm.ClassFile.FieldType.int) [] d0 G S0
theorem T_X4_sent {l : Launch} {G : gG} {S0 S : gm_S} {d0 fu : Nat} {r : Outcome × gM} (hf : gg_f G = true) (hD : 2 ≤ d0)  {M : gM} (h : F_X4_sent fu  M = some r) : B_X4_sent l d0 G S0 0 [(0, va_rf (some (gg_o G)))] [] (gm_w S M) r.1 (gm_w S r.2) := by
  unfold F_X4_sent at h
  intro p e s m args below meth c H locs cells slots ls cx hnm hex hI hl
  have hx := cx.1
  have hb := cx.2.1
  have hown := cx.2.2.2.1
  have hts := cx.2.2.2.2.1
  have hK := cx.2.2.2.2.2.1
  refine gr_aload_n hx hb (some (gg_o G)) dX4_sent_0 rfl (lv_at hl 0 rfl) ?_
  refine lv_iconst hx hb dX4_sent_1 gz_ic_0 ?_
  obtain ⟨M1, e1, h⟩ := g_bind h
  refine nr_pI cx hf hI 0 rfl rfl rfl (Or.inl (hts _ q992)) e1 dX4_sent_2 (fun H locs hI => ?_)
  refine gr_aload_n hx hb (some (gg_o G)) dX4_sent_5 rfl (lv_at hl 0 rfl) ?_
  refine nr_gI cx hf hI 47 rfl (fun _ => rfl) rfl (Or.inl (hts _ q1039)) dX4_sent_6 ?_
  cases h
  exact gr_iret cx hI dX4_sent_9
theorem M_X4_sent {l : Launch} {G : gG} {fu d0 : Nat} (hf : gg_f G = true) (hfl : l.flags = flags0) (hD : 2 ≤ d0)  {S : gm_S} {M : gM} {o : Outcome} {M2 : gM} (h : F_X4_sent fu  M = some (o, M2)) : gx_Met l yX4_sent (ws_ yX4_sent cX4_sent 1 (Option.some Jvm.ClassFile.FieldType.int)) d0 G (gm_w S M) [va_rf (some (gg_o G))] o (gm_w S M2) := by
  refine gx_of hfl (by decide) (fun p e s m below meth c cx hnm hex hI => ?_)
  rw [lg_entry_eq]
  exact T_X4_sent (r := (o, M2)) hf hD h p e s m _ below meth c _ _ _ _ _ cx hnm (gz_nh0 hex) hI (lv_entry _ (Nat.le_of_ble_eq_true rfl))
abbrev B_X4_start (l : Launch) (d0 : Nat) (G : gG) (S0 : gm_S) : Nat → List (Nat × Value) → List Value → gm_S → Outcome → gm_S → Prop := gz_B l RX4 "start" cX4_start 1 (Option.some Jvm.ClassFile.FieldType.int) [] d0 G S0
theorem T_X4_start_13 {l : Launch} {G : gG} {S0 S : gm_S} {d0 fu : Nat} {r : Outcome × gM} (hf : gg_f G = true) (hD : 8 ≤ d0) {s0 : Int32} {M : gM} (h : F_X4_start_13 fu s0 M = some r) : B_X4_start l d0 G S0 13 [(0, va_rf (some (gg_o G)))] [.int s0, va_rf (some (gg_o G))] (gm_w S M) r.1 (gm_w S r.2) := by
  unfold F_X4_start_13 at h
  intro p e s m args below meth c H locs cells slots ls cx hnm hex hI hl
  have hx := cx.1
  have hb := cx.2.1
  have hown := cx.2.2.2.1
  have hts := cx.2.2.2.2.1
  have hK := cx.2.2.2.2.2.1
  obtain ⟨M1, e1, h⟩ := g_bind h
  refine nr_pI cx hf hI 0 rfl rfl rfl (Or.inl (hts _ q992)) e1 dX4_start_13 (fun H locs hI => ?_)
  refine gr_aload_n hx hb (some (gg_o G)) dX4_start_16 rfl (lv_at hl 0 rfl) ?_
  refine nr_gI cx hf hI 7 rfl (fun _ => rfl) rfl (Or.inl (hts _ q999)) dX4_start_17 ?_
  refine lv_if_ge (tgt := 25) hx hb dX4_start_20 rfl (fun hc => ?_) (fun hc => ?_)
  · have h := gz_t h hc
    refine gr_aload_n hx hb (some (gg_o G)) dX4_start_25 rfl (lv_at hl 0 rfl) ?_
    refine C_X4_forget hf cx (gz_nh hex) hI (Or.inl (hts _ q1261)) hl.1 (gz_cs (Nat.le_of_ble_eq_true rfl)) (by omega) dX4_start_26 h (fun M3 h H locs cells slots hI => ?_)
    refine gr_aload_n hx hb (some (gg_o G)) dX4_start_29 rfl (lv_at hl 0 rfl) ?_
    refine lv_iconst hx hb dX4_start_30 gz_ic_1 ?_
    obtain ⟨M4, e4, h⟩ := g_bind h
    refine nr_pZ cx hf hI 40 rfl rfl rfl (Or.inl (hts _ q1032)) e4 dX4_start_31 (fun H locs hI => ?_)
    refine gr_aload_n hx hb (some (gg_o G)) dX4_start_34 rfl (lv_at hl 0 rfl) ?_
    refine lv_iconst hx hb dX4_start_35 gz_ic_0 ?_
    obtain ⟨M5, e5, h⟩ := g_bind h
    refine nr_pI cx hf hI 41 rfl rfl rfl (Or.inl (hts _ q1033)) e5 dX4_start_36 (fun H locs hI => ?_)
    refine gr_aload_n hx hb (some (gg_o G)) dX4_start_39 rfl (lv_at hl 0 rfl) ?_
    refine C_X4_open hf cx (gz_nh hex) hI (Or.inl (hts _ q1273)) hl.1 (gz_cs (Nat.le_of_ble_eq_true rfl)) (by omega) dX4_start_40 h (fun M6 h H locs cells slots hI => ?_)
    refine gr_aload_n hx hb (some (gg_o G)) dX4_start_43 rfl (lv_at hl 0 rfl) ?_
    refine lv_iconst hx hb dX4_start_44 gz_ic_0 ?_
    obtain ⟨M7, e7, h⟩ := g_bind h
    refine nr_pI cx hf hI 60 rfl rfl rfl (Or.inl (hts _ q1052)) e7 dX4_start_45 (fun H locs hI => ?_)
    refine gr_aload_n hx hb (some (gg_o G)) dX4_start_48 rfl (lv_at hl 0 rfl) ?_
    refine lv_iconst hx hb dX4_start_49 gz_ic_0 ?_
    refine C_X4_down hf cx (gz_nh hex) hI (Or.inl (hts _ q1277)) hl.1 (gz_cs (Nat.le_of_ble_eq_true rfl)) (by omega) dX4_start_50 h (fun M8 h H locs cells slots hI => ?_)
    refine gr_aload_n hx hb (some (gg_o G)) dX4_start_53 rfl (lv_at hl 0 rfl) ?_
    refine gr_aload_n hx hb (some (gg_o G)) dX4_start_54 rfl (lv_at hl 0 rfl) ?_
    refine nr_gI cx hf hI 60 rfl (fun _ => rfl) rfl (Or.inl (hts _ q1052)) dX4_start_55 ?_
    refine C_X4_enter hf cx (gz_nh hex) hI (Or.inl (hts _ q1293)) hl.1 (gz_cs (Nat.le_of_ble_eq_true rfl)) (by omega) dX4_start_58 h (fun M10 h H locs cells slots hI => ?_)
    refine gr_aload_n hx hb (some (gg_o G)) dX4_start_61 rfl (lv_at hl 0 rfl) ?_
    refine C_X4_runOn hf cx (gz_nh hex) hI (Or.inl (hts _ q1315)) hl.1 (gz_cs (Nat.le_of_ble_eq_true rfl)) (by omega) dX4_start_62 h (fun M11 h H locs cells slots hI => ?_)
    refine gr_aload_n hx hb (some (gg_o G)) dX4_start_65 rfl (lv_at hl 0 rfl) ?_
    refine lv_iconst hx hb dX4_start_66 gz_ic_2 ?_
    refine C_X4_answer hf cx (gz_nh hex) hI (Or.inl (hts _ q1359)) hl.1 (gz_cs (Nat.le_of_ble_eq_true rfl)) (by omega) dX4_start_67 h (fun v12 M12 h H locs cells slots hI => ?_)
    cases h
    exact gr_iret cx hI dX4_start_70
  · have h := gz_f h hc
    refine lv_iconst hx hb dX4_start_23 gz_ic_0 ?_
    cases h
    exact gr_iret cx hI dX4_start_24
theorem T_X4_start {l : Launch} {G : gG} {S0 S : gm_S} {d0 fu : Nat} {r : Outcome × gM} (hf : gg_f G = true) (hD : 8 ≤ d0)  {M : gM} (h : F_X4_start fu  M = some r) : B_X4_start l d0 G S0 0 [(0, va_rf (some (gg_o G)))] [] (gm_w S M) r.1 (gm_w S r.2) := by
  unfold F_X4_start at h
  intro p e s m args below meth c H locs cells slots ls cx hnm hex hI hl
  have hx := cx.1
  have hb := cx.2.1
  have hown := cx.2.2.2.1
  have hts := cx.2.2.2.2.1
  have hK := cx.2.2.2.2.2.1
  refine gr_aload_n hx hb (some (gg_o G)) dX4_start_0 rfl (lv_at hl 0 rfl) ?_
  refine gr_aload_n hx hb (some (gg_o G)) dX4_start_1 rfl (lv_at hl 0 rfl) ?_
  refine nr_gI cx hf hI 7 rfl (fun _ => rfl) rfl (Or.inl (hts _ q999)) dX4_start_2 ?_
  refine lv_if_ge (tgt := 12) hx hb dX4_start_5 rfl (fun hc => ?_) (fun hc => ?_)
  · have h := gz_t h hc
    refine lv_iconst hx hb dX4_start_12 gz_ic_0 ?_
    exact T_X4_start_13 hf hD h p e s m args below meth c H locs cells slots ls cx hnm hex hI hl
  · have h := gz_f h hc
    refine lv_iconst hx hb dX4_start_8 gz_ic_1 ?_
    refine lv_goto (tgt := 13) hx hb dX4_start_9 rfl ?_
    exact T_X4_start_13 hf hD h p e s m args below meth c H locs cells slots ls cx hnm hex hI hl
theorem M_X4_start {l : Launch} {G : gG} {fu d0 : Nat} (hf : gg_f G = true) (hfl : l.flags = flags0) (hD : 8 ≤ d0)  {S : gm_S} {M : gM} {o : Outcome} {M2 : gM} (h : F_X4_start fu  M = some (o, M2)) : gx_Met l yX4_start (ws_ yX4_start cX4_start 1 (Option.some Jvm.ClassFile.FieldType.int)) d0 G (gm_w S M) [va_rf (some (gg_o G))] o (gm_w S M2) := by
  refine gx_of hfl (by decide) (fun p e s m below meth c cx hnm hex hI => ?_)
  rw [lg_entry_eq]
  exact T_X4_start (r := (o, M2)) hf hD h p e s m _ below meth c _ _ _ _ _ cx hnm (gz_nh0 hex) hI (lv_entry _ (Nat.le_of_ble_eq_true rfl))
abbrev B_X4_thrown (l : Launch) (d0 : Nat) (G : gG) (S0 : gm_S) : Nat → List (Nat × Value) → List Value → gm_S → Outcome → gm_S → Prop := gz_B l RX4 "thrown" cX4_thrown 1 (Option.some Jvm.ClassFile.FieldType.int) [] d0 G S0
theorem T_X4_thrown {l : Launch} {G : gG} {S0 S : gm_S} {d0 fu : Nat} {r : Outcome × gM} (hf : gg_f G = true) (hD : 2 ≤ d0)  {M : gM} (h : F_X4_thrown fu  M = some r) : B_X4_thrown l d0 G S0 0 [(0, va_rf (some (gg_o G)))] [] (gm_w S M) r.1 (gm_w S r.2) := by
  unfold F_X4_thrown at h
  intro p e s m args below meth c H locs cells slots ls cx hnm hex hI hl
  have hx := cx.1
  have hb := cx.2.1
  have hown := cx.2.2.2.1
  have hts := cx.2.2.2.2.1
  have hK := cx.2.2.2.2.2.1
  refine gr_aload_n hx hb (some (gg_o G)) dX4_thrown_0 rfl (lv_at hl 0 rfl) ?_
  refine nr_gI cx hf hI 0 rfl (fun _ => rfl) rfl (Or.inl (hts _ q992)) dX4_thrown_1 ?_
  cases h
  exact gr_iret cx hI dX4_thrown_4
theorem M_X4_thrown {l : Launch} {G : gG} {fu d0 : Nat} (hf : gg_f G = true) (hfl : l.flags = flags0) (hD : 2 ≤ d0)  {S : gm_S} {M : gM} {o : Outcome} {M2 : gM} (h : F_X4_thrown fu  M = some (o, M2)) : gx_Met l yX4_thrown (ws_ yX4_thrown cX4_thrown 1 (Option.some Jvm.ClassFile.FieldType.int)) d0 G (gm_w S M) [va_rf (some (gg_o G))] o (gm_w S M2) := by
  refine gx_of hfl (by decide) (fun p e s m below meth c cx hnm hex hI => ?_)
  rw [lg_entry_eq]
  exact T_X4_thrown (r := (o, M2)) hf hD h p e s m _ below meth c _ _ _ _ _ cx hnm (gz_nh0 hex) hI (lv_entry _ (Nat.le_of_ble_eq_true rfl))
abbrev B_X4_tick (l : Launch) (d0 : Nat) (G : gG) (S0 : gm_S) : Nat → List (Nat × Value) → List Value → gm_S → Outcome → gm_S → Prop := gz_B l RX4 "tick" cX4_tick 3 (Option.some Jvm.ClassFile.FieldType.int) [] d0 G S0
theorem T_X4_tick_67 {l : Launch} {G : gG} {S0 S : gm_S} {d0 fu : Nat} {r : Outcome × gM} (hf : gg_f G = true) (hD : 10 ≤ d0)  {M : gM} (h : F_X4_tick_67 fu  M = some r) : B_X4_tick l d0 G S0 67 [(0, va_rf (some (gg_o G)))] [] (gm_w S M) r.1 (gm_w S r.2) := by
  unfold F_X4_tick_67 at h
  intro p e s m args below meth c H locs cells slots ls cx hnm hex hI hl
  have hx := cx.1
  have hb := cx.2.1
  have hown := cx.2.2.2.1
  have hts := cx.2.2.2.2.1
  have hK := cx.2.2.2.2.2.1
  refine gr_aload_n hx hb (some (gg_o G)) dX4_tick_67 rfl (lv_at hl 0 rfl) ?_
  refine lv_iconst hx hb dX4_tick_68 gz_ic_3 ?_
  refine C_X4_answer hf cx (gz_nh hex) hI (Or.inl (hts _ q1359)) hl.1 (gz_cs (Nat.le_of_ble_eq_true rfl)) (by omega) dX4_tick_69 h (fun v1 M1 h H locs cells slots hI => ?_)
  cases h
  exact gr_iret cx hI dX4_tick_72
theorem T_X4_tick_45 {l : Launch} {G : gG} {S0 S : gm_S} {d0 fu : Nat} {r : Outcome × gM} (hf : gg_f G = true) (hD : 10 ≤ d0) : ∀ (n : Nat) (x1 : Int32) (x2 : Int32) (M : gM), F_X4_tick_45 fu n x1 x2 M = some r → B_X4_tick l d0 G S0 45 [(0, va_rf (some (gg_o G))), (1, .int x1), (2, .int x2)] [] (gm_w S M) r.1 (gm_w S r.2) := by
  intro n
  induction n with
  | zero => intro x1 x2 M h; exact nomatch (show (none : gQ) = some r from h)
  | succ n ih =>
    intro x1 x2 M h
    rw [F_X4_tick_45] at h
    intro p e s m args below meth c H locs cells slots ls cx hnm hex hI hl
    have hx := cx.1
    have hb := cx.2.1
    have hown := cx.2.2.2.1
    have hts := cx.2.2.2.2.1
    have hK := cx.2.2.2.2.2.1
    refine lv_iload_n hx hb dX4_tick_45 rfl (lv_at hl 2 rfl) ?_
    refine lv_iload_n hx hb dX4_tick_46 rfl (lv_at hl 1 rfl) ?_
    refine lv_icmp_ge (tgt := 67) hx hb dX4_tick_47 rfl (fun hc => ?_) (fun hc => ?_)
    · have h := gz_t h hc
      exact T_X4_tick_67 hf hD h p e s m args below meth c H locs cells slots ls cx hnm hex hI (lv_sub hl [0] rfl)
    · have h := gz_f h hc
      refine gr_aload_n hx hb (some (gg_o G)) dX4_tick_50 rfl (lv_at hl 0 rfl) ?_
      refine nr_gI cx hf hI 52 rfl (fun _ => rfl) rfl (Or.inl (hts _ q1044)) dX4_tick_51 ?_
      refine lv_if_ne (tgt := 67) hx hb dX4_tick_54 rfl (fun hc => ?_) (fun hc => ?_)
      · have h := gz_f h hc
        exact T_X4_tick_67 hf hD h p e s m args below meth c H locs cells slots ls cx hnm hex hI (lv_sub hl [0] rfl)
      · have h := gz_t h hc
        refine gr_aload_n hx hb (some (gg_o G)) dX4_tick_57 rfl (lv_at hl 0 rfl) ?_
        refine C_X4_oneTick hf cx (gz_nh hex) hI (Or.inl (hts _ q1375)) hl.1 (gz_cs (Nat.le_of_ble_eq_true rfl)) (by omega) dX4_tick_58 h (fun M2 h H locs cells slots hI => ?_)
        refine gz_iinc (k := 2) (v := (x2 + (1 : Int32))) hx hb dX4_tick_61 hl rfl (congrArg (fun z => x2 + z) gz_ic_1) (by decide) [0, 1] rfl (gz_con ⟨gz_ne rfl, Or.inl (gz_ne rfl)⟩ (gz_con ⟨gz_ne rfl, Or.inr rfl⟩ gz_nil)) (fun ls hl => ?_)
        refine lv_goto (tgt := 45) hx hb dX4_tick_64 rfl ?_
        exact ih _ _ _ h p e s m args below meth c H locs cells slots ls cx hnm hex hI (lv_sub hl [1, 2, 0] rfl)
theorem T_X4_tick_27 {l : Launch} {G : gG} {S0 S : gm_S} {d0 fu : Nat} {r : Outcome × gM} (hf : gg_f G = true) (hD : 10 ≤ d0) {x1 : Int32} {s0 : Int32} {M : gM} (h : F_X4_tick_27 fu x1 s0 M = some r) : B_X4_tick l d0 G S0 27 [(0, va_rf (some (gg_o G))), (1, .int x1)] [.int s0, va_rf (some (gg_o G))] (gm_w S M) r.1 (gm_w S r.2) := by
  unfold F_X4_tick_27 at h
  intro p e s m args below meth c H locs cells slots ls cx hnm hex hI hl
  have hx := cx.1
  have hb := cx.2.1
  have hown := cx.2.2.2.1
  have hts := cx.2.2.2.2.1
  have hK := cx.2.2.2.2.2.1
  obtain ⟨M1, e1, h⟩ := g_bind h
  refine nr_pI cx hf hI 0 rfl rfl rfl (Or.inl (hts _ q992)) e1 dX4_tick_27 (fun H locs hI => ?_)
  refine gr_aload_n hx hb (some (gg_o G)) dX4_tick_30 rfl (lv_at hl 0 rfl) ?_
  refine nr_gI cx hf hI 0 rfl (fun _ => rfl) rfl (Or.inl (hts _ q992)) dX4_tick_31 ?_
  refine lv_if_eq (tgt := 39) hx hb dX4_tick_34 rfl (fun hc => ?_) (fun hc => ?_)
  · have h := gz_t h hc
    refine gr_aload_n hx hb (some (gg_o G)) dX4_tick_39 rfl (lv_at hl 0 rfl) ?_
    refine C_X4_open hf cx (gz_nh hex) hI (Or.inl (hts _ q1273)) hl.1 (gz_cs (Nat.le_of_ble_eq_true rfl)) (by omega) dX4_tick_40 h (fun M3 h H locs cells slots hI => ?_)
    refine lv_iconst hx hb dX4_tick_43 gz_ic_0 ?_
    refine gz_istore_n hx hb dX4_tick_44 rfl hl (by decide) [0, 1] rfl (gz_con ⟨gz_ne rfl, Or.inl (gz_ne rfl)⟩ (gz_con ⟨gz_ne rfl, Or.inr rfl⟩ gz_nil)) (fun ls hl => ?_)
    exact T_X4_tick_45 hf hD fu _ _ _ h p e s m args below meth c H locs cells slots ls cx hnm hex hI (lv_sub hl [1, 2, 0] rfl)
  · have h := gz_f h hc
    refine lv_iconst hx hb dX4_tick_37 gz_ic_0 ?_
    cases h
    exact gr_iret cx hI dX4_tick_38
theorem T_X4_tick {l : Launch} {G : gG} {S0 S : gm_S} {d0 fu : Nat} {r : Outcome × gM} (hf : gg_f G = true) (hD : 10 ≤ d0) {x1 : Int32} {M : gM} (h : F_X4_tick fu x1 M = some r) : B_X4_tick l d0 G S0 0 [(0, va_rf (some (gg_o G))), (1, .int x1)] [] (gm_w S M) r.1 (gm_w S r.2) := by
  unfold F_X4_tick at h
  intro p e s m args below meth c H locs cells slots ls cx hnm hex hI hl
  have hx := cx.1
  have hb := cx.2.1
  have hown := cx.2.2.2.1
  have hts := cx.2.2.2.2.1
  have hK := cx.2.2.2.2.2.1
  refine gr_aload_n hx hb (some (gg_o G)) dX4_tick_0 rfl (lv_at hl 0 rfl) ?_
  refine lv_iload_n hx hb dX4_tick_1 rfl (lv_at hl 1 rfl) ?_
  refine lv_if_lt (tgt := 11) hx hb dX4_tick_2 rfl (fun hc => ?_) (fun hc => ?_)
  · have h := gz_t h hc
    refine lv_iconst hx hb dX4_tick_11 gz_ic_1 ?_
    refine lv_goto (tgt := 27) hx hb dX4_tick_12 rfl ?_
    exact T_X4_tick_27 hf hD h p e s m args below meth c H locs cells slots ls cx hnm hex hI hl
  · have h := gz_f h hc
    refine lv_iload_n hx hb dX4_tick_5 rfl (lv_at hl 1 rfl) ?_
    refine lv_bipush hx hb dX4_tick_6 gz_bp_20 ?_
    refine lv_icmp_le (tgt := 15) hx hb dX4_tick_8 rfl (fun hc => ?_) (fun hc => ?_)
    · have h := gz_t h hc
      refine gr_aload_n hx hb (some (gg_o G)) dX4_tick_15 rfl (lv_at hl 0 rfl) ?_
      refine nr_gI cx hf hI 40 rfl (fun _ => rfl) rfl (Or.inl (hts _ q1032)) dX4_tick_16 ?_
      refine lv_if_ne (tgt := 26) hx hb dX4_tick_19 rfl (fun hc => ?_) (fun hc => ?_)
      · have h := gz_f h hc
        refine lv_iconst hx hb dX4_tick_26 gz_ic_0 ?_
        exact T_X4_tick_27 hf hD h p e s m args below meth c H locs cells slots ls cx hnm hex hI hl
      · have h := gz_t h hc
        refine lv_iconst hx hb dX4_tick_22 gz_ic_2 ?_
        refine lv_goto (tgt := 27) hx hb dX4_tick_23 rfl ?_
        exact T_X4_tick_27 hf hD h p e s m args below meth c H locs cells slots ls cx hnm hex hI hl
    · have h := gz_f h hc
      refine lv_iconst hx hb dX4_tick_11 gz_ic_1 ?_
      refine lv_goto (tgt := 27) hx hb dX4_tick_12 rfl ?_
      exact T_X4_tick_27 hf hD h p e s m args below meth c H locs cells slots ls cx hnm hex hI hl
theorem M_X4_tick {l : Launch} {G : gG} {fu d0 : Nat} (hf : gg_f G = true) (hfl : l.flags = flags0) (hD : 10 ≤ d0) {x1 : Int32} {S : gm_S} {M : gM} {o : Outcome} {M2 : gM} (h : F_X4_tick fu x1 M = some (o, M2)) : gx_Met l yX4_tick (ws_ yX4_tick cX4_tick 3 (Option.some Jvm.ClassFile.FieldType.int)) d0 G (gm_w S M) [va_rf (some (gg_o G)), .int x1] o (gm_w S M2) := by
  refine gx_of hfl (by decide) (fun p e s m below meth c cx hnm hex hI => ?_)
  rw [lg_entry_eq]
  exact T_X4_tick (r := (o, M2)) hf hD h p e s m _ below meth c _ _ _ _ _ cx hnm (gz_nh0 hex) hI (lv_entry _ (Nat.le_of_ble_eq_true rfl))
abbrev B_X4_trace (l : Launch) (d0 : Nat) (G : gG) (S0 : gm_S) : Nat → List (Nat × Value) → List Value → gm_S → Outcome → gm_S → Prop := gz_B l RX4 "trace" cX4_trace 2 (Option.some Jvm.ClassFile.FieldType.int) [] d0 G S0
theorem T_X4_trace {l : Launch} {G : gG} {S0 S : gm_S} {d0 fu : Nat} {r : Outcome × gM} (hf : gg_f G = true) (hD : 2 ≤ d0) {x1 : Int32} {M : gM} (h : F_X4_trace fu x1 M = some r) : B_X4_trace l d0 G S0 0 [(0, va_rf (some (gg_o G))), (1, .int x1)] [] (gm_w S M) r.1 (gm_w S r.2) := by
  unfold F_X4_trace at h
  intro p e s m args below meth c H locs cells slots ls cx hnm hex hI hl
  have hx := cx.1
  have hb := cx.2.1
  have hown := cx.2.2.2.1
  have hts := cx.2.2.2.2.1
  have hK := cx.2.2.2.2.2.1
  refine gr_aload_n hx hb (some (gg_o G)) dX4_trace_0 rfl (lv_at hl 0 rfl) ?_
  refine lv_iconst hx hb dX4_trace_1 gz_ic_0 ?_
  obtain ⟨M1, e1, h⟩ := g_bind h
  refine nr_pI cx hf hI 0 rfl rfl rfl (Or.inl (hts _ q992)) e1 dX4_trace_2 (fun H locs hI => ?_)
  refine lv_iload_n hx hb dX4_trace_5 rfl (lv_at hl 1 rfl) ?_
  refine lv_if_lt (tgt := 17) hx hb dX4_trace_6 rfl (fun hc => ?_) (fun hc => ?_)
  · have h := gz_t h hc
    refine lv_iconst hx hb dX4_trace_17 gz_ic_0 ?_
    refine lv_goto (tgt := 27) hx hb dX4_trace_18 rfl ?_
    cases h
    exact gr_iret cx hI dX4_trace_27
  · have h := gz_f h hc
    refine lv_iload_n hx hb dX4_trace_9 rfl (lv_at hl 1 rfl) ?_
    refine gr_aload_n hx hb (some (gg_o G)) dX4_trace_10 rfl (lv_at hl 0 rfl) ?_
    refine nr_gI cx hf hI 53 rfl (fun _ => rfl) rfl (Or.inl (hts _ q1045)) dX4_trace_11 ?_
    refine lv_icmp_lt (tgt := 21) hx hb dX4_trace_14 rfl (fun hc => ?_) (fun hc => ?_)
    · have h := gz_t h hc
      refine gr_aload_n hx hb (some (gg_o G)) dX4_trace_21 rfl (lv_at hl 0 rfl) ?_
      refine gr_mgA cx hf hI 54 rfl rfl (Or.inl (hts _ q1046)) dX4_trace_22 ?_
      refine lv_iload_n hx hb dX4_trace_25 rfl (lv_at hl 1 rfl) ?_
      obtain ⟨v4, e4, h⟩ := g_bind h
      refine gr_miald cx hf hI 54 rfl rfl rfl (nr_aI e4) dX4_trace_26 ?_
      cases h
      exact gr_iret cx hI dX4_trace_27
    · have h := gz_f h hc
      refine lv_iconst hx hb dX4_trace_17 gz_ic_0 ?_
      refine lv_goto (tgt := 27) hx hb dX4_trace_18 rfl ?_
      cases h
      exact gr_iret cx hI dX4_trace_27
theorem M_X4_trace {l : Launch} {G : gG} {fu d0 : Nat} (hf : gg_f G = true) (hfl : l.flags = flags0) (hD : 2 ≤ d0) {x1 : Int32} {S : gm_S} {M : gM} {o : Outcome} {M2 : gM} (h : F_X4_trace fu x1 M = some (o, M2)) : gx_Met l yX4_trace (ws_ yX4_trace cX4_trace 2 (Option.some Jvm.ClassFile.FieldType.int)) d0 G (gm_w S M) [va_rf (some (gg_o G)), .int x1] o (gm_w S M2) := by
  refine gx_of hfl (by decide) (fun p e s m below meth c cx hnm hex hI => ?_)
  rw [lg_entry_eq]
  exact T_X4_trace (r := (o, M2)) hf hD h p e s m _ below meth c _ _ _ _ _ cx hnm (gz_nh0 hex) hI (lv_entry _ (Nat.le_of_ble_eq_true rfl))
