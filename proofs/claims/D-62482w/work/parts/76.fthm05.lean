/-! LAYER 1 (printed): contracts -/
set_option maxRecDepth 100000
abbrev B_X3_set (l : Launch) (d0 : Nat) (G : gG) (S0 : gm_S) : Nat → List (Nat × Value) → List Value → gm_S → Outcome → gm_S → Prop := gz_B l RX3 "set" cX3_set 4 (Option.none : Option Jvm.ClassFile.FieldType) [] d0 G S0
theorem T_X3_set {l : Launch} {G : gG} {S0 : gm_S} {d0 fu : Nat} {r : Outcome × gm_S} (hD : 2 ≤ d0) {x0 : Option Nat} {x1 : Int32} {x2 : UInt64} {S : gm_S} (h : F_X3_set fu x0 x1 x2 S = some r) : B_X3_set l d0 G S0 0 [(0, va_rf x0), (1, .int x1), (2, .double x2)] [] S r.1 r.2 := by
  unfold F_X3_set at h
  intro p e s m args below meth c H locs cells slots ls cx hnm hex hI hl
  have hx := cx.1
  have hb := cx.2.1
  have hown := cx.2.2.2.1
  have hts := cx.2.2.2.2.1
  have hK := cx.2.2.2.2.2.1
  refine gr_aload_n hx hb x0 dX3_set_0 rfl (lv_at hl 0 rfl) ?_
  obtain ⟨v1, e1, h⟩ := g_bind h
  refine gr_getR cx hI e1 rfl (fun _ => rfl) rfl (Or.inl (hts _ q185)) dX3_set_1 ?_
  refine lv_iload_n hx hb dX3_set_4 rfl (lv_at hl 1 rfl) ?_
  refine lv_dload_n hx hb dX3_set_5 rfl (lv_at hl 2 rfl) ?_
  obtain ⟨S2, e2, h⟩ := g_bind h
  refine gr_dast cx hI e2 dX3_set_6 (fun H locs hI => ?_)
  cases h
  exact gr_vret cx hI dX3_set_7
theorem M_X3_set {l : Launch} {G : gG} {fu d0 : Nat} (hfl : l.flags = flags0) (hD : 2 ≤ d0) {x0 : Option Nat} {x1 : Int32} {x2 : UInt64} {S : gm_S} {o : Outcome} {S2 : gm_S} (h : F_X3_set fu x0 x1 x2 S = some (o, S2)) : gx_Met l yX3_set (ws_ yX3_set cX3_set 4 (Option.none : Option Jvm.ClassFile.FieldType)) d0 G S [va_rf x0, .int x1, .double x2] o S2 := by
  refine gx_of hfl (by decide) (fun p e s m below meth c cx hnm hex hI => ?_)
  rw [lg_entry_eq]
  cases x0 <;> exact T_X3_set (r := (o, S2)) hD h p e s m _ below meth c _ _ _ _ _ cx hnm (gz_nh0 hex) hI (lv_entry _ (Nat.le_of_ble_eq_true rfl))
theorem C_X3_set_F {p : Program} {l : Launch} {e : Env} {s : State} {m : MethodId} {args : Array Value} {below : List Frame} {meth : Method} {c : Code} {H : Heap} {locs : List Loc} {cells slots : Nat} {cc : ByteArray} {pc nL : Nat} {ls : Array Slot} {rest : List Value} {G : gG} {S0 S : gm_S} {own : String} {ret : Option FieldType} {d0 index fu : Nat} {count : Nat} {x0 : Option Nat} {x1 : Int32} {x2 : UInt64} {k : gm_S → gR} {r : Outcome × gm_S} (cx : gx_cx p l s m args meth c G own cc nL ret) (hex : ∀ x ∈ c.exceptionTable.toList, covers x pc = false) (hI : gw_I G S0 S H locs cells slots) (hl : (Cond.methodLink own index ⟨"NestChart$Machine", "set", "(ID)V"⟩).before args s = true) (hlv : ls.size = nL) (hrest : (rest.map fun v => v.category).sum ≤ 8) (hD : 3 ≤ d0) (hdg : decode cc pc = .ok (.invokeinterface index count, 5)) {b : Nat} (hat : g_at S x0 3 = some b) (h : gz_cV (F_X3_set fu x0 x1 x2 S) k = some r)
    (kk : ∀ (z : gm_S), k z = some r → ∀ (H : Heap) (locs : List Loc) (cells slots : Nat), gw_I G S0 z H locs cells slots → W p l e (gx_rm d0 S0) s m args below meth c H locs cells slots (gx_MQ below G S0 r.2 r.1 s) (F0 m (pc + 5) ls rest)) : W p l e (gx_rm d0 S0) s m args below meth c H locs cells slots (gx_MQ below G S0 r.2 r.1 s) (F0 m pc ls (.double x2 :: .int x1 :: va_rf x0 :: rest)) := by
  obtain ⟨rfl, ht⟩ := g_at_s hat
  have hts := cx.2.2.2.2.1
  have hK := cx.2.2.2.2.2.1
  exact gz_goV (d := d0 - 1) (fun S => S) cx hex hI hlv hrest (by omega) (Nat.le_of_ble_eq_true rfl) (gz_ws (lw_meth q821) hts) (hts _ q74) (gb_rawF (As := [.int x1, .double x2]) cx hl (hK.2.2.2.2.1 ("set", "(ID)V") (by decide)) (hts _ q817) (hts _ q819) (gl_C.code (hts _ q821)) (hK.1 3).2 ⟨by decide +kernel, hy_X3_set.2⟩ (gr_recv hK hI.1 ht rfl) rfl rfl hdg) (fun o S2 e => M_X3_set (x0 := some b) cx.2.2.2.2.2.2.2.2 (by omega) e) h kk
abbrev B_X8_made (l : Launch) (d0 : Nat) (G : gG) (S0 : gm_S) : Nat → List (Nat × Value) → List Value → gm_S → Outcome → gm_S → Prop := gz_B l RX8 "made" cX8_made 5 (Option.some Jvm.ClassFile.FieldType.double) [] d0 G S0
theorem T_X8_made {l : Launch} {G : gG} {S0 : gm_S} {d0 fu : Nat} {r : Outcome × gm_S} (hD : 2 ≤ d0) {x0 : Option Nat} {x1 : UInt64} {x3 : UInt64} {S : gm_S} (h : F_X8_made fu x0 x1 x3 S = some r) : B_X8_made l d0 G S0 0 [(0, va_rf x0), (1, .double x1), (3, .double x3)] [] S r.1 r.2 := by
  unfold F_X8_made at h
  intro p e s m args below meth c H locs cells slots ls cx hnm hex hI hl
  have hx := cx.1
  have hb := cx.2.1
  have hown := cx.2.2.2.1
  have hts := cx.2.2.2.2.1
  have hK := cx.2.2.2.2.2.1
  refine gr_aload_n hx hb x0 dX8_made_0 rfl (lv_at hl 0 rfl) ?_
  obtain ⟨v1, e1, h⟩ := g_bind h
  refine gr_getI cx hI e1 rfl (fun _ => rfl) rfl (Or.inl (hts _ q601)) dX8_made_1 ?_
  by_cases hc : (v1).toInt < 42 ∨ 45 < (v1).toInt
  · have h := gz_t h hc
    refine lv_tableOut (tgt := 48) hx hb dX8_made_4 hc rfl ?_
    refine lv_dload_n hx hb dX8_made_48 rfl (lv_at hl 2 rfl) ?_
    cases h
    exact gr_dret cx hI dX8_made_49
  have h := gz_f h hc
  by_cases hc : v1 = 42
  · have h := gz_t h hc
    refine lv_tableIn (tgt := 44) (off := (40)) hx hb dX8_made_4 (by rw [hc]; decide) (by rw [hc]; decide) (by rw [hc]; rfl) rfl ?_
    refine lv_dload_n hx hb dX8_made_44 rfl (lv_at hl 1 rfl) ?_
    refine lv_dload_n hx hb dX8_made_45 rfl (lv_at hl 2 rfl) ?_
    obtain ⟨v2, e2, h⟩ := g_bind h
    obtain ⟨n2, w2⟩ := g_nn_s e2
    refine lv_dmul hx hb dX8_made_46 n2 ?_
    rw [← w2]
    cases h
    exact gr_dret cx hI dX8_made_47
  have h := gz_f h hc
  by_cases hc : v1 = 43
  · have h := gz_t h hc
    refine lv_tableIn (tgt := 36) (off := (32)) hx hb dX8_made_4 (by rw [hc]; decide) (by rw [hc]; decide) (by rw [hc]; rfl) rfl ?_
    refine lv_dload_n hx hb dX8_made_36 rfl (lv_at hl 1 rfl) ?_
    refine lv_dload_n hx hb dX8_made_37 rfl (lv_at hl 2 rfl) ?_
    obtain ⟨v3, e3, h⟩ := g_bind h
    obtain ⟨n3, w3⟩ := g_nn_s e3
    refine lv_dadd hx hb dX8_made_38 n3 ?_
    rw [← w3]
    cases h
    exact gr_dret cx hI dX8_made_39
  have h := gz_f h hc
  by_cases hc : v1 = 44
  · have h := gz_t h hc
    refine lv_tableIn (tgt := 48) (off := (44)) hx hb dX8_made_4 (by rw [hc]; decide) (by rw [hc]; decide) (by rw [hc]; rfl) rfl ?_
    refine lv_dload_n hx hb dX8_made_48 rfl (lv_at hl 2 rfl) ?_
    cases h
    exact gr_dret cx hI dX8_made_49
  have h := gz_f h hc
  by_cases hc : v1 = 45
  · have h := gz_t h hc
    refine lv_tableIn (tgt := 40) (off := (36)) hx hb dX8_made_4 (by rw [hc]; decide) (by rw [hc]; decide) (by rw [hc]; rfl) rfl ?_
    refine lv_dload_n hx hb dX8_made_40 rfl (lv_at hl 1 rfl) ?_
    refine lv_dload_n hx hb dX8_made_41 rfl (lv_at hl 2 rfl) ?_
    obtain ⟨v4, e4, h⟩ := g_bind h
    obtain ⟨n4, w4⟩ := g_nn_s e4
    refine lv_dsub hx hb dX8_made_42 n4 ?_
    rw [← w4]
    cases h
    exact gr_dret cx hI dX8_made_43
  have h := gz_f h hc
  cases h
theorem M_X8_made {l : Launch} {G : gG} {fu d0 : Nat} (hfl : l.flags = flags0) (hD : 2 ≤ d0) {x0 : Option Nat} {x1 : UInt64} {x3 : UInt64} {S : gm_S} {o : Outcome} {S2 : gm_S} (h : F_X8_made fu x0 x1 x3 S = some (o, S2)) : gx_Met l yX8_made (ws_ yX8_made cX8_made 5 (Option.some Jvm.ClassFile.FieldType.double)) d0 G S [va_rf x0, .double x1, .double x3] o S2 := by
  refine gx_of hfl (by decide) (fun p e s m below meth c cx hnm hex hI => ?_)
  rw [lg_entry_eq]
  cases x0 <;> exact T_X8_made (r := (o, S2)) hD h p e s m _ below meth c _ _ _ _ _ cx hnm (gz_nh0 hex) hI (lv_entry _ (Nat.le_of_ble_eq_true rfl))
theorem C_X8_made {p : Program} {l : Launch} {e : Env} {s : State} {m : MethodId} {args : Array Value} {below : List Frame} {meth : Method} {c : Code} {H : Heap} {locs : List Loc} {cells slots : Nat} {cc : ByteArray} {pc nL : Nat} {ls : Array Slot} {rest : List Value} {G : gG} {S0 S : gm_S} {own : String} {ret : Option FieldType} {d0 index fu : Nat} {x0 : Option Nat} {x1 : UInt64} {x3 : UInt64} {k : UInt64 → gm_S → gR} {r : Outcome × gm_S} (cx : gx_cx p l s m args meth c G own cc nL ret) (hex : ∀ x ∈ c.exceptionTable.toList, covers x pc = false) (hI : gw_I G S0 S H locs cells slots) (hl : gl_M own index yX8_made args s) (hlv : ls.size = nL) (hrest : (rest.map fun v => v.category).sum ≤ 8) (hD : 3 ≤ d0) (hdg : decode cc pc = .ok (.invokevirtual index, 3)) {b : Nat} (hat : g_at S x0 8 = some b) (h : gz_cD (F_X8_made fu x0 x1 x3 S) k = some r)
    (kk : ∀ (v : UInt64) (z : gm_S), k v z = some r → ∀ (H : Heap) (locs : List Loc) (cells slots : Nat), gw_I G S0 z H locs cells slots → W p l e (gx_rm d0 S0) s m args below meth c H locs cells slots (gx_MQ below G S0 r.2 r.1 s) (F0 m (pc + 3) ls (.double v :: rest))) : W p l e (gx_rm d0 S0) s m args below meth c H locs cells slots (gx_MQ below G S0 r.2 r.1 s) (F0 m pc ls (.double x3 :: .double x1 :: va_rf x0 :: rest)) := by
  obtain ⟨rfl, ht⟩ := g_at_s hat
  have hts := cx.2.2.2.2.1
  have hK := cx.2.2.2.2.2.1
  exact gz_goD (d := d0 - 1) (fun S => S) cx hex hI hlv hrest (by omega) (Nat.le_of_ble_eq_true rfl) (gz_ws (lw_meth q810) hts) (hts _ q92) (gb_rawV (As := [.double x1, .double x3]) cx hl (hts _ q809) (hts _ qs17) (gl_C.code (hts _ q810)) hy_X8_made (gr_recv hK hI.1 ht rfl) rfl rfl hdg) (fun o S2 e => M_X8_made (x0 := some b) cx.2.2.2.2.2.2.2.2 (by omega) e) h kk
abbrev B_X8_act (l : Launch) (d0 : Nat) (G : gG) (S0 : gm_S) : Nat → List (Nat × Value) → List Value → gm_S → Outcome → gm_S → Prop := gz_B l RX8 "act" cX8_act 8 (Option.none : Option Jvm.ClassFile.FieldType) [] d0 G S0
theorem T_X8_act_67 {l : Launch} {G : gG} {S0 : gm_S} {d0 fu : Nat} {r : Outcome × gm_S} (hD : 4 ≤ d0) {s0 : UInt64} {s1 : Int32} {s2 : Option Nat} {S : gm_S} (h : F_X8_act_67 fu s0 s1 s2 S = some r) : B_X8_act l d0 G S0 67 [] [.double s0, .int s1, va_rf s2] S r.1 r.2 := by
  unfold F_X8_act_67 at h
  intro p e s m args below meth c H locs cells slots ls cx hnm hex hI hl
  have hx := cx.1
  have hb := cx.2.1
  have hown := cx.2.2.2.1
  have hts := cx.2.2.2.2.1
  have hK := cx.2.2.2.2.2.1
  obtain ⟨a1, t1, h⟩ := gz_q_s h
  refine C_X3_set_F cx (gz_nh hex) hI (hts _ q814) hl.1 (gz_cs (Nat.le_of_ble_eq_true rfl)) (by omega) dX8_act_67 t1 h (fun S1 h H locs cells slots hI => ?_)
  cases h
  exact gr_vret cx hI dX8_act_72
theorem T_X8_act {l : Launch} {G : gG} {S0 : gm_S} {d0 fu : Nat} {r : Outcome × gm_S} (hD : 4 ≤ d0) {x0 : Option Nat} {x1 : Option Nat} {S : gm_S} (h : F_X8_act fu x0 x1 S = some r) : B_X8_act l d0 G S0 0 [(0, va_rf x0), (1, va_rf x1)] [] S r.1 r.2 := by
  unfold F_X8_act at h
  intro p e s m args below meth c H locs cells slots ls cx hnm hex hI hl
  have hx := cx.1
  have hb := cx.2.1
  have hown := cx.2.2.2.1
  have hts := cx.2.2.2.2.1
  have hK := cx.2.2.2.2.2.1
  refine gr_aload_n hx hb x1 dX8_act_0 rfl (lv_at hl 1 rfl) ?_
  refine gr_aload_n hx hb x0 dX8_act_1 rfl (lv_at hl 0 rfl) ?_
  obtain ⟨v1, e1, h⟩ := g_bind h
  refine gr_getI cx hI e1 rfl (fun _ => rfl) rfl (Or.inl (hts _ q600)) dX8_act_2 ?_
  obtain ⟨a2, t2, h⟩ := gz_q_s h
  refine C_X3_get_F cx (gz_nh hex) hI (hts _ q792) hl.1 (gz_cs (Nat.le_of_ble_eq_true rfl)) (by omega) dX8_act_5 t2 h (fun v2 S2 h H locs cells slots hI => ?_)
  refine gz_dstore_n hx hb dX8_act_10 rfl hl (by decide) [0, 1] rfl (gz_con ⟨gz_ne rfl, gz_ne rfl, Or.inl (gz_ne rfl)⟩ (gz_con ⟨gz_ne rfl, gz_ne rfl, Or.inr (gl_cat x1)⟩ gz_nil)) (fun ls hl => ?_)
  refine gr_aload_n hx hb x0 dX8_act_11 rfl (lv_at hl 1 rfl) ?_
  obtain ⟨v3, e3, h⟩ := g_bind h
  refine gr_getR cx hI e3 rfl (fun _ => rfl) rfl (Or.inl (hts _ q602)) dX8_act_12 ?_
  refine gr_aload_n hx hb x1 dX8_act_15 rfl (lv_at hl 2 rfl) ?_
  obtain ⟨a4, t4, h⟩ := gz_q_s h
  refine C_X9_of cx (gz_nh hex) hI (Or.inl (hts _ q801)) hl.1 (gz_cs (Nat.le_of_ble_eq_true rfl)) (by omega) dX8_act_16 t4 h (fun v4 S4 h H locs cells slots hI => ?_)
  refine gz_dstore hx hb dX8_act_19 hl (by decide) [0, 1, 2] rfl (gz_con ⟨gz_ne rfl, gz_ne rfl, Or.inl (gz_ne rfl)⟩ (gz_con ⟨gz_ne rfl, gz_ne rfl, Or.inl (gz_ne rfl)⟩ (gz_con ⟨gz_ne rfl, gz_ne rfl, Or.inl (gz_ne rfl)⟩ gz_nil))) (fun ls hl => ?_)
  refine gr_aload_n hx hb x0 dX8_act_21 rfl (lv_at hl 2 rfl) ?_
  refine lv_dload_n hx hb dX8_act_22 rfl (lv_at hl 1 rfl) ?_
  refine lv_dload hx hb dX8_act_23 (lv_at hl 0 rfl) ?_
  obtain ⟨a5, t5, h⟩ := gz_q_s h
  refine C_X8_made cx (gz_nh hex) hI (Or.inl (hts _ q807)) hl.1 (gz_cs (Nat.le_of_ble_eq_true rfl)) (by omega) dX8_act_25 t5 h (fun v5 S5 h H locs cells slots hI => ?_)
  refine gz_dstore hx hb dX8_act_28 hl (by decide) [2, 3] rfl (gz_con ⟨gz_ne rfl, gz_ne rfl, Or.inl (gz_ne rfl)⟩ (gz_con ⟨gz_ne rfl, gz_ne rfl, Or.inl (gz_ne rfl)⟩ gz_nil)) (fun ls hl => ?_)
  refine gr_aload_n hx hb x1 dX8_act_30 rfl (lv_at hl 2 rfl) ?_
  refine gr_aload_n hx hb x0 dX8_act_31 rfl (lv_at hl 1 rfl) ?_
  obtain ⟨v6, e6, h⟩ := g_bind h
  refine gr_getI cx hI e6 rfl (fun _ => rfl) rfl (Or.inl (hts _ q600)) dX8_act_32 ?_
  refine lv_dload hx hb dX8_act_35 (lv_at hl 0 rfl) ?_
  refine lv_ldc2d hx hb hown (hts _ q811) dX8_act_37 ?_
  refine lv_dcmp hx hb dX8_act_40 ?_
  refine lv_if_le (tgt := 50) hx hb dX8_act_41 rfl (fun hc => ?_) (fun hc => ?_)
  · have h := gz_t h hc
    refine lv_dload hx hb dX8_act_50 (lv_at hl 0 rfl) ?_
    refine lv_ldc2d hx hb hown (hts _ q812) dX8_act_52 ?_
    refine lv_dcmp hx hb dX8_act_55 ?_
    refine lv_if_ge (tgt := 65) hx hb dX8_act_56 rfl (fun hc => ?_) (fun hc => ?_)
    · have h := gz_t h hc
      refine lv_dload hx hb dX8_act_65 (lv_at hl 0 rfl) ?_
      exact T_X8_act_67 hD h p e s m args below meth c H locs cells slots ls cx hnm hex hI (lv_sub hl [] rfl)
    · have h := gz_f h hc
      refine lv_ldc2d hx hb hown (hts _ q812) dX8_act_59 ?_
      refine lv_goto (tgt := 67) hx hb dX8_act_62 rfl ?_
      exact T_X8_act_67 hD h p e s m args below meth c H locs cells slots ls cx hnm hex hI (lv_sub hl [] rfl)
  · have h := gz_f h hc
    refine lv_ldc2d hx hb hown (hts _ q811) dX8_act_44 ?_
    refine lv_goto (tgt := 67) hx hb dX8_act_47 rfl ?_
    exact T_X8_act_67 hD h p e s m args below meth c H locs cells slots ls cx hnm hex hI (lv_sub hl [] rfl)
theorem M_X8_act {l : Launch} {G : gG} {fu d0 : Nat} (hfl : l.flags = flags0) (hD : 4 ≤ d0) {x0 : Option Nat} {x1 : Option Nat} {S : gm_S} {o : Outcome} {S2 : gm_S} (h : F_X8_act fu x0 x1 S = some (o, S2)) : gx_Met l yX8_act (ws_ yX8_act cX8_act 8 (Option.none : Option Jvm.ClassFile.FieldType)) d0 G S [va_rf x0, va_rf x1] o S2 := by
  refine gx_of hfl (by decide) (fun p e s m below meth c cx hnm hex hI => ?_)
  rw [lg_entry_eq]
  cases x0 <;> cases x1 <;> exact T_X8_act (r := (o, S2)) hD h p e s m _ below meth c _ _ _ _ _ cx hnm (gz_nh0 hex) hI (lv_entry _ (Nat.le_of_ble_eq_true rfl))
theorem C_X8_act_U {p : Program} {l : Launch} {e : Env} {s : State} {m : MethodId} {args : Array Value} {below : List Frame} {meth : Method} {c : Code} {H : Heap} {locs : List Loc} {cells slots : Nat} {cc : ByteArray} {pc nL : Nat} {ls : Array Slot} {rest : List Value} {G : gG} {S0 S : gm_S} {own : String} {ret : Option FieldType} {d0 index fu : Nat} {x0 : Option Nat} {x1 : Option Nat} {k : gm_S → gR} {r : Outcome × gm_S} (cx : gx_cx p l s m args meth c G own cc nL ret) (hex : ∀ x ∈ c.exceptionTable.toList, covers x pc = false) (hI : gw_I G S0 S H locs cells slots) (hl : (Cond.methodLink own index ⟨"NestChart$Action", "act", "(LNestChart$Machine;)V"⟩).before args s = true) (hlv : ls.size = nL) (hrest : (rest.map fun v => v.category).sum ≤ 8) (hD : 5 ≤ d0) (hdg : decode cc pc = .ok (.invokevirtual index, 3)) {b : Nat} (hat : g_at S x0 8 = some b) (h : gz_cV (F_X8_act fu x0 x1 S) k = some r)
    (kk : ∀ (z : gm_S), k z = some r → ∀ (H : Heap) (locs : List Loc) (cells slots : Nat), gw_I G S0 z H locs cells slots → W p l e (gx_rm d0 S0) s m args below meth c H locs cells slots (gx_MQ below G S0 r.2 r.1 s) (F0 m (pc + 3) ls rest)) : W p l e (gx_rm d0 S0) s m args below meth c H locs cells slots (gx_MQ below G S0 r.2 r.1 s) (F0 m pc ls (va_rf x1 :: va_rf x0 :: rest)) := by
  obtain ⟨rfl, ht⟩ := g_at_s hat
  have hts := cx.2.2.2.2.1
  have hK := cx.2.2.2.2.2.1
  exact gz_goV (d := d0 - 1) (fun S => S) cx hex hI hlv hrest (by omega) (Nat.le_of_ble_eq_true rfl) (gz_ws (lw_meth q790) hts) (hts _ q92) (gb_rawU (As := [va_rf x1]) (owner := "NestChart$Action") cx hl (hts _ q787) (gk_w hK q786 rfl) (hts _ q788) (hts _ q789) (gl_C.code (hts _ q790)) ⟨by decide +kernel, hy_X8_act.2⟩ (gr_recv hK hI.1 ht rfl) rfl rfl hdg) (fun o S2 e => M_X8_act (x0 := some b) cx.2.2.2.2.2.2.2.2 (by omega) e) h kk
theorem C_act {p : Program} {l : Launch} {e : Env} {s : State} {m : MethodId} {args : Array Value} {below : List Frame} {meth : Method} {c : Code} {H : Heap} {locs : List Loc} {cells slots : Nat} {cc : ByteArray} {pc nL : Nat} {ls : Array Slot} {rest : List Value} {G : gG} {S0 S : gm_S} {own : String} {ret : Option FieldType} {d0 index fu : Nat} {x0 x1 : Option Nat} {k : gm_S → gR} {r : Outcome × gm_S} (cx : gx_cx p l s m args meth c G own cc nL ret) (hex : ∀ x ∈ c.exceptionTable.toList, covers x pc = false) (hI : gw_I G S0 S H locs cells slots) (hl : (Cond.methodLink own index ⟨"NestChart$Action", "act", "(LNestChart$Machine;)V"⟩).before args s = true) (hlv : ls.size = nL) (hrest : (rest.map fun v => v.category).sum ≤ 8) (hD : 13 ≤ d0) (hdg : decode cc pc = .ok (.invokevirtual index, 3)) (h : gz_cV (F_act fu x0 x1 S) k = some r)
    (kk : ∀ (z : gm_S), k z = some r → ∀ (H : Heap) (locs : List Loc) (cells slots : Nat), gw_I G S0 z H locs cells slots → W p l e (gx_rm d0 S0) s m args below meth c H locs cells slots (gx_MQ below G S0 r.2 r.1 s) (F0 m (pc + 3) ls rest)) : W p l e (gx_rm d0 S0) s m args below meth c H locs cells slots (gx_MQ below G S0 r.2 r.1 s) (F0 m pc ls (va_rf x1 :: va_rf x0 :: rest)) := by
  unfold F_act at h
  by_cases h1 : (g_at S x0 7).isSome = true
  · obtain ⟨b, hb1⟩ := Option.isSome_iff_exists.mp h1
    rw [if_pos h1] at h
    exact C_X7_act_U cx hex hI hl hlv hrest (by omega) hdg hb1 h kk
  · rw [if_neg h1] at h
    by_cases h2 : (g_at S x0 8).isSome = true
    · obtain ⟨b, hb1⟩ := Option.isSome_iff_exists.mp h2
      rw [if_pos h2] at h
      exact C_X8_act_U cx hex hI hl hlv hrest (by omega) hdg hb1 h kk
    · rw [if_neg h2] at h
      cases h
abbrev B_X3_actAll (l : Launch) (d0 : Nat) (G : gG) (S0 : gm_S) : Nat → List (Nat × Value) → List Value → gm_S → Outcome → gm_S → Prop := gz_B l RX3 "actAll" cX3_actAll 3 (Option.none : Option Jvm.ClassFile.FieldType) [] d0 G S0
theorem T_X3_actAll_2 {l : Launch} {G : gG} {S0 : gm_S} {d0 fu : Nat} {r : Outcome × gm_S} (hD : 13 ≤ d0) : ∀ (n : Nat) (x0 : Option Nat) (x1 : Option Nat) (x2 : Int32) (S : gm_S), F_X3_actAll_2 fu n x0 x1 x2 S = some r → B_X3_actAll l d0 G S0 2 [(0, va_rf x0), (1, va_rf x1), (2, .int x2)] [] S r.1 r.2 := by
  intro n
  induction n with
  | zero => intro x0 x1 x2 S h; exact nomatch (show (none : gR) = some r from h)
  | succ n ih =>
    intro x0 x1 x2 S h
    rw [F_X3_actAll_2] at h
    intro p e s m args below meth c H locs cells slots ls cx hnm hex hI hl
    have hx := cx.1
    have hb := cx.2.1
    have hown := cx.2.2.2.1
    have hts := cx.2.2.2.2.1
    have hK := cx.2.2.2.2.2.1
    refine lv_iload_n hx hb dX3_actAll_2 rfl (lv_at hl 2 rfl) ?_
    refine gr_aload_n hx hb x1 dX3_actAll_3 rfl (lv_at hl 1 rfl) ?_
    obtain ⟨v1, e1, h⟩ := g_bind h
    refine gr_lsize cx (gz_nh hex) hI (Or.inl (hts _ q759)) hl.1 (gz_cs (Nat.le_of_ble_eq_true rfl)) (by omega) dX3_actAll_4 e1 (fun H locs cells slots hI => ?_)
    refine lv_icmp_ge (tgt := 28) hx hb dX3_actAll_7 rfl (fun hc => ?_) (fun hc => ?_)
    · have h := gz_t h hc
      cases h
      exact gr_vret cx hI dX3_actAll_28
    · have h := gz_f h hc
      refine gr_aload_n hx hb x1 dX3_actAll_10 rfl (lv_at hl 1 rfl) ?_
      refine lv_iload_n hx hb dX3_actAll_11 rfl (lv_at hl 2 rfl) ?_
      obtain ⟨v2, e2, h⟩ := g_bind h
      refine gr_lgetr cx (gz_nh hex) hI (Or.inl (hts _ q760)) hl.1 (gz_cs (Nat.le_of_ble_eq_true rfl)) (by omega) dX3_actAll_12 e2 (fun H locs cells slots hI => ?_)
      obtain ⟨c3, h⟩ := g_ifs h
      refine gr_ck2 cx hI c3 rfl rfl (hts _ q784) q1410 q1409 dX3_actAll_15 ?_
      refine gr_aload_n hx hb x0 dX3_actAll_18 rfl (lv_at hl 0 rfl) ?_
      refine C_act cx (gz_nh hex) hI (hts _ q785) hl.1 (gz_cs (Nat.le_of_ble_eq_true rfl)) (by omega) dX3_actAll_19 h (fun S4 h H locs cells slots hI => ?_)
      refine gz_iinc (k := 2) (v := (x2 + (1 : Int32))) hx hb dX3_actAll_22 hl rfl (congrArg (fun z => x2 + z) gz_ic_1) (by decide) [0, 1] rfl (gz_con ⟨gz_ne rfl, Or.inl (gz_ne rfl)⟩ (gz_con ⟨gz_ne rfl, Or.inr (gl_cat x1)⟩ gz_nil)) (fun ls hl => ?_)
      refine lv_goto (tgt := 2) hx hb dX3_actAll_25 rfl ?_
      exact ih _ _ _ _ h p e s m args below meth c H locs cells slots ls cx hnm hex hI (lv_sub hl [1, 2, 0] rfl)
theorem T_X3_actAll {l : Launch} {G : gG} {S0 : gm_S} {d0 fu : Nat} {r : Outcome × gm_S} (hD : 13 ≤ d0) {x0 : Option Nat} {x1 : Option Nat} {S : gm_S} (h : F_X3_actAll fu x0 x1 S = some r) : B_X3_actAll l d0 G S0 0 [(0, va_rf x0), (1, va_rf x1)] [] S r.1 r.2 := by
  unfold F_X3_actAll at h
  intro p e s m args below meth c H locs cells slots ls cx hnm hex hI hl
  have hx := cx.1
  have hb := cx.2.1
  have hown := cx.2.2.2.1
  have hts := cx.2.2.2.2.1
  have hK := cx.2.2.2.2.2.1
  refine lv_iconst hx hb dX3_actAll_0 gz_ic_0 ?_
  refine gz_istore_n hx hb dX3_actAll_1 rfl hl (by decide) [0, 1] rfl (gz_con ⟨gz_ne rfl, Or.inl (gz_ne rfl)⟩ (gz_con ⟨gz_ne rfl, Or.inr (gl_cat x1)⟩ gz_nil)) (fun ls hl => ?_)
  exact T_X3_actAll_2 hD fu _ _ _ _ h p e s m args below meth c H locs cells slots ls cx hnm hex hI (lv_sub hl [1, 2, 0] rfl)
theorem M_X3_actAll {l : Launch} {G : gG} {fu d0 : Nat} (hfl : l.flags = flags0) (hD : 13 ≤ d0) {x0 : Option Nat} {x1 : Option Nat} {S : gm_S} {o : Outcome} {S2 : gm_S} (h : F_X3_actAll fu x0 x1 S = some (o, S2)) : gx_Met l yX3_actAll (ws_ yX3_actAll cX3_actAll 3 (Option.none : Option Jvm.ClassFile.FieldType)) d0 G S [va_rf x0, va_rf x1] o S2 := by
  refine gx_of hfl (by decide) (fun p e s m below meth c cx hnm hex hI => ?_)
  rw [lg_entry_eq]
  cases x0 <;> cases x1 <;> exact T_X3_actAll (r := (o, S2)) hD h p e s m _ below meth c _ _ _ _ _ cx hnm (gz_nh0 hex) hI (lv_entry _ (Nat.le_of_ble_eq_true rfl))
theorem C_X3_actAll {p : Program} {l : Launch} {e : Env} {s : State} {m : MethodId} {args : Array Value} {below : List Frame} {meth : Method} {c : Code} {H : Heap} {locs : List Loc} {cells slots : Nat} {cc : ByteArray} {pc nL : Nat} {ls : Array Slot} {rest : List Value} {G : gG} {S0 S : gm_S} {own : String} {ret : Option FieldType} {d0 index fu : Nat} {x0 : Option Nat} {x1 : Option Nat} {k : gm_S → gR} {r : Outcome × gm_S} (cx : gx_cx p l s m args meth c G own cc nL ret) (hex : ∀ x ∈ c.exceptionTable.toList, covers x pc = false) (hI : gw_I G S0 S H locs cells slots) (hl : gl_M own index yX3_actAll args s) (hlv : ls.size = nL) (hrest : (rest.map fun v => v.category).sum ≤ 8) (hD : 14 ≤ d0) (hdg : decode cc pc = .ok (.invokevirtual index, 3)) {b : Nat} (hat : g_at S x0 3 = some b) (h : gz_cV (F_X3_actAll fu x0 x1 S) k = some r)
    (kk : ∀ (z : gm_S), k z = some r → ∀ (H : Heap) (locs : List Loc) (cells slots : Nat), gw_I G S0 z H locs cells slots → W p l e (gx_rm d0 S0) s m args below meth c H locs cells slots (gx_MQ below G S0 r.2 r.1 s) (F0 m (pc + 3) ls rest)) : W p l e (gx_rm d0 S0) s m args below meth c H locs cells slots (gx_MQ below G S0 r.2 r.1 s) (F0 m pc ls (va_rf x1 :: va_rf x0 :: rest)) := by
  obtain ⟨rfl, ht⟩ := g_at_s hat
  have hts := cx.2.2.2.2.1
  have hK := cx.2.2.2.2.2.1
  exact gz_goV (d := d0 - 1) (fun S => S) cx hex hI hlv hrest (by omega) (Nat.le_of_ble_eq_true rfl) (gz_ws (lw_meth q783) hts) (hts _ q74) (gb_rawV (As := [va_rf x1]) cx hl (hts _ q782) (hts _ qs16) (gl_C.code (hts _ q783)) hy_X3_actAll (gr_recv hK hI.1 ht rfl) rfl rfl hdg) (fun o S2 e => M_X3_actAll (x0 := some b) cx.2.2.2.2.2.2.2.2 (by omega) e) h kk
abbrev B_X3_note (l : Launch) (d0 : Nat) (G : gG) (S0 : gm_S) : Nat → List (Nat × Value) → List Value → gm_S → Outcome → gm_S → Prop := gz_B l RX3 "note" cX3_note 2 (Option.none : Option Jvm.ClassFile.FieldType) [] d0 G S0
theorem T_X3_note {l : Launch} {G : gG} {S0 : gm_S} {d0 fu : Nat} {r : Outcome × gm_S} (hD : 2 ≤ d0) {x0 : Option Nat} {x1 : Int32} {S : gm_S} (h : F_X3_note fu x0 x1 S = some r) : B_X3_note l d0 G S0 0 [(0, va_rf x0), (1, .int x1)] [] S r.1 r.2 := by
  unfold F_X3_note at h
  intro p e s m args below meth c H locs cells slots ls cx hnm hex hI hl
  have hx := cx.1
  have hb := cx.2.1
  have hown := cx.2.2.2.1
  have hts := cx.2.2.2.2.1
  have hK := cx.2.2.2.2.2.1
  refine gr_aload_n hx hb x0 dX3_note_0 rfl (lv_at hl 0 rfl) ?_
  obtain ⟨v1, e1, h⟩ := g_bind h
  refine gr_getI cx hI e1 rfl (fun _ => rfl) rfl (Or.inl (hts _ q195)) dX3_note_1 ?_
  refine lv_bipush hx hb dX3_note_4 gz_bp_100 ?_
  refine lv_icmp_ge (tgt := 26) hx hb dX3_note_6 rfl (fun hc => ?_) (fun hc => ?_)
  · have h := gz_t h hc
    cases h
    exact gr_vret cx hI dX3_note_26
  · have h := gz_f h hc
    refine gr_aload_n hx hb x0 dX3_note_9 rfl (lv_at hl 0 rfl) ?_
    obtain ⟨v2, e2, h⟩ := g_bind h
    refine gr_getR cx hI e2 rfl (fun _ => rfl) rfl (Or.inl (hts _ q193)) dX3_note_10 ?_
    refine gr_aload_n hx hb x0 dX3_note_13 rfl (lv_at hl 0 rfl) ?_
    refine lv_dup hx hb dX3_note_14 (gl_cat x0) ?_
    obtain ⟨v3, e3, h⟩ := g_bind h
    refine gr_getI cx hI e3 rfl (fun _ => rfl) rfl (Or.inl (hts _ q195)) dX3_note_15 ?_
    refine lv_dup_x1 hx hb dX3_note_18 rfl (gl_cat x0) ?_
    refine lv_iconst hx hb dX3_note_19 gz_ic_1 ?_
    refine lv_iadd hx hb dX3_note_20 ?_
    obtain ⟨S4, e4, h⟩ := g_bind h
    refine gr_putI cx hI e4 rfl rfl rfl (Or.inl (hts _ q195)) (Or.inl rfl) dX3_note_21 (fun H locs hI => ?_)
    refine lv_iload_n hx hb dX3_note_24 rfl (lv_at hl 1 rfl) ?_
    obtain ⟨S5, e5, h⟩ := g_bind h
    refine gr_iast cx hI e5 dX3_note_25 (fun H locs hI => ?_)
    cases h
    exact gr_vret cx hI dX3_note_26
theorem M_X3_note {l : Launch} {G : gG} {fu d0 : Nat} (hfl : l.flags = flags0) (hD : 2 ≤ d0) {x0 : Option Nat} {x1 : Int32} {S : gm_S} {o : Outcome} {S2 : gm_S} (h : F_X3_note fu x0 x1 S = some (o, S2)) : gx_Met l yX3_note (ws_ yX3_note cX3_note 2 (Option.none : Option Jvm.ClassFile.FieldType)) d0 G S [va_rf x0, .int x1] o S2 := by
  refine gx_of hfl (by decide) (fun p e s m below meth c cx hnm hex hI => ?_)
  rw [lg_entry_eq]
  cases x0 <;> exact T_X3_note (r := (o, S2)) hD h p e s m _ below meth c _ _ _ _ _ cx hnm (gz_nh0 hex) hI (lv_entry _ (Nat.le_of_ble_eq_true rfl))
theorem C_X3_note {p : Program} {l : Launch} {e : Env} {s : State} {m : MethodId} {args : Array Value} {below : List Frame} {meth : Method} {c : Code} {H : Heap} {locs : List Loc} {cells slots : Nat} {cc : ByteArray} {pc nL : Nat} {ls : Array Slot} {rest : List Value} {G : gG} {S0 S : gm_S} {own : String} {ret : Option FieldType} {d0 index fu : Nat} {x0 : Option Nat} {x1 : Int32} {k : gm_S → gR} {r : Outcome × gm_S} (cx : gx_cx p l s m args meth c G own cc nL ret) (hex : ∀ x ∈ c.exceptionTable.toList, covers x pc = false) (hI : gw_I G S0 S H locs cells slots) (hl : gl_M own index yX3_note args s) (hlv : ls.size = nL) (hrest : (rest.map fun v => v.category).sum ≤ 8) (hD : 3 ≤ d0) (hdg : decode cc pc = .ok (.invokevirtual index, 3)) {b : Nat} (hat : g_at S x0 3 = some b) (h : gz_cV (F_X3_note fu x0 x1 S) k = some r)
    (kk : ∀ (z : gm_S), k z = some r → ∀ (H : Heap) (locs : List Loc) (cells slots : Nat), gw_I G S0 z H locs cells slots → W p l e (gx_rm d0 S0) s m args below meth c H locs cells slots (gx_MQ below G S0 r.2 r.1 s) (F0 m (pc + 3) ls rest)) : W p l e (gx_rm d0 S0) s m args below meth c H locs cells slots (gx_MQ below G S0 r.2 r.1 s) (F0 m pc ls (.int x1 :: va_rf x0 :: rest)) := by
  obtain ⟨rfl, ht⟩ := g_at_s hat
  have hts := cx.2.2.2.2.1
  have hK := cx.2.2.2.2.2.1
  exact gz_goV (d := d0 - 1) (fun S => S) cx hex hI hlv hrest (by omega) (Nat.le_of_ble_eq_true rfl) (gz_ws (lw_meth q779) hts) (hts _ q74) (gb_rawV (As := [.int x1]) cx hl (hts _ q778) (hts _ qs15) (gl_C.code (hts _ q779)) hy_X3_note (gr_recv hK hI.1 ht rfl) rfl rfl hdg) (fun o S2 e => M_X3_note (x0 := some b) cx.2.2.2.2.2.2.2.2 (by omega) e) h kk
abbrev B_X3_enter (l : Launch) (d0 : Nat) (G : gG) (S0 : gm_S) : Nat → List (Nat × Value) → List Value → gm_S → Outcome → gm_S → Prop := gz_B l RX3 "enter" cX3_enter 4 (Option.none : Option Jvm.ClassFile.FieldType) [] d0 G S0
theorem T_X3_enter_2 {l : Launch} {G : gG} {S0 : gm_S} {d0 fu : Nat} {r : Outcome × gm_S} (hD : 14 ≤ d0) : ∀ (n : Nat) (x0 : Option Nat) (x1 : Int32) (x2 : Int32) (S : gm_S), F_X3_enter_2 fu n x0 x1 x2 S = some r → B_X3_enter l d0 G S0 2 [(0, va_rf x0), (1, .int x1), (2, .int x2)] [] S r.1 r.2 := by
  intro n
  induction n with
  | zero => intro x0 x1 x2 S h; exact nomatch (show (none : gR) = some r from h)
  | succ n ih =>
    intro x0 x1 x2 S h
    rw [F_X3_enter_2] at h
    intro p e s m args below meth c H locs cells slots ls cx hnm hex hI hl
    have hx := cx.1
    have hb := cx.2.1
    have hown := cx.2.2.2.1
    have hts := cx.2.2.2.2.1
    have hK := cx.2.2.2.2.2.1
    refine lv_iload_n hx hb dX3_enter_2 rfl (lv_at hl 2 rfl) ?_
    refine gr_aload_n hx hb x0 dX3_enter_3 rfl (lv_at hl 0 rfl) ?_
    obtain ⟨v1, e1, h⟩ := g_bind h
    refine gr_getR cx hI e1 rfl (fun _ => rfl) rfl (Or.inl (hts _ q180)) dX3_enter_4 ?_
    obtain ⟨v2, e2, h⟩ := g_bind h
    refine gr_lsize cx (gz_nh hex) hI (Or.inl (hts _ q759)) hl.1 (gz_cs (Nat.le_of_ble_eq_true rfl)) (by omega) dX3_enter_7 e2 (fun H locs cells slots hI => ?_)
    refine lv_icmp_ge (tgt := 74) hx hb dX3_enter_10 rfl (fun hc => ?_) (fun hc => ?_)
    · have h := gz_t h hc
      cases h
      exact gr_vret cx hI dX3_enter_74
    · have h := gz_f h hc
      refine gr_aload_n hx hb x0 dX3_enter_13 rfl (lv_at hl 0 rfl) ?_
      obtain ⟨v3, e3, h⟩ := g_bind h
      refine gr_getR cx hI e3 rfl (fun _ => rfl) rfl (Or.inl (hts _ q180)) dX3_enter_14 ?_
      refine lv_iload_n hx hb dX3_enter_17 rfl (lv_at hl 2 rfl) ?_
      obtain ⟨v4, e4, h⟩ := g_bind h
      refine gr_lgetr cx (gz_nh hex) hI (Or.inl (hts _ q760)) hl.1 (gz_cs (Nat.le_of_ble_eq_true rfl)) (by omega) dX3_enter_18 e4 (fun H locs cells slots hI => ?_)
      obtain ⟨a5, e5, h⟩ := gz_q_s h
      refine gr_ck1 cx hI e5 rfl (hts _ q761) dX3_enter_21 ?_
      refine gz_astore_n hx hb dX3_enter_24 rfl hl (by decide) [0, 1, 2] rfl (gz_con ⟨gz_ne rfl, Or.inl (gz_ne rfl)⟩ (gz_con ⟨gz_ne rfl, Or.inl (gz_ne rfl)⟩ (gz_con ⟨gz_ne rfl, Or.inr rfl⟩ gz_nil))) (fun ls hl => ?_)
      refine lv_iload_n hx hb dX3_enter_25 rfl (lv_at hl 2 rfl) ?_
      refine gr_aload_n hx hb (some v4) dX3_enter_26 rfl (lv_at hl 0 rfl) ?_
      obtain ⟨a6, t6, h⟩ := gz_q_s h
      refine C_X5_bit cx (gz_nh hex) hI (Or.inl (hts _ q775)) hl.1 (gz_cs (Nat.le_of_ble_eq_true rfl)) (by omega) dX3_enter_27 t6 h (fun v6 S6 h H locs cells slots hI => ?_)
      refine lv_iand hx hb dX3_enter_30 ?_
      refine lv_if_ne (tgt := 37) hx hb dX3_enter_31 rfl (fun hc => ?_) (fun hc => ?_)
      · have h := gz_f h hc
        refine gr_aload_n hx hb x0 dX3_enter_37 rfl (lv_at hl 1 rfl) ?_
        refine lv_dup hx hb dX3_enter_38 (gl_cat x0) ?_
        obtain ⟨v7, e7, h⟩ := g_bind h
        refine gr_getI cx hI e7 rfl (fun _ => rfl) rfl (Or.inl (hts _ q184)) dX3_enter_39 ?_
        refine gr_aload_n hx hb (some v4) dX3_enter_42 rfl (lv_at hl 0 rfl) ?_
        obtain ⟨a8, t8, h⟩ := gz_q_s h
        refine C_X5_bit cx (gz_nh hex) hI (Or.inl (hts _ q775)) hl.1 (gz_cs (Nat.le_of_ble_eq_true rfl)) (by omega) dX3_enter_43 t8 h (fun v8 S8 h H locs cells slots hI => ?_)
        refine lv_ior hx hb dX3_enter_46 ?_
        obtain ⟨S9, e9, h⟩ := g_bind h
        refine gr_putI cx hI e9 rfl rfl rfl (Or.inl (hts _ q184)) (Or.inl rfl) dX3_enter_47 (fun H locs hI => ?_)
        refine gr_aload_n hx hb x0 dX3_enter_50 rfl (lv_at hl 1 rfl) ?_
        refine lv_iconst hx hb dX3_enter_51 gz_ic_1 ?_
        refine gr_aload_n hx hb (some v4) dX3_enter_52 rfl (lv_at hl 0 rfl) ?_
        obtain ⟨v10, e10, h⟩ := g_bind h
        refine gr_getI cx hI e10 rfl (fun _ => rfl) rfl (Or.inr ⟨_, gk_w hK q415 rfl⟩) dX3_enter_53 ?_
        refine lv_iadd hx hb dX3_enter_56 ?_
        obtain ⟨a11, t11, h⟩ := gz_q_s h
        refine C_X3_note cx (gz_nh hex) hI (Or.inl (hts _ q776)) hl.1 (gz_cs (Nat.le_of_ble_eq_true rfl)) (by omega) dX3_enter_57 t11 h (fun S11 h H locs cells slots hI => ?_)
        refine gr_aload_n hx hb x0 dX3_enter_60 rfl (lv_at hl 1 rfl) ?_
        refine gr_aload_n hx hb (some v4) dX3_enter_61 rfl (lv_at hl 0 rfl) ?_
        obtain ⟨v12, e12, h⟩ := g_bind h
        refine gr_getR cx hI e12 rfl (fun _ => rfl) rfl (Or.inr ⟨_, gk_w hK q431 rfl⟩) dX3_enter_62 ?_
        obtain ⟨a13, t13, h⟩ := gz_q_s h
        refine C_X3_actAll cx (gz_nh hex) hI (Or.inl (hts _ q780)) hl.1 (gz_cs (Nat.le_of_ble_eq_true rfl)) (by omega) dX3_enter_65 t13 h (fun S13 h H locs cells slots hI => ?_)
        refine gz_iinc (k := 3) (v := (x2 + (1 : Int32))) hx hb dX3_enter_68 hl rfl (congrArg (fun z => x2 + z) gz_ic_1) (by decide) [1, 2] rfl (gz_con ⟨gz_ne rfl, Or.inl (gz_ne rfl)⟩ (gz_con ⟨gz_ne rfl, Or.inr rfl⟩ gz_nil)) (fun ls hl => ?_)
        refine lv_goto (tgt := 2) hx hb dX3_enter_71 rfl ?_
        exact ih _ _ _ _ h p e s m args below meth c H locs cells slots ls cx hnm hex hI (lv_sub hl [1, 2, 0] rfl)
      · have h := gz_t h hc
        refine lv_goto (tgt := 68) hx hb dX3_enter_34 rfl ?_
        refine gz_iinc (k := 3) (v := (x2 + (1 : Int32))) hx hb dX3_enter_68 hl rfl (congrArg (fun z => x2 + z) gz_ic_1) (by decide) [1, 2] rfl (gz_con ⟨gz_ne rfl, Or.inl (gz_ne rfl)⟩ (gz_con ⟨gz_ne rfl, Or.inr rfl⟩ gz_nil)) (fun ls hl => ?_)
        refine lv_goto (tgt := 2) hx hb dX3_enter_71 rfl ?_
        exact ih _ _ _ _ h p e s m args below meth c H locs cells slots ls cx hnm hex hI (lv_sub hl [1, 2, 0] rfl)
theorem T_X3_enter {l : Launch} {G : gG} {S0 : gm_S} {d0 fu : Nat} {r : Outcome × gm_S} (hD : 14 ≤ d0) {x0 : Option Nat} {x1 : Int32} {S : gm_S} (h : F_X3_enter fu x0 x1 S = some r) : B_X3_enter l d0 G S0 0 [(0, va_rf x0), (1, .int x1)] [] S r.1 r.2 := by
  unfold F_X3_enter at h
  intro p e s m args below meth c H locs cells slots ls cx hnm hex hI hl
  have hx := cx.1
  have hb := cx.2.1
  have hown := cx.2.2.2.1
  have hts := cx.2.2.2.2.1
  have hK := cx.2.2.2.2.2.1
  refine lv_iconst hx hb dX3_enter_0 gz_ic_0 ?_
  refine gz_istore_n hx hb dX3_enter_1 rfl hl (by decide) [0, 1] rfl (gz_con ⟨gz_ne rfl, Or.inl (gz_ne rfl)⟩ (gz_con ⟨gz_ne rfl, Or.inr rfl⟩ gz_nil)) (fun ls hl => ?_)
  exact T_X3_enter_2 hD fu _ _ _ _ h p e s m args below meth c H locs cells slots ls cx hnm hex hI (lv_sub hl [1, 2, 0] rfl)
theorem M_X3_enter {l : Launch} {G : gG} {fu d0 : Nat} (hfl : l.flags = flags0) (hD : 14 ≤ d0) {x0 : Option Nat} {x1 : Int32} {S : gm_S} {o : Outcome} {S2 : gm_S} (h : F_X3_enter fu x0 x1 S = some (o, S2)) : gx_Met l yX3_enter (ws_ yX3_enter cX3_enter 4 (Option.none : Option Jvm.ClassFile.FieldType)) d0 G S [va_rf x0, .int x1] o S2 := by
  refine gx_of hfl (by decide) (fun p e s m below meth c cx hnm hex hI => ?_)
  rw [lg_entry_eq]
  cases x0 <;> exact T_X3_enter (r := (o, S2)) hD h p e s m _ below meth c _ _ _ _ _ cx hnm (gz_nh0 hex) hI (lv_entry _ (Nat.le_of_ble_eq_true rfl))
theorem C_X3_enter {p : Program} {l : Launch} {e : Env} {s : State} {m : MethodId} {args : Array Value} {below : List Frame} {meth : Method} {c : Code} {H : Heap} {locs : List Loc} {cells slots : Nat} {cc : ByteArray} {pc nL : Nat} {ls : Array Slot} {rest : List Value} {G : gG} {S0 S : gm_S} {own : String} {ret : Option FieldType} {d0 index fu : Nat} {x0 : Option Nat} {x1 : Int32} {k : gm_S → gR} {r : Outcome × gm_S} (cx : gx_cx p l s m args meth c G own cc nL ret) (hex : ∀ x ∈ c.exceptionTable.toList, covers x pc = false) (hI : gw_I G S0 S H locs cells slots) (hl : gl_M own index yX3_enter args s) (hlv : ls.size = nL) (hrest : (rest.map fun v => v.category).sum ≤ 8) (hD : 15 ≤ d0) (hdg : decode cc pc = .ok (.invokevirtual index, 3)) {b : Nat} (hat : g_at S x0 3 = some b) (h : gz_cV (F_X3_enter fu x0 x1 S) k = some r)
    (kk : ∀ (z : gm_S), k z = some r → ∀ (H : Heap) (locs : List Loc) (cells slots : Nat), gw_I G S0 z H locs cells slots → W p l e (gx_rm d0 S0) s m args below meth c H locs cells slots (gx_MQ below G S0 r.2 r.1 s) (F0 m (pc + 3) ls rest)) : W p l e (gx_rm d0 S0) s m args below meth c H locs cells slots (gx_MQ below G S0 r.2 r.1 s) (F0 m pc ls (.int x1 :: va_rf x0 :: rest)) := by
  obtain ⟨rfl, ht⟩ := g_at_s hat
  have hts := cx.2.2.2.2.1
  have hK := cx.2.2.2.2.2.1
  exact gz_goV (d := d0 - 1) (fun S => S) cx hex hI hlv hrest (by omega) (Nat.le_of_ble_eq_true rfl) (gz_ws (lw_meth q774) hts) (hts _ q74) (gb_rawV (As := [.int x1]) cx hl (hts _ q773) (hts _ qs14) (gl_C.code (hts _ q774)) hy_X3_enter (gr_recv hK hI.1 ht rfl) rfl rfl hdg) (fun o S2 e => M_X3_enter (x0 := some b) cx.2.2.2.2.2.2.2.2 (by omega) e) h kk
abbrev B_X1_down (l : Launch) (d0 : Nat) (G : gG) (S0 : gm_S) : Nat → List (Nat × Value) → List Value → gm_S → Outcome → gm_S → Prop := gz_B l RX1 "down" cX1_down 5 (Option.some Jvm.ClassFile.FieldType.int) [] d0 G S0
theorem CR_X1_down {p : Program} {l : Launch} {e : Env} {s : State} {m : MethodId} {args : Array Value} {below : List Frame} {meth : Method} {c : Code} {H : Heap} {locs : List Loc} {cells slots : Nat} {cc : ByteArray} {pc nL : Nat} {ls : Array Slot} {rest : List Value} {G : gG} {S0 S : gm_S} {own : String} {ret : Option FieldType} {d0 index : Nat} {rc : Option Nat → Int32 → gm_S → gR} {dr : Nat} {x0 : Option Nat} {x1 : Int32} {k : Int32 → gm_S → gR} {r : Outcome × gm_S} (hrc : ∀ (x0 : Option Nat) (x1 : Int32) (S : gm_S) (o : Outcome) (S2 : gm_S), rc x0 x1 S = some (o, S2) → gx_Met l yX1_down (ws_ yX1_down cX1_down 5 (Option.some Jvm.ClassFile.FieldType.int)) dr G S [va_rf x0, .int x1] o S2) (hdr : dr + 1 ≤ d0) (cx : gx_cx p l s m args meth c G own cc nL ret) (hex : ∀ x ∈ c.exceptionTable.toList, covers x pc = false) (hI : gw_I G S0 S H locs cells slots) (hl : gl_M own index yX1_down args s) (hlv : ls.size = nL) (hrest : (rest.map fun v => v.category).sum ≤ 8) (hdg : decode cc pc = .ok (.invokestatic index, 3)) (h : gz_cI (rc x0 x1 S) k = some r)
    (kk : ∀ (v : Int32) (z : gm_S), k v z = some r → ∀ (H : Heap) (locs : List Loc) (cells slots : Nat), gw_I G S0 z H locs cells slots → W p l e (gx_rm d0 S0) s m args below meth c H locs cells slots (gx_MQ below G S0 r.2 r.1 s) (F0 m (pc + 3) ls (.int v :: rest))) : W p l e (gx_rm d0 S0) s m args below meth c H locs cells slots (gx_MQ below G S0 r.2 r.1 s) (F0 m pc ls (.int x1 :: va_rf x0 :: rest)) := by
  have hts := cx.2.2.2.2.1
  have hK := cx.2.2.2.2.2.1
  exact gz_goI (d := dr) (fun S => S) cx hex hI hlv hrest hdr (Nat.le_of_ble_eq_true rfl) (gz_ws (lw_meth q768) hts) (hts _ q72) (gb_rawS (As := [va_rf x0, .int x1]) cx hl (hts _ q767) (hts _ q72) (gl_C.code (hts _ q768)) hy_X1_down rfl rfl hdg) (fun o S2 e => hrc _ _ _ o S2 e) h kk
theorem T_X1_down_50 {l : Launch} {G : gG} {S0 : gm_S} {d0 fu : Nat} {rc : Option Nat → Int32 → gm_S → gR} {r : Outcome × gm_S} (hD : 11 ≤ d0) {dr : Nat} (hrc : ∀ (x0 : Option Nat) (x1 : Int32) (S : gm_S) (o : Outcome) (S2 : gm_S), rc x0 x1 S = some (o, S2) → gx_Met l yX1_down (ws_ yX1_down cX1_down 5 (Option.some Jvm.ClassFile.FieldType.int)) dr G S [va_rf x0, .int x1] o S2) (hdr : dr + 1 ≤ d0) : ∀ (n : Nat) (x0 : Option Nat) (x2 : Int32) (x3 : Int32) (S : gm_S), F_X1_down_50 fu rc n x0 x2 x3 S = some r → B_X1_down l d0 G S0 50 [(0, va_rf x0), (2, .int x2), (3, .int x3)] [] S r.1 r.2 := by
  intro n
  induction n with
  | zero => intro x0 x2 x3 S h; exact nomatch (show (none : gR) = some r from h)
  | succ n ih =>
    intro x0 x2 x3 S h
    rw [F_X1_down_50] at h
    intro p e s m args below meth c H locs cells slots ls cx hnm hex hI hl
    have hx := cx.1
    have hb := cx.2.1
    have hown := cx.2.2.2.1
    have hts := cx.2.2.2.2.1
    have hK := cx.2.2.2.2.2.1
    refine lv_iload_n hx hb dX1_down_50 rfl (lv_at hl 2 rfl) ?_
    refine gr_aload_n hx hb x0 dX1_down_51 rfl (lv_at hl 0 rfl) ?_
    obtain ⟨v1, e1, h⟩ := g_bind h
    refine gr_getR cx hI e1 rfl (fun _ => rfl) rfl (Or.inr ⟨_, gk_w hK q423 rfl⟩) dX1_down_52 ?_
    obtain ⟨v2, e2, h⟩ := g_bind h
    refine gr_lsize cx (gz_nh hex) hI (Or.inl (hts _ q298)) hl.1 (gz_cs (Nat.le_of_ble_eq_true rfl)) (by omega) dX1_down_55 e2 (fun H locs cells slots hI => ?_)
    refine lv_icmp_ge (tgt := 103) hx hb dX1_down_58 rfl (fun hc => ?_) (fun hc => ?_)
    · have h := gz_t h hc
      refine lv_iload_n hx hb dX1_down_103 rfl (lv_at hl 1 rfl) ?_
      cases h
      exact gr_iret cx hI dX1_down_104
    · have h := gz_f h hc
      refine gr_aload_n hx hb x0 dX1_down_61 rfl (lv_at hl 0 rfl) ?_
      obtain ⟨v3, e3, h⟩ := g_bind h
      refine gr_getR cx hI e3 rfl (fun _ => rfl) rfl (Or.inr ⟨_, gk_w hK q423 rfl⟩) dX1_down_62 ?_
      refine lv_iload_n hx hb dX1_down_65 rfl (lv_at hl 2 rfl) ?_
      obtain ⟨v4, e4, h⟩ := g_bind h
      refine gr_lgetr cx (gz_nh hex) hI (Or.inl (hts _ q271)) hl.1 (gz_cs (Nat.le_of_ble_eq_true rfl)) (by omega) dX1_down_66 e4 (fun H locs cells slots hI => ?_)
      obtain ⟨a5, e5, h⟩ := gz_q_s h
      refine gr_ck1 cx hI e5 rfl (hts _ q285) dX1_down_69 ?_
      refine gz_astore hx hb dX1_down_72 hl (by decide) [0, 1, 2] rfl (gz_con ⟨gz_ne rfl, Or.inl (gz_ne rfl)⟩ (gz_con ⟨gz_ne rfl, Or.inl (gz_ne rfl)⟩ (gz_con ⟨gz_ne rfl, Or.inr rfl⟩ gz_nil))) (fun ls hl => ?_)
      refine lv_iload_n hx hb dX1_down_74 rfl (lv_at hl 2 rfl) ?_
      refine gr_aload hx hb (some v4) dX1_down_75 (lv_at hl 0 rfl) ?_
      obtain ⟨v6, e6, h⟩ := g_bind h
      refine gr_getI cx hI e6 rfl (fun _ => rfl) rfl (Or.inr ⟨_, gk_w hK q435 rfl⟩) dX1_down_77 ?_
      refine gr_aload hx hb (some v4) dX1_down_80 (lv_at hl 0 rfl) ?_
      obtain ⟨a7, t7, h⟩ := gz_q_s h
      refine C_X5_bit cx (gz_nh hex) hI (Or.inl (hts _ q769)) hl.1 (gz_cs (Nat.le_of_ble_eq_true rfl)) (by omega) dX1_down_82 t7 h (fun v7 S7 h H locs cells slots hI => ?_)
      refine lv_ior hx hb dX1_down_85 ?_
      refine lv_iand hx hb dX1_down_86 ?_
      refine lv_if_ne (tgt := 97) hx hb dX1_down_87 rfl (fun hc => ?_) (fun hc => ?_)
      · have h := gz_f h hc
        refine gz_iinc (k := 3) (v := (x3 + (1 : Int32))) hx hb dX1_down_97 hl rfl (congrArg (fun z => x3 + z) gz_ic_1) (by decide) [1, 2] rfl (gz_con ⟨gz_ne rfl, Or.inl (gz_ne rfl)⟩ (gz_con ⟨gz_ne rfl, Or.inr rfl⟩ gz_nil)) (fun ls hl => ?_)
        refine lv_goto (tgt := 50) hx hb dX1_down_100 rfl ?_
        exact ih _ _ _ _ h p e s m args below meth c H locs cells slots ls cx hnm hex hI (lv_sub hl [1, 2, 0] rfl)
      · have h := gz_t h hc
        refine gr_aload hx hb (some v4) dX1_down_90 (lv_at hl 0 rfl) ?_
        refine lv_iload_n hx hb dX1_down_92 rfl (lv_at hl 2 rfl) ?_
        refine CR_X1_down hrc hdr cx (gz_nh hex) hI (Or.inl (hts _ q770)) hl.1 (gz_cs (Nat.le_of_ble_eq_true rfl)) dX1_down_93 h (fun v8 S8 h H locs cells slots hI => ?_)
        refine gz_istore_n hx hb dX1_down_96 rfl hl (by decide) [1, 3] rfl (gz_con ⟨gz_ne rfl, Or.inl (gz_ne rfl)⟩ (gz_con ⟨gz_ne rfl, Or.inl (gz_ne rfl)⟩ gz_nil)) (fun ls hl => ?_)
        refine gz_iinc (k := 2) (v := (x3 + (1 : Int32))) hx hb dX1_down_97 hl rfl (congrArg (fun z => x3 + z) gz_ic_1) (by decide) [0, 1] rfl (gz_con ⟨gz_ne rfl, Or.inr rfl⟩ (gz_con ⟨gz_ne rfl, Or.inl (gz_ne rfl)⟩ gz_nil)) (fun ls hl => ?_)
        refine lv_goto (tgt := 50) hx hb dX1_down_100 rfl ?_
        exact ih _ _ _ _ h p e s m args below meth c H locs cells slots ls cx hnm hex hI (lv_sub hl [2, 1, 0] rfl)
theorem T_X1_down_40 {l : Launch} {G : gG} {S0 : gm_S} {d0 fu : Nat} {rc : Option Nat → Int32 → gm_S → gR} {r : Outcome × gm_S} (hD : 11 ≤ d0) {dr : Nat} (hrc : ∀ (x0 : Option Nat) (x1 : Int32) (S : gm_S) (o : Outcome) (S2 : gm_S), rc x0 x1 S = some (o, S2) → gx_Met l yX1_down (ws_ yX1_down cX1_down 5 (Option.some Jvm.ClassFile.FieldType.int)) dr G S [va_rf x0, .int x1] o S2) (hdr : dr + 1 ≤ d0) {x0 : Option Nat} {x2 : Int32} {S : gm_S} (h : F_X1_down_40 fu rc x0 x2 S = some r) : B_X1_down l d0 G S0 40 [(0, va_rf x0), (2, .int x2)] [] S r.1 r.2 := by
  unfold F_X1_down_40 at h
  intro p e s m args below meth c H locs cells slots ls cx hnm hex hI hl
  have hx := cx.1
  have hb := cx.2.1
  have hown := cx.2.2.2.1
  have hts := cx.2.2.2.2.1
  have hK := cx.2.2.2.2.2.1
  refine gr_aload_n hx hb x0 dX1_down_40 rfl (lv_at hl 0 rfl) ?_
  obtain ⟨v1, e1, h⟩ := g_bind h
  refine gr_getI cx hI e1 rfl (fun _ => rfl) rfl (Or.inr ⟨_, gk_w hK q419 rfl⟩) dX1_down_41 ?_
  refine lv_iconst hx hb dX1_down_44 gz_ic_2 ?_
  refine lv_icmp_ne (tgt := 103) hx hb dX1_down_45 rfl (fun hc => ?_) (fun hc => ?_)
  · have h := gz_f h hc
    refine lv_iload_n hx hb dX1_down_103 rfl (lv_at hl 1 rfl) ?_
    cases h
    exact gr_iret cx hI dX1_down_104
  · have h := gz_t h hc
    refine lv_iconst hx hb dX1_down_48 gz_ic_0 ?_
    refine gz_istore_n hx hb dX1_down_49 rfl hl (by decide) [0, 1] rfl (gz_con ⟨gz_ne rfl, Or.inl (gz_ne rfl)⟩ (gz_con ⟨gz_ne rfl, Or.inr rfl⟩ gz_nil)) (fun ls hl => ?_)
    exact T_X1_down_50 hD hrc hdr fu _ _ _ _ h p e s m args below meth c H locs cells slots ls cx hnm hex hI (lv_sub hl [1, 2, 0] rfl)
theorem T_X1_down {l : Launch} {G : gG} {S0 : gm_S} {d0 fu : Nat} {rc : Option Nat → Int32 → gm_S → gR} {r : Outcome × gm_S} (hD : 11 ≤ d0) {dr : Nat} (hrc : ∀ (x0 : Option Nat) (x1 : Int32) (S : gm_S) (o : Outcome) (S2 : gm_S), rc x0 x1 S = some (o, S2) → gx_Met l yX1_down (ws_ yX1_down cX1_down 5 (Option.some Jvm.ClassFile.FieldType.int)) dr G S [va_rf x0, .int x1] o S2) (hdr : dr + 1 ≤ d0) {x0 : Option Nat} {x1 : Int32} {S : gm_S} (h : F_X1_down_e fu rc x0 x1 S = some r) : B_X1_down l d0 G S0 0 [(0, va_rf x0), (1, .int x1)] [] S r.1 r.2 := by
  unfold F_X1_down_e at h
  intro p e s m args below meth c H locs cells slots ls cx hnm hex hI hl
  have hx := cx.1
  have hb := cx.2.1
  have hown := cx.2.2.2.1
  have hts := cx.2.2.2.2.1
  have hK := cx.2.2.2.2.2.1
  refine lv_iload_n hx hb dX1_down_0 rfl (lv_at hl 1 rfl) ?_
  refine gr_aload_n hx hb x0 dX1_down_1 rfl (lv_at hl 0 rfl) ?_
  obtain ⟨a1, t1, h⟩ := gz_q_s h
  refine C_X5_bit cx (gz_nh hex) hI (Or.inl (hts _ q769)) hl.1 (gz_cs (Nat.le_of_ble_eq_true rfl)) (by omega) dX1_down_2 t1 h (fun v1 S1 h H locs cells slots hI => ?_)
  refine lv_ior hx hb dX1_down_5 ?_
  refine gz_istore_n hx hb dX1_down_6 rfl hl (by decide) [0] rfl (gz_con ⟨gz_ne rfl, Or.inl (gz_ne rfl)⟩ gz_nil) (fun ls hl => ?_)
  refine gr_aload_n hx hb x0 dX1_down_7 rfl (lv_at hl 1 rfl) ?_
  obtain ⟨v2, e2, h⟩ := g_bind h
  refine gr_getI cx hI e2 rfl (fun _ => rfl) rfl (Or.inr ⟨_, gk_w hK q419 rfl⟩) dX1_down_8 ?_
  refine lv_iconst hx hb dX1_down_11 gz_ic_1 ?_
  refine lv_icmp_ne (tgt := 40) hx hb dX1_down_12 rfl (fun hc => ?_) (fun hc => ?_)
  · have h := gz_f h hc
    exact T_X1_down_40 hD hrc hdr h p e s m args below meth c H locs cells slots ls cx hnm hex hI (lv_sub hl [1, 0] rfl)
  · have h := gz_t h hc
    refine lv_iload_n hx hb dX1_down_15 rfl (lv_at hl 0 rfl) ?_
    refine gr_aload_n hx hb x0 dX1_down_16 rfl (lv_at hl 1 rfl) ?_
    obtain ⟨v3, e3, h⟩ := g_bind h
    refine gr_getI cx hI e3 rfl (fun _ => rfl) rfl (Or.inr ⟨_, gk_w hK q435 rfl⟩) dX1_down_17 ?_
    refine lv_iand hx hb dX1_down_20 ?_
    refine lv_if_ne (tgt := 40) hx hb dX1_down_21 rfl (fun hc => ?_) (fun hc => ?_)
    · have h := gz_f h hc
      exact T_X1_down_40 hD hrc hdr h p e s m args below meth c H locs cells slots ls cx hnm hex hI (lv_sub hl [1, 0] rfl)
    · have h := gz_t h hc
      refine gr_aload_n hx hb x0 dX1_down_24 rfl (lv_at hl 1 rfl) ?_
      obtain ⟨v4, e4, h⟩ := g_bind h
      refine gr_getR cx hI e4 rfl (fun _ => rfl) rfl (Or.inr ⟨_, gk_w hK q423 rfl⟩) dX1_down_25 ?_
      refine lv_iconst hx hb dX1_down_28 gz_ic_0 ?_
      obtain ⟨v5, e5, h⟩ := g_bind h
      refine gr_lgetr cx (gz_nh hex) hI (Or.inl (hts _ q271)) hl.1 (gz_cs (Nat.le_of_ble_eq_true rfl)) (by omega) dX1_down_29 e5 (fun H locs cells slots hI => ?_)
      obtain ⟨a6, e6, h⟩ := gz_q_s h
      refine gr_ck1 cx hI e6 rfl (hts _ q285) dX1_down_32 ?_
      refine lv_iload_n hx hb dX1_down_35 rfl (lv_at hl 0 rfl) ?_
      refine CR_X1_down hrc hdr cx (gz_nh hex) hI (Or.inl (hts _ q770)) hl.1 (gz_cs (Nat.le_of_ble_eq_true rfl)) dX1_down_36 h (fun v7 S7 h H locs cells slots hI => ?_)
      cases h
      exact gr_iret cx hI dX1_down_39
theorem M_X1_down {l : Launch} {G : gG} {fu : Nat} (hfl : l.flags = flags0) : ∀ (dp : Nat) {d0 : Nat} (_ : 11 + dp ≤ d0) {x0 : Option Nat} {x1 : Int32} {S : gm_S} {o : Outcome} {S2 : gm_S} (_ : F_X1_down fu dp x0 x1 S = some (o, S2)), gx_Met l yX1_down (ws_ yX1_down cX1_down 5 (Option.some Jvm.ClassFile.FieldType.int)) d0 G S [va_rf x0, .int x1] o S2 := by
  intro dp
  induction dp with
  | zero => intro d0 hD x0 x1 S o S2 h; exact nomatch (show (none : gR) = some (o, S2) from h)
  | succ dp ih =>
    intro d0 hD x0 x1 S o S2 h
    rw [F_X1_down] at h
    refine gx_of hfl (by decide) (fun p e s m below meth c cx hnm hex hI => ?_)
    rw [lg_entry_eq]
    cases x0 <;> exact T_X1_down (r := (o, S2)) (by omega) (dr := d0 - 1) (fun x0 x1 S o S2 h => ih (by omega) h) (by omega) h p e s m _ below meth c _ _ _ _ _ cx hnm (gz_nh0 hex) hI (lv_entry _ (Nat.le_of_ble_eq_true rfl))
theorem C_X1_down {p : Program} {l : Launch} {e : Env} {s : State} {m : MethodId} {args : Array Value} {below : List Frame} {meth : Method} {c : Code} {H : Heap} {locs : List Loc} {cells slots : Nat} {cc : ByteArray} {pc nL : Nat} {ls : Array Slot} {rest : List Value} {G : gG} {S0 S : gm_S} {own : String} {ret : Option FieldType} {d0 index fu : Nat} {x0 : Option Nat} {x1 : Int32} {k : Int32 → gm_S → gR} {r : Outcome × gm_S} (cx : gx_cx p l s m args meth c G own cc nL ret) (hex : ∀ x ∈ c.exceptionTable.toList, covers x pc = false) (hI : gw_I G S0 S H locs cells slots) (hl : gl_M own index yX1_down args s) (hlv : ls.size = nL) (hrest : (rest.map fun v => v.category).sum ≤ 8) (hD : 20 ≤ d0) (hdg : decode cc pc = .ok (.invokestatic index, 3)) (h : gz_cI (F_X1_down fu 8 x0 x1 S) k = some r)
    (kk : ∀ (v : Int32) (z : gm_S), k v z = some r → ∀ (H : Heap) (locs : List Loc) (cells slots : Nat), gw_I G S0 z H locs cells slots → W p l e (gx_rm d0 S0) s m args below meth c H locs cells slots (gx_MQ below G S0 r.2 r.1 s) (F0 m (pc + 3) ls (.int v :: rest))) : W p l e (gx_rm d0 S0) s m args below meth c H locs cells slots (gx_MQ below G S0 r.2 r.1 s) (F0 m pc ls (.int x1 :: va_rf x0 :: rest)) := by
  have hts := cx.2.2.2.2.1
  have hK := cx.2.2.2.2.2.1
  exact gz_goI (d := d0 - 1) (fun S => S) cx hex hI hlv hrest (by omega) (Nat.le_of_ble_eq_true rfl) (gz_ws (lw_meth q768) hts) (hts _ q72) (gb_rawS (As := [va_rf x0, .int x1]) cx hl (hts _ q767) (hts _ q72) (gl_C.code (hts _ q768)) hy_X1_down rfl rfl hdg) (fun o S2 e => M_X1_down cx.2.2.2.2.2.2.2.2 8 (by omega) e) h kk
abbrev B_X1_up (l : Launch) (d0 : Nat) (G : gG) (S0 : gm_S) : Nat → List (Nat × Value) → List Value → gm_S → Outcome → gm_S → Prop := gz_B l RX1 "up" cX1_up 7 (Option.some Jvm.ClassFile.FieldType.int) [] d0 G S0
theorem T_X1_up_42 {l : Launch} {G : gG} {S0 : gm_S} {d0 fu : Nat} {k8 : Option Nat → Int32 → Option Nat → gm_S → gR} {r : Outcome × gm_S} (hD : 20 ≤ d0)
    (hk8 : ∀ (x1 : Option Nat) (x3 : Int32) (x4 : Option Nat) (S : gm_S), k8 x1 x3 x4 S = some r → B_X1_up l d0 G S0 8 [(1, va_rf x1), (3, .int x3), (4, va_rf x4)] [] S r.1 r.2) : ∀ (n : Nat) (x1 : Option Nat) (x3 : Int32) (x4 : Option Nat) (x5 : Int32) (S : gm_S), F_X1_up_42 fu k8 n x1 x3 x4 x5 S = some r → B_X1_up l d0 G S0 42 [(1, va_rf x1), (3, .int x3), (4, va_rf x4), (5, .int x5)] [] S r.1 r.2 := by
  intro n
  induction n with
  | zero => intro x1 x3 x4 x5 S h; exact nomatch (show (none : gR) = some r from h)
  | succ n ih =>
    intro x1 x3 x4 x5 S h
    rw [F_X1_up_42] at h
    intro p e s m args below meth c H locs cells slots ls cx hnm hex hI hl
    have hx := cx.1
    have hb := cx.2.1
    have hown := cx.2.2.2.1
    have hts := cx.2.2.2.2.1
    have hK := cx.2.2.2.2.2.1
    refine lv_iload hx hb dX1_up_42 (lv_at hl 3 rfl) ?_
    refine gr_aload hx hb x4 dX1_up_44 (lv_at hl 2 rfl) ?_
    obtain ⟨v1, e1, h⟩ := g_bind h
    refine gr_getR cx hI e1 rfl (fun _ => rfl) rfl (Or.inr ⟨_, gk_w hK q423 rfl⟩) dX1_up_46 ?_
    obtain ⟨v2, e2, h⟩ := g_bind h
    refine gr_lsize cx (gz_nh hex) hI (Or.inl (hts _ q298)) hl.1 (gz_cs (Nat.le_of_ble_eq_true rfl)) (by omega) dX1_up_49 e2 (fun H locs cells slots hI => ?_)
    refine lv_icmp_ge (tgt := 99) hx hb dX1_up_52 rfl (fun hc => ?_) (fun hc => ?_)
    · have h := gz_t h hc
      refine gr_aload hx hb x4 dX1_up_99 (lv_at hl 2 rfl) ?_
      obtain ⟨v3, e3, h⟩ := g_bind h
      refine gr_getR cx hI e3 rfl (fun _ => rfl) rfl (Or.inr ⟨_, gk_w hK q417 rfl⟩) dX1_up_101 ?_
      refine gz_astore hx hb dX1_up_104 hl (by decide) [0, 1] rfl (gz_con ⟨gz_ne rfl, Or.inl (gz_ne rfl)⟩ (gz_con ⟨gz_ne rfl, Or.inr rfl⟩ gz_nil)) (fun ls hl => ?_)
      refine lv_goto (tgt := 8) hx hb dX1_up_106 rfl ?_
      exact hk8 _ _ _ _ h p e s m args below meth c H locs cells slots ls cx hnm hex hI (lv_sub hl [1, 2, 0] rfl)
    · have h := gz_f h hc
      refine gr_aload hx hb x4 dX1_up_55 (lv_at hl 2 rfl) ?_
      obtain ⟨v4, e4, h⟩ := g_bind h
      refine gr_getR cx hI e4 rfl (fun _ => rfl) rfl (Or.inr ⟨_, gk_w hK q423 rfl⟩) dX1_up_57 ?_
      refine lv_iload hx hb dX1_up_60 (lv_at hl 3 rfl) ?_
      obtain ⟨v5, e5, h⟩ := g_bind h
      refine gr_lgetr cx (gz_nh hex) hI (Or.inl (hts _ q271)) hl.1 (gz_cs (Nat.le_of_ble_eq_true rfl)) (by omega) dX1_up_62 e5 (fun H locs cells slots hI => ?_)
      obtain ⟨a6, e6, h⟩ := gz_q_s h
      refine gr_ck1 cx hI e6 rfl (hts _ q285) dX1_up_65 ?_
      refine gz_astore hx hb dX1_up_68 hl (by decide) [0, 1, 2, 3] rfl (gz_con ⟨gz_ne rfl, Or.inl (gz_ne rfl)⟩ (gz_con ⟨gz_ne rfl, Or.inl (gz_ne rfl)⟩ (gz_con ⟨gz_ne rfl, Or.inl (gz_ne rfl)⟩ (gz_con ⟨gz_ne rfl, Or.inr rfl⟩ gz_nil)))) (fun ls hl => ?_)
      refine lv_iload_n hx hb dX1_up_70 rfl (lv_at hl 2 rfl) ?_
      refine gr_aload hx hb (some v5) dX1_up_71 (lv_at hl 0 rfl) ?_
      obtain ⟨v7, e7, h⟩ := g_bind h
      refine gr_getI cx hI e7 rfl (fun _ => rfl) rfl (Or.inr ⟨_, gk_w hK q435 rfl⟩) dX1_up_73 ?_
      refine gr_aload hx hb (some v5) dX1_up_76 (lv_at hl 0 rfl) ?_
      obtain ⟨a8, t8, h⟩ := gz_q_s h
      refine C_X5_bit cx (gz_nh hex) hI (Or.inl (hts _ q769)) hl.1 (gz_cs (Nat.le_of_ble_eq_true rfl)) (by omega) dX1_up_78 t8 h (fun v8 S8 h H locs cells slots hI => ?_)
      refine lv_ior hx hb dX1_up_81 ?_
      refine lv_iand hx hb dX1_up_82 ?_
      refine lv_if_ne (tgt := 93) hx hb dX1_up_83 rfl (fun hc => ?_) (fun hc => ?_)
      · have h := gz_f h hc
        refine gz_iinc (k := 4) (v := (x5 + (1 : Int32))) hx hb dX1_up_93 hl rfl (congrArg (fun z => x5 + z) gz_ic_1) (by decide) [1, 2, 3] rfl (gz_con ⟨gz_ne rfl, Or.inl (gz_ne rfl)⟩ (gz_con ⟨gz_ne rfl, Or.inl (gz_ne rfl)⟩ (gz_con ⟨gz_ne rfl, Or.inr (gl_cat x4)⟩ gz_nil))) (fun ls hl => ?_)
        refine lv_goto (tgt := 42) hx hb dX1_up_96 rfl ?_
        exact ih _ _ _ _ _ h p e s m args below meth c H locs cells slots ls cx hnm hex hI (lv_sub hl [1, 2, 3, 0] rfl)
      · have h := gz_t h hc
        refine gr_aload hx hb (some v5) dX1_up_86 (lv_at hl 0 rfl) ?_
        refine lv_iload_n hx hb dX1_up_88 rfl (lv_at hl 2 rfl) ?_
        refine C_X1_down cx (gz_nh hex) hI (Or.inl (hts _ q770)) hl.1 (gz_cs (Nat.le_of_ble_eq_true rfl)) (by omega) dX1_up_89 h (fun v9 S9 h H locs cells slots hI => ?_)
        refine gz_istore_n hx hb dX1_up_92 rfl hl (by decide) [1, 3, 4] rfl (gz_con ⟨gz_ne rfl, Or.inl (gz_ne rfl)⟩ (gz_con ⟨gz_ne rfl, Or.inl (gz_ne rfl)⟩ (gz_con ⟨gz_ne rfl, Or.inl (gz_ne rfl)⟩ gz_nil))) (fun ls hl => ?_)
        refine gz_iinc (k := 3) (v := (x5 + (1 : Int32))) hx hb dX1_up_93 hl rfl (congrArg (fun z => x5 + z) gz_ic_1) (by decide) [0, 1, 2] rfl (gz_con ⟨gz_ne rfl, Or.inl (gz_ne rfl)⟩ (gz_con ⟨gz_ne rfl, Or.inl (gz_ne rfl)⟩ (gz_con ⟨gz_ne rfl, Or.inr (gl_cat x4)⟩ gz_nil))) (fun ls hl => ?_)
        refine lv_goto (tgt := 42) hx hb dX1_up_96 rfl ?_
        exact ih _ _ _ _ _ h p e s m args below meth c H locs cells slots ls cx hnm hex hI (lv_sub hl [2, 1, 3, 0] rfl)
theorem T_X1_up_8 {l : Launch} {G : gG} {S0 : gm_S} {d0 fu : Nat} {r : Outcome × gm_S} (hD : 20 ≤ d0) : ∀ (n : Nat) (x1 : Option Nat) (x3 : Int32) (x4 : Option Nat) (S : gm_S), F_X1_up_8 fu n x1 x3 x4 S = some r → B_X1_up l d0 G S0 8 [(1, va_rf x1), (3, .int x3), (4, va_rf x4)] [] S r.1 r.2 := by
  intro n
  induction n with
  | zero => intro x1 x3 x4 S h; exact nomatch (show (none : gR) = some r from h)
  | succ n ih =>
    intro x1 x3 x4 S h
    rw [F_X1_up_8] at h
    intro p e s m args below meth c H locs cells slots ls cx hnm hex hI hl
    have hx := cx.1
    have hb := cx.2.1
    have hown := cx.2.2.2.1
    have hts := cx.2.2.2.2.1
    have hK := cx.2.2.2.2.2.1
    refine gr_aload hx hb x4 dX1_up_8 (lv_at hl 2 rfl) ?_
    refine gr_aload_n hx hb x1 dX1_up_10 rfl (lv_at hl 0 rfl) ?_
    refine lv_acmp_eq (tgt := 109) hx hb dX1_up_11 rfl (fun hc => ?_) (fun hc => ?_)
    · have h := gz_t h hc
      refine lv_iload_n hx hb dX1_up_109 rfl (lv_at hl 1 rfl) ?_
      cases h
      exact gr_iret cx hI dX1_up_110
    · have h := gz_f h hc
      refine gr_aload hx hb x4 dX1_up_14 (lv_at hl 2 rfl) ?_
      refine gr_ifnull (tgt := 109) hx hb dX1_up_16 rfl (fun hc => ?_) (fun hc => ?_)
      · have h := gz_t h hc
        refine lv_iload_n hx hb dX1_up_109 rfl (lv_at hl 1 rfl) ?_
        cases h
        exact gr_iret cx hI dX1_up_110
      · have h := gz_f h hc
        refine lv_iload_n hx hb dX1_up_19 rfl (lv_at hl 1 rfl) ?_
        refine gr_aload hx hb x4 dX1_up_20 (lv_at hl 2 rfl) ?_
        obtain ⟨a1, t1, h⟩ := gz_q_s h
        refine C_X5_bit cx (gz_nh hex) hI (Or.inl (hts _ q769)) hl.1 (gz_cs (Nat.le_of_ble_eq_true rfl)) (by omega) dX1_up_22 t1 h (fun v1 S1 h H locs cells slots hI => ?_)
        refine lv_ior hx hb dX1_up_25 ?_
        refine gz_istore_n hx hb dX1_up_26 rfl hl (by decide) [0, 2] rfl (gz_con ⟨gz_ne rfl, Or.inl (gz_ne rfl)⟩ (gz_con ⟨gz_ne rfl, Or.inl (gz_ne rfl)⟩ gz_nil)) (fun ls hl => ?_)
        refine gr_aload hx hb x4 dX1_up_27 (lv_at hl 2 rfl) ?_
        obtain ⟨v2, e2, h⟩ := g_bind h
        refine gr_getI cx hI e2 rfl (fun _ => rfl) rfl (Or.inr ⟨_, gk_w hK q419 rfl⟩) dX1_up_29 ?_
        refine lv_iconst hx hb dX1_up_32 gz_ic_2 ?_
        refine lv_icmp_eq (tgt := 39) hx hb dX1_up_33 rfl (fun hc => ?_) (fun hc => ?_)
        · have h := gz_t h hc
          refine lv_iconst hx hb dX1_up_39 gz_ic_0 ?_
          refine gz_istore hx hb dX1_up_40 hl (by decide) [0, 1, 2] rfl (gz_con ⟨gz_ne rfl, Or.inl (gz_ne rfl)⟩ (gz_con ⟨gz_ne rfl, Or.inl (gz_ne rfl)⟩ (gz_con ⟨gz_ne rfl, Or.inr (gl_cat x4)⟩ gz_nil))) (fun ls hl => ?_)
          exact T_X1_up_42 hD ih fu _ _ _ _ _ h p e s m args below meth c H locs cells slots ls cx hnm hex hI (lv_sub hl [2, 1, 3, 0] rfl)
        · have h := gz_f h hc
          refine lv_goto (tgt := 99) hx hb dX1_up_36 rfl ?_
          refine gr_aload hx hb x4 dX1_up_99 (lv_at hl 2 rfl) ?_
          obtain ⟨v3, e3, h⟩ := g_bind h
          refine gr_getR cx hI e3 rfl (fun _ => rfl) rfl (Or.inr ⟨_, gk_w hK q417 rfl⟩) dX1_up_101 ?_
          refine gz_astore hx hb dX1_up_104 hl (by decide) [0, 1] rfl (gz_con ⟨gz_ne rfl, Or.inr rfl⟩ (gz_con ⟨gz_ne rfl, Or.inl (gz_ne rfl)⟩ gz_nil)) (fun ls hl => ?_)
          refine lv_goto (tgt := 8) hx hb dX1_up_106 rfl ?_
          exact ih _ _ _ _ h p e s m args below meth c H locs cells slots ls cx hnm hex hI (lv_sub hl [2, 1, 0] rfl)
theorem T_X1_up {l : Launch} {G : gG} {S0 : gm_S} {d0 fu : Nat} {r : Outcome × gm_S} (hD : 20 ≤ d0) {x0 : Option Nat} {x1 : Option Nat} {x2 : Int32} {S : gm_S} (h : F_X1_up fu x0 x1 x2 S = some r) : B_X1_up l d0 G S0 0 [(0, va_rf x0), (1, va_rf x1), (2, .int x2)] [] S r.1 r.2 := by
  unfold F_X1_up at h
  intro p e s m args below meth c H locs cells slots ls cx hnm hex hI hl
  have hx := cx.1
  have hb := cx.2.1
  have hown := cx.2.2.2.1
  have hts := cx.2.2.2.2.1
  have hK := cx.2.2.2.2.2.1
  refine lv_iload_n hx hb dX1_up_0 rfl (lv_at hl 2 rfl) ?_
  refine gz_istore_n hx hb dX1_up_1 rfl hl (by decide) [0, 1] rfl (gz_con ⟨gz_ne rfl, Or.inl (gz_ne rfl)⟩ (gz_con ⟨gz_ne rfl, Or.inl (gz_ne rfl)⟩ gz_nil)) (fun ls hl => ?_)
  refine gr_aload_n hx hb x0 dX1_up_2 rfl (lv_at hl 1 rfl) ?_
  obtain ⟨v1, e1, h⟩ := g_bind h
  refine gr_getR cx hI e1 rfl (fun _ => rfl) rfl (Or.inr ⟨_, gk_w hK q417 rfl⟩) dX1_up_3 ?_
  refine gz_astore hx hb dX1_up_6 hl (by decide) [0, 2] rfl (gz_con ⟨gz_ne rfl, Or.inr rfl⟩ (gz_con ⟨gz_ne rfl, Or.inl (gz_ne rfl)⟩ gz_nil)) (fun ls hl => ?_)
  exact T_X1_up_8 hD fu _ _ _ _ h p e s m args below meth c H locs cells slots ls cx hnm hex hI (lv_sub hl [2, 1, 0] rfl)
theorem M_X1_up {l : Launch} {G : gG} {fu d0 : Nat} (hfl : l.flags = flags0) (hD : 20 ≤ d0) {x0 : Option Nat} {x1 : Option Nat} {x2 : Int32} {S : gm_S} {o : Outcome} {S2 : gm_S} (h : F_X1_up fu x0 x1 x2 S = some (o, S2)) : gx_Met l yX1_up (ws_ yX1_up cX1_up 7 (Option.some Jvm.ClassFile.FieldType.int)) d0 G S [va_rf x0, va_rf x1, .int x2] o S2 := by
  refine gx_of hfl (by decide) (fun p e s m below meth c cx hnm hex hI => ?_)
  rw [lg_entry_eq]
  cases x0 <;> cases x1 <;> exact T_X1_up (r := (o, S2)) hD h p e s m _ below meth c _ _ _ _ _ cx hnm (gz_nh0 hex) hI (lv_entry _ (Nat.le_of_ble_eq_true rfl))
theorem C_X1_up {p : Program} {l : Launch} {e : Env} {s : State} {m : MethodId} {args : Array Value} {below : List Frame} {meth : Method} {c : Code} {H : Heap} {locs : List Loc} {cells slots : Nat} {cc : ByteArray} {pc nL : Nat} {ls : Array Slot} {rest : List Value} {G : gG} {S0 S : gm_S} {own : String} {ret : Option FieldType} {d0 index fu : Nat} {x0 : Option Nat} {x1 : Option Nat} {x2 : Int32} {k : Int32 → gm_S → gR} {r : Outcome × gm_S} (cx : gx_cx p l s m args meth c G own cc nL ret) (hex : ∀ x ∈ c.exceptionTable.toList, covers x pc = false) (hI : gw_I G S0 S H locs cells slots) (hl : gl_M own index yX1_up args s) (hlv : ls.size = nL) (hrest : (rest.map fun v => v.category).sum ≤ 8) (hD : 21 ≤ d0) (hdg : decode cc pc = .ok (.invokestatic index, 3)) (h : gz_cI (F_X1_up fu x0 x1 x2 S) k = some r)
    (kk : ∀ (v : Int32) (z : gm_S), k v z = some r → ∀ (H : Heap) (locs : List Loc) (cells slots : Nat), gw_I G S0 z H locs cells slots → W p l e (gx_rm d0 S0) s m args below meth c H locs cells slots (gx_MQ below G S0 r.2 r.1 s) (F0 m (pc + 3) ls (.int v :: rest))) : W p l e (gx_rm d0 S0) s m args below meth c H locs cells slots (gx_MQ below G S0 r.2 r.1 s) (F0 m pc ls (.int x2 :: va_rf x1 :: va_rf x0 :: rest)) := by
  have hts := cx.2.2.2.2.1
  have hK := cx.2.2.2.2.2.1
  exact gz_goI (d := d0 - 1) (fun S => S) cx hex hI hlv hrest (by omega) (Nat.le_of_ble_eq_true rfl) (gz_ws (lw_meth q961) hts) (hts _ q72) (gb_rawS (As := [va_rf x0, va_rf x1, .int x2]) cx hl (hts _ q960) (hts _ q72) (gl_C.code (hts _ q961)) hy_X1_up rfl rfl hdg) (fun o S2 e => M_X1_up cx.2.2.2.2.2.2.2.2 (by omega) e) h kk
abbrev B_X3_entries (l : Launch) (d0 : Nat) (G : gG) (S0 : gm_S) : Nat → List (Nat × Value) → List Value → gm_S → Outcome → gm_S → Prop := gz_B l RX3 "entries" cX3_entries 6 (Option.some Jvm.ClassFile.FieldType.int) [] d0 G S0
theorem T_X3_entries_113 {l : Launch} {G : gG} {S0 : gm_S} {d0 fu : Nat} {k4 : Option Nat → Int32 → Int32 → gm_S → gR} {k37 : Option Nat → Int32 → Int32 → Option Nat → Int32 → gm_S → gR} {r : Outcome × gm_S} (hD : 21 ≤ d0)
    (hk4 : ∀ (x0 : Option Nat) (x1 : Int32) (x2 : Int32) (S : gm_S), k4 x0 x1 x2 S = some r → B_X3_entries l d0 G S0 4 [(0, va_rf x0), (1, .int x1), (2, .int x2)] [] S r.1 r.2)
    (hk37 : ∀ (x0 : Option Nat) (x1 : Int32) (x2 : Int32) (x3 : Option Nat) (x4 : Int32) (S : gm_S), k37 x0 x1 x2 x3 x4 S = some r → B_X3_entries l d0 G S0 37 [(0, va_rf x0), (1, .int x1), (2, .int x2), (3, va_rf x3), (4, .int x4)] [] S r.1 r.2) {x0 : Option Nat} {x1 : Int32} {x2 : Int32} {x3 : Option Nat} {x4 : Int32} {s0 : Option Nat} {s1 : Option Nat} {S : gm_S} (h : F_X3_entries_113 fu k4 k37 x0 x1 x2 x3 x4 s0 s1 S = some r) : B_X3_entries l d0 G S0 113 [(0, va_rf x0), (1, .int x1), (2, .int x2), (3, va_rf x3), (4, .int x4)] [va_rf s0, va_rf s1] S r.1 r.2 := by
  unfold F_X3_entries_113 at h
  intro p e s m args below meth c H locs cells slots ls cx hnm hex hI hl
  have hx := cx.1
  have hb := cx.2.1
  have hown := cx.2.2.2.1
  have hts := cx.2.2.2.2.1
  have hK := cx.2.2.2.2.2.1
  refine lv_iload_n hx hb dX3_entries_113 rfl (lv_at hl 1 rfl) ?_
  refine C_X1_up cx (gz_nh hex) hI (Or.inr ⟨_, gk_w hK q959 rfl⟩) hl.1 (gz_cs (Nat.le_of_ble_eq_true rfl)) (by omega) dX3_entries_114 h (fun v1 S1 h H locs cells slots hI => ?_)
  refine gz_istore_n hx hb dX3_entries_117 rfl hl (by decide) [0, 2, 3, 4] rfl (gz_con ⟨gz_ne rfl, Or.inr (gl_cat x0)⟩ (gz_con ⟨gz_ne rfl, Or.inl (gz_ne rfl)⟩ (gz_con ⟨gz_ne rfl, Or.inl (gz_ne rfl)⟩ (gz_con ⟨gz_ne rfl, Or.inl (gz_ne rfl)⟩ gz_nil)))) (fun ls hl => ?_)
  refine gz_iinc (k := 4) (v := (x4 + (1 : Int32))) hx hb dX3_entries_118 hl rfl (congrArg (fun z => x4 + z) gz_ic_1) (by decide) [0, 1, 2, 3] rfl (gz_con ⟨gz_ne rfl, Or.inl (gz_ne rfl)⟩ (gz_con ⟨gz_ne rfl, Or.inl (gz_ne rfl)⟩ (gz_con ⟨gz_ne rfl, Or.inl (gz_ne rfl)⟩ (gz_con ⟨gz_ne rfl, Or.inr (gl_cat x3)⟩ gz_nil)))) (fun ls hl => ?_)
  refine lv_goto (tgt := 37) hx hb dX3_entries_121 rfl ?_
  exact hk37 _ _ _ _ _ _ h p e s m args below meth c H locs cells slots ls cx hnm hex hI (lv_sub hl [2, 1, 3, 4, 0] rfl)
theorem T_X3_entries_37 {l : Launch} {G : gG} {S0 : gm_S} {d0 fu : Nat} {k4 : Option Nat → Int32 → Int32 → gm_S → gR} {r : Outcome × gm_S} (hD : 21 ≤ d0)
    (hk4 : ∀ (x0 : Option Nat) (x1 : Int32) (x2 : Int32) (S : gm_S), k4 x0 x1 x2 S = some r → B_X3_entries l d0 G S0 4 [(0, va_rf x0), (1, .int x1), (2, .int x2)] [] S r.1 r.2) : ∀ (n : Nat) (x0 : Option Nat) (x1 : Int32) (x2 : Int32) (x3 : Option Nat) (x4 : Int32) (S : gm_S), F_X3_entries_37 fu k4 n x0 x1 x2 x3 x4 S = some r → B_X3_entries l d0 G S0 37 [(0, va_rf x0), (1, .int x1), (2, .int x2), (3, va_rf x3), (4, .int x4)] [] S r.1 r.2 := by
  intro n
  induction n with
  | zero => intro x0 x1 x2 x3 x4 S h; exact nomatch (show (none : gR) = some r from h)
  | succ n ih =>
    intro x0 x1 x2 x3 x4 S h
    rw [F_X3_entries_37] at h
    intro p e s m args below meth c H locs cells slots ls cx hnm hex hI hl
    have hx := cx.1
    have hb := cx.2.1
    have hown := cx.2.2.2.1
    have hts := cx.2.2.2.2.1
    have hK := cx.2.2.2.2.2.1
    refine lv_iload hx hb dX3_entries_37 (lv_at hl 4 rfl) ?_
    refine gr_aload_n hx hb x0 dX3_entries_39 rfl (lv_at hl 0 rfl) ?_
    obtain ⟨v1, e1, h⟩ := g_bind h
    refine gr_getR cx hI e1 rfl (fun _ => rfl) rfl (Or.inl (hts _ q180)) dX3_entries_40 ?_
    obtain ⟨v2, e2, h⟩ := g_bind h
    refine gr_lsize cx (gz_nh hex) hI (Or.inl (hts _ q759)) hl.1 (gz_cs (Nat.le_of_ble_eq_true rfl)) (by omega) dX3_entries_43 e2 (fun H locs cells slots hI => ?_)
    refine lv_icmp_ge (tgt := 124) hx hb dX3_entries_46 rfl (fun hc => ?_) (fun hc => ?_)
    · have h := gz_t h hc
      refine gz_iinc (k := 2) (v := (x2 + (1 : Int32))) hx hb dX3_entries_124 hl rfl (congrArg (fun z => x2 + z) gz_ic_1) (by decide) [0, 1] rfl (gz_con ⟨gz_ne rfl, Or.inl (gz_ne rfl)⟩ (gz_con ⟨gz_ne rfl, Or.inr rfl⟩ gz_nil)) (fun ls hl => ?_)
      refine lv_goto (tgt := 4) hx hb dX3_entries_127 rfl ?_
      exact hk4 _ _ _ _ h p e s m args below meth c H locs cells slots ls cx hnm hex hI (lv_sub hl [1, 2, 0] rfl)
    · have h := gz_f h hc
      refine gr_aload_n hx hb x0 dX3_entries_49 rfl (lv_at hl 0 rfl) ?_
      obtain ⟨v3, e3, h⟩ := g_bind h
      refine gr_getR cx hI e3 rfl (fun _ => rfl) rfl (Or.inl (hts _ q180)) dX3_entries_50 ?_
      refine lv_iload hx hb dX3_entries_53 (lv_at hl 4 rfl) ?_
      obtain ⟨v4, e4, h⟩ := g_bind h
      refine gr_lgetr cx (gz_nh hex) hI (Or.inl (hts _ q760)) hl.1 (gz_cs (Nat.le_of_ble_eq_true rfl)) (by omega) dX3_entries_55 e4 (fun H locs cells slots hI => ?_)
      obtain ⟨a5, e5, h⟩ := gz_q_s h
      refine gr_ck1 cx hI e5 rfl (hts _ q761) dX3_entries_58 ?_
      refine gz_astore hx hb dX3_entries_61 hl (by decide) [0, 1, 2, 3, 4] rfl (gz_con ⟨gz_ne rfl, Or.inl (gz_ne rfl)⟩ (gz_con ⟨gz_ne rfl, Or.inl (gz_ne rfl)⟩ (gz_con ⟨gz_ne rfl, Or.inl (gz_ne rfl)⟩ (gz_con ⟨gz_ne rfl, Or.inl (gz_ne rfl)⟩ (gz_con ⟨gz_ne rfl, Or.inr rfl⟩ gz_nil))))) (fun ls hl => ?_)
      refine gr_aload_n hx hb x3 dX3_entries_63 rfl (lv_at hl 4 rfl) ?_
      obtain ⟨v6, e6, h⟩ := g_bind h
      refine gr_getI cx hI e6 rfl (fun _ => rfl) rfl (Or.inr ⟨_, gk_w hK q632 rfl⟩) dX3_entries_64 ?_
      refine gr_aload hx hb (some v4) dX3_entries_67 (lv_at hl 0 rfl) ?_
      obtain ⟨a7, t7, h⟩ := gz_q_s h
      refine C_X5_bit cx (gz_nh hex) hI (Or.inl (hts _ q775)) hl.1 (gz_cs (Nat.le_of_ble_eq_true rfl)) (by omega) dX3_entries_69 t7 h (fun v7 S7 h H locs cells slots hI => ?_)
      refine lv_iand hx hb dX3_entries_72 ?_
      refine lv_if_ne (tgt := 79) hx hb dX3_entries_73 rfl (fun hc => ?_) (fun hc => ?_)
      · have h := gz_f h hc
        refine gr_aload hx hb (some v4) dX3_entries_79 (lv_at hl 0 rfl) ?_
        refine lv_iload_n hx hb dX3_entries_81 rfl (lv_at hl 2 rfl) ?_
        refine C_X1_down cx (gz_nh hex) hI (Or.inr ⟨_, gk_w hK q766 rfl⟩) hl.1 (gz_cs (Nat.le_of_ble_eq_true rfl)) (by omega) dX3_entries_82 h (fun v8 S8 h H locs cells slots hI => ?_)
        refine gz_istore_n hx hb dX3_entries_85 rfl hl (by decide) [0, 1, 3, 4, 5] rfl (gz_con ⟨gz_ne rfl, Or.inl (gz_ne rfl)⟩ (gz_con ⟨gz_ne rfl, Or.inr (gl_cat x0)⟩ (gz_con ⟨gz_ne rfl, Or.inl (gz_ne rfl)⟩ (gz_con ⟨gz_ne rfl, Or.inl (gz_ne rfl)⟩ (gz_con ⟨gz_ne rfl, Or.inl (gz_ne rfl)⟩ gz_nil))))) (fun ls hl => ?_)
        refine gr_aload hx hb (some v4) dX3_entries_86 (lv_at hl 1 rfl) ?_
        refine gr_aload_n hx hb x3 dX3_entries_88 rfl (lv_at hl 4 rfl) ?_
        obtain ⟨v9, e9, h⟩ := g_bind h
        refine gr_getI cx hI e9 rfl (fun _ => rfl) rfl (Or.inr ⟨_, gk_w hK q633 rfl⟩) dX3_entries_89 ?_
        refine lv_if_ge (tgt := 99) hx hb dX3_entries_92 rfl (fun hc => ?_) (fun hc => ?_)
        · have h := gz_t h hc
          refine gr_aload_n hx hb x0 dX3_entries_99 rfl (lv_at hl 2 rfl) ?_
          obtain ⟨v10, e10, h⟩ := g_bind h
          refine gr_getR cx hI e10 rfl (fun _ => rfl) rfl (Or.inl (hts _ q180)) dX3_entries_100 ?_
          refine gr_aload_n hx hb x3 dX3_entries_103 rfl (lv_at hl 4 rfl) ?_
          obtain ⟨v11, e11, h⟩ := g_bind h
          refine gr_getI cx hI e11 rfl (fun _ => rfl) rfl (Or.inr ⟨_, gk_w hK q633 rfl⟩) dX3_entries_104 ?_
          obtain ⟨v12, e12, h⟩ := g_bind h
          refine gr_lgetr cx (gz_nh hex) hI (Or.inl (hts _ q760)) hl.1 (gz_cs (Nat.le_of_ble_eq_true rfl)) (by omega) dX3_entries_107 e12 (fun H locs cells slots hI => ?_)
          obtain ⟨a13, e13, h⟩ := gz_q_s h
          refine gr_ck1 cx hI e13 rfl (hts _ q761) dX3_entries_110 ?_
          exact T_X3_entries_113 hD hk4 ih h p e s m args below meth c H locs cells slots ls cx hnm hex hI (lv_sub hl [2, 0, 3, 4, 5] rfl)
        · have h := gz_f h hc
          refine gz_null hx hb dX3_entries_95 ?_
          refine lv_goto (tgt := 113) hx hb dX3_entries_96 rfl ?_
          exact T_X3_entries_113 hD hk4 ih h p e s m args below meth c H locs cells slots ls cx hnm hex hI (lv_sub hl [2, 0, 3, 4, 5] rfl)
      · have h := gz_t h hc
        refine lv_goto (tgt := 118) hx hb dX3_entries_76 rfl ?_
        refine gz_iinc (k := 5) (v := (x4 + (1 : Int32))) hx hb dX3_entries_118 hl rfl (congrArg (fun z => x4 + z) gz_ic_1) (by decide) [1, 2, 3, 4] rfl (gz_con ⟨gz_ne rfl, Or.inl (gz_ne rfl)⟩ (gz_con ⟨gz_ne rfl, Or.inl (gz_ne rfl)⟩ (gz_con ⟨gz_ne rfl, Or.inl (gz_ne rfl)⟩ (gz_con ⟨gz_ne rfl, Or.inr (gl_cat x3)⟩ gz_nil)))) (fun ls hl => ?_)
        refine lv_goto (tgt := 37) hx hb dX3_entries_121 rfl ?_
        exact ih _ _ _ _ _ _ h p e s m args below meth c H locs cells slots ls cx hnm hex hI (lv_sub hl [1, 2, 3, 4, 0] rfl)
theorem T_X3_entries_4 {l : Launch} {G : gG} {S0 : gm_S} {d0 fu : Nat} {r : Outcome × gm_S} (hD : 21 ≤ d0) : ∀ (n : Nat) (x0 : Option Nat) (x1 : Int32) (x2 : Int32) (S : gm_S), F_X3_entries_4 fu n x0 x1 x2 S = some r → B_X3_entries l d0 G S0 4 [(0, va_rf x0), (1, .int x1), (2, .int x2)] [] S r.1 r.2 := by
  intro n
  induction n with
  | zero => intro x0 x1 x2 S h; exact nomatch (show (none : gR) = some r from h)
  | succ n ih =>
    intro x0 x1 x2 S h
    rw [F_X3_entries_4] at h
    intro p e s m args below meth c H locs cells slots ls cx hnm hex hI hl
    have hx := cx.1
    have hb := cx.2.1
    have hown := cx.2.2.2.1
    have hts := cx.2.2.2.2.1
    have hK := cx.2.2.2.2.2.1
    refine lv_iload_n hx hb dX3_entries_4 rfl (lv_at hl 2 rfl) ?_
    refine gr_aload_n hx hb x0 dX3_entries_5 rfl (lv_at hl 0 rfl) ?_
    obtain ⟨v1, e1, h⟩ := g_bind h
    refine gr_getR cx hI e1 rfl (fun _ => rfl) rfl (Or.inl (hts _ q199)) dX3_entries_6 ?_
    obtain ⟨v2, e2, h⟩ := g_bind h
    refine gr_lsize cx (gz_nh hex) hI (Or.inl (hts _ q759)) hl.1 (gz_cs (Nat.le_of_ble_eq_true rfl)) (by omega) dX3_entries_9 e2 (fun H locs cells slots hI => ?_)
    refine lv_icmp_ge (tgt := 130) hx hb dX3_entries_12 rfl (fun hc => ?_) (fun hc => ?_)
    · have h := gz_t h hc
      refine lv_iload_n hx hb dX3_entries_130 rfl (lv_at hl 1 rfl) ?_
      cases h
      exact gr_iret cx hI dX3_entries_131
    · have h := gz_f h hc
      refine gr_aload_n hx hb x0 dX3_entries_15 rfl (lv_at hl 0 rfl) ?_
      obtain ⟨v3, e3, h⟩ := g_bind h
      refine gr_getR cx hI e3 rfl (fun _ => rfl) rfl (Or.inl (hts _ q199)) dX3_entries_16 ?_
      refine lv_iload_n hx hb dX3_entries_19 rfl (lv_at hl 2 rfl) ?_
      obtain ⟨v4, e4, h⟩ := g_bind h
      refine gr_lgetr cx (gz_nh hex) hI (Or.inl (hts _ q760)) hl.1 (gz_cs (Nat.le_of_ble_eq_true rfl)) (by omega) dX3_entries_20 e4 (fun H locs cells slots hI => ?_)
      obtain ⟨a5, e5, h⟩ := gz_q_s h
      refine gr_ck1 cx hI e5 rfl (hts _ q872) dX3_entries_23 ?_
      refine gz_astore_n hx hb dX3_entries_26 rfl hl (by decide) [0, 1, 2] rfl (gz_con ⟨gz_ne rfl, Or.inl (gz_ne rfl)⟩ (gz_con ⟨gz_ne rfl, Or.inl (gz_ne rfl)⟩ (gz_con ⟨gz_ne rfl, Or.inr rfl⟩ gz_nil))) (fun ls hl => ?_)
      refine lv_iload_n hx hb dX3_entries_27 rfl (lv_at hl 2 rfl) ?_
      refine gr_aload_n hx hb (some v4) dX3_entries_28 rfl (lv_at hl 0 rfl) ?_
      obtain ⟨v6, e6, h⟩ := g_bind h
      refine gr_getI cx hI e6 rfl (fun _ => rfl) rfl (Or.inr ⟨_, gk_w hK q632 rfl⟩) dX3_entries_29 ?_
      refine lv_ior hx hb dX3_entries_32 ?_
      refine gz_istore_n hx hb dX3_entries_33 rfl hl (by decide) [0, 1, 3] rfl (gz_con ⟨gz_ne rfl, Or.inl (gz_ne rfl)⟩ (gz_con ⟨gz_ne rfl, Or.inr (gl_cat x0)⟩ (gz_con ⟨gz_ne rfl, Or.inl (gz_ne rfl)⟩ gz_nil))) (fun ls hl => ?_)
      refine lv_iconst hx hb dX3_entries_34 gz_ic_0 ?_
      refine gz_istore hx hb dX3_entries_35 hl (by decide) [0, 1, 2, 3] rfl (gz_con ⟨gz_ne rfl, Or.inl (gz_ne rfl)⟩ (gz_con ⟨gz_ne rfl, Or.inr (gl_cat (some v4))⟩ (gz_con ⟨gz_ne rfl, Or.inl (gz_ne rfl)⟩ (gz_con ⟨gz_ne rfl, Or.inl (gz_ne rfl)⟩ gz_nil)))) (fun ls hl => ?_)
      exact T_X3_entries_37 hD ih fu _ _ _ _ _ _ h p e s m args below meth c H locs cells slots ls cx hnm hex hI (lv_sub hl [3, 1, 4, 2, 0] rfl)
theorem T_X3_entries {l : Launch} {G : gG} {S0 : gm_S} {d0 fu : Nat} {r : Outcome × gm_S} (hD : 21 ≤ d0) {x0 : Option Nat} {S : gm_S} (h : F_X3_entries fu x0 S = some r) : B_X3_entries l d0 G S0 0 [(0, va_rf x0)] [] S r.1 r.2 := by
  unfold F_X3_entries at h
  intro p e s m args below meth c H locs cells slots ls cx hnm hex hI hl
  have hx := cx.1
  have hb := cx.2.1
  have hown := cx.2.2.2.1
  have hts := cx.2.2.2.2.1
  have hK := cx.2.2.2.2.2.1
  refine lv_iconst hx hb dX3_entries_0 gz_ic_0 ?_
  refine gz_istore_n hx hb dX3_entries_1 rfl hl (by decide) [0] rfl (gz_con ⟨gz_ne rfl, Or.inr (gl_cat x0)⟩ gz_nil) (fun ls hl => ?_)
  refine lv_iconst hx hb dX3_entries_2 gz_ic_0 ?_
  refine gz_istore_n hx hb dX3_entries_3 rfl hl (by decide) [0, 1] rfl (gz_con ⟨gz_ne rfl, Or.inr rfl⟩ (gz_con ⟨gz_ne rfl, Or.inl (gz_ne rfl)⟩ gz_nil)) (fun ls hl => ?_)
  exact T_X3_entries_4 hD fu _ _ _ _ h p e s m args below meth c H locs cells slots ls cx hnm hex hI (lv_sub hl [2, 1, 0] rfl)
theorem M_X3_entries {l : Launch} {G : gG} {fu d0 : Nat} (hfl : l.flags = flags0) (hD : 21 ≤ d0) {x0 : Option Nat} {S : gm_S} {o : Outcome} {S2 : gm_S} (h : F_X3_entries fu x0 S = some (o, S2)) : gx_Met l yX3_entries (ws_ yX3_entries cX3_entries 6 (Option.some Jvm.ClassFile.FieldType.int)) d0 G S [va_rf x0] o S2 := by
  refine gx_of hfl (by decide) (fun p e s m below meth c cx hnm hex hI => ?_)
  rw [lg_entry_eq]
  cases x0 <;> exact T_X3_entries (r := (o, S2)) hD h p e s m _ below meth c _ _ _ _ _ cx hnm (gz_nh0 hex) hI (lv_entry _ (Nat.le_of_ble_eq_true rfl))
theorem C_X3_entries {p : Program} {l : Launch} {e : Env} {s : State} {m : MethodId} {args : Array Value} {below : List Frame} {meth : Method} {c : Code} {H : Heap} {locs : List Loc} {cells slots : Nat} {cc : ByteArray} {pc nL : Nat} {ls : Array Slot} {rest : List Value} {G : gG} {S0 S : gm_S} {own : String} {ret : Option FieldType} {d0 index fu : Nat} {x0 : Option Nat} {k : Int32 → gm_S → gR} {r : Outcome × gm_S} (cx : gx_cx p l s m args meth c G own cc nL ret) (hex : ∀ x ∈ c.exceptionTable.toList, covers x pc = false) (hI : gw_I G S0 S H locs cells slots) (hl : gl_M own index yX3_entries args s) (hlv : ls.size = nL) (hrest : (rest.map fun v => v.category).sum ≤ 8) (hD : 22 ≤ d0) (hdg : decode cc pc = .ok (.invokevirtual index, 3)) {b : Nat} (hat : g_at S x0 3 = some b) (h : gz_cI (F_X3_entries fu x0 S) k = some r)
    (kk : ∀ (v : Int32) (z : gm_S), k v z = some r → ∀ (H : Heap) (locs : List Loc) (cells slots : Nat), gw_I G S0 z H locs cells slots → W p l e (gx_rm d0 S0) s m args below meth c H locs cells slots (gx_MQ below G S0 r.2 r.1 s) (F0 m (pc + 3) ls (.int v :: rest))) : W p l e (gx_rm d0 S0) s m args below meth c H locs cells slots (gx_MQ below G S0 r.2 r.1 s) (F0 m pc ls (va_rf x0 :: rest)) := by
  obtain ⟨rfl, ht⟩ := g_at_s hat
  have hts := cx.2.2.2.2.1
  have hK := cx.2.2.2.2.2.1
  exact gz_goI (d := d0 - 1) (fun S => S) cx hex hI hlv hrest (by omega) (Nat.le_of_ble_eq_true rfl) (gz_ws (lw_meth q958) hts) (hts _ q74) (gb_rawV (As := []) cx hl (hts _ q957) (hts _ qs27) (gl_C.code (hts _ q958)) hy_X3_entries (gr_recv hK hI.1 ht rfl) rfl rfl hdg) (fun o S2 e => M_X3_entries (x0 := some b) cx.2.2.2.2.2.2.2.2 (by omega) e) h kk
abbrev B_X3_record (l : Launch) (d0 : Nat) (G : gG) (S0 : gm_S) : Nat → List (Nat × Value) → List Value → gm_S → Outcome → gm_S → Prop := gz_B l RX3 "record" cX3_record 5 (Option.none : Option Jvm.ClassFile.FieldType) [] d0 G S0
theorem T_X3_record_55 {l : Launch} {G : gG} {S0 : gm_S} {d0 fu : Nat} {r : Outcome × gm_S} (hD : 11 ≤ d0) : ∀ (n : Nat) (x0 : Option Nat) (x1 : Option Nat) (x3 : Int32) (S : gm_S), F_X3_record_55 fu n x0 x1 x3 S = some r → B_X3_record l d0 G S0 55 [(0, va_rf x0), (1, va_rf x1), (3, .int x3)] [] S r.1 r.2 := by
  intro n
  induction n with
  | zero => intro x0 x1 x3 S h; exact nomatch (show (none : gR) = some r from h)
  | succ n ih =>
    intro x0 x1 x3 S h
    rw [F_X3_record_55] at h
    intro p e s m args below meth c H locs cells slots ls cx hnm hex hI hl
    have hx := cx.1
    have hb := cx.2.1
    have hown := cx.2.2.2.1
    have hts := cx.2.2.2.2.1
    have hK := cx.2.2.2.2.2.1
    refine lv_iload_n hx hb dX3_record_55 rfl (lv_at hl 2 rfl) ?_
    refine gr_aload_n hx hb x0 dX3_record_56 rfl (lv_at hl 0 rfl) ?_
    obtain ⟨v1, e1, h⟩ := g_bind h
    refine gr_getR cx hI e1 rfl (fun _ => rfl) rfl (Or.inl (hts _ q180)) dX3_record_57 ?_
    obtain ⟨v2, e2, h⟩ := g_bind h
    refine gr_lsize cx (gz_nh hex) hI (Or.inl (hts _ q759)) hl.1 (gz_cs (Nat.le_of_ble_eq_true rfl)) (by omega) dX3_record_60 e2 (fun H locs cells slots hI => ?_)
    refine lv_icmp_ge (tgt := 125) hx hb dX3_record_63 rfl (fun hc => ?_) (fun hc => ?_)
    · have h := gz_t h hc
      cases h
      exact gr_vret cx hI dX3_record_125
    · have h := gz_f h hc
      refine gr_aload_n hx hb x0 dX3_record_66 rfl (lv_at hl 0 rfl) ?_
      obtain ⟨v3, e3, h⟩ := g_bind h
      refine gr_getR cx hI e3 rfl (fun _ => rfl) rfl (Or.inl (hts _ q180)) dX3_record_67 ?_
      refine lv_iload_n hx hb dX3_record_70 rfl (lv_at hl 2 rfl) ?_
      obtain ⟨v4, e4, h⟩ := g_bind h
      refine gr_lgetr cx (gz_nh hex) hI (Or.inl (hts _ q760)) hl.1 (gz_cs (Nat.le_of_ble_eq_true rfl)) (by omega) dX3_record_71 e4 (fun H locs cells slots hI => ?_)
      obtain ⟨a5, e5, h⟩ := gz_q_s h
      refine gr_ck1 cx hI e5 rfl (hts _ q761) dX3_record_74 ?_
      refine gz_astore hx hb dX3_record_77 hl (by decide) [0, 1, 2] rfl (gz_con ⟨gz_ne rfl, Or.inl (gz_ne rfl)⟩ (gz_con ⟨gz_ne rfl, Or.inl (gz_ne rfl)⟩ (gz_con ⟨gz_ne rfl, Or.inr rfl⟩ gz_nil))) (fun ls hl => ?_)
      refine gr_aload hx hb (some v4) dX3_record_79 (lv_at hl 0 rfl) ?_
      obtain ⟨v6, e6, h⟩ := g_bind h
      refine gr_getI cx hI e6 rfl (fun _ => rfl) rfl (Or.inr ⟨_, gk_w hK q421 rfl⟩) dX3_record_81 ?_
      refine lv_if_ne (tgt := 119) hx hb dX3_record_84 rfl (fun hc => ?_) (fun hc => ?_)
      · have h := gz_f h hc
        refine gz_iinc (k := 3) (v := (x3 + (1 : Int32))) hx hb dX3_record_119 hl rfl (congrArg (fun z => x3 + z) gz_ic_1) (by decide) [1, 2] rfl (gz_con ⟨gz_ne rfl, Or.inl (gz_ne rfl)⟩ (gz_con ⟨gz_ne rfl, Or.inl (gz_ne rfl)⟩ gz_nil)) (fun ls hl => ?_)
        refine lv_goto (tgt := 55) hx hb dX3_record_122 rfl ?_
        exact ih _ _ _ _ h p e s m args below meth c H locs cells slots ls cx hnm hex hI (lv_sub hl [1, 2, 0] rfl)
      · have h := gz_t h hc
        refine gr_aload_n hx hb x1 dX3_record_87 rfl (lv_at hl 2 rfl) ?_
        obtain ⟨v7, e7, h⟩ := g_bind h
        refine gr_getI cx hI e7 rfl (fun _ => rfl) rfl (Or.inr ⟨_, gk_w hK q437 rfl⟩) dX3_record_88 ?_
        refine gr_aload_n hx hb x0 dX3_record_91 rfl (lv_at hl 1 rfl) ?_
        obtain ⟨v8, e8, h⟩ := g_bind h
        refine gr_getI cx hI e8 rfl (fun _ => rfl) rfl (Or.inl (hts _ q184)) dX3_record_92 ?_
        refine lv_iand hx hb dX3_record_95 ?_
        refine gr_aload hx hb (some v4) dX3_record_96 (lv_at hl 0 rfl) ?_
        obtain ⟨a9, t9, h⟩ := gz_q_s h
        refine C_X5_bit cx (gz_nh hex) hI (Or.inl (hts _ q775)) hl.1 (gz_cs (Nat.le_of_ble_eq_true rfl)) (by omega) dX3_record_98 t9 h (fun v9 S9 h H locs cells slots hI => ?_)
        refine lv_iand hx hb dX3_record_101 ?_
        refine lv_if_eq (tgt := 119) hx hb dX3_record_102 rfl (fun hc => ?_) (fun hc => ?_)
        · have h := gz_t h hc
          refine gz_iinc (k := 3) (v := (x3 + (1 : Int32))) hx hb dX3_record_119 hl rfl (congrArg (fun z => x3 + z) gz_ic_1) (by decide) [1, 2] rfl (gz_con ⟨gz_ne rfl, Or.inl (gz_ne rfl)⟩ (gz_con ⟨gz_ne rfl, Or.inl (gz_ne rfl)⟩ gz_nil)) (fun ls hl => ?_)
          refine lv_goto (tgt := 55) hx hb dX3_record_122 rfl ?_
          exact ih _ _ _ _ h p e s m args below meth c H locs cells slots ls cx hnm hex hI (lv_sub hl [1, 2, 0] rfl)
        · have h := gz_f h hc
          refine gr_aload_n hx hb x1 dX3_record_105 rfl (lv_at hl 2 rfl) ?_
          refine lv_dup hx hb dX3_record_106 (gl_cat x1) ?_
          obtain ⟨v10, e10, h⟩ := g_bind h
          refine gr_getI cx hI e10 rfl (fun _ => rfl) rfl (Or.inr ⟨_, gk_w hK q440 rfl⟩) dX3_record_107 ?_
          refine gr_aload hx hb (some v4) dX3_record_110 (lv_at hl 0 rfl) ?_
          obtain ⟨a11, t11, h⟩ := gz_q_s h
          refine C_X5_bit cx (gz_nh hex) hI (Or.inl (hts _ q775)) hl.1 (gz_cs (Nat.le_of_ble_eq_true rfl)) (by omega) dX3_record_112 t11 h (fun v11 S11 h H locs cells slots hI => ?_)
          refine lv_ior hx hb dX3_record_115 ?_
          obtain ⟨S12, e12, h⟩ := g_bind h
          refine gr_putI cx hI e12 rfl rfl rfl (Or.inr ⟨_, gk_w hK q440 rfl⟩) (Or.inl rfl) dX3_record_116 (fun H locs hI => ?_)
          refine gz_iinc (k := 3) (v := (x3 + (1 : Int32))) hx hb dX3_record_119 hl rfl (congrArg (fun z => x3 + z) gz_ic_1) (by decide) [1, 2] rfl (gz_con ⟨gz_ne rfl, Or.inl (gz_ne rfl)⟩ (gz_con ⟨gz_ne rfl, Or.inl (gz_ne rfl)⟩ gz_nil)) (fun ls hl => ?_)
          refine lv_goto (tgt := 55) hx hb dX3_record_122 rfl ?_
          exact ih _ _ _ _ h p e s m args below meth c H locs cells slots ls cx hnm hex hI (lv_sub hl [1, 2, 0] rfl)
theorem T_X3_record_4 {l : Launch} {G : gG} {S0 : gm_S} {d0 fu : Nat} {r : Outcome × gm_S} (hD : 11 ≤ d0) : ∀ (n : Nat) (x0 : Option Nat) (x1 : Option Nat) (x2 : Int32) (x3 : Int32) (S : gm_S), F_X3_record_4 fu n x0 x1 x2 x3 S = some r → B_X3_record l d0 G S0 4 [(0, va_rf x0), (1, va_rf x1), (2, .int x2), (3, .int x3)] [] S r.1 r.2 := by
  intro n
  induction n with
  | zero => intro x0 x1 x2 x3 S h; exact nomatch (show (none : gR) = some r from h)
  | succ n ih =>
    intro x0 x1 x2 x3 S h
    rw [F_X3_record_4] at h
    intro p e s m args below meth c H locs cells slots ls cx hnm hex hI hl
    have hx := cx.1
    have hb := cx.2.1
    have hown := cx.2.2.2.1
    have hts := cx.2.2.2.2.1
    have hK := cx.2.2.2.2.2.1
    refine lv_iload_n hx hb dX3_record_4 rfl (lv_at hl 3 rfl) ?_
    refine gr_aload_n hx hb x1 dX3_record_5 rfl (lv_at hl 1 rfl) ?_
    obtain ⟨v1, e1, h⟩ := g_bind h
    refine gr_getR cx hI e1 rfl (fun _ => rfl) rfl (Or.inr ⟨_, gk_w hK q425 rfl⟩) dX3_record_6 ?_
    obtain ⟨v2, e2, h⟩ := g_bind h
    refine gr_lsize cx (gz_nh hex) hI (Or.inl (hts _ q759)) hl.1 (gz_cs (Nat.le_of_ble_eq_true rfl)) (by omega) dX3_record_9 e2 (fun H locs cells slots hI => ?_)
    refine lv_icmp_ge (tgt := 38) hx hb dX3_record_12 rfl (fun hc => ?_) (fun hc => ?_)
    · have h := gz_t h hc
      refine gr_aload_n hx hb x1 dX3_record_38 rfl (lv_at hl 1 rfl) ?_
      refine gr_aload_n hx hb x0 dX3_record_39 rfl (lv_at hl 0 rfl) ?_
      obtain ⟨v3, e3, h⟩ := g_bind h
      refine gr_getI cx hI e3 rfl (fun _ => rfl) rfl (Or.inl (hts _ q184)) dX3_record_40 ?_
      refine lv_iload_n hx hb dX3_record_43 rfl (lv_at hl 2 rfl) ?_
      refine lv_iand hx hb dX3_record_44 ?_
      obtain ⟨S4, e4, h⟩ := g_bind h
      refine gr_putI cx hI e4 rfl rfl rfl (Or.inr ⟨_, gk_w hK q438 rfl⟩) (Or.inl rfl) dX3_record_45 (fun H locs hI => ?_)
      refine gr_aload_n hx hb x1 dX3_record_48 rfl (lv_at hl 1 rfl) ?_
      refine lv_iconst hx hb dX3_record_49 gz_ic_0 ?_
      obtain ⟨S5, e5, h⟩ := g_bind h
      refine gr_putI cx hI e5 rfl rfl rfl (Or.inr ⟨_, gk_w hK q440 rfl⟩) (Or.inl rfl) dX3_record_50 (fun H locs hI => ?_)
      refine lv_iconst hx hb dX3_record_53 gz_ic_0 ?_
      refine gz_istore_n hx hb dX3_record_54 rfl hl (by decide) [0, 1] rfl (gz_con ⟨gz_ne rfl, Or.inl (gz_ne rfl)⟩ (gz_con ⟨gz_ne rfl, Or.inl (gz_ne rfl)⟩ gz_nil)) (fun ls hl => ?_)
      exact T_X3_record_55 hD fu _ _ _ _ h p e s m args below meth c H locs cells slots ls cx hnm hex hI (lv_sub hl [1, 2, 0] rfl)
    · have h := gz_f h hc
      refine lv_iload_n hx hb dX3_record_15 rfl (lv_at hl 2 rfl) ?_
      refine gr_aload_n hx hb x1 dX3_record_16 rfl (lv_at hl 1 rfl) ?_
      obtain ⟨v6, e6, h⟩ := g_bind h
      refine gr_getR cx hI e6 rfl (fun _ => rfl) rfl (Or.inr ⟨_, gk_w hK q425 rfl⟩) dX3_record_17 ?_
      refine lv_iload_n hx hb dX3_record_20 rfl (lv_at hl 3 rfl) ?_
      obtain ⟨v7, e7, h⟩ := g_bind h
      refine gr_lgetr cx (gz_nh hex) hI (Or.inl (hts _ q760)) hl.1 (gz_cs (Nat.le_of_ble_eq_true rfl)) (by omega) dX3_record_21 e7 (fun H locs cells slots hI => ?_)
      obtain ⟨a8, e8, h⟩ := gz_q_s h
      refine gr_ck1 cx hI e8 rfl (hts _ q761) dX3_record_24 ?_
      obtain ⟨a9, t9, h⟩ := gz_q_s h
      refine C_X5_bit cx (gz_nh hex) hI (Or.inl (hts _ q775)) hl.1 (gz_cs (Nat.le_of_ble_eq_true rfl)) (by omega) dX3_record_27 t9 h (fun v9 S9 h H locs cells slots hI => ?_)
      refine lv_ior hx hb dX3_record_30 ?_
      refine gz_istore_n hx hb dX3_record_31 rfl hl (by decide) [0, 1, 3] rfl (gz_con ⟨gz_ne rfl, Or.inl (gz_ne rfl)⟩ (gz_con ⟨gz_ne rfl, Or.inr (gl_cat x1)⟩ (gz_con ⟨gz_ne rfl, Or.inl (gz_ne rfl)⟩ gz_nil))) (fun ls hl => ?_)
      refine gz_iinc (k := 3) (v := (x3 + (1 : Int32))) hx hb dX3_record_32 hl rfl (congrArg (fun z => x3 + z) gz_ic_1) (by decide) [0, 1, 2] rfl (gz_con ⟨gz_ne rfl, Or.inr rfl⟩ (gz_con ⟨gz_ne rfl, Or.inl (gz_ne rfl)⟩ (gz_con ⟨gz_ne rfl, Or.inl (gz_ne rfl)⟩ gz_nil))) (fun ls hl => ?_)
      refine lv_goto (tgt := 4) hx hb dX3_record_35 rfl ?_
      exact ih _ _ _ _ _ h p e s m args below meth c H locs cells slots ls cx hnm hex hI (lv_sub hl [2, 3, 1, 0] rfl)
theorem T_X3_record {l : Launch} {G : gG} {S0 : gm_S} {d0 fu : Nat} {r : Outcome × gm_S} (hD : 11 ≤ d0) {x0 : Option Nat} {x1 : Option Nat} {S : gm_S} (h : F_X3_record fu x0 x1 S = some r) : B_X3_record l d0 G S0 0 [(0, va_rf x0), (1, va_rf x1)] [] S r.1 r.2 := by
  unfold F_X3_record at h
  intro p e s m args below meth c H locs cells slots ls cx hnm hex hI hl
  have hx := cx.1
  have hb := cx.2.1
  have hown := cx.2.2.2.1
  have hts := cx.2.2.2.2.1
  have hK := cx.2.2.2.2.2.1
  refine lv_iconst hx hb dX3_record_0 gz_ic_0 ?_
  refine gz_istore_n hx hb dX3_record_1 rfl hl (by decide) [0, 1] rfl (gz_con ⟨gz_ne rfl, Or.inl (gz_ne rfl)⟩ (gz_con ⟨gz_ne rfl, Or.inr (gl_cat x1)⟩ gz_nil)) (fun ls hl => ?_)
  refine lv_iconst hx hb dX3_record_2 gz_ic_0 ?_
  refine gz_istore_n hx hb dX3_record_3 rfl hl (by decide) [0, 1, 2] rfl (gz_con ⟨gz_ne rfl, Or.inr rfl⟩ (gz_con ⟨gz_ne rfl, Or.inl (gz_ne rfl)⟩ (gz_con ⟨gz_ne rfl, Or.inl (gz_ne rfl)⟩ gz_nil))) (fun ls hl => ?_)
  exact T_X3_record_4 hD fu _ _ _ _ _ h p e s m args below meth c H locs cells slots ls cx hnm hex hI (lv_sub hl [2, 3, 1, 0] rfl)
theorem M_X3_record {l : Launch} {G : gG} {fu d0 : Nat} (hfl : l.flags = flags0) (hD : 11 ≤ d0) {x0 : Option Nat} {x1 : Option Nat} {S : gm_S} {o : Outcome} {S2 : gm_S} (h : F_X3_record fu x0 x1 S = some (o, S2)) : gx_Met l yX3_record (ws_ yX3_record cX3_record 5 (Option.none : Option Jvm.ClassFile.FieldType)) d0 G S [va_rf x0, va_rf x1] o S2 := by
  refine gx_of hfl (by decide) (fun p e s m below meth c cx hnm hex hI => ?_)
  rw [lg_entry_eq]
  cases x0 <;> cases x1 <;> exact T_X3_record (r := (o, S2)) hD h p e s m _ below meth c _ _ _ _ _ cx hnm (gz_nh0 hex) hI (lv_entry _ (Nat.le_of_ble_eq_true rfl))
theorem C_X3_record {p : Program} {l : Launch} {e : Env} {s : State} {m : MethodId} {args : Array Value} {below : List Frame} {meth : Method} {c : Code} {H : Heap} {locs : List Loc} {cells slots : Nat} {cc : ByteArray} {pc nL : Nat} {ls : Array Slot} {rest : List Value} {G : gG} {S0 S : gm_S} {own : String} {ret : Option FieldType} {d0 index fu : Nat} {x0 : Option Nat} {x1 : Option Nat} {k : gm_S → gR} {r : Outcome × gm_S} (cx : gx_cx p l s m args meth c G own cc nL ret) (hex : ∀ x ∈ c.exceptionTable.toList, covers x pc = false) (hI : gw_I G S0 S H locs cells slots) (hl : gl_M own index yX3_record args s) (hlv : ls.size = nL) (hrest : (rest.map fun v => v.category).sum ≤ 8) (hD : 12 ≤ d0) (hdg : decode cc pc = .ok (.invokevirtual index, 3)) {b : Nat} (hat : g_at S x0 3 = some b) (h : gz_cV (F_X3_record fu x0 x1 S) k = some r)
    (kk : ∀ (z : gm_S), k z = some r → ∀ (H : Heap) (locs : List Loc) (cells slots : Nat), gw_I G S0 z H locs cells slots → W p l e (gx_rm d0 S0) s m args below meth c H locs cells slots (gx_MQ below G S0 r.2 r.1 s) (F0 m (pc + 3) ls rest)) : W p l e (gx_rm d0 S0) s m args below meth c H locs cells slots (gx_MQ below G S0 r.2 r.1 s) (F0 m pc ls (va_rf x1 :: va_rf x0 :: rest)) := by
  obtain ⟨rfl, ht⟩ := g_at_s hat
  have hts := cx.2.2.2.2.1
  have hK := cx.2.2.2.2.2.1
  exact gz_goV (d := d0 - 1) (fun S => S) cx hex hI hlv hrest (by omega) (Nat.le_of_ble_eq_true rfl) (gz_ws (lw_meth q954) hts) (hts _ q74) (gb_rawV (As := [va_rf x1]) cx hl (hts _ q953) (hts _ qs26) (gl_C.code (hts _ q954)) hy_X3_record (gr_recv hK hI.1 ht rfl) rfl rfl hdg) (fun o S2 e => M_X3_record (x0 := some b) cx.2.2.2.2.2.2.2.2 (by omega) e) h kk
