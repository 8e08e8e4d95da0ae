/-! LAYER 1 (printed): contracts -/
set_option maxRecDepth 100000
abbrev B_X2_target (l : Launch) (d0 : Nat) (G : gG) (S0 : gm_S) : Nat → List (Nat × Value) → List Value → gm_S → Outcome → gm_S → Prop := gz_B l RX2 "target" cX2_target 5 (Option.some (Jvm.ClassFile.FieldType.object "NestChart$Name")) [] d0 G S0
theorem T_X2_target_53 {l : Launch} {G : gG} {S0 : gm_S} {d0 fu : Nat} {r : Outcome × gm_S} (hD : 11 ≤ d0) {x0 : Option Nat} {x1 : Int32} {x2 : Int32} {x3 : Int32} {S : gm_S} (h : F_X2_target_53 fu x0 x1 x2 x3 S = some r) : B_X2_target l d0 G S0 53 [(0, va_rf x0), (1, .int x1), (2, .int x2), (3, .int x3)] [] S r.1 r.2 := by
  unfold F_X2_target_53 at h
  intro p e s m args below meth c H locs cells slots ls cx hnm hex hI hl
  have hx := cx.1
  have hb := cx.2.1
  have hown := cx.2.2.2.1
  have hts := cx.2.2.2.2.1
  have hK := cx.2.2.2.2.2.1
  obtain ⟨q1, e1, h⟩ := g_bind h
  refine gr_fnew cx hI (t := 11) (a := q1.1) (S2 := q1.2) e1 rfl (hts _ q656) (hts _ q657) (hts _ q95) dX2_target_53 (fun H cells slots hI => ?_)
  refine lv_dup hx hb dX2_target_56 (gl_cat (some q1.1)) ?_
  refine lv_iload_n hx hb dX2_target_57 rfl (lv_at hl 2 rfl) ?_
  refine lv_iload_n hx hb dX2_target_58 rfl (lv_at hl 1 rfl) ?_
  refine lv_iload_n hx hb dX2_target_59 rfl (lv_at hl 3 rfl) ?_
  obtain ⟨a2, t2, h⟩ := gz_q_s h
  refine C_X11_init cx (gz_nh hex) hI (Or.inl (hts _ q658)) hl.1 (gz_cs (Nat.le_of_ble_eq_true rfl)) (by omega) dX2_target_60 t2 h (fun S2 h H locs cells slots hI => ?_)
  refine gz_astore hx hb dX2_target_63 hl (by decide) [0] rfl (gz_con ⟨gz_ne rfl, Or.inl (gz_ne rfl)⟩ gz_nil) (fun ls hl => ?_)
  refine gr_aload_n hx hb x0 dX2_target_65 rfl (lv_at hl 1 rfl) ?_
  obtain ⟨v3, e3, h⟩ := g_bind h
  refine gr_getR cx hI e3 rfl (fun _ => rfl) rfl (Or.inl (hts _ q124)) dX2_target_66 ?_
  refine gr_aload hx hb (some q1.1) dX2_target_69 (lv_at hl 0 rfl) ?_
  obtain ⟨S4, e4, h⟩ := g_bind h
  refine gr_laddr cx (gz_nh hex) hI (Or.inl (hts _ q463)) hl.1 (gz_cs (Nat.le_of_ble_eq_true rfl)) (by omega) dX2_target_71 e4 (fun H locs cells slots hI => ?_)
  refine lv_pop hx hb dX2_target_74 rfl ?_
  refine gr_aload hx hb (some q1.1) dX2_target_75 (lv_at hl 0 rfl) ?_
  cases h
  exact gr_aret cx (Or.inl ⟨_, rfl⟩) hI dX2_target_77
theorem T_X2_target_36 {l : Launch} {G : gG} {S0 : gm_S} {d0 fu : Nat} {r : Outcome × gm_S} (hD : 11 ≤ d0) {x0 : Option Nat} {x1 : Int32} {x2 : Int32} {s0 : Int32} {S : gm_S} (h : F_X2_target_36 fu x0 x1 x2 s0 S = some r) : B_X2_target l d0 G S0 36 [(0, va_rf x0), (1, .int x1), (2, .int x2)] [.int s0] S r.1 r.2 := by
  unfold F_X2_target_36 at h
  intro p e s m args below meth c H locs cells slots ls cx hnm hex hI hl
  have hx := cx.1
  have hb := cx.2.1
  have hown := cx.2.2.2.1
  have hts := cx.2.2.2.2.1
  have hK := cx.2.2.2.2.2.1
  refine gz_istore_n hx hb dX2_target_36 rfl hl (by decide) [0, 1, 2] rfl (gz_con ⟨gz_ne rfl, Or.inl (gz_ne rfl)⟩ (gz_con ⟨gz_ne rfl, Or.inl (gz_ne rfl)⟩ (gz_con ⟨gz_ne rfl, Or.inr rfl⟩ gz_nil))) (fun ls hl => ?_)
  refine lv_iload_n hx hb dX2_target_37 rfl (lv_at hl 0 rfl) ?_
  refine lv_iconst hx hb dX2_target_38 gz_ic_1 ?_
  refine lv_icmp_ne (tgt := 53) hx hb dX2_target_39 rfl (fun hc => ?_) (fun hc => ?_)
  · have h := gz_f h hc
    exact T_X2_target_53 hD h p e s m args below meth c H locs cells slots ls cx hnm hex hI (lv_sub hl [1, 2, 3, 0] rfl)
  · have h := gz_t h hc
    refine gr_aload_n hx hb x0 dX2_target_42 rfl (lv_at hl 1 rfl) ?_
    refine lv_bipush hx hb dX2_target_43 gz_bp_42 ?_
    obtain ⟨a1, t1, h⟩ := gz_q_s h
    refine C_X2_takes cx (gz_nh hex) hI (Or.inl (hts _ q531)) hl.1 (gz_cs (Nat.le_of_ble_eq_true rfl)) (by omega) dX2_target_45 t1 h (fun v1 S1 h H locs cells slots hI => ?_)
    refine lv_if_eq (tgt := 53) hx hb dX2_target_48 rfl (fun hc => ?_) (fun hc => ?_)
    · have h := gz_t h hc
      exact T_X2_target_53 hD h p e s m args below meth c H locs cells slots ls cx hnm hex hI (lv_sub hl [1, 2, 3, 0] rfl)
    · have h := gz_f h hc
      refine lv_iconst hx hb dX2_target_51 gz_ic_2 ?_
      refine gz_istore_n hx hb dX2_target_52 rfl hl (by decide) [1, 2, 3] rfl (gz_con ⟨gz_ne rfl, Or.inl (gz_ne rfl)⟩ (gz_con ⟨gz_ne rfl, Or.inl (gz_ne rfl)⟩ (gz_con ⟨gz_ne rfl, Or.inr rfl⟩ gz_nil))) (fun ls hl => ?_)
      exact T_X2_target_53 hD h p e s m args below meth c H locs cells slots ls cx hnm hex hI (lv_sub hl [1, 2, 3, 0] rfl)
theorem T_X2_target {l : Launch} {G : gG} {S0 : gm_S} {d0 fu : Nat} {r : Outcome × gm_S} (hD : 11 ≤ d0) {x0 : Option Nat} {S : gm_S} (h : F_X2_target fu x0 S = some r) : B_X2_target l d0 G S0 0 [(0, va_rf x0)] [] S r.1 r.2 := by
  unfold F_X2_target at h
  intro p e s m args below meth c H locs cells slots ls cx hnm hex hI hl
  have hx := cx.1
  have hb := cx.2.1
  have hown := cx.2.2.2.1
  have hts := cx.2.2.2.2.1
  have hK := cx.2.2.2.2.2.1
  refine gr_aload_n hx hb x0 dX2_target_0 rfl (lv_at hl 0 rfl) ?_
  refine gr_aload_n hx hb x0 dX2_target_1 rfl (lv_at hl 0 rfl) ?_
  refine lv_bipush hx hb dX2_target_2 gz_bp_97 ?_
  refine lv_bipush hx hb dX2_target_4 gz_bp_112 ?_
  obtain ⟨a1, t1, h⟩ := gz_q_s h
  refine C_X2_isAmong cx (gz_nh hex) hI (Or.inl (hts _ q328)) hl.1 (gz_cs (Nat.le_of_ble_eq_true rfl)) (by omega) dX2_target_6 t1 h (fun v1 S1 h H locs cells slots hI => ?_)
  obtain ⟨a2, t2, h⟩ := gz_q_s h
  refine C_X2_want cx (gz_nh hex) hI (Or.inl (hts _ q336)) hl.1 (gz_cs (Nat.le_of_ble_eq_true rfl)) (by omega) dX2_target_9 t2 h (fun S2 h H locs cells slots hI => ?_)
  refine gr_aload_n hx hb x0 dX2_target_12 rfl (lv_at hl 0 rfl) ?_
  obtain ⟨v3, e3, h⟩ := g_bind h
  refine gr_getI cx hI e3 rfl (fun _ => rfl) rfl (Or.inl (hts _ q120)) dX2_target_13 ?_
  refine gz_istore_n hx hb dX2_target_16 rfl hl (by decide) [0] rfl (gz_con ⟨gz_ne rfl, Or.inr (gl_cat x0)⟩ gz_nil) (fun ls hl => ?_)
  refine gr_aload_n hx hb x0 dX2_target_17 rfl (lv_at hl 1 rfl) ?_
  obtain ⟨a4, t4, h⟩ := gz_q_s h
  refine C_X2_next cx (gz_nh hex) hI (Or.inl (hts _ q527)) hl.1 (gz_cs (Nat.le_of_ble_eq_true rfl)) (by omega) dX2_target_18 t4 h (fun v4 S4 h H locs cells slots hI => ?_)
  refine gz_istore_n hx hb dX2_target_21 rfl hl (by decide) [0, 1] rfl (gz_con ⟨gz_ne rfl, Or.inr rfl⟩ (gz_con ⟨gz_ne rfl, Or.inl (gz_ne rfl)⟩ gz_nil)) (fun ls hl => ?_)
  refine gr_aload_n hx hb x0 dX2_target_22 rfl (lv_at hl 2 rfl) ?_
  refine lv_bipush hx hb dX2_target_23 gz_bp_42 ?_
  obtain ⟨a5, t5, h⟩ := gz_q_s h
  refine C_X2_takes cx (gz_nh hex) hI (Or.inl (hts _ q531)) hl.1 (gz_cs (Nat.le_of_ble_eq_true rfl)) (by omega) dX2_target_25 t5 h (fun v5 S5 h H locs cells slots hI => ?_)
  refine lv_if_eq (tgt := 35) hx hb dX2_target_28 rfl (fun hc => ?_) (fun hc => ?_)
  · have h := gz_t h hc
    refine lv_iconst hx hb dX2_target_35 gz_ic_0 ?_
    exact T_X2_target_36 hD h p e s m args below meth c H locs cells slots ls cx hnm hex hI (lv_sub hl [2, 1, 0] rfl)
  · have h := gz_f h hc
    refine lv_iconst hx hb dX2_target_31 gz_ic_1 ?_
    refine lv_goto (tgt := 36) hx hb dX2_target_32 rfl ?_
    exact T_X2_target_36 hD h p e s m args below meth c H locs cells slots ls cx hnm hex hI (lv_sub hl [2, 1, 0] rfl)
theorem M_X2_target {l : Launch} {G : gG} {fu d0 : Nat} (hfl : l.flags = flags0) (hD : 11 ≤ d0) {x0 : Option Nat} {S : gm_S} {o : Outcome} {S2 : gm_S} (h : F_X2_target fu x0 S = some (o, S2)) : gx_Met l yX2_target (ws_ yX2_target cX2_target 5 (Option.some (Jvm.ClassFile.FieldType.object "NestChart$Name"))) d0 G S [va_rf x0] o S2 := by
  refine gx_of hfl (by decide) (fun p e s m below meth c cx hnm hex hI => ?_)
  rw [lg_entry_eq]
  cases x0 <;> exact T_X2_target (r := (o, S2)) hD h p e s m _ below meth c _ _ _ _ _ cx hnm (gz_nh0 hex) hI (lv_entry _ (Nat.le_of_ble_eq_true rfl))
theorem C_X2_target {p : Program} {l : Launch} {e : Env} {s : State} {m : MethodId} {args : Array Value} {below : List Frame} {meth : Method} {c : Code} {H : Heap} {locs : List Loc} {cells slots : Nat} {cc : ByteArray} {pc nL : Nat} {ls : Array Slot} {rest : List Value} {G : gG} {S0 S : gm_S} {own : String} {ret : Option FieldType} {d0 index fu : Nat} {x0 : Option Nat} {k : Option Nat → gm_S → gR} {r : Outcome × gm_S} (cx : gx_cx p l s m args meth c G own cc nL ret) (hex : ∀ x ∈ c.exceptionTable.toList, covers x pc = false) (hI : gw_I G S0 S H locs cells slots) (hl : gl_M own index yX2_target args s) (hlv : ls.size = nL) (hrest : (rest.map fun v => v.category).sum ≤ 8) (hD : 12 ≤ d0) (hdg : decode cc pc = .ok (.invokevirtual index, 3)) {b : Nat} (hat : g_at S x0 2 = some b) (h : gz_cR (F_X2_target fu x0 S) k = some r)
    (kk : ∀ (v : Option Nat) (z : gm_S), k v z = some r → ∀ (H : Heap) (locs : List Loc) (cells slots : Nat), gw_I G S0 z H locs cells slots → W p l e (gx_rm d0 S0) s m args below meth c H locs cells slots (gx_MQ below G S0 r.2 r.1 s) (F0 m (pc + 3) ls (va_rf v :: rest))) : W p l e (gx_rm d0 S0) s m args below meth c H locs cells slots (gx_MQ below G S0 r.2 r.1 s) (F0 m pc ls (va_rf x0 :: rest)) := by
  obtain ⟨rfl, ht⟩ := g_at_s hat
  have hts := cx.2.2.2.2.1
  have hK := cx.2.2.2.2.2.1
  exact gz_goR (d := d0 - 1) (fun S => S) cx hex hI hlv hrest (by omega) (Nat.le_of_ble_eq_true rfl) (gz_ws (lw_meth q717) hts) (hts _ q73) (gb_rawV (As := []) cx hl (hts _ q716) (hts _ qs12) (gl_C.code (hts _ q717)) hy_X2_target (gr_recv hK hI.1 ht rfl) rfl rfl hdg) (fun o S2 e => M_X2_target (x0 := some b) cx.2.2.2.2.2.2.2.2 (by omega) e) h kk
abbrev B_X12_init_13 (l : Launch) (d0 : Nat) (G : gG) (S0 : gm_S) : Nat → List (Nat × Value) → List Value → gm_S → Outcome → gm_S → Prop := gz_B l RX12 "<init>" cX12_init 2 (Option.none : Option Jvm.ClassFile.FieldType) [] d0 G S0
theorem T_X12_init_13 {l : Launch} {G : gG} {S0 : gm_S} {d0 fu : Nat} {r : Outcome × gm_S} (hD : 2 ≤ d0) {x0 : Option Nat} {x1 : Int32} {S : gm_S} (h : F_X12_init_13 fu x0 x1 S = some r) : B_X12_init_13 l d0 G S0 0 [(0, va_rf x0), (1, .int x1)] [] S r.1 r.2 := by
  unfold F_X12_init_13 at h
  intro p e s m args below meth c H locs cells slots ls cx hnm hex hI hl
  have hx := cx.1
  have hb := cx.2.1
  have hown := cx.2.2.2.1
  have hts := cx.2.2.2.2.1
  have hK := cx.2.2.2.2.2.1
  refine gr_aload_n hx hb x0 dX12_init_0 rfl (lv_at hl 0 rfl) ?_
  obtain ⟨a1, e1, h⟩ := gz_q_s h
  refine gz_objI cx hl.1 (hts _ q689) (gz_cs (Nat.le_of_ble_eq_true rfl)) (by omega) e1 dX12_init_1 ?_
  refine gr_aload_n hx hb x0 dX12_init_4 rfl (lv_at hl 0 rfl) ?_
  refine lv_iload_n hx hb dX12_init_5 rfl (lv_at hl 1 rfl) ?_
  obtain ⟨S2, e2, h⟩ := g_bind h
  refine gr_putZ cx hI e2 rfl rfl rfl (Or.inl (hts _ q691)) (Or.inr ⟨hnm, rfl⟩) dX12_init_6 (fun H locs hI => ?_)
  cases h
  exact gr_vret cx hI dX12_init_9
theorem M_X12_init_13 {l : Launch} {G : gG} {fu d0 : Nat} (hfl : l.flags = flags0) (hD : 2 ≤ d0) {x0 : Option Nat} {x1 : Int32} {S : gm_S} {o : Outcome} {S2 : gm_S} (h : F_X12_init_13 fu x0 x1 S = some (o, S2)) : gx_Met l yX12_init (ws_ yX12_init cX12_init 2 (Option.none : Option Jvm.ClassFile.FieldType)) d0 G S [va_rf x0, .int x1] o S2 := by
  refine gx_of hfl (by decide) (fun p e s m below meth c cx hnm hex hI => ?_)
  rw [lg_entry_eq]
  cases x0 <;> exact T_X12_init_13 (r := (o, S2)) hD h p e s m _ below meth c _ _ _ _ _ cx hnm (gz_nh0 hex) hI (lv_entry _ (Nat.le_of_ble_eq_true rfl))
theorem C_X12_init_13 {p : Program} {l : Launch} {e : Env} {s : State} {m : MethodId} {args : Array Value} {below : List Frame} {meth : Method} {c : Code} {H : Heap} {locs : List Loc} {cells slots : Nat} {cc : ByteArray} {pc nL : Nat} {ls : Array Slot} {rest : List Value} {G : gG} {S0 S : gm_S} {own : String} {ret : Option FieldType} {d0 index fu : Nat} {x0 : Option Nat} {x1 : Int32} {k : gm_S → gR} {r : Outcome × gm_S} (cx : gx_cx p l s m args meth c G own cc nL ret) (hex : ∀ x ∈ c.exceptionTable.toList, covers x pc = false) (hI : gw_I G S0 S H locs cells slots) (hl : gl_M own index yX12_init args s) (hlv : ls.size = nL) (hrest : (rest.map fun v => v.category).sum ≤ 8) (hD : 3 ≤ d0) (hdg : decode cc pc = .ok (.invokespecial index, 3)) {b : Nat} (hat : g_at S x0 13 = some b) (h : gz_cV (F_X12_init_13 fu x0 x1 S) k = some r)
    (kk : ∀ (z : gm_S), k z = some r → ∀ (H : Heap) (locs : List Loc) (cells slots : Nat), gw_I G S0 z H locs cells slots → W p l e (gx_rm d0 S0) s m args below meth c H locs cells slots (gx_MQ below G S0 r.2 r.1 s) (F0 m (pc + 3) ls rest)) : W p l e (gx_rm d0 S0) s m args below meth c H locs cells slots (gx_MQ below G S0 r.2 r.1 s) (F0 m pc ls (.int x1 :: va_rf x0 :: rest)) := by
  obtain ⟨rfl, ht⟩ := g_at_s hat
  have hts := cx.2.2.2.2.1
  have hK := cx.2.2.2.2.2.1
  exact gz_goV (d := d0 - 1) (fun S => S) cx hex hI hlv hrest (by omega) (Nat.le_of_ble_eq_true rfl) (gz_ws (lw_meth q688) hts) (hts _ q96) (gb_rawI (As := [.int x1]) cx hl (hts _ q687) (hts _ q688) hy_X12_init rfl rfl rfl hdg) (fun o S2 e => M_X12_init_13 (x0 := some b) cx.2.2.2.2.2.2.2.2 (by omega) e) h kk
abbrev B_X13_init (l : Launch) (d0 : Nat) (G : gG) (S0 : gm_S) : Nat → List (Nat × Value) → List Value → gm_S → Outcome → gm_S → Prop := gz_B l RX13 "<init>" cX13_init 3 (Option.none : Option Jvm.ClassFile.FieldType) [] d0 G S0
theorem T_X13_init {l : Launch} {G : gG} {S0 : gm_S} {d0 fu : Nat} {r : Outcome × gm_S} (hD : 3 ≤ d0) {x0 : Option Nat} {x1 : Int32} {x2 : Option Nat} {S : gm_S} (h : F_X13_init fu x0 x1 x2 S = some r) : B_X13_init l d0 G S0 0 [(0, va_rf x0), (1, .int x1), (2, va_rf x2)] [] S r.1 r.2 := by
  unfold F_X13_init at h
  intro p e s m args below meth c H locs cells slots ls cx hnm hex hI hl
  have hx := cx.1
  have hb := cx.2.1
  have hown := cx.2.2.2.1
  have hts := cx.2.2.2.2.1
  have hK := cx.2.2.2.2.2.1
  refine gr_aload_n hx hb x0 dX13_init_0 rfl (lv_at hl 0 rfl) ?_
  refine lv_iload_n hx hb dX13_init_1 rfl (lv_at hl 1 rfl) ?_
  obtain ⟨a1, t1, h⟩ := gz_q_s h
  refine C_X12_init_13 cx (gz_nh hex) hI (Or.inl (hts _ q686)) hl.1 (gz_cs (Nat.le_of_ble_eq_true rfl)) (by omega) dX13_init_2 t1 h (fun S1 h H locs cells slots hI => ?_)
  refine gr_aload_n hx hb x0 dX13_init_5 rfl (lv_at hl 0 rfl) ?_
  refine gr_aload_n hx hb x2 dX13_init_6 rfl (lv_at hl 2 rfl) ?_
  obtain ⟨S2, e2, h⟩ := g_bind h
  refine gr_putR cx hI e2 rfl rfl rfl (Or.inl (hts _ q690)) (Or.inr ⟨hnm, rfl⟩) dX13_init_7 (fun H locs hI => ?_)
  cases h
  exact gr_vret cx hI dX13_init_10
theorem M_X13_init {l : Launch} {G : gG} {fu d0 : Nat} (hfl : l.flags = flags0) (hD : 3 ≤ d0) {x0 : Option Nat} {x1 : Int32} {x2 : Option Nat} {S : gm_S} {o : Outcome} {S2 : gm_S} (h : F_X13_init fu x0 x1 x2 S = some (o, S2)) : gx_Met l yX13_init (ws_ yX13_init cX13_init 3 (Option.none : Option Jvm.ClassFile.FieldType)) d0 G S [va_rf x0, .int x1, va_rf x2] o S2 := by
  refine gx_of hfl (by decide) (fun p e s m below meth c cx hnm hex hI => ?_)
  rw [lg_entry_eq]
  cases x0 <;> cases x2 <;> exact T_X13_init (r := (o, S2)) hD h p e s m _ below meth c _ _ _ _ _ cx hnm (gz_nh0 hex) hI (lv_entry _ (Nat.le_of_ble_eq_true rfl))
theorem C_X13_init {p : Program} {l : Launch} {e : Env} {s : State} {m : MethodId} {args : Array Value} {below : List Frame} {meth : Method} {c : Code} {H : Heap} {locs : List Loc} {cells slots : Nat} {cc : ByteArray} {pc nL : Nat} {ls : Array Slot} {rest : List Value} {G : gG} {S0 S : gm_S} {own : String} {ret : Option FieldType} {d0 index fu : Nat} {x0 : Option Nat} {x1 : Int32} {x2 : Option Nat} {k : gm_S → gR} {r : Outcome × gm_S} (cx : gx_cx p l s m args meth c G own cc nL ret) (hex : ∀ x ∈ c.exceptionTable.toList, covers x pc = false) (hI : gw_I G S0 S H locs cells slots) (hl : gl_M own index yX13_init args s) (hlv : ls.size = nL) (hrest : (rest.map fun v => v.category).sum ≤ 8) (hD : 4 ≤ d0) (hdg : decode cc pc = .ok (.invokespecial index, 3)) {b : Nat} (hat : g_at S x0 13 = some b) (h : gz_cV (F_X13_init fu x0 x1 x2 S) k = some r)
    (kk : ∀ (z : gm_S), k z = some r → ∀ (H : Heap) (locs : List Loc) (cells slots : Nat), gw_I G S0 z H locs cells slots → W p l e (gx_rm d0 S0) s m args below meth c H locs cells slots (gx_MQ below G S0 r.2 r.1 s) (F0 m (pc + 3) ls rest)) : W p l e (gx_rm d0 S0) s m args below meth c H locs cells slots (gx_MQ below G S0 r.2 r.1 s) (F0 m pc ls (va_rf x2 :: .int x1 :: va_rf x0 :: rest)) := by
  obtain ⟨rfl, ht⟩ := g_at_s hat
  have hts := cx.2.2.2.2.1
  have hK := cx.2.2.2.2.2.1
  exact gz_goV (d := d0 - 1) (fun S => S) cx hex hI hlv hrest (by omega) (Nat.le_of_ble_eq_true rfl) (gz_ws (lw_meth q685) hts) (hts _ q97) (gb_rawI (As := [.int x1, va_rf x2]) cx hl (hts _ q684) (hts _ q685) hy_X13_init rfl rfl rfl hdg) (fun o S2 e => M_X13_init (x0 := some b) cx.2.2.2.2.2.2.2.2 (by omega) e) h kk
abbrev B_X12_init_14 (l : Launch) (d0 : Nat) (G : gG) (S0 : gm_S) : Nat → List (Nat × Value) → List Value → gm_S → Outcome → gm_S → Prop := gz_B l RX12 "<init>" cX12_init 2 (Option.none : Option Jvm.ClassFile.FieldType) [] d0 G S0
theorem T_X12_init_14 {l : Launch} {G : gG} {S0 : gm_S} {d0 fu : Nat} {r : Outcome × gm_S} (hD : 2 ≤ d0) {x0 : Option Nat} {x1 : Int32} {S : gm_S} (h : F_X12_init_14 fu x0 x1 S = some r) : B_X12_init_14 l d0 G S0 0 [(0, va_rf x0), (1, .int x1)] [] S r.1 r.2 := by
  unfold F_X12_init_14 at h
  intro p e s m args below meth c H locs cells slots ls cx hnm hex hI hl
  have hx := cx.1
  have hb := cx.2.1
  have hown := cx.2.2.2.1
  have hts := cx.2.2.2.2.1
  have hK := cx.2.2.2.2.2.1
  refine gr_aload_n hx hb x0 dX12_init_0 rfl (lv_at hl 0 rfl) ?_
  obtain ⟨a1, e1, h⟩ := gz_q_s h
  refine gz_objI cx hl.1 (hts _ q689) (gz_cs (Nat.le_of_ble_eq_true rfl)) (by omega) e1 dX12_init_1 ?_
  refine gr_aload_n hx hb x0 dX12_init_4 rfl (lv_at hl 0 rfl) ?_
  refine lv_iload_n hx hb dX12_init_5 rfl (lv_at hl 1 rfl) ?_
  obtain ⟨S2, e2, h⟩ := g_bind h
  refine gr_putZ cx hI e2 rfl rfl rfl (Or.inl (hts _ q691)) (Or.inr ⟨hnm, rfl⟩) dX12_init_6 (fun H locs hI => ?_)
  cases h
  exact gr_vret cx hI dX12_init_9
theorem M_X12_init_14 {l : Launch} {G : gG} {fu d0 : Nat} (hfl : l.flags = flags0) (hD : 2 ≤ d0) {x0 : Option Nat} {x1 : Int32} {S : gm_S} {o : Outcome} {S2 : gm_S} (h : F_X12_init_14 fu x0 x1 S = some (o, S2)) : gx_Met l yX12_init (ws_ yX12_init cX12_init 2 (Option.none : Option Jvm.ClassFile.FieldType)) d0 G S [va_rf x0, .int x1] o S2 := by
  refine gx_of hfl (by decide) (fun p e s m below meth c cx hnm hex hI => ?_)
  rw [lg_entry_eq]
  cases x0 <;> exact T_X12_init_14 (r := (o, S2)) hD h p e s m _ below meth c _ _ _ _ _ cx hnm (gz_nh0 hex) hI (lv_entry _ (Nat.le_of_ble_eq_true rfl))
theorem C_X12_init_14 {p : Program} {l : Launch} {e : Env} {s : State} {m : MethodId} {args : Array Value} {below : List Frame} {meth : Method} {c : Code} {H : Heap} {locs : List Loc} {cells slots : Nat} {cc : ByteArray} {pc nL : Nat} {ls : Array Slot} {rest : List Value} {G : gG} {S0 S : gm_S} {own : String} {ret : Option FieldType} {d0 index fu : Nat} {x0 : Option Nat} {x1 : Int32} {k : gm_S → gR} {r : Outcome × gm_S} (cx : gx_cx p l s m args meth c G own cc nL ret) (hex : ∀ x ∈ c.exceptionTable.toList, covers x pc = false) (hI : gw_I G S0 S H locs cells slots) (hl : gl_M own index yX12_init args s) (hlv : ls.size = nL) (hrest : (rest.map fun v => v.category).sum ≤ 8) (hD : 3 ≤ d0) (hdg : decode cc pc = .ok (.invokespecial index, 3)) {b : Nat} (hat : g_at S x0 14 = some b) (h : gz_cV (F_X12_init_14 fu x0 x1 S) k = some r)
    (kk : ∀ (z : gm_S), k z = some r → ∀ (H : Heap) (locs : List Loc) (cells slots : Nat), gw_I G S0 z H locs cells slots → W p l e (gx_rm d0 S0) s m args below meth c H locs cells slots (gx_MQ below G S0 r.2 r.1 s) (F0 m (pc + 3) ls rest)) : W p l e (gx_rm d0 S0) s m args below meth c H locs cells slots (gx_MQ below G S0 r.2 r.1 s) (F0 m pc ls (.int x1 :: va_rf x0 :: rest)) := by
  obtain ⟨rfl, ht⟩ := g_at_s hat
  have hts := cx.2.2.2.2.1
  have hK := cx.2.2.2.2.2.1
  exact gz_goV (d := d0 - 1) (fun S => S) cx hex hI hlv hrest (by omega) (Nat.le_of_ble_eq_true rfl) (gz_ws (lw_meth q688) hts) (hts _ q96) (gb_rawI (As := [.int x1]) cx hl (hts _ q687) (hts _ q688) hy_X12_init rfl rfl rfl hdg) (fun o S2 e => M_X12_init_14 (x0 := some b) cx.2.2.2.2.2.2.2.2 (by omega) e) h kk
abbrev B_X14_init (l : Launch) (d0 : Nat) (G : gG) (S0 : gm_S) : Nat → List (Nat × Value) → List Value → gm_S → Outcome → gm_S → Prop := gz_B l RX14 "<init>" cX14_init 5 (Option.none : Option Jvm.ClassFile.FieldType) [] d0 G S0
theorem T_X14_init {l : Launch} {G : gG} {S0 : gm_S} {d0 fu : Nat} {r : Outcome × gm_S} (hD : 3 ≤ d0) {x0 : Option Nat} {x1 : Int32} {x2 : Option Nat} {x3 : Int32} {x4 : Option Nat} {S : gm_S} (h : F_X14_init fu x0 x1 x2 x3 x4 S = some r) : B_X14_init l d0 G S0 0 [(0, va_rf x0), (1, .int x1), (2, va_rf x2), (3, .int x3), (4, va_rf x4)] [] S r.1 r.2 := by
  unfold F_X14_init at h
  intro p e s m args below meth c H locs cells slots ls cx hnm hex hI hl
  have hx := cx.1
  have hb := cx.2.1
  have hown := cx.2.2.2.1
  have hts := cx.2.2.2.2.1
  have hK := cx.2.2.2.2.2.1
  refine gr_aload_n hx hb x0 dX14_init_0 rfl (lv_at hl 0 rfl) ?_
  refine lv_iload_n hx hb dX14_init_1 rfl (lv_at hl 1 rfl) ?_
  obtain ⟨a1, t1, h⟩ := gz_q_s h
  refine C_X12_init_14 cx (gz_nh hex) hI (Or.inl (hts _ q702)) hl.1 (gz_cs (Nat.le_of_ble_eq_true rfl)) (by omega) dX14_init_2 t1 h (fun S1 h H locs cells slots hI => ?_)
  refine gr_aload_n hx hb x0 dX14_init_5 rfl (lv_at hl 0 rfl) ?_
  refine gr_aload_n hx hb x2 dX14_init_6 rfl (lv_at hl 2 rfl) ?_
  obtain ⟨S2, e2, h⟩ := g_bind h
  refine gr_putR cx hI e2 rfl rfl rfl (Or.inl (hts _ q703)) (Or.inr ⟨hnm, rfl⟩) dX14_init_7 (fun H locs hI => ?_)
  refine gr_aload_n hx hb x0 dX14_init_10 rfl (lv_at hl 0 rfl) ?_
  refine lv_iload_n hx hb dX14_init_11 rfl (lv_at hl 3 rfl) ?_
  obtain ⟨S3, e3, h⟩ := g_bind h
  refine gr_putC cx hI e3 rfl rfl rfl (Or.inl (hts _ q705)) (Or.inr ⟨hnm, rfl⟩) dX14_init_12 (fun H locs hI => ?_)
  refine gr_aload_n hx hb x0 dX14_init_15 rfl (lv_at hl 0 rfl) ?_
  refine gr_aload hx hb x4 dX14_init_16 (lv_at hl 4 rfl) ?_
  obtain ⟨S4, e4, h⟩ := g_bind h
  refine gr_putR cx hI e4 rfl rfl rfl (Or.inl (hts _ q704)) (Or.inr ⟨hnm, rfl⟩) dX14_init_18 (fun H locs hI => ?_)
  cases h
  exact gr_vret cx hI dX14_init_21
theorem M_X14_init {l : Launch} {G : gG} {fu d0 : Nat} (hfl : l.flags = flags0) (hD : 3 ≤ d0) {x0 : Option Nat} {x1 : Int32} {x2 : Option Nat} {x3 : Int32} {x4 : Option Nat} {S : gm_S} {o : Outcome} {S2 : gm_S} (h : F_X14_init fu x0 x1 x2 x3 x4 S = some (o, S2)) : gx_Met l yX14_init (ws_ yX14_init cX14_init 5 (Option.none : Option Jvm.ClassFile.FieldType)) d0 G S [va_rf x0, .int x1, va_rf x2, .int x3, va_rf x4] o S2 := by
  refine gx_of hfl (by decide) (fun p e s m below meth c cx hnm hex hI => ?_)
  rw [lg_entry_eq]
  cases x0 <;> cases x2 <;> cases x4 <;> exact T_X14_init (r := (o, S2)) hD h p e s m _ below meth c _ _ _ _ _ cx hnm (gz_nh0 hex) hI (lv_entry _ (Nat.le_of_ble_eq_true rfl))
theorem C_X14_init {p : Program} {l : Launch} {e : Env} {s : State} {m : MethodId} {args : Array Value} {below : List Frame} {meth : Method} {c : Code} {H : Heap} {locs : List Loc} {cells slots : Nat} {cc : ByteArray} {pc nL : Nat} {ls : Array Slot} {rest : List Value} {G : gG} {S0 S : gm_S} {own : String} {ret : Option FieldType} {d0 index fu : Nat} {x0 : Option Nat} {x1 : Int32} {x2 : Option Nat} {x3 : Int32} {x4 : Option Nat} {k : gm_S → gR} {r : Outcome × gm_S} (cx : gx_cx p l s m args meth c G own cc nL ret) (hex : ∀ x ∈ c.exceptionTable.toList, covers x pc = false) (hI : gw_I G S0 S H locs cells slots) (hl : gl_M own index yX14_init args s) (hlv : ls.size = nL) (hrest : (rest.map fun v => v.category).sum ≤ 8) (hD : 4 ≤ d0) (hdg : decode cc pc = .ok (.invokespecial index, 3)) {b : Nat} (hat : g_at S x0 14 = some b) (h : gz_cV (F_X14_init fu x0 x1 x2 x3 x4 S) k = some r)
    (kk : ∀ (z : gm_S), k z = some r → ∀ (H : Heap) (locs : List Loc) (cells slots : Nat), gw_I G S0 z H locs cells slots → W p l e (gx_rm d0 S0) s m args below meth c H locs cells slots (gx_MQ below G S0 r.2 r.1 s) (F0 m (pc + 3) ls rest)) : W p l e (gx_rm d0 S0) s m args below meth c H locs cells slots (gx_MQ below G S0 r.2 r.1 s) (F0 m pc ls (va_rf x4 :: .int x3 :: va_rf x2 :: .int x1 :: va_rf x0 :: rest)) := by
  obtain ⟨rfl, ht⟩ := g_at_s hat
  have hts := cx.2.2.2.2.1
  have hK := cx.2.2.2.2.2.1
  exact gz_goV (d := d0 - 1) (fun S => S) cx hex hI hlv hrest (by omega) (Nat.le_of_ble_eq_true rfl) (gz_ws (lw_meth q701) hts) (hts _ q98) (gb_rawI (As := [.int x1, va_rf x2, .int x3, va_rf x4]) cx hl (hts _ q700) (hts _ q701) hy_X14_init rfl rfl rfl hdg) (fun o S2 e => M_X14_init (x0 := some b) cx.2.2.2.2.2.2.2.2 (by omega) e) h kk
abbrev B_X2_test (l : Launch) (d0 : Nat) (G : gG) (S0 : gm_S) : Nat → List (Nat × Value) → List Value → gm_S → Outcome → gm_S → Prop := gz_B l RX2 "test" cX2_test 4 (Option.some (Jvm.ClassFile.FieldType.object "NestChart$Test")) [] d0 G S0
theorem T_X2_test_112 {l : Launch} {G : gG} {S0 : gm_S} {d0 fu : Nat} {r : Outcome × gm_S} (hD : 11 ≤ d0) {x0 : Option Nat} {x1 : Int32} {x2 : Option Nat} {s0 : Int32} {s1 : Option Nat} {S : gm_S} (h : F_X2_test_112 fu x0 x1 x2 s0 s1 S = some r) : B_X2_test l d0 G S0 112 [(0, va_rf x0), (1, .int x1), (2, va_rf x2)] [.int s0, va_rf s1] S r.1 r.2 := by
  unfold F_X2_test_112 at h
  intro p e s m args below meth c H locs cells slots ls cx hnm hex hI hl
  have hx := cx.1
  have hb := cx.2.1
  have hown := cx.2.2.2.1
  have hts := cx.2.2.2.2.1
  have hK := cx.2.2.2.2.2.1
  obtain ⟨a1, t1, h⟩ := gz_q_s h
  refine C_X2_want cx (gz_nh hex) hI (Or.inl (hts _ q336)) hl.1 (gz_cs (Nat.le_of_ble_eq_true rfl)) (by omega) dX2_test_112 t1 h (fun S1 h H locs cells slots hI => ?_)
  refine gr_aload_n hx hb x0 dX2_test_115 rfl (lv_at hl 0 rfl) ?_
  obtain ⟨a2, t2, h⟩ := gz_q_s h
  refine C_X2_next cx (gz_nh hex) hI (Or.inl (hts _ q527)) hl.1 (gz_cs (Nat.le_of_ble_eq_true rfl)) (by omega) dX2_test_116 t2 h (fun v2 S2 h H locs cells slots hI => ?_)
  refine gz_istore_n hx hb dX2_test_119 rfl hl (by decide) [0, 1, 2] rfl (gz_con ⟨gz_ne rfl, Or.inl (gz_ne rfl)⟩ (gz_con ⟨gz_ne rfl, Or.inl (gz_ne rfl)⟩ (gz_con ⟨gz_ne rfl, Or.inr (gl_cat x2)⟩ gz_nil))) (fun ls hl => ?_)
  obtain ⟨q3, e3, h⟩ := g_bind h
  refine gr_fnew cx hI (t := 14) (a := q3.1) (S2 := q3.2) e3 rfl (hts _ q697) (hts _ q698) (hts _ q98) dX2_test_120 (fun H cells slots hI => ?_)
  refine lv_dup hx hb dX2_test_123 (gl_cat (some q3.1)) ?_
  refine lv_iload_n hx hb dX2_test_124 rfl (lv_at hl 2 rfl) ?_
  refine gr_aload_n hx hb x2 dX2_test_125 rfl (lv_at hl 3 rfl) ?_
  refine lv_iload_n hx hb dX2_test_126 rfl (lv_at hl 0 rfl) ?_
  refine gr_aload_n hx hb x0 dX2_test_127 rfl (lv_at hl 1 rfl) ?_
  obtain ⟨a4, t4, h⟩ := gz_q_s h
  refine C_X2_operand cx (gz_nh hex) hI (Or.inl (hts _ q578)) hl.1 (gz_cs5 rfl (gl_cat x2) rfl (gl_cat (some q3.1)) (gl_cat (some q3.1))) (by omega) dX2_test_128 t4 h (fun v4 S4 h H locs cells slots hI => ?_)
  obtain ⟨a5, t5, h⟩ := gz_q_s h
  refine C_X14_init cx (gz_nh hex) hI (Or.inl (hts _ q699)) hl.1 (gz_cs (Nat.le_of_ble_eq_true rfl)) (by omega) dX2_test_131 t5 h (fun S5 h H locs cells slots hI => ?_)
  cases h
  exact gr_aret cx (Or.inl ⟨_, rfl⟩) hI dX2_test_134
theorem T_X2_test {l : Launch} {G : gG} {S0 : gm_S} {d0 fu : Nat} {r : Outcome × gm_S} (hD : 11 ≤ d0) {x0 : Option Nat} {S : gm_S} (h : F_X2_test fu x0 S = some r) : B_X2_test l d0 G S0 0 [(0, va_rf x0)] [] S r.1 r.2 := by
  unfold F_X2_test at h
  intro p e s m args below meth c H locs cells slots ls cx hnm hex hI hl
  have hx := cx.1
  have hb := cx.2.1
  have hown := cx.2.2.2.1
  have hts := cx.2.2.2.2.1
  have hK := cx.2.2.2.2.2.1
  refine gr_aload_n hx hb x0 dX2_test_0 rfl (lv_at hl 0 rfl) ?_
  refine lv_bipush hx hb dX2_test_1 gz_bp_33 ?_
  obtain ⟨a1, t1, h⟩ := gz_q_s h
  refine C_X2_takes cx (gz_nh hex) hI (Or.inl (hts _ q531)) hl.1 (gz_cs (Nat.le_of_ble_eq_true rfl)) (by omega) dX2_test_3 t1 h (fun v1 S1 h H locs cells slots hI => ?_)
  refine gz_istore_n hx hb dX2_test_6 rfl hl (by decide) [0] rfl (gz_con ⟨gz_ne rfl, Or.inr (gl_cat x0)⟩ gz_nil) (fun ls hl => ?_)
  refine gr_aload_n hx hb x0 dX2_test_7 rfl (lv_at hl 1 rfl) ?_
  refine lv_bipush hx hb dX2_test_8 gz_bp_35 ?_
  obtain ⟨a2, t2, h⟩ := gz_q_s h
  refine C_X2_takes cx (gz_nh hex) hI (Or.inl (hts _ q531)) hl.1 (gz_cs (Nat.le_of_ble_eq_true rfl)) (by omega) dX2_test_10 t2 h (fun v2 S2 h H locs cells slots hI => ?_)
  refine lv_if_eq (tgt := 74) hx hb dX2_test_13 rfl (fun hc => ?_) (fun hc => ?_)
  · have h := gz_t h hc
    refine gr_aload_n hx hb x0 dX2_test_74 rfl (lv_at hl 1 rfl) ?_
    obtain ⟨a3, t3, h⟩ := gz_q_s h
    refine C_X2_operand cx (gz_nh hex) hI (Or.inl (hts _ q578)) hl.1 (gz_cs (Nat.le_of_ble_eq_true rfl)) (by omega) dX2_test_75 t3 h (fun v3 S3 h H locs cells slots hI => ?_)
    refine gz_astore_n hx hb dX2_test_78 rfl hl (by decide) [0, 1] rfl (gz_con ⟨gz_ne rfl, Or.inr rfl⟩ (gz_con ⟨gz_ne rfl, Or.inl (gz_ne rfl)⟩ gz_nil)) (fun ls hl => ?_)
    refine gr_aload_n hx hb x0 dX2_test_79 rfl (lv_at hl 2 rfl) ?_
    refine gr_aload_n hx hb x0 dX2_test_80 rfl (lv_at hl 2 rfl) ?_
    obtain ⟨a4, t4, h⟩ := gz_q_s h
    refine C_X2_look cx (gz_nh hex) hI (Or.inl (hts _ q332)) hl.1 (gz_cs (Nat.le_of_ble_eq_true rfl)) (by omega) dX2_test_81 t4 h (fun v4 S4 h H locs cells slots hI => ?_)
    refine lv_bipush hx hb dX2_test_84 gz_bp_60 ?_
    refine lv_icmp_eq (tgt := 107) hx hb dX2_test_86 rfl (fun hc => ?_) (fun hc => ?_)
    · have h := gz_t h hc
      refine lv_iconst hx hb dX2_test_107 gz_ic_1 ?_
      refine lv_goto (tgt := 112) hx hb dX2_test_108 rfl ?_
      exact T_X2_test_112 hD h p e s m args below meth c H locs cells slots ls cx hnm hex hI (lv_sub hl [2, 1, 0] rfl)
    · have h := gz_f h hc
      refine gr_aload_n hx hb x0 dX2_test_89 rfl (lv_at hl 2 rfl) ?_
      obtain ⟨a5, t5, h⟩ := gz_q_s h
      refine C_X2_look cx (gz_nh hex) hI (Or.inl (hts _ q332)) hl.1 (gz_cs (Nat.le_of_ble_eq_true rfl)) (by omega) dX2_test_90 t5 h (fun v5 S5 h H locs cells slots hI => ?_)
      refine lv_bipush hx hb dX2_test_93 gz_bp_61 ?_
      refine lv_icmp_eq (tgt := 107) hx hb dX2_test_95 rfl (fun hc => ?_) (fun hc => ?_)
      · have h := gz_t h hc
        refine lv_iconst hx hb dX2_test_107 gz_ic_1 ?_
        refine lv_goto (tgt := 112) hx hb dX2_test_108 rfl ?_
        exact T_X2_test_112 hD h p e s m args below meth c H locs cells slots ls cx hnm hex hI (lv_sub hl [2, 1, 0] rfl)
      · have h := gz_f h hc
        refine gr_aload_n hx hb x0 dX2_test_98 rfl (lv_at hl 2 rfl) ?_
        obtain ⟨a6, t6, h⟩ := gz_q_s h
        refine C_X2_look cx (gz_nh hex) hI (Or.inl (hts _ q332)) hl.1 (gz_cs (Nat.le_of_ble_eq_true rfl)) (by omega) dX2_test_99 t6 h (fun v6 S6 h H locs cells slots hI => ?_)
        refine lv_bipush hx hb dX2_test_102 gz_bp_62 ?_
        refine lv_icmp_ne (tgt := 111) hx hb dX2_test_104 rfl (fun hc => ?_) (fun hc => ?_)
        · have h := gz_f h hc
          refine lv_iconst hx hb dX2_test_111 gz_ic_0 ?_
          exact T_X2_test_112 hD h p e s m args below meth c H locs cells slots ls cx hnm hex hI (lv_sub hl [2, 1, 0] rfl)
        · have h := gz_t h hc
          refine lv_iconst hx hb dX2_test_107 gz_ic_1 ?_
          refine lv_goto (tgt := 112) hx hb dX2_test_108 rfl ?_
          exact T_X2_test_112 hD h p e s m args below meth c H locs cells slots ls cx hnm hex hI (lv_sub hl [2, 1, 0] rfl)
  · have h := gz_f h hc
    refine gr_aload_n hx hb x0 dX2_test_16 rfl (lv_at hl 1 rfl) ?_
    refine gr_aload_n hx hb x0 dX2_test_17 rfl (lv_at hl 1 rfl) ?_
    refine lv_bipush hx hb dX2_test_18 gz_bp_97 ?_
    refine lv_bipush hx hb dX2_test_20 gz_bp_112 ?_
    obtain ⟨a7, t7, h⟩ := gz_q_s h
    refine C_X2_isAmong cx (gz_nh hex) hI (Or.inl (hts _ q328)) hl.1 (gz_cs (Nat.le_of_ble_eq_true rfl)) (by omega) dX2_test_22 t7 h (fun v7 S7 h H locs cells slots hI => ?_)
    obtain ⟨a8, t8, h⟩ := gz_q_s h
    refine C_X2_want cx (gz_nh hex) hI (Or.inl (hts _ q336)) hl.1 (gz_cs (Nat.le_of_ble_eq_true rfl)) (by omega) dX2_test_25 t8 h (fun S8 h H locs cells slots hI => ?_)
    obtain ⟨q9, e9, h⟩ := g_bind h
    refine gr_fnew cx hI (t := 11) (a := q9.1) (S2 := q9.2) e9 rfl (hts _ q656) (hts _ q657) (hts _ q95) dX2_test_28 (fun H cells slots hI => ?_)
    refine lv_dup hx hb dX2_test_31 (gl_cat (some q9.1)) ?_
    refine gr_aload_n hx hb x0 dX2_test_32 rfl (lv_at hl 1 rfl) ?_
    obtain ⟨a10, t10, h⟩ := gz_q_s h
    refine C_X2_look cx (gz_nh hex) hI (Or.inl (hts _ q332)) hl.1 (gz_cs (Nat.le_of_ble_eq_true rfl)) (by omega) dX2_test_33 t10 h (fun v10 S10 h H locs cells slots hI => ?_)
    refine gr_aload_n hx hb x0 dX2_test_36 rfl (lv_at hl 1 rfl) ?_
    obtain ⟨v11, e11, h⟩ := g_bind h
    refine gr_getI cx hI e11 rfl (fun _ => rfl) rfl (Or.inl (hts _ q120)) dX2_test_37 ?_
    refine lv_iconst hx hb dX2_test_40 gz_ic_0 ?_
    obtain ⟨a12, t12, h⟩ := gz_q_s h
    refine C_X11_init cx (gz_nh hex) hI (Or.inl (hts _ q658)) hl.1 (gz_cs (Nat.le_of_ble_eq_true rfl)) (by omega) dX2_test_41 t12 h (fun S12 h H locs cells slots hI => ?_)
    refine gz_astore_n hx hb dX2_test_44 rfl hl (by decide) [0, 1] rfl (gz_con ⟨gz_ne rfl, Or.inr rfl⟩ (gz_con ⟨gz_ne rfl, Or.inl (gz_ne rfl)⟩ gz_nil)) (fun ls hl => ?_)
    refine gr_aload_n hx hb x0 dX2_test_45 rfl (lv_at hl 2 rfl) ?_
    refine lv_dup hx hb dX2_test_46 (gl_cat x0) ?_
    obtain ⟨v13, e13, h⟩ := g_bind h
    refine gr_getI cx hI e13 rfl (fun _ => rfl) rfl (Or.inl (hts _ q120)) dX2_test_47 ?_
    refine lv_iconst hx hb dX2_test_50 gz_ic_1 ?_
    refine lv_iadd hx hb dX2_test_51 ?_
    obtain ⟨S14, e14, h⟩ := g_bind h
    refine gr_putI cx hI e14 rfl rfl rfl (Or.inl (hts _ q120)) (Or.inl rfl) dX2_test_52 (fun H locs hI => ?_)
    refine gr_aload_n hx hb x0 dX2_test_55 rfl (lv_at hl 2 rfl) ?_
    obtain ⟨v15, e15, h⟩ := g_bind h
    refine gr_getR cx hI e15 rfl (fun _ => rfl) rfl (Or.inl (hts _ q124)) dX2_test_56 ?_
    refine gr_aload_n hx hb (some q9.1) dX2_test_59 rfl (lv_at hl 0 rfl) ?_
    obtain ⟨S16, e16, h⟩ := g_bind h
    refine gr_laddr cx (gz_nh hex) hI (Or.inl (hts _ q463)) hl.1 (gz_cs (Nat.le_of_ble_eq_true rfl)) (by omega) dX2_test_60 e16 (fun H locs cells slots hI => ?_)
    refine lv_pop hx hb dX2_test_63 rfl ?_
    obtain ⟨q17, e17, h⟩ := g_bind h
    refine gr_fnew cx hI (t := 13) (a := q17.1) (S2 := q17.2) e17 rfl (hts _ q681) (hts _ q682) (hts _ q97) dX2_test_64 (fun H cells slots hI => ?_)
    refine lv_dup hx hb dX2_test_67 (gl_cat (some q17.1)) ?_
    refine lv_iload_n hx hb dX2_test_68 rfl (lv_at hl 1 rfl) ?_
    refine gr_aload_n hx hb (some q9.1) dX2_test_69 rfl (lv_at hl 0 rfl) ?_
    obtain ⟨a18, t18, h⟩ := gz_q_s h
    refine C_X13_init cx (gz_nh hex) hI (Or.inl (hts _ q683)) hl.1 (gz_cs (Nat.le_of_ble_eq_true rfl)) (by omega) dX2_test_70 t18 h (fun S18 h H locs cells slots hI => ?_)
    cases h
    exact gr_aret cx (Or.inl ⟨_, rfl⟩) hI dX2_test_73
theorem M_X2_test {l : Launch} {G : gG} {fu d0 : Nat} (hfl : l.flags = flags0) (hD : 11 ≤ d0) {x0 : Option Nat} {S : gm_S} {o : Outcome} {S2 : gm_S} (h : F_X2_test fu x0 S = some (o, S2)) : gx_Met l yX2_test (ws_ yX2_test cX2_test 4 (Option.some (Jvm.ClassFile.FieldType.object "NestChart$Test"))) d0 G S [va_rf x0] o S2 := by
  refine gx_of hfl (by decide) (fun p e s m below meth c cx hnm hex hI => ?_)
  rw [lg_entry_eq]
  cases x0 <;> exact T_X2_test (r := (o, S2)) hD h p e s m _ below meth c _ _ _ _ _ cx hnm (gz_nh0 hex) hI (lv_entry _ (Nat.le_of_ble_eq_true rfl))
theorem C_X2_test {p : Program} {l : Launch} {e : Env} {s : State} {m : MethodId} {args : Array Value} {below : List Frame} {meth : Method} {c : Code} {H : Heap} {locs : List Loc} {cells slots : Nat} {cc : ByteArray} {pc nL : Nat} {ls : Array Slot} {rest : List Value} {G : gG} {S0 S : gm_S} {own : String} {ret : Option FieldType} {d0 index fu : Nat} {x0 : Option Nat} {k : Option Nat → gm_S → gR} {r : Outcome × gm_S} (cx : gx_cx p l s m args meth c G own cc nL ret) (hex : ∀ x ∈ c.exceptionTable.toList, covers x pc = false) (hI : gw_I G S0 S H locs cells slots) (hl : gl_M own index yX2_test args s) (hlv : ls.size = nL) (hrest : (rest.map fun v => v.category).sum ≤ 8) (hD : 12 ≤ d0) (hdg : decode cc pc = .ok (.invokevirtual index, 3)) {b : Nat} (hat : g_at S x0 2 = some b) (h : gz_cR (F_X2_test fu x0 S) k = some r)
    (kk : ∀ (v : Option Nat) (z : gm_S), k v z = some r → ∀ (H : Heap) (locs : List Loc) (cells slots : Nat), gw_I G S0 z H locs cells slots → W p l e (gx_rm d0 S0) s m args below meth c H locs cells slots (gx_MQ below G S0 r.2 r.1 s) (F0 m (pc + 3) ls (va_rf v :: rest))) : W p l e (gx_rm d0 S0) s m args below meth c H locs cells slots (gx_MQ below G S0 r.2 r.1 s) (F0 m pc ls (va_rf x0 :: rest)) := by
  obtain ⟨rfl, ht⟩ := g_at_s hat
  have hts := cx.2.2.2.2.1
  have hK := cx.2.2.2.2.2.1
  exact gz_goR (d := d0 - 1) (fun S => S) cx hex hI hlv hrest (by omega) (Nat.le_of_ble_eq_true rfl) (gz_ws (lw_meth q655) hts) (hts _ q73) (gb_rawV (As := []) cx hl (hts _ q654) (hts _ qs11) (gl_C.code (hts _ q655)) hy_X2_test (gr_recv hK hI.1 ht rfl) rfl rfl hdg) (fun o S2 e => M_X2_test (x0 := some b) cx.2.2.2.2.2.2.2.2 (by omega) e) h kk
abbrev B_X2_transition (l : Launch) (d0 : Nat) (G : gG) (S0 : gm_S) : Nat → List (Nat × Value) → List Value → gm_S → Outcome → gm_S → Prop := gz_B l RX2 "transition" cX2_transition 3 (Option.none : Option Jvm.ClassFile.FieldType) [] d0 G S0
theorem T_X2_transition_131 {l : Launch} {G : gG} {S0 : gm_S} {d0 fu : Nat} {r : Outcome × gm_S} (hD : 12 ≤ d0) {x1 : Option Nat} {x2 : Option Nat} {S : gm_S} (h : F_X2_transition_131 fu x1 x2 S = some r) : B_X2_transition l d0 G S0 131 [(1, va_rf x1), (2, va_rf x2)] [] S r.1 r.2 := by
  unfold F_X2_transition_131 at h
  intro p e s m args below meth c H locs cells slots ls cx hnm hex hI hl
  have hx := cx.1
  have hb := cx.2.1
  have hown := cx.2.2.2.1
  have hts := cx.2.2.2.2.1
  have hK := cx.2.2.2.2.2.1
  refine gr_aload_n hx hb x1 dX2_transition_131 rfl (lv_at hl 0 rfl) ?_
  obtain ⟨v1, e1, h⟩ := g_bind h
  refine gr_getR cx hI e1 rfl (fun _ => rfl) rfl (Or.inr ⟨_, gk_w hK q427 rfl⟩) dX2_transition_132 ?_
  refine gr_aload_n hx hb x2 dX2_transition_135 rfl (lv_at hl 1 rfl) ?_
  obtain ⟨S2, e2, h⟩ := g_bind h
  refine gr_laddr cx (gz_nh hex) hI (Or.inl (hts _ q463)) hl.1 (gz_cs (Nat.le_of_ble_eq_true rfl)) (by omega) dX2_transition_136 e2 (fun H locs cells slots hI => ?_)
  refine lv_pop hx hb dX2_transition_139 rfl ?_
  cases h
  exact gr_vret cx hI dX2_transition_140
theorem T_X2_transition_114 {l : Launch} {G : gG} {S0 : gm_S} {d0 fu : Nat} {r : Outcome × gm_S} (hD : 12 ≤ d0) {x0 : Option Nat} {x1 : Option Nat} {x2 : Option Nat} {S : gm_S} (h : F_X2_transition_114 fu x0 x1 x2 S = some r) : B_X2_transition l d0 G S0 114 [(0, va_rf x0), (1, va_rf x1), (2, va_rf x2)] [] S r.1 r.2 := by
  unfold F_X2_transition_114 at h
  intro p e s m args below meth c H locs cells slots ls cx hnm hex hI hl
  have hx := cx.1
  have hb := cx.2.1
  have hown := cx.2.2.2.1
  have hts := cx.2.2.2.2.1
  have hK := cx.2.2.2.2.2.1
  refine gr_aload_n hx hb x0 dX2_transition_114 rfl (lv_at hl 0 rfl) ?_
  refine lv_bipush hx hb dX2_transition_115 gz_bp_47 ?_
  obtain ⟨a1, t1, h⟩ := gz_q_s h
  refine C_X2_takes cx (gz_nh hex) hI (Or.inl (hts _ q531)) hl.1 (gz_cs (Nat.le_of_ble_eq_true rfl)) (by omega) dX2_transition_117 t1 h (fun v1 S1 h H locs cells slots hI => ?_)
  refine lv_if_eq (tgt := 131) hx hb dX2_transition_120 rfl (fun hc => ?_) (fun hc => ?_)
  · have h := gz_t h hc
    exact T_X2_transition_131 hD h p e s m args below meth c H locs cells slots ls cx hnm hex hI (lv_sub hl [1, 2] rfl)
  · have h := gz_f h hc
    refine gr_aload_n hx hb x0 dX2_transition_123 rfl (lv_at hl 0 rfl) ?_
    refine gr_aload_n hx hb x2 dX2_transition_124 rfl (lv_at hl 2 rfl) ?_
    obtain ⟨v2, e2, h⟩ := g_bind h
    refine gr_getR cx hI e2 rfl (fun _ => rfl) rfl (Or.inr ⟨_, gk_w hK q628 rfl⟩) dX2_transition_125 ?_
    obtain ⟨a3, t3, h⟩ := gz_q_s h
    refine C_X2_actions cx (gz_nh hex) hI (Or.inl (hts _ q548)) hl.1 (gz_cs (Nat.le_of_ble_eq_true rfl)) (by omega) dX2_transition_128 t3 h (fun S3 h H locs cells slots hI => ?_)
    exact T_X2_transition_131 hD h p e s m args below meth c H locs cells slots ls cx hnm hex hI (lv_sub hl [1, 2] rfl)
theorem T_X2_transition_91 {l : Launch} {G : gG} {S0 : gm_S} {d0 fu : Nat} {r : Outcome × gm_S} (hD : 12 ≤ d0) {x0 : Option Nat} {x1 : Option Nat} {x2 : Option Nat} {S : gm_S} (h : F_X2_transition_91 fu x0 x1 x2 S = some r) : B_X2_transition l d0 G S0 91 [(0, va_rf x0), (1, va_rf x1), (2, va_rf x2)] [] S r.1 r.2 := by
  unfold F_X2_transition_91 at h
  intro p e s m args below meth c H locs cells slots ls cx hnm hex hI hl
  have hx := cx.1
  have hb := cx.2.1
  have hown := cx.2.2.2.1
  have hts := cx.2.2.2.2.1
  have hK := cx.2.2.2.2.2.1
  refine gr_aload_n hx hb x0 dX2_transition_91 rfl (lv_at hl 0 rfl) ?_
  refine lv_bipush hx hb dX2_transition_92 gz_bp_62 ?_
  obtain ⟨a1, t1, h⟩ := gz_q_s h
  refine C_X2_take cx (gz_nh hex) hI (Or.inl (hts _ q535)) hl.1 (gz_cs (Nat.le_of_ble_eq_true rfl)) (by omega) dX2_transition_94 t1 h (fun S1 h H locs cells slots hI => ?_)
  refine gr_aload_n hx hb x0 dX2_transition_97 rfl (lv_at hl 0 rfl) ?_
  refine lv_bipush hx hb dX2_transition_98 gz_bp_33 ?_
  obtain ⟨a2, t2, h⟩ := gz_q_s h
  refine C_X2_takes cx (gz_nh hex) hI (Or.inl (hts _ q531)) hl.1 (gz_cs (Nat.le_of_ble_eq_true rfl)) (by omega) dX2_transition_100 t2 h (fun v2 S2 h H locs cells slots hI => ?_)
  refine lv_if_ne (tgt := 114) hx hb dX2_transition_103 rfl (fun hc => ?_) (fun hc => ?_)
  · have h := gz_f h hc
    exact T_X2_transition_114 hD h p e s m args below meth c H locs cells slots ls cx hnm hex hI hl
  · have h := gz_t h hc
    refine gr_aload_n hx hb x2 dX2_transition_106 rfl (lv_at hl 2 rfl) ?_
    refine gr_aload_n hx hb x0 dX2_transition_107 rfl (lv_at hl 0 rfl) ?_
    obtain ⟨a3, t3, h⟩ := gz_q_s h
    refine C_X2_target cx (gz_nh hex) hI (Or.inl (hts _ q714)) hl.1 (gz_cs (Nat.le_of_ble_eq_true rfl)) (by omega) dX2_transition_108 t3 h (fun v3 S3 h H locs cells slots hI => ?_)
    obtain ⟨S4, e4, h⟩ := g_bind h
    refine gr_putR cx hI e4 rfl rfl rfl (Or.inr ⟨_, gk_w hK q630 rfl⟩) (Or.inl rfl) dX2_transition_111 (fun H locs hI => ?_)
    exact T_X2_transition_114 hD h p e s m args below meth c H locs cells slots ls cx hnm hex hI hl
theorem T_X2_transition_70 {l : Launch} {G : gG} {S0 : gm_S} {d0 fu : Nat} {r : Outcome × gm_S} (hD : 12 ≤ d0) : ∀ (n : Nat) (x0 : Option Nat) (x1 : Option Nat) (x2 : Option Nat) (S : gm_S), F_X2_transition_70 fu n x0 x1 x2 S = some r → B_X2_transition l d0 G S0 70 [(0, va_rf x0), (1, va_rf x1), (2, va_rf x2)] [] S r.1 r.2 := by
  intro n
  induction n with
  | zero => intro x0 x1 x2 S h; exact nomatch (show (none : gR) = some r from h)
  | succ n ih =>
    intro x0 x1 x2 S h
    rw [F_X2_transition_70] at h
    intro p e s m args below meth c H locs cells slots ls cx hnm hex hI hl
    have hx := cx.1
    have hb := cx.2.1
    have hown := cx.2.2.2.1
    have hts := cx.2.2.2.2.1
    have hK := cx.2.2.2.2.2.1
    refine gr_aload_n hx hb x2 dX2_transition_70 rfl (lv_at hl 2 rfl) ?_
    obtain ⟨v1, e1, h⟩ := g_bind h
    refine gr_getR cx hI e1 rfl (fun _ => rfl) rfl (Or.inr ⟨_, gk_w hK q626 rfl⟩) dX2_transition_71 ?_
    refine gr_aload_n hx hb x0 dX2_transition_74 rfl (lv_at hl 0 rfl) ?_
    obtain ⟨a2, t2, h⟩ := gz_q_s h
    refine C_X2_test cx (gz_nh hex) hI (Or.inl (hts _ q652)) hl.1 (gz_cs (Nat.le_of_ble_eq_true rfl)) (by omega) dX2_transition_75 t2 h (fun v2 S2 h H locs cells slots hI => ?_)
    obtain ⟨S3, e3, h⟩ := g_bind h
    refine gr_laddr cx (gz_nh hex) hI (Or.inl (hts _ q463)) hl.1 (gz_cs (Nat.le_of_ble_eq_true rfl)) (by omega) dX2_transition_78 e3 (fun H locs cells slots hI => ?_)
    refine lv_pop hx hb dX2_transition_81 rfl ?_
    refine gr_aload_n hx hb x0 dX2_transition_82 rfl (lv_at hl 0 rfl) ?_
    refine lv_bipush hx hb dX2_transition_83 gz_bp_38 ?_
    obtain ⟨a4, t4, h⟩ := gz_q_s h
    refine C_X2_takes cx (gz_nh hex) hI (Or.inl (hts _ q531)) hl.1 (gz_cs (Nat.le_of_ble_eq_true rfl)) (by omega) dX2_transition_85 t4 h (fun v4 S4 h H locs cells slots hI => ?_)
    refine lv_if_ne (tgt := 70) hx hb dX2_transition_88 rfl (fun hc => ?_) (fun hc => ?_)
    · have h := gz_f h hc
      exact ih _ _ _ _ h p e s m args below meth c H locs cells slots ls cx hnm hex hI hl
    · have h := gz_t h hc
      exact T_X2_transition_91 hD h p e s m args below meth c H locs cells slots ls cx hnm hex hI hl
theorem T_X2_transition_35 {l : Launch} {G : gG} {S0 : gm_S} {d0 fu : Nat} {r : Outcome × gm_S} (hD : 12 ≤ d0) {x0 : Option Nat} {x1 : Option Nat} {s0 : Int32} {s1 : Option Nat} {S : gm_S} (h : F_X2_transition_35 fu x0 x1 s0 s1 S = some r) : B_X2_transition l d0 G S0 35 [(0, va_rf x0), (1, va_rf x1)] [.int s0, va_rf s1] S r.1 r.2 := by
  unfold F_X2_transition_35 at h
  intro p e s m args below meth c H locs cells slots ls cx hnm hex hI hl
  have hx := cx.1
  have hb := cx.2.1
  have hown := cx.2.2.2.1
  have hts := cx.2.2.2.2.1
  have hK := cx.2.2.2.2.2.1
  obtain ⟨a1, t1, h⟩ := gz_q_s h
  refine C_X2_want cx (gz_nh hex) hI (Or.inl (hts _ q336)) hl.1 (gz_cs (Nat.le_of_ble_eq_true rfl)) (by omega) dX2_transition_35 t1 h (fun S1 h H locs cells slots hI => ?_)
  refine gr_aload_n hx hb x0 dX2_transition_38 rfl (lv_at hl 0 rfl) ?_
  refine lv_dup hx hb dX2_transition_39 (gl_cat x0) ?_
  obtain ⟨v2, e2, h⟩ := g_bind h
  refine gr_getI cx hI e2 rfl (fun _ => rfl) rfl (Or.inl (hts _ q127)) dX2_transition_40 ?_
  refine lv_iconst hx hb dX2_transition_43 gz_ic_1 ?_
  refine lv_iadd hx hb dX2_transition_44 ?_
  obtain ⟨S3, e3, h⟩ := g_bind h
  refine gr_putI cx hI e3 rfl rfl rfl (Or.inl (hts _ q127)) (Or.inl rfl) dX2_transition_45 (fun H locs hI => ?_)
  obtain ⟨q4, e4, h⟩ := g_bind h
  refine gr_fnew cx hI (t := 10) (a := q4.1) (S2 := q4.2) e4 rfl (hts _ q614) (hts _ q615) (hts _ q94) dX2_transition_48 (fun H cells slots hI => ?_)
  refine lv_dup hx hb dX2_transition_51 (gl_cat (some q4.1)) ?_
  refine gr_aload_n hx hb x1 dX2_transition_52 rfl (lv_at hl 1 rfl) ?_
  refine gr_aload_n hx hb x0 dX2_transition_53 rfl (lv_at hl 0 rfl) ?_
  obtain ⟨a5, t5, h⟩ := gz_q_s h
  refine C_X2_next cx (gz_nh hex) hI (Or.inl (hts _ q527)) hl.1 (gz_cs (Nat.le_of_ble_eq_true rfl)) (by omega) dX2_transition_54 t5 h (fun v5 S5 h H locs cells slots hI => ?_)
  obtain ⟨a6, t6, h⟩ := gz_q_s h
  refine C_X10_init cx (gz_nh hex) hI (Or.inl (hts _ q616)) hl.1 (gz_cs (Nat.le_of_ble_eq_true rfl)) (by omega) dX2_transition_57 t6 h (fun S6 h H locs cells slots hI => ?_)
  refine gz_astore_n hx hb dX2_transition_60 rfl hl (by decide) [0, 1] rfl (gz_con ⟨gz_ne rfl, Or.inl (gz_ne rfl)⟩ (gz_con ⟨gz_ne rfl, Or.inr (gl_cat x1)⟩ gz_nil)) (fun ls hl => ?_)
  refine gr_aload_n hx hb x0 dX2_transition_61 rfl (lv_at hl 1 rfl) ?_
  refine lv_bipush hx hb dX2_transition_62 gz_bp_63 ?_
  obtain ⟨a7, t7, h⟩ := gz_q_s h
  refine C_X2_takes cx (gz_nh hex) hI (Or.inl (hts _ q531)) hl.1 (gz_cs (Nat.le_of_ble_eq_true rfl)) (by omega) dX2_transition_64 t7 h (fun v7 S7 h H locs cells slots hI => ?_)
  refine lv_if_eq (tgt := 91) hx hb dX2_transition_67 rfl (fun hc => ?_) (fun hc => ?_)
  · have h := gz_t h hc
    exact T_X2_transition_91 hD h p e s m args below meth c H locs cells slots ls cx hnm hex hI (lv_sub hl [1, 2, 0] rfl)
  · have h := gz_f h hc
    exact T_X2_transition_70 hD fu _ _ _ _ h p e s m args below meth c H locs cells slots ls cx hnm hex hI (lv_sub hl [1, 2, 0] rfl)
theorem T_X2_transition_21 {l : Launch} {G : gG} {S0 : gm_S} {d0 fu : Nat} {r : Outcome × gm_S} (hD : 12 ≤ d0) {x0 : Option Nat} {x1 : Option Nat} {s0 : Option Nat} {S : gm_S} (h : F_X2_transition_21 fu x0 x1 s0 S = some r) : B_X2_transition l d0 G S0 21 [(0, va_rf x0), (1, va_rf x1)] [va_rf s0] S r.1 r.2 := by
  unfold F_X2_transition_21 at h
  intro p e s m args below meth c H locs cells slots ls cx hnm hex hI hl
  have hx := cx.1
  have hb := cx.2.1
  have hown := cx.2.2.2.1
  have hts := cx.2.2.2.2.1
  have hK := cx.2.2.2.2.2.1
  refine gr_aload_n hx hb x0 dX2_transition_21 rfl (lv_at hl 0 rfl) ?_
  obtain ⟨v1, e1, h⟩ := g_bind h
  refine gr_getI cx hI e1 rfl (fun _ => rfl) rfl (Or.inl (hts _ q127)) dX2_transition_22 ?_
  refine lv_bipush hx hb dX2_transition_25 gz_bp_24 ?_
  refine lv_icmp_ge (tgt := 34) hx hb dX2_transition_27 rfl (fun hc => ?_) (fun hc => ?_)
  · have h := gz_t h hc
    refine lv_iconst hx hb dX2_transition_34 gz_ic_0 ?_
    exact T_X2_transition_35 hD h p e s m args below meth c H locs cells slots ls cx hnm hex hI hl
  · have h := gz_f h hc
    refine lv_iconst hx hb dX2_transition_30 gz_ic_1 ?_
    refine lv_goto (tgt := 35) hx hb dX2_transition_31 rfl ?_
    exact T_X2_transition_35 hD h p e s m args below meth c H locs cells slots ls cx hnm hex hI hl
theorem T_X2_transition {l : Launch} {G : gG} {S0 : gm_S} {d0 fu : Nat} {r : Outcome × gm_S} (hD : 12 ≤ d0) {x0 : Option Nat} {x1 : Option Nat} {S : gm_S} (h : F_X2_transition fu x0 x1 S = some r) : B_X2_transition l d0 G S0 0 [(0, va_rf x0), (1, va_rf x1)] [] S r.1 r.2 := by
  unfold F_X2_transition at h
  intro p e s m args below meth c H locs cells slots ls cx hnm hex hI hl
  have hx := cx.1
  have hb := cx.2.1
  have hown := cx.2.2.2.1
  have hts := cx.2.2.2.2.1
  have hK := cx.2.2.2.2.2.1
  refine gr_aload_n hx hb x0 dX2_transition_0 rfl (lv_at hl 0 rfl) ?_
  refine gr_aload_n hx hb x0 dX2_transition_1 rfl (lv_at hl 0 rfl) ?_
  obtain ⟨a1, t1, h⟩ := gz_q_s h
  refine C_X2_look cx (gz_nh hex) hI (Or.inl (hts _ q332)) hl.1 (gz_cs (Nat.le_of_ble_eq_true rfl)) (by omega) dX2_transition_2 t1 h (fun v1 S1 h H locs cells slots hI => ?_)
  refine lv_bipush hx hb dX2_transition_5 gz_bp_46 ?_
  refine lv_icmp_eq (tgt := 21) hx hb dX2_transition_7 rfl (fun hc => ?_) (fun hc => ?_)
  · have h := gz_t h hc
    exact T_X2_transition_21 hD h p e s m args below meth c H locs cells slots ls cx hnm hex hI hl
  · have h := gz_f h hc
    refine gr_aload_n hx hb x0 dX2_transition_10 rfl (lv_at hl 0 rfl) ?_
    refine lv_bipush hx hb dX2_transition_11 gz_bp_65 ?_
    refine lv_bipush hx hb dX2_transition_13 gz_bp_72 ?_
    obtain ⟨a2, t2, h⟩ := gz_q_s h
    refine C_X2_isAmong cx (gz_nh hex) hI (Or.inl (hts _ q328)) hl.1 (gz_cs (Nat.le_of_ble_eq_true rfl)) (by omega) dX2_transition_15 t2 h (fun v2 S2 h H locs cells slots hI => ?_)
    refine lv_if_eq (tgt := 34) hx hb dX2_transition_18 rfl (fun hc => ?_) (fun hc => ?_)
    · have h := gz_t h hc
      refine lv_iconst hx hb dX2_transition_34 gz_ic_0 ?_
      exact T_X2_transition_35 hD h p e s m args below meth c H locs cells slots ls cx hnm hex hI hl
    · have h := gz_f h hc
      exact T_X2_transition_21 hD h p e s m args below meth c H locs cells slots ls cx hnm hex hI hl
theorem M_X2_transition {l : Launch} {G : gG} {fu d0 : Nat} (hfl : l.flags = flags0) (hD : 12 ≤ d0) {x0 : Option Nat} {x1 : Option Nat} {S : gm_S} {o : Outcome} {S2 : gm_S} (h : F_X2_transition fu x0 x1 S = some (o, S2)) : gx_Met l yX2_transition (ws_ yX2_transition cX2_transition 3 (Option.none : Option Jvm.ClassFile.FieldType)) d0 G S [va_rf x0, va_rf x1] o S2 := by
  refine gx_of hfl (by decide) (fun p e s m below meth c cx hnm hex hI => ?_)
  rw [lg_entry_eq]
  cases x0 <;> cases x1 <;> exact T_X2_transition (r := (o, S2)) hD h p e s m _ below meth c _ _ _ _ _ cx hnm (gz_nh0 hex) hI (lv_entry _ (Nat.le_of_ble_eq_true rfl))
theorem C_X2_transition {p : Program} {l : Launch} {e : Env} {s : State} {m : MethodId} {args : Array Value} {below : List Frame} {meth : Method} {c : Code} {H : Heap} {locs : List Loc} {cells slots : Nat} {cc : ByteArray} {pc nL : Nat} {ls : Array Slot} {rest : List Value} {G : gG} {S0 S : gm_S} {own : String} {ret : Option FieldType} {d0 index fu : Nat} {x0 : Option Nat} {x1 : Option Nat} {k : gm_S → gR} {r : Outcome × gm_S} (cx : gx_cx p l s m args meth c G own cc nL ret) (hex : ∀ x ∈ c.exceptionTable.toList, covers x pc = false) (hI : gw_I G S0 S H locs cells slots) (hl : gl_M own index yX2_transition args s) (hlv : ls.size = nL) (hrest : (rest.map fun v => v.category).sum ≤ 8) (hD : 13 ≤ d0) (hdg : decode cc pc = .ok (.invokevirtual index, 3)) {b : Nat} (hat : g_at S x0 2 = some b) (h : gz_cV (F_X2_transition fu x0 x1 S) k = some r)
    (kk : ∀ (z : gm_S), k z = some r → ∀ (H : Heap) (locs : List Loc) (cells slots : Nat), gw_I G S0 z H locs cells slots → W p l e (gx_rm d0 S0) s m args below meth c H locs cells slots (gx_MQ below G S0 r.2 r.1 s) (F0 m (pc + 3) ls rest)) : W p l e (gx_rm d0 S0) s m args below meth c H locs cells slots (gx_MQ below G S0 r.2 r.1 s) (F0 m pc ls (va_rf x1 :: va_rf x0 :: rest)) := by
  obtain ⟨rfl, ht⟩ := g_at_s hat
  have hts := cx.2.2.2.2.1
  have hK := cx.2.2.2.2.2.1
  exact gz_goV (d := d0 - 1) (fun S => S) cx hex hI hlv hrest (by omega) (Nat.le_of_ble_eq_true rfl) (gz_ws (lw_meth q613) hts) (hts _ q73) (gb_rawV (As := [va_rf x1]) cx hl (hts _ q612) (hts _ qs10) (gl_C.code (hts _ q613)) hy_X2_transition (gr_recv hK hI.1 ht rfl) rfl rfl hdg) (fun o S2 e => M_X2_transition (x0 := some b) cx.2.2.2.2.2.2.2.2 (by omega) e) h kk
abbrev B_X2_item (l : Launch) (d0 : Nat) (G : gG) (S0 : gm_S) : Nat → List (Nat × Value) → List Value → gm_S → Outcome → gm_S → Prop := gz_B l RX2 "item" cX2_item 2 (Option.none : Option Jvm.ClassFile.FieldType) [] d0 G S0
theorem T_X2_item_45 {l : Launch} {G : gG} {S0 : gm_S} {d0 fu : Nat} {r : Outcome × gm_S} (hD : 13 ≤ d0) {x0 : Option Nat} {S : gm_S} (h : F_X2_item_45 fu x0 S = some r) : B_X2_item l d0 G S0 45 [(0, va_rf x0)] [] S r.1 r.2 := by
  unfold F_X2_item_45 at h
  intro p e s m args below meth c H locs cells slots ls cx hnm hex hI hl
  have hx := cx.1
  have hb := cx.2.1
  have hown := cx.2.2.2.1
  have hts := cx.2.2.2.2.1
  have hK := cx.2.2.2.2.2.1
  refine gr_aload_n hx hb x0 dX2_item_45 rfl (lv_at hl 0 rfl) ?_
  refine lv_bipush hx hb dX2_item_46 gz_bp_59 ?_
  obtain ⟨a1, t1, h⟩ := gz_q_s h
  refine C_X2_take cx (gz_nh hex) hI (Or.inl (hts _ q535)) hl.1 (gz_cs (Nat.le_of_ble_eq_true rfl)) (by omega) dX2_item_48 t1 h (fun S1 h H locs cells slots hI => ?_)
  cases h
  exact gr_vret cx hI dX2_item_51
theorem T_X2_item {l : Launch} {G : gG} {S0 : gm_S} {d0 fu : Nat} {r : Outcome × gm_S} (hD : 13 ≤ d0) {x0 : Option Nat} {x1 : Option Nat} {S : gm_S} (h : F_X2_item fu x0 x1 S = some r) : B_X2_item l d0 G S0 0 [(0, va_rf x0), (1, va_rf x1)] [] S r.1 r.2 := by
  unfold F_X2_item at h
  intro p e s m args below meth c H locs cells slots ls cx hnm hex hI hl
  have hx := cx.1
  have hb := cx.2.1
  have hown := cx.2.2.2.1
  have hts := cx.2.2.2.2.1
  have hK := cx.2.2.2.2.2.1
  refine gr_aload_n hx hb x0 dX2_item_0 rfl (lv_at hl 0 rfl) ?_
  refine lv_bipush hx hb dX2_item_1 gz_bp_43 ?_
  obtain ⟨a1, t1, h⟩ := gz_q_s h
  refine C_X2_takes cx (gz_nh hex) hI (Or.inl (hts _ q531)) hl.1 (gz_cs (Nat.le_of_ble_eq_true rfl)) (by omega) dX2_item_3 t1 h (fun v1 S1 h H locs cells slots hI => ?_)
  refine lv_if_eq (tgt := 20) hx hb dX2_item_6 rfl (fun hc => ?_) (fun hc => ?_)
  · have h := gz_t h hc
    refine gr_aload_n hx hb x0 dX2_item_20 rfl (lv_at hl 0 rfl) ?_
    refine lv_bipush hx hb dX2_item_21 gz_bp_45 ?_
    obtain ⟨a2, t2, h⟩ := gz_q_s h
    refine C_X2_takes cx (gz_nh hex) hI (Or.inl (hts _ q531)) hl.1 (gz_cs (Nat.le_of_ble_eq_true rfl)) (by omega) dX2_item_23 t2 h (fun v2 S2 h H locs cells slots hI => ?_)
    refine lv_if_eq (tgt := 40) hx hb dX2_item_26 rfl (fun hc => ?_) (fun hc => ?_)
    · have h := gz_t h hc
      refine gr_aload_n hx hb x0 dX2_item_40 rfl (lv_at hl 0 rfl) ?_
      refine gr_aload_n hx hb x1 dX2_item_41 rfl (lv_at hl 1 rfl) ?_
      obtain ⟨a3, t3, h⟩ := gz_q_s h
      refine C_X2_transition cx (gz_nh hex) hI (Or.inl (hts _ q610)) hl.1 (gz_cs (Nat.le_of_ble_eq_true rfl)) (by omega) dX2_item_42 t3 h (fun S3 h H locs cells slots hI => ?_)
      exact T_X2_item_45 hD h p e s m args below meth c H locs cells slots ls cx hnm hex hI (lv_sub hl [0] rfl)
    · have h := gz_f h hc
      refine gr_aload_n hx hb x0 dX2_item_29 rfl (lv_at hl 0 rfl) ?_
      refine gr_aload_n hx hb x1 dX2_item_30 rfl (lv_at hl 1 rfl) ?_
      obtain ⟨v4, e4, h⟩ := g_bind h
      refine gr_getR cx hI e4 rfl (fun _ => rfl) rfl (Or.inr ⟨_, gk_w hK q433 rfl⟩) dX2_item_31 ?_
      obtain ⟨a5, t5, h⟩ := gz_q_s h
      refine C_X2_actions cx (gz_nh hex) hI (Or.inl (hts _ q548)) hl.1 (gz_cs (Nat.le_of_ble_eq_true rfl)) (by omega) dX2_item_34 t5 h (fun S5 h H locs cells slots hI => ?_)
      refine lv_goto (tgt := 45) hx hb dX2_item_37 rfl ?_
      exact T_X2_item_45 hD h p e s m args below meth c H locs cells slots ls cx hnm hex hI (lv_sub hl [0] rfl)
  · have h := gz_f h hc
    refine gr_aload_n hx hb x0 dX2_item_9 rfl (lv_at hl 0 rfl) ?_
    refine gr_aload_n hx hb x1 dX2_item_10 rfl (lv_at hl 1 rfl) ?_
    obtain ⟨v6, e6, h⟩ := g_bind h
    refine gr_getR cx hI e6 rfl (fun _ => rfl) rfl (Or.inr ⟨_, gk_w hK q430 rfl⟩) dX2_item_11 ?_
    obtain ⟨a7, t7, h⟩ := gz_q_s h
    refine C_X2_actions cx (gz_nh hex) hI (Or.inl (hts _ q548)) hl.1 (gz_cs (Nat.le_of_ble_eq_true rfl)) (by omega) dX2_item_14 t7 h (fun S7 h H locs cells slots hI => ?_)
    refine lv_goto (tgt := 45) hx hb dX2_item_17 rfl ?_
    exact T_X2_item_45 hD h p e s m args below meth c H locs cells slots ls cx hnm hex hI (lv_sub hl [0] rfl)
theorem M_X2_item {l : Launch} {G : gG} {fu d0 : Nat} (hfl : l.flags = flags0) (hD : 13 ≤ d0) {x0 : Option Nat} {x1 : Option Nat} {S : gm_S} {o : Outcome} {S2 : gm_S} (h : F_X2_item fu x0 x1 S = some (o, S2)) : gx_Met l yX2_item (ws_ yX2_item cX2_item 2 (Option.none : Option Jvm.ClassFile.FieldType)) d0 G S [va_rf x0, va_rf x1] o S2 := by
  refine gx_of hfl (by decide) (fun p e s m below meth c cx hnm hex hI => ?_)
  rw [lg_entry_eq]
  cases x0 <;> cases x1 <;> exact T_X2_item (r := (o, S2)) hD h p e s m _ below meth c _ _ _ _ _ cx hnm (gz_nh0 hex) hI (lv_entry _ (Nat.le_of_ble_eq_true rfl))
theorem C_X2_item {p : Program} {l : Launch} {e : Env} {s : State} {m : MethodId} {args : Array Value} {below : List Frame} {meth : Method} {c : Code} {H : Heap} {locs : List Loc} {cells slots : Nat} {cc : ByteArray} {pc nL : Nat} {ls : Array Slot} {rest : List Value} {G : gG} {S0 S : gm_S} {own : String} {ret : Option FieldType} {d0 index fu : Nat} {x0 : Option Nat} {x1 : Option Nat} {k : gm_S → gR} {r : Outcome × gm_S} (cx : gx_cx p l s m args meth c G own cc nL ret) (hex : ∀ x ∈ c.exceptionTable.toList, covers x pc = false) (hI : gw_I G S0 S H locs cells slots) (hl : gl_M own index yX2_item args s) (hlv : ls.size = nL) (hrest : (rest.map fun v => v.category).sum ≤ 8) (hD : 14 ≤ d0) (hdg : decode cc pc = .ok (.invokevirtual index, 3)) {b : Nat} (hat : g_at S x0 2 = some b) (h : gz_cV (F_X2_item fu x0 x1 S) k = some r)
    (kk : ∀ (z : gm_S), k z = some r → ∀ (H : Heap) (locs : List Loc) (cells slots : Nat), gw_I G S0 z H locs cells slots → W p l e (gx_rm d0 S0) s m args below meth c H locs cells slots (gx_MQ below G S0 r.2 r.1 s) (F0 m (pc + 3) ls rest)) : W p l e (gx_rm d0 S0) s m args below meth c H locs cells slots (gx_MQ below G S0 r.2 r.1 s) (F0 m pc ls (va_rf x1 :: va_rf x0 :: rest)) := by
  obtain ⟨rfl, ht⟩ := g_at_s hat
  have hts := cx.2.2.2.2.1
  have hK := cx.2.2.2.2.2.1
  exact gz_goV (d := d0 - 1) (fun S => S) cx hex hI hlv hrest (by omega) (Nat.le_of_ble_eq_true rfl) (gz_ws (lw_meth q547) hts) (hts _ q73) (gb_rawV (As := [va_rf x1]) cx hl (hts _ q546) (hts _ qs5) (gl_C.code (hts _ q547)) hy_X2_item (gr_recv hK hI.1 ht rfl) rfl rfl hdg) (fun o S2 e => M_X2_item (x0 := some b) cx.2.2.2.2.2.2.2.2 (by omega) e) h kk
abbrev B_X5_bit (l : Launch) (d0 : Nat) (G : gG) (S0 : gm_S) : Nat → List (Nat × Value) → List Value → gm_S → Outcome → gm_S → Prop := gz_B l RX5 "bit" cX5_bit 1 (Option.some Jvm.ClassFile.FieldType.int) [] d0 G S0
theorem T_X5_bit {l : Launch} {G : gG} {S0 : gm_S} {d0 fu : Nat} {r : Outcome × gm_S} (hD : 2 ≤ d0) {x0 : Option Nat} {S : gm_S} (h : F_X5_bit fu x0 S = some r) : B_X5_bit l d0 G S0 0 [(0, va_rf x0)] [] S r.1 r.2 := by
  unfold F_X5_bit at h
  intro p e s m args below meth c H locs cells slots ls cx hnm hex hI hl
  have hx := cx.1
  have hb := cx.2.1
  have hown := cx.2.2.2.1
  have hts := cx.2.2.2.2.1
  have hK := cx.2.2.2.2.2.1
  refine lv_iconst hx hb dX5_bit_0 gz_ic_1 ?_
  refine gr_aload_n hx hb x0 dX5_bit_1 rfl (lv_at hl 0 rfl) ?_
  obtain ⟨v1, e1, h⟩ := g_bind h
  refine gr_getI cx hI e1 rfl (fun _ => rfl) rfl (Or.inl (hts _ q412)) dX5_bit_2 ?_
  refine lv_ishl hx hb dX5_bit_5 ?_
  cases h
  exact gr_iret cx hI dX5_bit_6
theorem M_X5_bit {l : Launch} {G : gG} {fu d0 : Nat} (hfl : l.flags = flags0) (hD : 2 ≤ d0) {x0 : Option Nat} {S : gm_S} {o : Outcome} {S2 : gm_S} (h : F_X5_bit fu x0 S = some (o, S2)) : gx_Met l yX5_bit (ws_ yX5_bit cX5_bit 1 (Option.some Jvm.ClassFile.FieldType.int)) d0 G S [va_rf x0] o S2 := by
  refine gx_of hfl (by decide) (fun p e s m below meth c cx hnm hex hI => ?_)
  rw [lg_entry_eq]
  cases x0 <;> exact T_X5_bit (r := (o, S2)) hD h p e s m _ below meth c _ _ _ _ _ cx hnm (gz_nh0 hex) hI (lv_entry _ (Nat.le_of_ble_eq_true rfl))
theorem C_X5_bit {p : Program} {l : Launch} {e : Env} {s : State} {m : MethodId} {args : Array Value} {below : List Frame} {meth : Method} {c : Code} {H : Heap} {locs : List Loc} {cells slots : Nat} {cc : ByteArray} {pc nL : Nat} {ls : Array Slot} {rest : List Value} {G : gG} {S0 S : gm_S} {own : String} {ret : Option FieldType} {d0 index fu : Nat} {x0 : Option Nat} {k : Int32 → gm_S → gR} {r : Outcome × gm_S} (cx : gx_cx p l s m args meth c G own cc nL ret) (hex : ∀ x ∈ c.exceptionTable.toList, covers x pc = false) (hI : gw_I G S0 S H locs cells slots) (hl : gl_M own index yX5_bit args s) (hlv : ls.size = nL) (hrest : (rest.map fun v => v.category).sum ≤ 8) (hD : 3 ≤ d0) (hdg : decode cc pc = .ok (.invokevirtual index, 3)) {b : Nat} (hat : g_at S x0 5 = some b) (h : gz_cI (F_X5_bit fu x0 S) k = some r)
    (kk : ∀ (v : Int32) (z : gm_S), k v z = some r → ∀ (H : Heap) (locs : List Loc) (cells slots : Nat), gw_I G S0 z H locs cells slots → W p l e (gx_rm d0 S0) s m args below meth c H locs cells slots (gx_MQ below G S0 r.2 r.1 s) (F0 m (pc + 3) ls (.int v :: rest))) : W p l e (gx_rm d0 S0) s m args below meth c H locs cells slots (gx_MQ below G S0 r.2 r.1 s) (F0 m pc ls (va_rf x0 :: rest)) := by
  obtain ⟨rfl, ht⟩ := g_at_s hat
  have hts := cx.2.2.2.2.1
  have hK := cx.2.2.2.2.2.1
  exact gz_goI (d := d0 - 1) (fun S => S) cx hex hI hlv hrest (by omega) (Nat.le_of_ble_eq_true rfl) (gz_ws (lw_meth q543) hts) (hts _ q83) (gb_rawV (As := []) cx hl (hts _ q541) (hts _ q542) (gl_C.code (hts _ q543)) hy_X5_bit (gr_recv hK hI.1 ht rfl) rfl rfl hdg) (fun o S2 e => M_X5_bit (x0 := some b) cx.2.2.2.2.2.2.2.2 (by omega) e) h kk
abbrev B_X5_init (l : Launch) (d0 : Nat) (G : gG) (S0 : gm_S) : Nat → List (Nat × Value) → List Value → gm_S → Outcome → gm_S → Prop := gz_B l RX5 "<init>" cX5_init 3 (Option.none : Option Jvm.ClassFile.FieldType) [] d0 G S0
theorem T_X5_init {l : Launch} {G : gG} {S0 : gm_S} {d0 fu : Nat} {r : Outcome × gm_S} (hD : 11 ≤ d0) {x0 : Option Nat} {x1 : Int32} {x2 : Option Nat} {S : gm_S} (h : F_X5_init fu x0 x1 x2 S = some r) : B_X5_init l d0 G S0 0 [(0, va_rf x0), (1, .int x1), (2, va_rf x2)] [] S r.1 r.2 := by
  unfold F_X5_init at h
  intro p e s m args below meth c H locs cells slots ls cx hnm hex hI hl
  have hx := cx.1
  have hb := cx.2.1
  have hown := cx.2.2.2.1
  have hts := cx.2.2.2.2.1
  have hK := cx.2.2.2.2.2.1
  refine gr_aload_n hx hb x0 dX5_init_0 rfl (lv_at hl 0 rfl) ?_
  obtain ⟨a1, e1, h⟩ := gz_q_s h
  refine gz_objI cx hl.1 (hts _ q409) (gz_cs (Nat.le_of_ble_eq_true rfl)) (by omega) e1 dX5_init_1 ?_
  refine gr_aload_n hx hb x0 dX5_init_4 rfl (lv_at hl 0 rfl) ?_
  obtain ⟨q2, e2, h⟩ := g_bind h
  refine gr_fnewL cx hI (a := q2.1) (S2 := q2.2) e2 (hts _ q410) (hts _ q155) (hts _ q77) dX5_init_5 (fun H cells slots hI => ?_)
  refine lv_dup hx hb dX5_init_8 (gl_cat (some q2.1)) ?_
  obtain ⟨S3, e3, h⟩ := g_bind h
  refine gr_linit cx (gz_nh hex) hI (Or.inl (hts _ q411)) hl.1 (gz_cs (Nat.le_of_ble_eq_true rfl)) (by omega) dX5_init_9 e3 (fun H locs cells slots hI => ?_)
  obtain ⟨S4, e4, h⟩ := g_bind h
  refine gr_putR cx hI e4 rfl rfl rfl (Or.inl (hts _ q422)) (Or.inr ⟨hnm, rfl⟩) dX5_init_12 (fun H locs hI => ?_)
  refine gr_aload_n hx hb x0 dX5_init_15 rfl (lv_at hl 0 rfl) ?_
  obtain ⟨q5, e5, h⟩ := g_bind h
  refine gr_fnewL cx hI (a := q5.1) (S2 := q5.2) e5 (hts _ q410) (hts _ q155) (hts _ q77) dX5_init_16 (fun H cells slots hI => ?_)
  refine lv_dup hx hb dX5_init_19 (gl_cat (some q5.1)) ?_
  obtain ⟨S6, e6, h⟩ := g_bind h
  refine gr_linit cx (gz_nh hex) hI (Or.inl (hts _ q411)) hl.1 (gz_cs (Nat.le_of_ble_eq_true rfl)) (by omega) dX5_init_20 e6 (fun H locs cells slots hI => ?_)
  obtain ⟨S7, e7, h⟩ := g_bind h
  refine gr_putR cx hI e7 rfl rfl rfl (Or.inl (hts _ q426)) (Or.inr ⟨hnm, rfl⟩) dX5_init_23 (fun H locs hI => ?_)
  refine gr_aload_n hx hb x0 dX5_init_26 rfl (lv_at hl 0 rfl) ?_
  obtain ⟨q8, e8, h⟩ := g_bind h
  refine gr_fnewL cx hI (a := q8.1) (S2 := q8.2) e8 (hts _ q410) (hts _ q155) (hts _ q77) dX5_init_27 (fun H cells slots hI => ?_)
  refine lv_dup hx hb dX5_init_30 (gl_cat (some q8.1)) ?_
  obtain ⟨S9, e9, h⟩ := g_bind h
  refine gr_linit cx (gz_nh hex) hI (Or.inl (hts _ q411)) hl.1 (gz_cs (Nat.le_of_ble_eq_true rfl)) (by omega) dX5_init_31 e9 (fun H locs cells slots hI => ?_)
  obtain ⟨S10, e10, h⟩ := g_bind h
  refine gr_putR cx hI e10 rfl rfl rfl (Or.inl (hts _ q429)) (Or.inr ⟨hnm, rfl⟩) dX5_init_34 (fun H locs hI => ?_)
  refine gr_aload_n hx hb x0 dX5_init_37 rfl (lv_at hl 0 rfl) ?_
  obtain ⟨q11, e11, h⟩ := g_bind h
  refine gr_fnewL cx hI (a := q11.1) (S2 := q11.2) e11 (hts _ q410) (hts _ q155) (hts _ q77) dX5_init_38 (fun H cells slots hI => ?_)
  refine lv_dup hx hb dX5_init_41 (gl_cat (some q11.1)) ?_
  obtain ⟨S12, e12, h⟩ := g_bind h
  refine gr_linit cx (gz_nh hex) hI (Or.inl (hts _ q411)) hl.1 (gz_cs (Nat.le_of_ble_eq_true rfl)) (by omega) dX5_init_42 e12 (fun H locs cells slots hI => ?_)
  obtain ⟨S13, e13, h⟩ := g_bind h
  refine gr_putR cx hI e13 rfl rfl rfl (Or.inl (hts _ q432)) (Or.inr ⟨hnm, rfl⟩) dX5_init_45 (fun H locs hI => ?_)
  refine gr_aload_n hx hb x0 dX5_init_48 rfl (lv_at hl 0 rfl) ?_
  refine lv_iload_n hx hb dX5_init_49 rfl (lv_at hl 1 rfl) ?_
  obtain ⟨S14, e14, h⟩ := g_bind h
  refine gr_putI cx hI e14 rfl rfl rfl (Or.inl (hts _ q412)) (Or.inr ⟨hnm, rfl⟩) dX5_init_50 (fun H locs hI => ?_)
  refine gr_aload_n hx hb x0 dX5_init_53 rfl (lv_at hl 0 rfl) ?_
  refine gr_aload_n hx hb x2 dX5_init_54 rfl (lv_at hl 2 rfl) ?_
  obtain ⟨S15, e15, h⟩ := g_bind h
  refine gr_putR cx hI e15 rfl rfl rfl (Or.inl (hts _ q416)) (Or.inr ⟨hnm, rfl⟩) dX5_init_55 (fun H locs hI => ?_)
  cases h
  exact gr_vret cx hI dX5_init_58
theorem M_X5_init {l : Launch} {G : gG} {fu d0 : Nat} (hfl : l.flags = flags0) (hD : 11 ≤ d0) {x0 : Option Nat} {x1 : Int32} {x2 : Option Nat} {S : gm_S} {o : Outcome} {S2 : gm_S} (h : F_X5_init fu x0 x1 x2 S = some (o, S2)) : gx_Met l yX5_init (ws_ yX5_init cX5_init 3 (Option.none : Option Jvm.ClassFile.FieldType)) d0 G S [va_rf x0, .int x1, va_rf x2] o S2 := by
  refine gx_of hfl (by decide) (fun p e s m below meth c cx hnm hex hI => ?_)
  rw [lg_entry_eq]
  cases x0 <;> cases x2 <;> exact T_X5_init (r := (o, S2)) hD h p e s m _ below meth c _ _ _ _ _ cx hnm (gz_nh0 hex) hI (lv_entry _ (Nat.le_of_ble_eq_true rfl))
theorem C_X5_init {p : Program} {l : Launch} {e : Env} {s : State} {m : MethodId} {args : Array Value} {below : List Frame} {meth : Method} {c : Code} {H : Heap} {locs : List Loc} {cells slots : Nat} {cc : ByteArray} {pc nL : Nat} {ls : Array Slot} {rest : List Value} {G : gG} {S0 S : gm_S} {own : String} {ret : Option FieldType} {d0 index fu : Nat} {x0 : Option Nat} {x1 : Int32} {x2 : Option Nat} {k : gm_S → gR} {r : Outcome × gm_S} (cx : gx_cx p l s m args meth c G own cc nL ret) (hex : ∀ x ∈ c.exceptionTable.toList, covers x pc = false) (hI : gw_I G S0 S H locs cells slots) (hl : gl_M own index yX5_init args s) (hlv : ls.size = nL) (hrest : (rest.map fun v => v.category).sum ≤ 8) (hD : 12 ≤ d0) (hdg : decode cc pc = .ok (.invokespecial index, 3)) {b : Nat} (hat : g_at S x0 5 = some b) (h : gz_cV (F_X5_init fu x0 x1 x2 S) k = some r)
    (kk : ∀ (z : gm_S), k z = some r → ∀ (H : Heap) (locs : List Loc) (cells slots : Nat), gw_I G S0 z H locs cells slots → W p l e (gx_rm d0 S0) s m args below meth c H locs cells slots (gx_MQ below G S0 r.2 r.1 s) (F0 m (pc + 3) ls rest)) : W p l e (gx_rm d0 S0) s m args below meth c H locs cells slots (gx_MQ below G S0 r.2 r.1 s) (F0 m pc ls (va_rf x2 :: .int x1 :: va_rf x0 :: rest)) := by
  obtain ⟨rfl, ht⟩ := g_at_s hat
  have hts := cx.2.2.2.2.1
  have hK := cx.2.2.2.2.2.1
  exact gz_goV (d := d0 - 1) (fun S => S) cx hex hI hlv hrest (by omega) (Nat.le_of_ble_eq_true rfl) (gz_ws (lw_meth q408) hts) (hts _ q83) (gb_rawI (As := [.int x1, va_rf x2]) cx hl (hts _ q407) (hts _ q408) hy_X5_init rfl rfl rfl hdg) (fun o S2 e => M_X5_init (x0 := some b) cx.2.2.2.2.2.2.2.2 (by omega) e) h kk
abbrev B_X2_state (l : Launch) (d0 : Nat) (G : gG) (S0 : gm_S) : Nat → List (Nat × Value) → List Value → gm_S → Outcome → gm_S → Prop := gz_B l RX2 "state" cX2_state 6 (Option.some (Jvm.ClassFile.FieldType.object "NestChart$State")) [] d0 G S0
theorem CR_X2_state {p : Program} {l : Launch} {e : Env} {s : State} {m : MethodId} {args : Array Value} {below : List Frame} {meth : Method} {c : Code} {H : Heap} {locs : List Loc} {cells slots : Nat} {cc : ByteArray} {pc nL : Nat} {ls : Array Slot} {rest : List Value} {G : gG} {S0 S : gm_S} {own : String} {ret : Option FieldType} {d0 index : Nat} {rc : Option Nat → Option Nat → Int32 → gm_S → gR} {dr : Nat} {x0 : Option Nat} {x1 : Option Nat} {x2 : Int32} {k : Option Nat → gm_S → gR} {r : Outcome × gm_S} (hrc : ∀ (x0 : Option Nat) (x1 : Option Nat) (x2 : Int32) (S : gm_S) (o : Outcome) (S2 : gm_S), rc x0 x1 x2 S = some (o, S2) → gx_Met l yX2_state (ws_ yX2_state cX2_state 6 (Option.some (Jvm.ClassFile.FieldType.object "NestChart$State"))) dr G S [va_rf x0, va_rf x1, .int x2] o S2) (hdr : dr + 1 ≤ d0) (cx : gx_cx p l s m args meth c G own cc nL ret) (hex : ∀ x ∈ c.exceptionTable.toList, covers x pc = false) (hI : gw_I G S0 S H locs cells slots) (hl : gl_M own index yX2_state args s) (hlv : ls.size = nL) (hrest : (rest.map fun v => v.category).sum ≤ 8) (hdg : decode cc pc = .ok (.invokestatic index, 3)) (h : gz_cR (rc x0 x1 x2 S) k = some r)
    (kk : ∀ (v : Option Nat) (z : gm_S), k v z = some r → ∀ (H : Heap) (locs : List Loc) (cells slots : Nat), gw_I G S0 z H locs cells slots → W p l e (gx_rm d0 S0) s m args below meth c H locs cells slots (gx_MQ below G S0 r.2 r.1 s) (F0 m (pc + 3) ls (va_rf v :: rest))) : W p l e (gx_rm d0 S0) s m args below meth c H locs cells slots (gx_MQ below G S0 r.2 r.1 s) (F0 m pc ls (.int x2 :: va_rf x1 :: va_rf x0 :: rest)) := by
  have hts := cx.2.2.2.2.1
  have hK := cx.2.2.2.2.2.1
  exact gz_goR (d := dr) (fun S => S) cx hex hI hlv hrest hdr (Nat.le_of_ble_eq_true rfl) (gz_ws (lw_meth q327) hts) (hts _ q73) (gb_rawS (As := [va_rf x0, va_rf x1, .int x2]) cx hl (hts _ q326) (hts _ q73) (gl_C.code (hts _ q327)) hy_X2_state rfl rfl hdg) (fun o S2 e => hrc _ _ _ _ o S2 e) h kk
theorem T_X2_state_254 {l : Launch} {G : gG} {S0 : gm_S} {d0 fu : Nat} {rc : Option Nat → Option Nat → Int32 → gm_S → gR} {r : Outcome × gm_S} (hD : 14 ≤ d0) {dr : Nat} (hrc : ∀ (x0 : Option Nat) (x1 : Option Nat) (x2 : Int32) (S : gm_S) (o : Outcome) (S2 : gm_S), rc x0 x1 x2 S = some (o, S2) → gx_Met l yX2_state (ws_ yX2_state cX2_state 6 (Option.some (Jvm.ClassFile.FieldType.object "NestChart$State"))) dr G S [va_rf x0, va_rf x1, .int x2] o S2) (hdr : dr + 1 ≤ d0) : ∀ (n : Nat) (x0 : Option Nat) (x3 : Option Nat) (S : gm_S), F_X2_state_254 fu rc n x0 x3 S = some r → B_X2_state l d0 G S0 254 [(0, va_rf x0), (3, va_rf x3)] [] S r.1 r.2 := by
  intro n
  induction n with
  | zero => intro x0 x3 S h; exact nomatch (show (none : gR) = some r from h)
  | succ n ih =>
    intro x0 x3 S h
    rw [F_X2_state_254] at h
    intro p e s m args below meth c H locs cells slots ls cx hnm hex hI hl
    have hx := cx.1
    have hb := cx.2.1
    have hown := cx.2.2.2.1
    have hts := cx.2.2.2.2.1
    have hK := cx.2.2.2.2.2.1
    refine gr_aload_n hx hb x0 dX2_state_254 rfl (lv_at hl 0 rfl) ?_
    refine lv_bipush hx hb dX2_state_255 gz_bp_125 ?_
    obtain ⟨a1, t1, h⟩ := gz_q_s h
    refine C_X2_takes cx (gz_nh hex) hI (Or.inl (hts _ q531)) hl.1 (gz_cs (Nat.le_of_ble_eq_true rfl)) (by omega) dX2_state_257 t1 h (fun v1 S1 h H locs cells slots hI => ?_)
    refine lv_if_ne (tgt := 271) hx hb dX2_state_260 rfl (fun hc => ?_) (fun hc => ?_)
    · have h := gz_f h hc
      refine gr_aload_n hx hb x3 dX2_state_271 rfl (lv_at hl 1 rfl) ?_
      cases h
      exact gr_aret cx (Or.inl ⟨_, rfl⟩) hI dX2_state_272
    · have h := gz_t h hc
      refine gr_aload_n hx hb x0 dX2_state_263 rfl (lv_at hl 0 rfl) ?_
      refine gr_aload_n hx hb x3 dX2_state_264 rfl (lv_at hl 1 rfl) ?_
      obtain ⟨a2, t2, h⟩ := gz_q_s h
      refine C_X2_item cx (gz_nh hex) hI (Or.inl (hts _ q544)) hl.1 (gz_cs (Nat.le_of_ble_eq_true rfl)) (by omega) dX2_state_265 t2 h (fun S2 h H locs cells slots hI => ?_)
      refine lv_goto (tgt := 254) hx hb dX2_state_268 rfl ?_
      exact ih _ _ _ h p e s m args below meth c H locs cells slots ls cx hnm hex hI hl
theorem T_X2_state_193 {l : Launch} {G : gG} {S0 : gm_S} {d0 fu : Nat} {rc : Option Nat → Option Nat → Int32 → gm_S → gR} {r : Outcome × gm_S} (hD : 14 ≤ d0) {dr : Nat} (hrc : ∀ (x0 : Option Nat) (x1 : Option Nat) (x2 : Int32) (S : gm_S) (o : Outcome) (S2 : gm_S), rc x0 x1 x2 S = some (o, S2) → gx_Met l yX2_state (ws_ yX2_state cX2_state 6 (Option.some (Jvm.ClassFile.FieldType.object "NestChart$State"))) dr G S [va_rf x0, va_rf x1, .int x2] o S2) (hdr : dr + 1 ≤ d0) : ∀ (n : Nat) (x0 : Option Nat) (x3 : Option Nat) (x4 : Int32) (S : gm_S), F_X2_state_193 fu rc n x0 x3 x4 S = some r → B_X2_state l d0 G S0 193 [(0, va_rf x0), (3, va_rf x3), (4, .int x4)] [] S r.1 r.2 := by
  intro n
  induction n with
  | zero => intro x0 x3 x4 S h; exact nomatch (show (none : gR) = some r from h)
  | succ n ih =>
    intro x0 x3 x4 S h
    rw [F_X2_state_193] at h
    intro p e s m args below meth c H locs cells slots ls cx hnm hex hI hl
    have hx := cx.1
    have hb := cx.2.1
    have hown := cx.2.2.2.1
    have hts := cx.2.2.2.2.1
    have hK := cx.2.2.2.2.2.1
    refine lv_iload hx hb dX2_state_193 (lv_at hl 2 rfl) ?_
    refine gr_aload_n hx hb x3 dX2_state_195 rfl (lv_at hl 1 rfl) ?_
    obtain ⟨v1, e1, h⟩ := g_bind h
    refine gr_getR cx hI e1 rfl (fun _ => rfl) rfl (Or.inr ⟨_, gk_w hK q424 rfl⟩) dX2_state_196 ?_
    obtain ⟨v2, e2, h⟩ := g_bind h
    refine gr_lsize cx (gz_nh hex) hI (Or.inl (hts _ q405)) hl.1 (gz_cs (Nat.le_of_ble_eq_true rfl)) (by omega) dX2_state_199 e2 (fun H locs cells slots hI => ?_)
    refine lv_icmp_ge (tgt := 245) hx hb dX2_state_202 rfl (fun hc => ?_) (fun hc => ?_)
    · have h := gz_t h hc
      refine gr_aload_n hx hb x0 dX2_state_245 rfl (lv_at hl 0 rfl) ?_
      refine lv_bipush hx hb dX2_state_246 gz_bp_123 ?_
      obtain ⟨a3, t3, h⟩ := gz_q_s h
      refine C_X2_takes cx (gz_nh hex) hI (Or.inl (hts _ q531)) hl.1 (gz_cs (Nat.le_of_ble_eq_true rfl)) (by omega) dX2_state_248 t3 h (fun v3 S3 h H locs cells slots hI => ?_)
      refine lv_if_eq (tgt := 271) hx hb dX2_state_251 rfl (fun hc => ?_) (fun hc => ?_)
      · have h := gz_t h hc
        refine gr_aload_n hx hb x3 dX2_state_271 rfl (lv_at hl 1 rfl) ?_
        cases h
        exact gr_aret cx (Or.inl ⟨_, rfl⟩) hI dX2_state_272
      · have h := gz_f h hc
        exact T_X2_state_254 hD hrc hdr fu _ _ _ h p e s m args below meth c H locs cells slots ls cx hnm hex hI (lv_sub hl [0, 1] rfl)
    · have h := gz_f h hc
      refine gr_aload_n hx hb x3 dX2_state_205 rfl (lv_at hl 1 rfl) ?_
      obtain ⟨v4, e4, h⟩ := g_bind h
      refine gr_getR cx hI e4 rfl (fun _ => rfl) rfl (Or.inr ⟨_, gk_w hK q424 rfl⟩) dX2_state_206 ?_
      refine lv_iload hx hb dX2_state_209 (lv_at hl 2 rfl) ?_
      obtain ⟨v5, e5, h⟩ := g_bind h
      refine gr_lgetr cx (gz_nh hex) hI (Or.inl (hts _ q539)) hl.1 (gz_cs (Nat.le_of_ble_eq_true rfl)) (by omega) dX2_state_211 e5 (fun H locs cells slots hI => ?_)
      obtain ⟨a6, e6, h⟩ := gz_q_s h
      refine gr_ck1 cx hI e6 rfl (hts _ q403) dX2_state_214 ?_
      refine gz_astore hx hb dX2_state_217 hl (by decide) [0, 1, 2] rfl (gz_con ⟨gz_ne rfl, Or.inl (gz_ne rfl)⟩ (gz_con ⟨gz_ne rfl, Or.inl (gz_ne rfl)⟩ (gz_con ⟨gz_ne rfl, Or.inr rfl⟩ gz_nil))) (fun ls hl => ?_)
      refine gr_aload_n hx hb x3 dX2_state_219 rfl (lv_at hl 2 rfl) ?_
      refine lv_dup hx hb dX2_state_220 (gl_cat x3) ?_
      obtain ⟨v7, e7, h⟩ := g_bind h
      refine gr_getI cx hI e7 rfl (fun _ => rfl) rfl (Or.inr ⟨_, gk_w hK q436 rfl⟩) dX2_state_221 ?_
      refine gr_aload hx hb (some v5) dX2_state_224 (lv_at hl 0 rfl) ?_
      obtain ⟨v8, e8, h⟩ := g_bind h
      refine gr_getI cx hI e8 rfl (fun _ => rfl) rfl (Or.inr ⟨_, gk_w hK q436 rfl⟩) dX2_state_226 ?_
      refine gr_aload hx hb (some v5) dX2_state_229 (lv_at hl 0 rfl) ?_
      obtain ⟨a9, t9, h⟩ := gz_q_s h
      refine C_X5_bit cx (gz_nh hex) hI (Or.inl (hts _ q540)) hl.1 (gz_cs (Nat.le_of_ble_eq_true rfl)) (by omega) dX2_state_231 t9 h (fun v9 S9 h H locs cells slots hI => ?_)
      refine lv_ior hx hb dX2_state_234 ?_
      refine lv_ior hx hb dX2_state_235 ?_
      obtain ⟨S10, e10, h⟩ := g_bind h
      refine gr_putI cx hI e10 rfl rfl rfl (Or.inr ⟨_, gk_w hK q436 rfl⟩) (Or.inl rfl) dX2_state_236 (fun H locs hI => ?_)
      refine gz_iinc (k := 3) (v := (x4 + (1 : Int32))) hx hb dX2_state_239 hl rfl (congrArg (fun z => x4 + z) gz_ic_1) (by decide) [1, 2] rfl (gz_con ⟨gz_ne rfl, Or.inl (gz_ne rfl)⟩ (gz_con ⟨gz_ne rfl, Or.inr (gl_cat x3)⟩ gz_nil)) (fun ls hl => ?_)
      refine lv_goto (tgt := 193) hx hb dX2_state_242 rfl ?_
      exact ih _ _ _ _ h p e s m args below meth c H locs cells slots ls cx hnm hex hI (lv_sub hl [1, 2, 0] rfl)
theorem T_X2_state_146 {l : Launch} {G : gG} {S0 : gm_S} {d0 fu : Nat} {rc : Option Nat → Option Nat → Int32 → gm_S → gR} {r : Outcome × gm_S} (hD : 14 ≤ d0) {dr : Nat} (hrc : ∀ (x0 : Option Nat) (x1 : Option Nat) (x2 : Int32) (S : gm_S) (o : Outcome) (S2 : gm_S), rc x0 x1 x2 S = some (o, S2) → gx_Met l yX2_state (ws_ yX2_state cX2_state 6 (Option.some (Jvm.ClassFile.FieldType.object "NestChart$State"))) dr G S [va_rf x0, va_rf x1, .int x2] o S2) (hdr : dr + 1 ≤ d0) : ∀ (n : Nat) (x0 : Option Nat) (x2 : Int32) (x3 : Option Nat) (S : gm_S), F_X2_state_146 fu rc n x0 x2 x3 S = some r → B_X2_state l d0 G S0 146 [(0, va_rf x0), (2, .int x2), (3, va_rf x3)] [] S r.1 r.2 := by
  intro n
  induction n with
  | zero => intro x0 x2 x3 S h; exact nomatch (show (none : gR) = some r from h)
  | succ n ih =>
    intro x0 x2 x3 S h
    rw [F_X2_state_146] at h
    intro p e s m args below meth c H locs cells slots ls cx hnm hex hI hl
    have hx := cx.1
    have hb := cx.2.1
    have hown := cx.2.2.2.1
    have hts := cx.2.2.2.2.1
    have hK := cx.2.2.2.2.2.1
    refine gr_aload_n hx hb x3 dX2_state_146 rfl (lv_at hl 2 rfl) ?_
    obtain ⟨v1, e1, h⟩ := g_bind h
    refine gr_getR cx hI e1 rfl (fun _ => rfl) rfl (Or.inr ⟨_, gk_w hK q424 rfl⟩) dX2_state_147 ?_
    refine gr_aload_n hx hb x0 dX2_state_150 rfl (lv_at hl 0 rfl) ?_
    refine gr_aload_n hx hb x3 dX2_state_151 rfl (lv_at hl 2 rfl) ?_
    refine lv_iload_n hx hb dX2_state_152 rfl (lv_at hl 1 rfl) ?_
    refine lv_iconst hx hb dX2_state_153 gz_ic_1 ?_
    refine lv_iadd hx hb dX2_state_154 ?_
    refine CR_X2_state hrc hdr cx (gz_nh hex) hI (Or.inl (hts _ q325)) hl.1 (gz_cs (Nat.le_of_ble_eq_true rfl)) dX2_state_155 h (fun v2 S2 h H locs cells slots hI => ?_)
    obtain ⟨S3, e3, h⟩ := g_bind h
    refine gr_laddr cx (gz_nh hex) hI (Or.inl (hts _ q463)) hl.1 (gz_cs (Nat.le_of_ble_eq_true rfl)) (by omega) dX2_state_158 e3 (fun H locs cells slots hI => ?_)
    refine lv_pop hx hb dX2_state_161 rfl ?_
    refine gr_aload_n hx hb x3 dX2_state_162 rfl (lv_at hl 2 rfl) ?_
    obtain ⟨v4, e4, h⟩ := g_bind h
    refine gr_getR cx hI e4 rfl (fun _ => rfl) rfl (Or.inr ⟨_, gk_w hK q424 rfl⟩) dX2_state_163 ?_
    obtain ⟨v5, e5, h⟩ := g_bind h
    refine gr_lsize cx (gz_nh hex) hI (Or.inl (hts _ q405)) hl.1 (gz_cs (Nat.le_of_ble_eq_true rfl)) (by omega) dX2_state_166 e5 (fun H locs cells slots hI => ?_)
    refine lv_iconst hx hb dX2_state_169 gz_ic_2 ?_
    refine lv_icmp_lt (tgt := 146) hx hb dX2_state_170 rfl (fun hc => ?_) (fun hc => ?_)
    · have h := gz_t h hc
      exact ih _ _ _ _ h p e s m args below meth c H locs cells slots ls cx hnm hex hI hl
    · have h := gz_f h hc
      refine gr_aload_n hx hb x0 dX2_state_173 rfl (lv_at hl 0 rfl) ?_
      refine lv_bipush hx hb dX2_state_174 gz_bp_97 ?_
      refine lv_bipush hx hb dX2_state_176 gz_bp_112 ?_
      obtain ⟨a6, t6, h⟩ := gz_q_s h
      refine C_X2_isAmong cx (gz_nh hex) hI (Or.inl (hts _ q328)) hl.1 (gz_cs (Nat.le_of_ble_eq_true rfl)) (by omega) dX2_state_178 t6 h (fun v6 S6 h H locs cells slots hI => ?_)
      refine lv_if_ne (tgt := 146) hx hb dX2_state_181 rfl (fun hc => ?_) (fun hc => ?_)
      · have h := gz_f h hc
        exact ih _ _ _ _ h p e s m args below meth c H locs cells slots ls cx hnm hex hI hl
      · have h := gz_t h hc
        refine gr_aload_n hx hb x0 dX2_state_184 rfl (lv_at hl 0 rfl) ?_
        refine lv_bipush hx hb dX2_state_185 gz_bp_62 ?_
        obtain ⟨a7, t7, h⟩ := gz_q_s h
        refine C_X2_take cx (gz_nh hex) hI (Or.inl (hts _ q535)) hl.1 (gz_cs (Nat.le_of_ble_eq_true rfl)) (by omega) dX2_state_187 t7 h (fun S7 h H locs cells slots hI => ?_)
        refine lv_iconst hx hb dX2_state_190 gz_ic_0 ?_
        refine gz_istore hx hb dX2_state_191 hl (by decide) [0, 2] rfl (gz_con ⟨gz_ne rfl, Or.inl (gz_ne rfl)⟩ (gz_con ⟨gz_ne rfl, Or.inr (gl_cat x3)⟩ gz_nil)) (fun ls hl => ?_)
        exact T_X2_state_193 hD hrc hdr fu _ _ _ _ h p e s m args below meth c H locs cells slots ls cx hnm hex hI (lv_sub hl [1, 2, 0] rfl)
theorem T_X2_state_96 {l : Launch} {G : gG} {S0 : gm_S} {d0 fu : Nat} {rc : Option Nat → Option Nat → Int32 → gm_S → gR} {r : Outcome × gm_S} (hD : 14 ≤ d0) {dr : Nat} (hrc : ∀ (x0 : Option Nat) (x1 : Option Nat) (x2 : Int32) (S : gm_S) (o : Outcome) (S2 : gm_S), rc x0 x1 x2 S = some (o, S2) → gx_Met l yX2_state (ws_ yX2_state cX2_state 6 (Option.some (Jvm.ClassFile.FieldType.object "NestChart$State"))) dr G S [va_rf x0, va_rf x1, .int x2] o S2) (hdr : dr + 1 ≤ d0) : ∀ (n : Nat) (x0 : Option Nat) (x2 : Int32) (x3 : Option Nat) (S : gm_S), F_X2_state_96 fu rc n x0 x2 x3 S = some r → B_X2_state l d0 G S0 96 [(0, va_rf x0), (2, .int x2), (3, va_rf x3)] [] S r.1 r.2 := by
  intro n
  induction n with
  | zero => intro x0 x2 x3 S h; exact nomatch (show (none : gR) = some r from h)
  | succ n ih =>
    intro x0 x2 x3 S h
    rw [F_X2_state_96] at h
    intro p e s m args below meth c H locs cells slots ls cx hnm hex hI hl
    have hx := cx.1
    have hb := cx.2.1
    have hown := cx.2.2.2.1
    have hts := cx.2.2.2.2.1
    have hK := cx.2.2.2.2.2.1
    refine gr_aload_n hx hb x3 dX2_state_96 rfl (lv_at hl 2 rfl) ?_
    obtain ⟨v1, e1, h⟩ := g_bind h
    refine gr_getR cx hI e1 rfl (fun _ => rfl) rfl (Or.inr ⟨_, gk_w hK q424 rfl⟩) dX2_state_97 ?_
    refine gr_aload_n hx hb x0 dX2_state_100 rfl (lv_at hl 0 rfl) ?_
    refine gr_aload_n hx hb x3 dX2_state_101 rfl (lv_at hl 2 rfl) ?_
    refine lv_iload_n hx hb dX2_state_102 rfl (lv_at hl 1 rfl) ?_
    refine lv_iconst hx hb dX2_state_103 gz_ic_1 ?_
    refine lv_iadd hx hb dX2_state_104 ?_
    refine CR_X2_state hrc hdr cx (gz_nh hex) hI (Or.inl (hts _ q325)) hl.1 (gz_cs (Nat.le_of_ble_eq_true rfl)) dX2_state_105 h (fun v2 S2 h H locs cells slots hI => ?_)
    obtain ⟨S3, e3, h⟩ := g_bind h
    refine gr_laddr cx (gz_nh hex) hI (Or.inl (hts _ q463)) hl.1 (gz_cs (Nat.le_of_ble_eq_true rfl)) (by omega) dX2_state_108 e3 (fun H locs cells slots hI => ?_)
    refine lv_pop hx hb dX2_state_111 rfl ?_
    refine gr_aload_n hx hb x0 dX2_state_112 rfl (lv_at hl 0 rfl) ?_
    refine lv_bipush hx hb dX2_state_113 gz_bp_97 ?_
    refine lv_bipush hx hb dX2_state_115 gz_bp_112 ?_
    obtain ⟨a4, t4, h⟩ := gz_q_s h
    refine C_X2_isAmong cx (gz_nh hex) hI (Or.inl (hts _ q328)) hl.1 (gz_cs (Nat.le_of_ble_eq_true rfl)) (by omega) dX2_state_117 t4 h (fun v4 S4 h H locs cells slots hI => ?_)
    refine lv_if_ne (tgt := 96) hx hb dX2_state_120 rfl (fun hc => ?_) (fun hc => ?_)
    · have h := gz_f h hc
      exact ih _ _ _ _ h p e s m args below meth c H locs cells slots ls cx hnm hex hI hl
    · have h := gz_t h hc
      refine gr_aload_n hx hb x0 dX2_state_123 rfl (lv_at hl 0 rfl) ?_
      refine lv_bipush hx hb dX2_state_124 gz_bp_41 ?_
      obtain ⟨a5, t5, h⟩ := gz_q_s h
      refine C_X2_take cx (gz_nh hex) hI (Or.inl (hts _ q535)) hl.1 (gz_cs (Nat.le_of_ble_eq_true rfl)) (by omega) dX2_state_126 t5 h (fun S5 h H locs cells slots hI => ?_)
      refine lv_goto (tgt := 190) hx hb dX2_state_129 rfl ?_
      refine lv_iconst hx hb dX2_state_190 gz_ic_0 ?_
      refine gz_istore hx hb dX2_state_191 hl (by decide) [0, 2] rfl (gz_con ⟨gz_ne rfl, Or.inl (gz_ne rfl)⟩ (gz_con ⟨gz_ne rfl, Or.inr (gl_cat x3)⟩ gz_nil)) (fun ls hl => ?_)
      exact T_X2_state_193 hD hrc hdr fu _ _ _ _ h p e s m args below meth c H locs cells slots ls cx hnm hex hI (lv_sub hl [1, 2, 0] rfl)
theorem T_X2_state_38 {l : Launch} {G : gG} {S0 : gm_S} {d0 fu : Nat} {rc : Option Nat → Option Nat → Int32 → gm_S → gR} {r : Outcome × gm_S} (hD : 14 ≤ d0) {dr : Nat} (hrc : ∀ (x0 : Option Nat) (x1 : Option Nat) (x2 : Int32) (S : gm_S) (o : Outcome) (S2 : gm_S), rc x0 x1 x2 S = some (o, S2) → gx_Met l yX2_state (ws_ yX2_state cX2_state 6 (Option.some (Jvm.ClassFile.FieldType.object "NestChart$State"))) dr G S [va_rf x0, va_rf x1, .int x2] o S2) (hdr : dr + 1 ≤ d0) {x0 : Option Nat} {x1 : Option Nat} {x2 : Int32} {s0 : Int32} {s1 : Option Nat} {S : gm_S} (h : F_X2_state_38 fu rc x0 x1 x2 s0 s1 S = some r) : B_X2_state l d0 G S0 38 [(0, va_rf x0), (1, va_rf x1), (2, .int x2)] [.int s0, va_rf s1] S r.1 r.2 := by
  unfold F_X2_state_38 at h
  intro p e s m args below meth c H locs cells slots ls cx hnm hex hI hl
  have hx := cx.1
  have hb := cx.2.1
  have hown := cx.2.2.2.1
  have hts := cx.2.2.2.2.1
  have hK := cx.2.2.2.2.2.1
  obtain ⟨a1, t1, h⟩ := gz_q_s h
  refine C_X2_want cx (gz_nh hex) hI (Or.inl (hts _ q336)) hl.1 (gz_cs (Nat.le_of_ble_eq_true rfl)) (by omega) dX2_state_38 t1 h (fun S1 h H locs cells slots hI => ?_)
  obtain ⟨q2, e2, h⟩ := g_bind h
  refine gr_fnew cx hI (t := 5) (a := q2.1) (S2 := q2.2) e2 rfl (hts _ q403) (hts _ q404) (hts _ q83) dX2_state_41 (fun H cells slots hI => ?_)
  refine lv_dup hx hb dX2_state_44 (gl_cat (some q2.1)) ?_
  refine gr_aload_n hx hb x0 dX2_state_45 rfl (lv_at hl 0 rfl) ?_
  obtain ⟨v3, e3, h⟩ := g_bind h
  refine gr_getR cx hI e3 rfl (fun _ => rfl) rfl (Or.inl (hts _ q123)) dX2_state_46 ?_
  obtain ⟨v4, e4, h⟩ := g_bind h
  refine gr_lsize cx (gz_nh hex) hI (Or.inl (hts _ q405)) hl.1 (gz_cs (Nat.le_of_ble_eq_true rfl)) (by omega) dX2_state_49 e4 (fun H locs cells slots hI => ?_)
  refine gr_aload_n hx hb x1 dX2_state_52 rfl (lv_at hl 1 rfl) ?_
  obtain ⟨a5, t5, h⟩ := gz_q_s h
  refine C_X5_init cx (gz_nh hex) hI (Or.inl (hts _ q406)) hl.1 (gz_cs (Nat.le_of_ble_eq_true rfl)) (by omega) dX2_state_53 t5 h (fun S5 h H locs cells slots hI => ?_)
  refine gz_astore_n hx hb dX2_state_56 rfl hl (by decide) [0, 2] rfl (gz_con ⟨gz_ne rfl, Or.inl (gz_ne rfl)⟩ (gz_con ⟨gz_ne rfl, Or.inr rfl⟩ gz_nil)) (fun ls hl => ?_)
  refine gr_aload_n hx hb x0 dX2_state_57 rfl (lv_at hl 1 rfl) ?_
  obtain ⟨v6, e6, h⟩ := g_bind h
  refine gr_getR cx hI e6 rfl (fun _ => rfl) rfl (Or.inl (hts _ q123)) dX2_state_58 ?_
  refine gr_aload_n hx hb (some q2.1) dX2_state_61 rfl (lv_at hl 0 rfl) ?_
  obtain ⟨S7, e7, h⟩ := g_bind h
  refine gr_laddr cx (gz_nh hex) hI (Or.inl (hts _ q463)) hl.1 (gz_cs (Nat.le_of_ble_eq_true rfl)) (by omega) dX2_state_62 e7 (fun H locs cells slots hI => ?_)
  refine lv_pop hx hb dX2_state_65 rfl ?_
  refine gr_aload_n hx hb x0 dX2_state_66 rfl (lv_at hl 1 rfl) ?_
  obtain ⟨v8, e8, h⟩ := g_bind h
  refine gr_getR cx hI e8 rfl (fun _ => rfl) rfl (Or.inl (hts _ q125)) dX2_state_67 ?_
  refine gr_aload_n hx hb x0 dX2_state_70 rfl (lv_at hl 1 rfl) ?_
  obtain ⟨a9, t9, h⟩ := gz_q_s h
  refine C_X2_next cx (gz_nh hex) hI (Or.inl (hts _ q527)) hl.1 (gz_cs (Nat.le_of_ble_eq_true rfl)) (by omega) dX2_state_71 t9 h (fun v9 S9 h H locs cells slots hI => ?_)
  refine lv_bipush hx hb dX2_state_74 gz_bp_97 ?_
  refine lv_isub hx hb dX2_state_76 ?_
  refine gr_aload_n hx hb (some q2.1) dX2_state_77 rfl (lv_at hl 0 rfl) ?_
  obtain ⟨v10, e10, h⟩ := g_bind h
  refine gr_getI cx hI e10 rfl (fun _ => rfl) rfl (Or.inr ⟨_, gk_w hK q413 rfl⟩) dX2_state_78 ?_
  obtain ⟨S11, e11, h⟩ := g_bind h
  refine gr_iast cx hI e11 dX2_state_81 (fun H locs hI => ?_)
  refine gr_aload_n hx hb x0 dX2_state_82 rfl (lv_at hl 1 rfl) ?_
  refine lv_bipush hx hb dX2_state_83 gz_bp_40 ?_
  obtain ⟨a12, t12, h⟩ := gz_q_s h
  refine C_X2_takes cx (gz_nh hex) hI (Or.inl (hts _ q531)) hl.1 (gz_cs (Nat.le_of_ble_eq_true rfl)) (by omega) dX2_state_85 t12 h (fun v12 S12 h H locs cells slots hI => ?_)
  refine lv_if_eq (tgt := 132) hx hb dX2_state_88 rfl (fun hc => ?_) (fun hc => ?_)
  · have h := gz_t h hc
    refine gr_aload_n hx hb x0 dX2_state_132 rfl (lv_at hl 1 rfl) ?_
    refine lv_bipush hx hb dX2_state_133 gz_bp_60 ?_
    obtain ⟨a13, t13, h⟩ := gz_q_s h
    refine C_X2_takes cx (gz_nh hex) hI (Or.inl (hts _ q531)) hl.1 (gz_cs (Nat.le_of_ble_eq_true rfl)) (by omega) dX2_state_135 t13 h (fun v13 S13 h H locs cells slots hI => ?_)
    refine lv_if_eq (tgt := 190) hx hb dX2_state_138 rfl (fun hc => ?_) (fun hc => ?_)
    · have h := gz_t h hc
      refine lv_iconst hx hb dX2_state_190 gz_ic_0 ?_
      refine gz_istore hx hb dX2_state_191 hl (by decide) [0, 1] rfl (gz_con ⟨gz_ne rfl, Or.inr (gl_cat (some q2.1))⟩ (gz_con ⟨gz_ne rfl, Or.inl (gz_ne rfl)⟩ gz_nil)) (fun ls hl => ?_)
      exact T_X2_state_193 hD hrc hdr fu _ _ _ _ h p e s m args below meth c H locs cells slots ls cx hnm hex hI (lv_sub hl [2, 1, 0] rfl)
    · have h := gz_f h hc
      refine gr_aload_n hx hb (some q2.1) dX2_state_141 rfl (lv_at hl 0 rfl) ?_
      refine lv_iconst hx hb dX2_state_142 gz_ic_2 ?_
      obtain ⟨S14, e14, h⟩ := g_bind h
      refine gr_putI cx hI e14 rfl rfl rfl (Or.inr ⟨_, gk_w hK q420 rfl⟩) (Or.inl rfl) dX2_state_143 (fun H locs hI => ?_)
      exact T_X2_state_146 hD hrc hdr fu _ _ _ _ h p e s m args below meth c H locs cells slots ls cx hnm hex hI (lv_sub hl [1, 2, 0] rfl)
  · have h := gz_f h hc
    refine gr_aload_n hx hb (some q2.1) dX2_state_91 rfl (lv_at hl 0 rfl) ?_
    refine lv_iconst hx hb dX2_state_92 gz_ic_1 ?_
    obtain ⟨S15, e15, h⟩ := g_bind h
    refine gr_putI cx hI e15 rfl rfl rfl (Or.inr ⟨_, gk_w hK q420 rfl⟩) (Or.inl rfl) dX2_state_93 (fun H locs hI => ?_)
    exact T_X2_state_96 hD hrc hdr fu _ _ _ _ h p e s m args below meth c H locs cells slots ls cx hnm hex hI (lv_sub hl [1, 2, 0] rfl)
theorem T_X2_state {l : Launch} {G : gG} {S0 : gm_S} {d0 fu : Nat} {rc : Option Nat → Option Nat → Int32 → gm_S → gR} {r : Outcome × gm_S} (hD : 14 ≤ d0) {dr : Nat} (hrc : ∀ (x0 : Option Nat) (x1 : Option Nat) (x2 : Int32) (S : gm_S) (o : Outcome) (S2 : gm_S), rc x0 x1 x2 S = some (o, S2) → gx_Met l yX2_state (ws_ yX2_state cX2_state 6 (Option.some (Jvm.ClassFile.FieldType.object "NestChart$State"))) dr G S [va_rf x0, va_rf x1, .int x2] o S2) (hdr : dr + 1 ≤ d0) {x0 : Option Nat} {x1 : Option Nat} {x2 : Int32} {S : gm_S} (h : F_X2_state_e fu rc x0 x1 x2 S = some r) : B_X2_state l d0 G S0 0 [(0, va_rf x0), (1, va_rf x1), (2, .int x2)] [] S r.1 r.2 := by
  unfold F_X2_state_e at h
  intro p e s m args below meth c H locs cells slots ls cx hnm hex hI hl
  have hx := cx.1
  have hb := cx.2.1
  have hown := cx.2.2.2.1
  have hts := cx.2.2.2.2.1
  have hK := cx.2.2.2.2.2.1
  refine gr_aload_n hx hb x0 dX2_state_0 rfl (lv_at hl 0 rfl) ?_
  refine gr_aload_n hx hb x0 dX2_state_1 rfl (lv_at hl 0 rfl) ?_
  refine lv_bipush hx hb dX2_state_2 gz_bp_97 ?_
  refine lv_bipush hx hb dX2_state_4 gz_bp_112 ?_
  obtain ⟨a1, t1, h⟩ := gz_q_s h
  refine C_X2_isAmong cx (gz_nh hex) hI (Or.inl (hts _ q328)) hl.1 (gz_cs (Nat.le_of_ble_eq_true rfl)) (by omega) dX2_state_6 t1 h (fun v1 S1 h H locs cells slots hI => ?_)
  refine lv_if_eq (tgt := 37) hx hb dX2_state_9 rfl (fun hc => ?_) (fun hc => ?_)
  · have h := gz_t h hc
    refine lv_iconst hx hb dX2_state_37 gz_ic_0 ?_
    exact T_X2_state_38 hD hrc hdr h p e s m args below meth c H locs cells slots ls cx hnm hex hI hl
  · have h := gz_f h hc
    refine gr_aload_n hx hb x0 dX2_state_12 rfl (lv_at hl 0 rfl) ?_
    obtain ⟨v2, e2, h⟩ := g_bind h
    refine gr_getR cx hI e2 rfl (fun _ => rfl) rfl (Or.inl (hts _ q125)) dX2_state_13 ?_
    refine gr_aload_n hx hb x0 dX2_state_16 rfl (lv_at hl 0 rfl) ?_
    obtain ⟨a3, t3, h⟩ := gz_q_s h
    refine C_X2_look cx (gz_nh hex) hI (Or.inl (hts _ q332)) hl.1 (gz_cs (Nat.le_of_ble_eq_true rfl)) (by omega) dX2_state_17 t3 h (fun v3 S3 h H locs cells slots hI => ?_)
    refine lv_bipush hx hb dX2_state_20 gz_bp_97 ?_
    refine lv_isub hx hb dX2_state_22 ?_
    obtain ⟨v4, e4, h⟩ := g_bind h
    refine gr_iald cx hI e4 dX2_state_23 ?_
    refine lv_if_ge (tgt := 37) hx hb dX2_state_24 rfl (fun hc => ?_) (fun hc => ?_)
    · have h := gz_t h hc
      refine lv_iconst hx hb dX2_state_37 gz_ic_0 ?_
      exact T_X2_state_38 hD hrc hdr h p e s m args below meth c H locs cells slots ls cx hnm hex hI hl
    · have h := gz_f h hc
      refine lv_iload_n hx hb dX2_state_27 rfl (lv_at hl 2 rfl) ?_
      refine lv_bipush hx hb dX2_state_28 gz_bp_6 ?_
      refine lv_icmp_gt (tgt := 37) hx hb dX2_state_30 rfl (fun hc => ?_) (fun hc => ?_)
      · have h := gz_t h hc
        refine lv_iconst hx hb dX2_state_37 gz_ic_0 ?_
        exact T_X2_state_38 hD hrc hdr h p e s m args below meth c H locs cells slots ls cx hnm hex hI hl
      · have h := gz_f h hc
        refine lv_iconst hx hb dX2_state_33 gz_ic_1 ?_
        refine lv_goto (tgt := 38) hx hb dX2_state_34 rfl ?_
        exact T_X2_state_38 hD hrc hdr h p e s m args below meth c H locs cells slots ls cx hnm hex hI hl
theorem M_X2_state {l : Launch} {G : gG} {fu : Nat} (hfl : l.flags = flags0) : ∀ (dp : Nat) {d0 : Nat} (_ : 14 + dp ≤ d0) {x0 : Option Nat} {x1 : Option Nat} {x2 : Int32} {S : gm_S} {o : Outcome} {S2 : gm_S} (_ : F_X2_state fu dp x0 x1 x2 S = some (o, S2)), gx_Met l yX2_state (ws_ yX2_state cX2_state 6 (Option.some (Jvm.ClassFile.FieldType.object "NestChart$State"))) d0 G S [va_rf x0, va_rf x1, .int x2] o S2 := by
  intro dp
  induction dp with
  | zero => intro d0 hD x0 x1 x2 S o S2 h; exact nomatch (show (none : gR) = some (o, S2) from h)
  | succ dp ih =>
    intro d0 hD x0 x1 x2 S o S2 h
    rw [F_X2_state] at h
    refine gx_of hfl (by decide) (fun p e s m below meth c cx hnm hex hI => ?_)
    rw [lg_entry_eq]
    cases x0 <;> cases x1 <;> exact T_X2_state (r := (o, S2)) (by omega) (dr := d0 - 1) (fun x0 x1 x2 S o S2 h => ih (by omega) h) (by omega) h p e s m _ below meth c _ _ _ _ _ cx hnm (gz_nh0 hex) hI (lv_entry _ (Nat.le_of_ble_eq_true rfl))
theorem C_X2_state {p : Program} {l : Launch} {e : Env} {s : State} {m : MethodId} {args : Array Value} {below : List Frame} {meth : Method} {c : Code} {H : Heap} {locs : List Loc} {cells slots : Nat} {cc : ByteArray} {pc nL : Nat} {ls : Array Slot} {rest : List Value} {G : gG} {S0 S : gm_S} {own : String} {ret : Option FieldType} {d0 index fu : Nat} {x0 : Option Nat} {x1 : Option Nat} {x2 : Int32} {k : Option Nat → gm_S → gR} {r : Outcome × gm_S} (cx : gx_cx p l s m args meth c G own cc nL ret) (hex : ∀ x ∈ c.exceptionTable.toList, covers x pc = false) (hI : gw_I G S0 S H locs cells slots) (hl : gl_M own index yX2_state args s) (hlv : ls.size = nL) (hrest : (rest.map fun v => v.category).sum ≤ 8) (hD : 23 ≤ d0) (hdg : decode cc pc = .ok (.invokestatic index, 3)) (h : gz_cR (F_X2_state fu 8 x0 x1 x2 S) k = some r)
    (kk : ∀ (v : Option Nat) (z : gm_S), k v z = some r → ∀ (H : Heap) (locs : List Loc) (cells slots : Nat), gw_I G S0 z H locs cells slots → W p l e (gx_rm d0 S0) s m args below meth c H locs cells slots (gx_MQ below G S0 r.2 r.1 s) (F0 m (pc + 3) ls (va_rf v :: rest))) : W p l e (gx_rm d0 S0) s m args below meth c H locs cells slots (gx_MQ below G S0 r.2 r.1 s) (F0 m pc ls (.int x2 :: va_rf x1 :: va_rf x0 :: rest)) := by
  have hts := cx.2.2.2.2.1
  have hK := cx.2.2.2.2.2.1
  exact gz_goR (d := d0 - 1) (fun S => S) cx hex hI hlv hrest (by omega) (Nat.le_of_ble_eq_true rfl) (gz_ws (lw_meth q327) hts) (hts _ q73) (gb_rawS (As := [va_rf x0, va_rf x1, .int x2]) cx hl (hts _ q326) (hts _ q73) (gl_C.code (hts _ q327)) hy_X2_state rfl rfl hdg) (fun o S2 e => M_X2_state cx.2.2.2.2.2.2.2.2 8 (by omega) e) h kk
