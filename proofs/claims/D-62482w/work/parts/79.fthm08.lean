/-! LAYER 1 (printed): contracts -/
set_option maxRecDepth 100000
abbrev B_X4_act (l : Launch) (d0 : Nat) (G : gG) (S0 : gm_S) : Nat → List (Nat × Value) → List Value → gm_S → Outcome → gm_S → Prop := gz_B l RX4 "act" cX4_act 3 (Option.none : Option Jvm.ClassFile.FieldType) [] d0 G S0
theorem T_X4_act_8 {l : Launch} {G : gG} {S0 S : gm_S} {d0 fu : Nat} {r : Outcome × gM} (hf : gg_f G = true) (hD : 3 ≤ d0) : ∀ (n : Nat) (x1 : Int32) (x2 : Int32) (M : gM), F_X4_act_8 fu n x1 x2 M = some r → B_X4_act l d0 G S0 8 [(0, va_rf (some (gg_o G))), (1, .int x1), (2, .int x2)] [] (gm_w S M) r.1 (gm_w S r.2) := by
  intro n
  induction n with
  | zero => intro x1 x2 M h; exact nomatch (show (none : gQ) = some r from h)
  | succ n ih =>
    intro x1 x2 M h
    rw [F_X4_act_8] at h
    intro p e s m args below meth c H locs cells slots ls cx hnm hex hI hl
    have hx := cx.1
    have hb := cx.2.1
    have hown := cx.2.2.2.1
    have hts := cx.2.2.2.2.1
    have hK := cx.2.2.2.2.2.1
    refine lv_iload_n hx hb dX4_act_8 rfl (lv_at hl 2 rfl) ?_
    refine lv_bipush hx hb dX4_act_9 gz_bp_48 ?_
    refine gr_aload_n hx hb (some (gg_o G)) dX4_act_11 rfl (lv_at hl 0 rfl) ?_
    refine nr_gI cx hf hI 7 rfl (fun _ => rfl) rfl (Or.inl (hts _ q999)) dX4_act_12 ?_
    refine lv_imul hx hb dX4_act_15 ?_
    refine gr_aload_n hx hb (some (gg_o G)) dX4_act_16 rfl (lv_at hl 0 rfl) ?_
    refine gr_mgA cx hf hI 12 rfl rfl (Or.inl (hts _ q1004)) dX4_act_17 ?_
    refine gr_aload_n hx hb (some (gg_o G)) dX4_act_20 rfl (lv_at hl 0 rfl) ?_
    refine nr_gI cx hf hI 7 rfl (fun _ => rfl) rfl (Or.inl (hts _ q999)) dX4_act_21 ?_
    obtain ⟨v4, e4, h⟩ := g_bind h
    refine gr_miald cx hf hI 12 rfl rfl rfl (nr_aI e4) dX4_act_24 ?_
    refine lv_iadd hx hb dX4_act_25 ?_
    refine lv_icmp_ge (tgt := 50) hx hb dX4_act_26 rfl (fun hc => ?_) (fun hc => ?_)
    · have h := gz_t h hc
      cases h
      exact gr_vret cx hI dX4_act_50
    · have h := gz_f h hc
      refine gr_aload_n hx hb (some (gg_o G)) dX4_act_29 rfl (lv_at hl 0 rfl) ?_
      refine gr_mgA cx hf hI 33 rfl rfl (Or.inl (hts _ q1025)) dX4_act_30 ?_
      refine lv_iload_n hx hb dX4_act_33 rfl (lv_at hl 2 rfl) ?_
      obtain ⟨v6, e6, h⟩ := g_bind h
      refine gr_miald cx hf hI 33 rfl rfl rfl (nr_aI e6) dX4_act_34 ?_
      refine lv_iload_n hx hb dX4_act_35 rfl (lv_at hl 1 rfl) ?_
      refine lv_icmp_ne (tgt := 44) hx hb dX4_act_36 rfl (fun hc => ?_) (fun hc => ?_)
      · have h := gz_f h hc
        refine gz_iinc (k := 2) (v := (x2 + (1 : Int32))) hx hb dX4_act_44 hl rfl (congrArg (fun z => x2 + z) gz_ic_1) (by decide) [0, 1] rfl (gz_con ⟨gz_ne rfl, Or.inl (gz_ne rfl)⟩ (gz_con ⟨gz_ne rfl, Or.inr rfl⟩ gz_nil)) (fun ls hl => ?_)
        refine lv_goto (tgt := 8) hx hb dX4_act_47 rfl ?_
        exact ih _ _ _ h p e s m args below meth c H locs cells slots ls cx hnm hex hI (lv_sub hl [1, 2, 0] rfl)
      · have h := gz_t h hc
        refine gr_aload_n hx hb (some (gg_o G)) dX4_act_39 rfl (lv_at hl 0 rfl) ?_
        refine lv_iload_n hx hb dX4_act_40 rfl (lv_at hl 2 rfl) ?_
        refine C_X4_doAction hf cx (gz_nh hex) hI (Or.inl (hts _ q1309)) hl.1 (gz_cs (Nat.le_of_ble_eq_true rfl)) (by omega) dX4_act_41 h (fun M7 h H locs cells slots hI => ?_)
        refine gz_iinc (k := 2) (v := (x2 + (1 : Int32))) hx hb dX4_act_44 hl rfl (congrArg (fun z => x2 + z) gz_ic_1) (by decide) [0, 1] rfl (gz_con ⟨gz_ne rfl, Or.inl (gz_ne rfl)⟩ (gz_con ⟨gz_ne rfl, Or.inr rfl⟩ gz_nil)) (fun ls hl => ?_)
        refine lv_goto (tgt := 8) hx hb dX4_act_47 rfl ?_
        exact ih _ _ _ h p e s m args below meth c H locs cells slots ls cx hnm hex hI (lv_sub hl [1, 2, 0] rfl)
theorem T_X4_act {l : Launch} {G : gG} {S0 S : gm_S} {d0 fu : Nat} {r : Outcome × gM} (hf : gg_f G = true) (hD : 3 ≤ d0) {x1 : Int32} {M : gM} (h : F_X4_act fu x1 M = some r) : B_X4_act l d0 G S0 0 [(0, va_rf (some (gg_o G))), (1, .int x1)] [] (gm_w S M) r.1 (gm_w S r.2) := by
  unfold F_X4_act at h
  intro p e s m args below meth c H locs cells slots ls cx hnm hex hI hl
  have hx := cx.1
  have hb := cx.2.1
  have hown := cx.2.2.2.1
  have hts := cx.2.2.2.2.1
  have hK := cx.2.2.2.2.2.1
  refine lv_bipush hx hb dX4_act_0 gz_bp_48 ?_
  refine gr_aload_n hx hb (some (gg_o G)) dX4_act_2 rfl (lv_at hl 0 rfl) ?_
  refine nr_gI cx hf hI 7 rfl (fun _ => rfl) rfl (Or.inl (hts _ q999)) dX4_act_3 ?_
  refine lv_imul hx hb dX4_act_6 ?_
  refine gz_istore_n hx hb dX4_act_7 rfl hl (by decide) [0, 1] rfl (gz_con ⟨gz_ne rfl, Or.inl (gz_ne rfl)⟩ (gz_con ⟨gz_ne rfl, Or.inr rfl⟩ gz_nil)) (fun ls hl => ?_)
  exact T_X4_act_8 hf hD fu _ _ _ h p e s m args below meth c H locs cells slots ls cx hnm hex hI (lv_sub hl [1, 2, 0] rfl)
theorem M_X4_act {l : Launch} {G : gG} {fu d0 : Nat} (hf : gg_f G = true) (hfl : l.flags = flags0) (hD : 3 ≤ d0) {x1 : Int32} {S : gm_S} {M : gM} {o : Outcome} {M2 : gM} (h : F_X4_act fu x1 M = some (o, M2)) : gx_Met l yX4_act (ws_ yX4_act cX4_act 3 (Option.none : Option Jvm.ClassFile.FieldType)) d0 G (gm_w S M) [va_rf (some (gg_o G)), .int x1] o (gm_w S M2) := by
  refine gx_of hfl (by decide) (fun p e s m below meth c cx hnm hex hI => ?_)
  rw [lg_entry_eq]
  exact T_X4_act (r := (o, M2)) hf hD h p e s m _ below meth c _ _ _ _ _ cx hnm (gz_nh0 hex) hI (lv_entry _ (Nat.le_of_ble_eq_true rfl))
theorem C_X4_act {p : Program} {l : Launch} {e : Env} {s : State} {m : MethodId} {args : Array Value} {below : List Frame} {meth : Method} {c : Code} {H : Heap} {locs : List Loc} {cells slots : Nat} {cc : ByteArray} {pc nL : Nat} {ls : Array Slot} {rest : List Value} {G : gG} {S0 S : gm_S} {own : String} {ret : Option FieldType} {d0 index fu : Nat} {M : gM} {x1 : Int32} {k : gM → gQ} {r : Outcome × gM} (hf : gg_f G = true) (cx : gx_cx p l s m args meth c G own cc nL ret) (hex : ∀ x ∈ c.exceptionTable.toList, covers x pc = false) (hI : gw_I G S0 (gm_w S M) H locs cells slots) (hl : gl_M own index yX4_act args s) (hlv : ls.size = nL) (hrest : (rest.map fun v => v.category).sum ≤ 8) (hD : 4 ≤ d0) (hdg : decode cc pc = .ok (.invokevirtual index, 3)) (h : gz_cV (F_X4_act fu x1 M) k = some r)
    (kk : ∀ (z : gM), k z = some r → ∀ (H : Heap) (locs : List Loc) (cells slots : Nat), gw_I G S0 (gm_w S z) H locs cells slots → W p l e (gx_rm d0 S0) s m args below meth c H locs cells slots (gx_MQ below G S0 (gm_w S r.2) r.1 s) (F0 m (pc + 3) ls rest)) : W p l e (gx_rm d0 S0) s m args below meth c H locs cells slots (gx_MQ below G S0 (gm_w S r.2) r.1 s) (F0 m pc ls (.int x1 :: va_rf (some (gg_o G)) :: rest)) := by
  have hts := cx.2.2.2.2.1
  have hK := cx.2.2.2.2.2.1
  exact gz_goV (d := d0 - 1) (gm_w S) cx hex hI hlv hrest (by omega) (Nat.le_of_ble_eq_true rfl) (gz_ws (lw_meth q1308) hts) (hts _ q78) (gb_rawV (As := [.int x1]) cx hl (hts _ q1307) (hts _ qs54) (gl_C.code (hts _ q1308)) hy_X4_act (gr_recvM hK hI.1 hf) rfl rfl hdg) (fun o S2 e => M_X4_act hf cx.2.2.2.2.2.2.2.2 (by omega) e) h kk
abbrev B_X4_isIn (l : Launch) (d0 : Nat) (G : gG) (S0 : gm_S) : Nat → List (Nat × Value) → List Value → gm_S → Outcome → gm_S → Prop := gz_B l RX4 "isIn" cX4_isIn 3 (Option.some Jvm.ClassFile.FieldType.boolean) [] d0 G S0
theorem T_X4_isIn {l : Launch} {G : gG} {S0 S : gm_S} {d0 fu : Nat} {r : Outcome × gM} (hf : gg_f G = true) (hD : 2 ≤ d0) {x1 : Int32} {x2 : Int32} {M : gM} (h : F_X4_isIn fu x1 x2 M = some r) : B_X4_isIn l d0 G S0 0 [(0, va_rf (some (gg_o G))), (1, .int x1), (2, .int x2)] [] (gm_w S M) r.1 (gm_w S r.2) := by
  unfold F_X4_isIn at h
  intro p e s m args below meth c H locs cells slots ls cx hnm hex hI hl
  have hx := cx.1
  have hb := cx.2.1
  have hown := cx.2.2.2.1
  have hts := cx.2.2.2.2.1
  have hK := cx.2.2.2.2.2.1
  refine lv_iload_n hx hb dX4_isIn_0 rfl (lv_at hl 1 rfl) ?_
  refine lv_iload_n hx hb dX4_isIn_1 rfl (lv_at hl 2 rfl) ?_
  refine lv_ishr hx hb dX4_isIn_2 ?_
  refine lv_iconst hx hb dX4_isIn_3 gz_ic_1 ?_
  refine lv_iand hx hb dX4_isIn_4 ?_
  refine lv_iconst hx hb dX4_isIn_5 gz_ic_1 ?_
  refine lv_icmp_ne (tgt := 13) hx hb dX4_isIn_6 rfl (fun hc => ?_) (fun hc => ?_)
  · have h := gz_f h hc
    refine lv_iconst hx hb dX4_isIn_13 gz_ic_0 ?_
    obtain ⟨hz, h⟩ := g_ifs h
    cases h
    exact gr_zret cx hz hI dX4_isIn_14
  · have h := gz_t h hc
    refine lv_iconst hx hb dX4_isIn_9 gz_ic_1 ?_
    refine lv_goto (tgt := 14) hx hb dX4_isIn_10 rfl ?_
    obtain ⟨hz, h⟩ := g_ifs h
    cases h
    exact gr_zret cx hz hI dX4_isIn_14
theorem M_X4_isIn {l : Launch} {G : gG} {fu d0 : Nat} (hf : gg_f G = true) (hfl : l.flags = flags0) (hD : 2 ≤ d0) {x1 : Int32} {x2 : Int32} {S : gm_S} {M : gM} {o : Outcome} {M2 : gM} (h : F_X4_isIn fu x1 x2 M = some (o, M2)) : gx_Met l yX4_isIn (ws_ yX4_isIn cX4_isIn 3 (Option.some Jvm.ClassFile.FieldType.boolean)) d0 G (gm_w S M) [va_rf (some (gg_o G)), .int x1, .int x2] o (gm_w S M2) := by
  refine gx_of hfl (by decide) (fun p e s m below meth c cx hnm hex hI => ?_)
  rw [lg_entry_eq]
  exact T_X4_isIn (r := (o, M2)) hf hD h p e s m _ below meth c _ _ _ _ _ cx hnm (gz_nh0 hex) hI (lv_entry _ (Nat.le_of_ble_eq_true rfl))
theorem C_X4_isIn {p : Program} {l : Launch} {e : Env} {s : State} {m : MethodId} {args : Array Value} {below : List Frame} {meth : Method} {c : Code} {H : Heap} {locs : List Loc} {cells slots : Nat} {cc : ByteArray} {pc nL : Nat} {ls : Array Slot} {rest : List Value} {G : gG} {S0 S : gm_S} {own : String} {ret : Option FieldType} {d0 index fu : Nat} {M : gM} {x1 : Int32} {x2 : Int32} {k : Int32 → gM → gQ} {r : Outcome × gM} (hf : gg_f G = true) (cx : gx_cx p l s m args meth c G own cc nL ret) (hex : ∀ x ∈ c.exceptionTable.toList, covers x pc = false) (hI : gw_I G S0 (gm_w S M) H locs cells slots) (hl : gl_M own index yX4_isIn args s) (hlv : ls.size = nL) (hrest : (rest.map fun v => v.category).sum ≤ 8) (hD : 3 ≤ d0) (hdg : decode cc pc = .ok (.invokevirtual index, 3)) (h : gz_cI (F_X4_isIn fu x1 x2 M) k = some r)
    (kk : ∀ (v : Int32) (z : gM), k v z = some r → ∀ (H : Heap) (locs : List Loc) (cells slots : Nat), gw_I G S0 (gm_w S z) H locs cells slots → W p l e (gx_rm d0 S0) s m args below meth c H locs cells slots (gx_MQ below G S0 (gm_w S r.2) r.1 s) (F0 m (pc + 3) ls (.int v :: rest))) : W p l e (gx_rm d0 S0) s m args below meth c H locs cells slots (gx_MQ below G S0 (gm_w S r.2) r.1 s) (F0 m pc ls (.int x2 :: .int x1 :: va_rf (some (gg_o G)) :: rest)) := by
  have hts := cx.2.2.2.2.1
  have hK := cx.2.2.2.2.2.1
  exact gz_goI (d := d0 - 1) (gm_w S) cx hex hI hlv hrest (by omega) (Nat.le_of_ble_eq_true rfl) (gz_ws (lw_meth q1300) hts) (hts _ q78) (gb_rawV (As := [.int x1, .int x2]) cx hl (hts _ q1299) (hts _ qs52) (gl_C.code (hts _ q1300)) hy_X4_isIn (gr_recvM hK hI.1 hf) rfl rfl hdg) (fun o S2 e => M_X4_isIn hf cx.2.2.2.2.2.2.2.2 (by omega) e) h kk
abbrev B_X4_stateOf (l : Launch) (d0 : Nat) (G : gG) (S0 : gm_S) : Nat → List (Nat × Value) → List Value → gm_S → Outcome → gm_S → Prop := gz_B l RX4 "stateOf" cX4_stateOf 2 (Option.some Jvm.ClassFile.FieldType.int) [] d0 G S0
theorem T_X4_stateOf {l : Launch} {G : gG} {S0 S : gm_S} {d0 fu : Nat} {r : Outcome × gM} (hf : gg_f G = true) (hD : 2 ≤ d0) {x1 : Int32} {M : gM} (h : F_X4_stateOf fu x1 M = some r) : B_X4_stateOf l d0 G S0 0 [(0, va_rf (some (gg_o G))), (1, .int x1)] [] (gm_w S M) r.1 (gm_w S r.2) := by
  unfold F_X4_stateOf at h
  intro p e s m args below meth c H locs cells slots ls cx hnm hex hI hl
  have hx := cx.1
  have hb := cx.2.1
  have hown := cx.2.2.2.1
  have hts := cx.2.2.2.2.1
  have hK := cx.2.2.2.2.2.1
  refine gr_aload_n hx hb (some (gg_o G)) dX4_stateOf_0 rfl (lv_at hl 0 rfl) ?_
  refine nr_gI cx hf hI 7 rfl (fun _ => rfl) rfl (Or.inl (hts _ q999)) dX4_stateOf_1 ?_
  refine lv_if_lt (tgt := 19) hx hb dX4_stateOf_4 rfl (fun hc => ?_) (fun hc => ?_)
  · have h := gz_t h hc
    refine lv_iconst hx hb dX4_stateOf_19 gz_ic_m1 ?_
    refine lv_goto (tgt := 40) hx hb dX4_stateOf_20 rfl ?_
    cases h
    exact gr_iret cx hI dX4_stateOf_40
  · have h := gz_f h hc
    refine lv_iload_n hx hb dX4_stateOf_7 rfl (lv_at hl 1 rfl) ?_
    refine lv_bipush hx hb dX4_stateOf_8 gz_bp_97 ?_
    refine lv_icmp_lt (tgt := 19) hx hb dX4_stateOf_10 rfl (fun hc => ?_) (fun hc => ?_)
    · have h := gz_t h hc
      refine lv_iconst hx hb dX4_stateOf_19 gz_ic_m1 ?_
      refine lv_goto (tgt := 40) hx hb dX4_stateOf_20 rfl ?_
      cases h
      exact gr_iret cx hI dX4_stateOf_40
    · have h := gz_f h hc
      refine lv_iload_n hx hb dX4_stateOf_13 rfl (lv_at hl 1 rfl) ?_
      refine lv_bipush hx hb dX4_stateOf_14 gz_bp_112 ?_
      refine lv_icmp_le (tgt := 23) hx hb dX4_stateOf_16 rfl (fun hc => ?_) (fun hc => ?_)
      · have h := gz_t h hc
        refine gr_aload_n hx hb (some (gg_o G)) dX4_stateOf_23 rfl (lv_at hl 0 rfl) ?_
        refine gr_mgA cx hf hI 17 rfl rfl (Or.inl (hts _ q1009)) dX4_stateOf_24 ?_
        refine lv_bipush hx hb dX4_stateOf_27 gz_bp_16 ?_
        refine gr_aload_n hx hb (some (gg_o G)) dX4_stateOf_29 rfl (lv_at hl 0 rfl) ?_
        refine nr_gI cx hf hI 7 rfl (fun _ => rfl) rfl (Or.inl (hts _ q999)) dX4_stateOf_30 ?_
        refine lv_imul hx hb dX4_stateOf_33 ?_
        refine lv_iload_n hx hb dX4_stateOf_34 rfl (lv_at hl 1 rfl) ?_
        refine lv_iadd hx hb dX4_stateOf_35 ?_
        refine lv_bipush hx hb dX4_stateOf_36 gz_bp_97 ?_
        refine lv_isub hx hb dX4_stateOf_38 ?_
        obtain ⟨v4, e4, h⟩ := g_bind h
        refine gr_miald cx hf hI 17 rfl rfl rfl (nr_aI e4) dX4_stateOf_39 ?_
        cases h
        exact gr_iret cx hI dX4_stateOf_40
      · have h := gz_f h hc
        refine lv_iconst hx hb dX4_stateOf_19 gz_ic_m1 ?_
        refine lv_goto (tgt := 40) hx hb dX4_stateOf_20 rfl ?_
        cases h
        exact gr_iret cx hI dX4_stateOf_40
theorem M_X4_stateOf {l : Launch} {G : gG} {fu d0 : Nat} (hf : gg_f G = true) (hfl : l.flags = flags0) (hD : 2 ≤ d0) {x1 : Int32} {S : gm_S} {M : gM} {o : Outcome} {M2 : gM} (h : F_X4_stateOf fu x1 M = some (o, M2)) : gx_Met l yX4_stateOf (ws_ yX4_stateOf cX4_stateOf 2 (Option.some Jvm.ClassFile.FieldType.int)) d0 G (gm_w S M) [va_rf (some (gg_o G)), .int x1] o (gm_w S M2) := by
  refine gx_of hfl (by decide) (fun p e s m below meth c cx hnm hex hI => ?_)
  rw [lg_entry_eq]
  exact T_X4_stateOf (r := (o, M2)) hf hD h p e s m _ below meth c _ _ _ _ _ cx hnm (gz_nh0 hex) hI (lv_entry _ (Nat.le_of_ble_eq_true rfl))
theorem C_X4_stateOf {p : Program} {l : Launch} {e : Env} {s : State} {m : MethodId} {args : Array Value} {below : List Frame} {meth : Method} {c : Code} {H : Heap} {locs : List Loc} {cells slots : Nat} {cc : ByteArray} {pc nL : Nat} {ls : Array Slot} {rest : List Value} {G : gG} {S0 S : gm_S} {own : String} {ret : Option FieldType} {d0 index fu : Nat} {M : gM} {x1 : Int32} {k : Int32 → gM → gQ} {r : Outcome × gM} (hf : gg_f G = true) (cx : gx_cx p l s m args meth c G own cc nL ret) (hex : ∀ x ∈ c.exceptionTable.toList, covers x pc = false) (hI : gw_I G S0 (gm_w S M) H locs cells slots) (hl : gl_M own index yX4_stateOf args s) (hlv : ls.size = nL) (hrest : (rest.map fun v => v.category).sum ≤ 8) (hD : 3 ≤ d0) (hdg : decode cc pc = .ok (.invokevirtual index, 3)) (h : gz_cI (F_X4_stateOf fu x1 M) k = some r)
    (kk : ∀ (v : Int32) (z : gM), k v z = some r → ∀ (H : Heap) (locs : List Loc) (cells slots : Nat), gw_I G S0 (gm_w S z) H locs cells slots → W p l e (gx_rm d0 S0) s m args below meth c H locs cells slots (gx_MQ below G S0 (gm_w S r.2) r.1 s) (F0 m (pc + 3) ls (.int v :: rest))) : W p l e (gx_rm d0 S0) s m args below meth c H locs cells slots (gx_MQ below G S0 (gm_w S r.2) r.1 s) (F0 m pc ls (.int x1 :: va_rf (some (gg_o G)) :: rest)) := by
  have hts := cx.2.2.2.2.1
  have hK := cx.2.2.2.2.2.1
  exact gz_goI (d := d0 - 1) (gm_w S) cx hex hI hlv hrest (by omega) (Nat.le_of_ble_eq_true rfl) (gz_ws (lw_meth q1390) hts) (hts _ q78) (gb_rawV (As := [.int x1]) cx hl (hts _ q1389) (hts _ qs70) (gl_C.code (hts _ q1390)) hy_X4_stateOf (gr_recvM hK hI.1 hf) rfl rfl hdg) (fun o S2 e => M_X4_stateOf hf cx.2.2.2.2.2.2.2.2 (by omega) e) h kk
abbrev B_X4_active (l : Launch) (d0 : Nat) (G : gG) (S0 : gm_S) : Nat → List (Nat × Value) → List Value → gm_S → Outcome → gm_S → Prop := gz_B l RX4 "active" cX4_active 3 (Option.some Jvm.ClassFile.FieldType.boolean) [] d0 G S0
theorem T_X4_active {l : Launch} {G : gG} {S0 S : gm_S} {d0 fu : Nat} {r : Outcome × gM} (hf : gg_f G = true) (hD : 3 ≤ d0) {x1 : Int32} {M : gM} (h : F_X4_active fu x1 M = some r) : B_X4_active l d0 G S0 0 [(0, va_rf (some (gg_o G))), (1, .int x1)] [] (gm_w S M) r.1 (gm_w S r.2) := by
  unfold F_X4_active at h
  intro p e s m args below meth c H locs cells slots ls cx hnm hex hI hl
  have hx := cx.1
  have hb := cx.2.1
  have hown := cx.2.2.2.1
  have hts := cx.2.2.2.2.1
  have hK := cx.2.2.2.2.2.1
  refine gr_aload_n hx hb (some (gg_o G)) dX4_active_0 rfl (lv_at hl 0 rfl) ?_
  refine lv_iconst hx hb dX4_active_1 gz_ic_0 ?_
  obtain ⟨M1, e1, h⟩ := g_bind h
  refine nr_pI cx hf hI 0 rfl rfl rfl (Or.inl (hts _ q992)) e1 dX4_active_2 (fun H locs hI => ?_)
  refine gr_aload_n hx hb (some (gg_o G)) dX4_active_5 rfl (lv_at hl 0 rfl) ?_
  refine lv_iload_n hx hb dX4_active_6 rfl (lv_at hl 1 rfl) ?_
  refine C_X4_stateOf hf cx (gz_nh hex) hI (Or.inl (hts _ q1387)) hl.1 (gz_cs (Nat.le_of_ble_eq_true rfl)) (by omega) dX4_active_7 h (fun v2 M2 h H locs cells slots hI => ?_)
  refine gz_istore_n hx hb dX4_active_10 rfl hl (by decide) [0] rfl (gz_con ⟨gz_ne rfl, Or.inl (gz_ne rfl)⟩ gz_nil) (fun ls hl => ?_)
  refine lv_iload_n hx hb dX4_active_11 rfl (lv_at hl 0 rfl) ?_
  refine lv_if_lt (tgt := 31) hx hb dX4_active_12 rfl (fun hc => ?_) (fun hc => ?_)
  · have h := gz_t h hc
    refine lv_iconst hx hb dX4_active_31 gz_ic_0 ?_
    obtain ⟨hz, h⟩ := g_ifs h
    cases h
    exact gr_zret cx hz hI dX4_active_32
  · have h := gz_f h hc
    refine gr_aload_n hx hb (some (gg_o G)) dX4_active_15 rfl (lv_at hl 1 rfl) ?_
    refine gr_aload_n hx hb (some (gg_o G)) dX4_active_16 rfl (lv_at hl 1 rfl) ?_
    refine nr_gI cx hf hI 41 rfl (fun _ => rfl) rfl (Or.inl (hts _ q1033)) dX4_active_17 ?_
    refine lv_iload_n hx hb dX4_active_20 rfl (lv_at hl 0 rfl) ?_
    refine C_X4_isIn hf cx (gz_nh hex) hI (Or.inl (hts _ q1297)) hl.1 (gz_cs (Nat.le_of_ble_eq_true rfl)) (by omega) dX4_active_21 h (fun v4 M4 h H locs cells slots hI => ?_)
    refine lv_if_eq (tgt := 31) hx hb dX4_active_24 rfl (fun hc => ?_) (fun hc => ?_)
    · have h := gz_t h hc
      refine lv_iconst hx hb dX4_active_31 gz_ic_0 ?_
      obtain ⟨hz, h⟩ := g_ifs h
      cases h
      exact gr_zret cx hz hI dX4_active_32
    · have h := gz_f h hc
      refine lv_iconst hx hb dX4_active_27 gz_ic_1 ?_
      refine lv_goto (tgt := 32) hx hb dX4_active_28 rfl ?_
      obtain ⟨hz, h⟩ := g_ifs h
      cases h
      exact gr_zret cx hz hI dX4_active_32
theorem M_X4_active {l : Launch} {G : gG} {fu d0 : Nat} (hf : gg_f G = true) (hfl : l.flags = flags0) (hD : 3 ≤ d0) {x1 : Int32} {S : gm_S} {M : gM} {o : Outcome} {M2 : gM} (h : F_X4_active fu x1 M = some (o, M2)) : gx_Met l yX4_active (ws_ yX4_active cX4_active 3 (Option.some Jvm.ClassFile.FieldType.boolean)) d0 G (gm_w S M) [va_rf (some (gg_o G)), .int x1] o (gm_w S M2) := by
  refine gx_of hfl (by decide) (fun p e s m below meth c cx hnm hex hI => ?_)
  rw [lg_entry_eq]
  exact T_X4_active (r := (o, M2)) hf hD h p e s m _ below meth c _ _ _ _ _ cx hnm (gz_nh0 hex) hI (lv_entry _ (Nat.le_of_ble_eq_true rfl))
abbrev B_X4_belowOf (l : Launch) (d0 : Nat) (G : gG) (S0 : gm_S) : Nat → List (Nat × Value) → List Value → gm_S → Outcome → gm_S → Prop := gz_B l RX4 "belowOf" cX4_belowOf 2 (Option.some Jvm.ClassFile.FieldType.int) [] d0 G S0
theorem T_X4_belowOf {l : Launch} {G : gG} {S0 S : gm_S} {d0 fu : Nat} {r : Outcome × gM} (hf : gg_f G = true) (hD : 2 ≤ d0) {x1 : Int32} {M : gM} (h : F_X4_belowOf fu x1 M = some r) : B_X4_belowOf l d0 G S0 0 [(0, va_rf (some (gg_o G))), (1, .int x1)] [] (gm_w S M) r.1 (gm_w S r.2) := by
  unfold F_X4_belowOf at h
  intro p e s m args below meth c H locs cells slots ls cx hnm hex hI hl
  have hx := cx.1
  have hb := cx.2.1
  have hown := cx.2.2.2.1
  have hts := cx.2.2.2.2.1
  have hK := cx.2.2.2.2.2.1
  refine gr_aload_n hx hb (some (gg_o G)) dX4_belowOf_0 rfl (lv_at hl 0 rfl) ?_
  refine gr_mgA cx hf hI 16 rfl rfl (Or.inl (hts _ q1008)) dX4_belowOf_1 ?_
  refine lv_bipush hx hb dX4_belowOf_4 gz_bp_16 ?_
  refine gr_aload_n hx hb (some (gg_o G)) dX4_belowOf_6 rfl (lv_at hl 0 rfl) ?_
  refine nr_gI cx hf hI 7 rfl (fun _ => rfl) rfl (Or.inl (hts _ q999)) dX4_belowOf_7 ?_
  refine lv_imul hx hb dX4_belowOf_10 ?_
  refine lv_iload_n hx hb dX4_belowOf_11 rfl (lv_at hl 1 rfl) ?_
  refine lv_iadd hx hb dX4_belowOf_12 ?_
  obtain ⟨v3, e3, h⟩ := g_bind h
  refine gr_miald cx hf hI 16 rfl rfl rfl (nr_aI e3) dX4_belowOf_13 ?_
  cases h
  exact gr_iret cx hI dX4_belowOf_14
theorem M_X4_belowOf {l : Launch} {G : gG} {fu d0 : Nat} (hf : gg_f G = true) (hfl : l.flags = flags0) (hD : 2 ≤ d0) {x1 : Int32} {S : gm_S} {M : gM} {o : Outcome} {M2 : gM} (h : F_X4_belowOf fu x1 M = some (o, M2)) : gx_Met l yX4_belowOf (ws_ yX4_belowOf cX4_belowOf 2 (Option.some Jvm.ClassFile.FieldType.int)) d0 G (gm_w S M) [va_rf (some (gg_o G)), .int x1] o (gm_w S M2) := by
  refine gx_of hfl (by decide) (fun p e s m below meth c cx hnm hex hI => ?_)
  rw [lg_entry_eq]
  exact T_X4_belowOf (r := (o, M2)) hf hD h p e s m _ below meth c _ _ _ _ _ cx hnm (gz_nh0 hex) hI (lv_entry _ (Nat.le_of_ble_eq_true rfl))
theorem C_X4_belowOf {p : Program} {l : Launch} {e : Env} {s : State} {m : MethodId} {args : Array Value} {below : List Frame} {meth : Method} {c : Code} {H : Heap} {locs : List Loc} {cells slots : Nat} {cc : ByteArray} {pc nL : Nat} {ls : Array Slot} {rest : List Value} {G : gG} {S0 S : gm_S} {own : String} {ret : Option FieldType} {d0 index fu : Nat} {M : gM} {x1 : Int32} {k : Int32 → gM → gQ} {r : Outcome × gM} (hf : gg_f G = true) (cx : gx_cx p l s m args meth c G own cc nL ret) (hex : ∀ x ∈ c.exceptionTable.toList, covers x pc = false) (hI : gw_I G S0 (gm_w S M) H locs cells slots) (hl : gl_M own index yX4_belowOf args s) (hlv : ls.size = nL) (hrest : (rest.map fun v => v.category).sum ≤ 8) (hD : 3 ≤ d0) (hdg : decode cc pc = .ok (.invokevirtual index, 3)) (h : gz_cI (F_X4_belowOf fu x1 M) k = some r)
    (kk : ∀ (v : Int32) (z : gM), k v z = some r → ∀ (H : Heap) (locs : List Loc) (cells slots : Nat), gw_I G S0 (gm_w S z) H locs cells slots → W p l e (gx_rm d0 S0) s m args below meth c H locs cells slots (gx_MQ below G S0 (gm_w S r.2) r.1 s) (F0 m (pc + 3) ls (.int v :: rest))) : W p l e (gx_rm d0 S0) s m args below meth c H locs cells slots (gx_MQ below G S0 (gm_w S r.2) r.1 s) (F0 m pc ls (.int x1 :: va_rf (some (gg_o G)) :: rest)) := by
  have hts := cx.2.2.2.2.1
  have hK := cx.2.2.2.2.2.1
  exact gz_goI (d := d0 - 1) (gm_w S) cx hex hI hlv hrest (by omega) (Nat.le_of_ble_eq_true rfl) (gz_ws (lw_meth q1288) hts) (hts _ q78) (gb_rawV (As := [.int x1]) cx hl (hts _ q1287) (hts _ qs49) (gl_C.code (hts _ q1288)) hy_X4_belowOf (gr_recvM hK hI.1 hf) rfl rfl hdg) (fun o S2 e => M_X4_belowOf hf cx.2.2.2.2.2.2.2.2 (by omega) e) h kk
abbrev B_X4_kindOf (l : Launch) (d0 : Nat) (G : gG) (S0 : gm_S) : Nat → List (Nat × Value) → List Value → gm_S → Outcome → gm_S → Prop := gz_B l RX4 "kindOf" cX4_kindOf 2 (Option.some Jvm.ClassFile.FieldType.int) [] d0 G S0
theorem T_X4_kindOf {l : Launch} {G : gG} {S0 S : gm_S} {d0 fu : Nat} {r : Outcome × gM} (hf : gg_f G = true) (hD : 2 ≤ d0) {x1 : Int32} {M : gM} (h : F_X4_kindOf fu x1 M = some r) : B_X4_kindOf l d0 G S0 0 [(0, va_rf (some (gg_o G))), (1, .int x1)] [] (gm_w S M) r.1 (gm_w S r.2) := by
  unfold F_X4_kindOf at h
  intro p e s m args below meth c H locs cells slots ls cx hnm hex hI hl
  have hx := cx.1
  have hb := cx.2.1
  have hown := cx.2.2.2.1
  have hts := cx.2.2.2.2.1
  have hK := cx.2.2.2.2.2.1
  refine gr_aload_n hx hb (some (gg_o G)) dX4_kindOf_0 rfl (lv_at hl 0 rfl) ?_
  refine gr_mgA cx hf hI 14 rfl rfl (Or.inl (hts _ q1006)) dX4_kindOf_1 ?_
  refine lv_bipush hx hb dX4_kindOf_4 gz_bp_16 ?_
  refine gr_aload_n hx hb (some (gg_o G)) dX4_kindOf_6 rfl (lv_at hl 0 rfl) ?_
  refine nr_gI cx hf hI 7 rfl (fun _ => rfl) rfl (Or.inl (hts _ q999)) dX4_kindOf_7 ?_
  refine lv_imul hx hb dX4_kindOf_10 ?_
  refine lv_iload_n hx hb dX4_kindOf_11 rfl (lv_at hl 1 rfl) ?_
  refine lv_iadd hx hb dX4_kindOf_12 ?_
  obtain ⟨v3, e3, h⟩ := g_bind h
  refine gr_miald cx hf hI 14 rfl rfl rfl (nr_aI e3) dX4_kindOf_13 ?_
  cases h
  exact gr_iret cx hI dX4_kindOf_14
theorem M_X4_kindOf {l : Launch} {G : gG} {fu d0 : Nat} (hf : gg_f G = true) (hfl : l.flags = flags0) (hD : 2 ≤ d0) {x1 : Int32} {S : gm_S} {M : gM} {o : Outcome} {M2 : gM} (h : F_X4_kindOf fu x1 M = some (o, M2)) : gx_Met l yX4_kindOf (ws_ yX4_kindOf cX4_kindOf 2 (Option.some Jvm.ClassFile.FieldType.int)) d0 G (gm_w S M) [va_rf (some (gg_o G)), .int x1] o (gm_w S M2) := by
  refine gx_of hfl (by decide) (fun p e s m below meth c cx hnm hex hI => ?_)
  rw [lg_entry_eq]
  exact T_X4_kindOf (r := (o, M2)) hf hD h p e s m _ below meth c _ _ _ _ _ cx hnm (gz_nh0 hex) hI (lv_entry _ (Nat.le_of_ble_eq_true rfl))
theorem C_X4_kindOf {p : Program} {l : Launch} {e : Env} {s : State} {m : MethodId} {args : Array Value} {below : List Frame} {meth : Method} {c : Code} {H : Heap} {locs : List Loc} {cells slots : Nat} {cc : ByteArray} {pc nL : Nat} {ls : Array Slot} {rest : List Value} {G : gG} {S0 S : gm_S} {own : String} {ret : Option FieldType} {d0 index fu : Nat} {M : gM} {x1 : Int32} {k : Int32 → gM → gQ} {r : Outcome × gM} (hf : gg_f G = true) (cx : gx_cx p l s m args meth c G own cc nL ret) (hex : ∀ x ∈ c.exceptionTable.toList, covers x pc = false) (hI : gw_I G S0 (gm_w S M) H locs cells slots) (hl : gl_M own index yX4_kindOf args s) (hlv : ls.size = nL) (hrest : (rest.map fun v => v.category).sum ≤ 8) (hD : 3 ≤ d0) (hdg : decode cc pc = .ok (.invokevirtual index, 3)) (h : gz_cI (F_X4_kindOf fu x1 M) k = some r)
    (kk : ∀ (v : Int32) (z : gM), k v z = some r → ∀ (H : Heap) (locs : List Loc) (cells slots : Nat), gw_I G S0 (gm_w S z) H locs cells slots → W p l e (gx_rm d0 S0) s m args below meth c H locs cells slots (gx_MQ below G S0 (gm_w S r.2) r.1 s) (F0 m (pc + 3) ls (.int v :: rest))) : W p l e (gx_rm d0 S0) s m args below meth c H locs cells slots (gx_MQ below G S0 (gm_w S r.2) r.1 s) (F0 m pc ls (.int x1 :: va_rf (some (gg_o G)) :: rest)) := by
  have hts := cx.2.2.2.2.1
  have hK := cx.2.2.2.2.2.1
  exact gz_goI (d := d0 - 1) (gm_w S) cx hex hI hlv hrest (by omega) (Nat.le_of_ble_eq_true rfl) (gz_ws (lw_meth q1284) hts) (hts _ q78) (gb_rawV (As := [.int x1]) cx hl (hts _ q1283) (hts _ qs48) (gl_C.code (hts _ q1284)) hy_X4_kindOf (gr_recvM hK hI.1 hf) rfl rfl hdg) (fun o S2 e => M_X4_kindOf hf cx.2.2.2.2.2.2.2.2 (by omega) e) h kk
abbrev B_X4_outerOf (l : Launch) (d0 : Nat) (G : gG) (S0 : gm_S) : Nat → List (Nat × Value) → List Value → gm_S → Outcome → gm_S → Prop := gz_B l RX4 "outerOf" cX4_outerOf 2 (Option.some Jvm.ClassFile.FieldType.int) [] d0 G S0
theorem T_X4_outerOf {l : Launch} {G : gG} {S0 S : gm_S} {d0 fu : Nat} {r : Outcome × gM} (hf : gg_f G = true) (hD : 2 ≤ d0) {x1 : Int32} {M : gM} (h : F_X4_outerOf fu x1 M = some r) : B_X4_outerOf l d0 G S0 0 [(0, va_rf (some (gg_o G))), (1, .int x1)] [] (gm_w S M) r.1 (gm_w S r.2) := by
  unfold F_X4_outerOf at h
  intro p e s m args below meth c H locs cells slots ls cx hnm hex hI hl
  have hx := cx.1
  have hb := cx.2.1
  have hown := cx.2.2.2.1
  have hts := cx.2.2.2.2.1
  have hK := cx.2.2.2.2.2.1
  refine gr_aload_n hx hb (some (gg_o G)) dX4_outerOf_0 rfl (lv_at hl 0 rfl) ?_
  refine gr_mgA cx hf hI 15 rfl rfl (Or.inl (hts _ q1007)) dX4_outerOf_1 ?_
  refine lv_bipush hx hb dX4_outerOf_4 gz_bp_16 ?_
  refine gr_aload_n hx hb (some (gg_o G)) dX4_outerOf_6 rfl (lv_at hl 0 rfl) ?_
  refine nr_gI cx hf hI 7 rfl (fun _ => rfl) rfl (Or.inl (hts _ q999)) dX4_outerOf_7 ?_
  refine lv_imul hx hb dX4_outerOf_10 ?_
  refine lv_iload_n hx hb dX4_outerOf_11 rfl (lv_at hl 1 rfl) ?_
  refine lv_iadd hx hb dX4_outerOf_12 ?_
  obtain ⟨v3, e3, h⟩ := g_bind h
  refine gr_miald cx hf hI 15 rfl rfl rfl (nr_aI e3) dX4_outerOf_13 ?_
  cases h
  exact gr_iret cx hI dX4_outerOf_14
theorem M_X4_outerOf {l : Launch} {G : gG} {fu d0 : Nat} (hf : gg_f G = true) (hfl : l.flags = flags0) (hD : 2 ≤ d0) {x1 : Int32} {S : gm_S} {M : gM} {o : Outcome} {M2 : gM} (h : F_X4_outerOf fu x1 M = some (o, M2)) : gx_Met l yX4_outerOf (ws_ yX4_outerOf cX4_outerOf 2 (Option.some Jvm.ClassFile.FieldType.int)) d0 G (gm_w S M) [va_rf (some (gg_o G)), .int x1] o (gm_w S M2) := by
  refine gx_of hfl (by decide) (fun p e s m below meth c cx hnm hex hI => ?_)
  rw [lg_entry_eq]
  exact T_X4_outerOf (r := (o, M2)) hf hD h p e s m _ below meth c _ _ _ _ _ cx hnm (gz_nh0 hex) hI (lv_entry _ (Nat.le_of_ble_eq_true rfl))
theorem C_X4_outerOf {p : Program} {l : Launch} {e : Env} {s : State} {m : MethodId} {args : Array Value} {below : List Frame} {meth : Method} {c : Code} {H : Heap} {locs : List Loc} {cells slots : Nat} {cc : ByteArray} {pc nL : Nat} {ls : Array Slot} {rest : List Value} {G : gG} {S0 S : gm_S} {own : String} {ret : Option FieldType} {d0 index fu : Nat} {M : gM} {x1 : Int32} {k : Int32 → gM → gQ} {r : Outcome × gM} (hf : gg_f G = true) (cx : gx_cx p l s m args meth c G own cc nL ret) (hex : ∀ x ∈ c.exceptionTable.toList, covers x pc = false) (hI : gw_I G S0 (gm_w S M) H locs cells slots) (hl : gl_M own index yX4_outerOf args s) (hlv : ls.size = nL) (hrest : (rest.map fun v => v.category).sum ≤ 8) (hD : 3 ≤ d0) (hdg : decode cc pc = .ok (.invokevirtual index, 3)) (h : gz_cI (F_X4_outerOf fu x1 M) k = some r)
    (kk : ∀ (v : Int32) (z : gM), k v z = some r → ∀ (H : Heap) (locs : List Loc) (cells slots : Nat), gw_I G S0 (gm_w S z) H locs cells slots → W p l e (gx_rm d0 S0) s m args below meth c H locs cells slots (gx_MQ below G S0 (gm_w S r.2) r.1 s) (F0 m (pc + 3) ls (.int v :: rest))) : W p l e (gx_rm d0 S0) s m args below meth c H locs cells slots (gx_MQ below G S0 (gm_w S r.2) r.1 s) (F0 m pc ls (.int x1 :: va_rf (some (gg_o G)) :: rest)) := by
  have hts := cx.2.2.2.2.1
  have hK := cx.2.2.2.2.2.1
  exact gz_goI (d := d0 - 1) (gm_w S) cx hex hI hlv hrest (by omega) (Nat.le_of_ble_eq_true rfl) (gz_ws (lw_meth q1292) hts) (hts _ q78) (gb_rawV (As := [.int x1]) cx hl (hts _ q1291) (hts _ qs50) (gl_C.code (hts _ q1292)) hy_X4_outerOf (gr_recvM hK hI.1 hf) rfl rfl hdg) (fun o S2 e => M_X4_outerOf hf cx.2.2.2.2.2.2.2.2 (by omega) e) h kk
abbrev B_X4_aim (l : Launch) (d0 : Nat) (G : gG) (S0 : gm_S) : Nat → List (Nat × Value) → List Value → gm_S → Outcome → gm_S → Prop := gz_B l RX4 "aim" cX4_aim 7 (Option.none : Option Jvm.ClassFile.FieldType) [] d0 G S0
theorem T_X4_aim_187 {l : Launch} {G : gG} {S0 S : gm_S} {d0 fu : Nat} {r : Outcome × gM} (hf : gg_f G = true) (hD : 3 ≤ d0) {x1 : Int32} {x6 : Int32} {M : gM} (h : F_X4_aim_187 fu x1 x6 M = some r) : B_X4_aim l d0 G S0 187 [(0, va_rf (some (gg_o G))), (1, .int x1), (6, .int x6)] [] (gm_w S M) r.1 (gm_w S r.2) := by
  unfold F_X4_aim_187 at h
  intro p e s m args below meth c H locs cells slots ls cx hnm hex hI hl
  have hx := cx.1
  have hb := cx.2.1
  have hown := cx.2.2.2.1
  have hts := cx.2.2.2.2.1
  have hK := cx.2.2.2.2.2.1
  refine gr_aload_n hx hb (some (gg_o G)) dX4_aim_187 rfl (lv_at hl 0 rfl) ?_
  refine gr_mgA cx hf hI 58 rfl rfl (Or.inl (hts _ q1050)) dX4_aim_188 ?_
  refine lv_iload_n hx hb dX4_aim_191 rfl (lv_at hl 1 rfl) ?_
  refine lv_iload hx hb dX4_aim_192 (lv_at hl 2 rfl) ?_
  obtain ⟨M2, e2, h⟩ := g_bind h
  refine gr_miast cx hf hI 58 rfl rfl rfl (nr_sI e2) dX4_aim_194 (fun H locs hI => ?_)
  refine gr_aload_n hx hb (some (gg_o G)) dX4_aim_195 rfl (lv_at hl 0 rfl) ?_
  refine gr_mgA cx hf hI 59 rfl rfl (Or.inl (hts _ q1051)) dX4_aim_196 ?_
  refine lv_iload_n hx hb dX4_aim_199 rfl (lv_at hl 1 rfl) ?_
  refine lv_iload hx hb dX4_aim_200 (lv_at hl 2 rfl) ?_
  refine lv_if_ge (tgt := 212) hx hb dX4_aim_202 rfl (fun hc => ?_) (fun hc => ?_)
  · have h := gz_t h hc
    refine gr_aload_n hx hb (some (gg_o G)) dX4_aim_212 rfl (lv_at hl 0 rfl) ?_
    refine nr_gI cx hf hI 41 rfl (fun _ => rfl) rfl (Or.inl (hts _ q1033)) dX4_aim_213 ?_
    refine gr_aload_n hx hb (some (gg_o G)) dX4_aim_216 rfl (lv_at hl 0 rfl) ?_
    refine lv_iload hx hb dX4_aim_217 (lv_at hl 2 rfl) ?_
    refine C_X4_belowOf hf cx (gz_nh hex) hI (Or.inl (hts _ q1285)) hl.1 (gz_cs (Nat.le_of_ble_eq_true rfl)) (by omega) dX4_aim_219 h (fun v5 M5 h H locs cells slots hI => ?_)
    refine lv_iand hx hb dX4_aim_222 ?_
    obtain ⟨M6, e6, h⟩ := g_bind h
    refine gr_miast cx hf hI 59 rfl rfl rfl (nr_sI e6) dX4_aim_223 (fun H locs hI => ?_)
    cases h
    exact gr_vret cx hI dX4_aim_224
  · have h := gz_f h hc
    refine gr_aload_n hx hb (some (gg_o G)) dX4_aim_205 rfl (lv_at hl 0 rfl) ?_
    refine nr_gI cx hf hI 41 rfl (fun _ => rfl) rfl (Or.inl (hts _ q1033)) dX4_aim_206 ?_
    refine lv_goto (tgt := 223) hx hb dX4_aim_209 rfl ?_
    obtain ⟨M8, e8, h⟩ := g_bind h
    refine gr_miast cx hf hI 59 rfl rfl rfl (nr_sI e8) dX4_aim_223 (fun H locs hI => ?_)
    cases h
    exact gr_vret cx hI dX4_aim_224
theorem T_X4_aim_176 {l : Launch} {G : gG} {S0 S : gm_S} {d0 fu : Nat} {k147 : Int32 → Int32 → Int32 → gM → gQ} {r : Outcome × gM} (hf : gg_f G = true) (hD : 3 ≤ d0)
    (hk147 : ∀ (x1 : Int32) (x5 : Int32) (x6 : Int32) (M : gM), k147 x1 x5 x6 M = some r → B_X4_aim l d0 G S0 147 [(0, va_rf (some (gg_o G))), (1, .int x1), (5, .int x5), (6, .int x6)] [] (gm_w S M) r.1 (gm_w S r.2)) {x1 : Int32} {x5 : Int32} {x6 : Int32} {M : gM} (h : F_X4_aim_176 fu k147 x1 x5 x6 M = some r) : B_X4_aim l d0 G S0 176 [(0, va_rf (some (gg_o G))), (1, .int x1), (5, .int x5), (6, .int x6)] [] (gm_w S M) r.1 (gm_w S r.2) := by
  unfold F_X4_aim_176 at h
  intro p e s m args below meth c H locs cells slots ls cx hnm hex hI hl
  have hx := cx.1
  have hb := cx.2.1
  have hown := cx.2.2.2.1
  have hts := cx.2.2.2.2.1
  have hK := cx.2.2.2.2.2.1
  refine gr_aload_n hx hb (some (gg_o G)) dX4_aim_176 rfl (lv_at hl 0 rfl) ?_
  refine lv_iload hx hb dX4_aim_177 (lv_at hl 3 rfl) ?_
  refine C_X4_outerOf hf cx (gz_nh hex) hI (Or.inl (hts _ q1289)) hl.1 (gz_cs (Nat.le_of_ble_eq_true rfl)) (by omega) dX4_aim_179 h (fun v1 M1 h H locs cells slots hI => ?_)
  refine gz_istore hx hb dX4_aim_182 hl (by decide) [0, 1, 2] rfl (gz_con ⟨gz_ne rfl, Or.inl (gz_ne rfl)⟩ (gz_con ⟨gz_ne rfl, Or.inl (gz_ne rfl)⟩ (gz_con ⟨gz_ne rfl, Or.inr rfl⟩ gz_nil))) (fun ls hl => ?_)
  refine lv_goto (tgt := 147) hx hb dX4_aim_184 rfl ?_
  exact hk147 _ _ _ _ h p e s m args below meth c H locs cells slots ls cx hnm hex hI (lv_sub hl [1, 2, 3, 0] rfl)
theorem T_X4_aim_147 {l : Launch} {G : gG} {S0 S : gm_S} {d0 fu : Nat} {r : Outcome × gM} (hf : gg_f G = true) (hD : 3 ≤ d0) : ∀ (n : Nat) (x1 : Int32) (x5 : Int32) (x6 : Int32) (M : gM), F_X4_aim_147 fu n x1 x5 x6 M = some r → B_X4_aim l d0 G S0 147 [(0, va_rf (some (gg_o G))), (1, .int x1), (5, .int x5), (6, .int x6)] [] (gm_w S M) r.1 (gm_w S r.2) := by
  intro n
  induction n with
  | zero => intro x1 x5 x6 M h; exact nomatch (show (none : gQ) = some r from h)
  | succ n ih =>
    intro x1 x5 x6 M h
    rw [F_X4_aim_147] at h
    intro p e s m args below meth c H locs cells slots ls cx hnm hex hI hl
    have hx := cx.1
    have hb := cx.2.1
    have hown := cx.2.2.2.1
    have hts := cx.2.2.2.2.1
    have hK := cx.2.2.2.2.2.1
    refine lv_iload hx hb dX4_aim_147 (lv_at hl 3 rfl) ?_
    refine lv_if_lt (tgt := 187) hx hb dX4_aim_149 rfl (fun hc => ?_) (fun hc => ?_)
    · have h := gz_t h hc
      exact T_X4_aim_187 hf hD h p e s m args below meth c H locs cells slots ls cx hnm hex hI (lv_sub hl [0, 1, 3] rfl)
    · have h := gz_f h hc
      refine gr_aload_n hx hb (some (gg_o G)) dX4_aim_152 rfl (lv_at hl 0 rfl) ?_
      refine lv_iload hx hb dX4_aim_153 (lv_at hl 3 rfl) ?_
      refine C_X4_kindOf hf cx (gz_nh hex) hI (Or.inl (hts _ q1281)) hl.1 (gz_cs (Nat.le_of_ble_eq_true rfl)) (by omega) dX4_aim_155 h (fun v1 M1 h H locs cells slots hI => ?_)
      refine lv_iconst hx hb dX4_aim_158 gz_ic_1 ?_
      refine lv_icmp_ne (tgt := 176) hx hb dX4_aim_159 rfl (fun hc => ?_) (fun hc => ?_)
      · have h := gz_f h hc
        exact T_X4_aim_176 hf hD ih h p e s m args below meth c H locs cells slots ls cx hnm hex hI hl
      · have h := gz_t h hc
        refine gr_aload_n hx hb (some (gg_o G)) dX4_aim_162 rfl (lv_at hl 0 rfl) ?_
        refine lv_iload hx hb dX4_aim_163 (lv_at hl 3 rfl) ?_
        refine C_X4_belowOf hf cx (gz_nh hex) hI (Or.inl (hts _ q1285)) hl.1 (gz_cs (Nat.le_of_ble_eq_true rfl)) (by omega) dX4_aim_165 h (fun v2 M2 h H locs cells slots hI => ?_)
        refine lv_iload hx hb dX4_aim_168 (lv_at hl 2 rfl) ?_
        refine lv_iand hx hb dX4_aim_170 ?_
        refine lv_iload hx hb dX4_aim_171 (lv_at hl 2 rfl) ?_
        refine lv_icmp_eq (tgt := 187) hx hb dX4_aim_173 rfl (fun hc => ?_) (fun hc => ?_)
        · have h := gz_t h hc
          exact T_X4_aim_187 hf hD h p e s m args below meth c H locs cells slots ls cx hnm hex hI (lv_sub hl [0, 1, 3] rfl)
        · have h := gz_f h hc
          exact T_X4_aim_176 hf hD ih h p e s m args below meth c H locs cells slots ls cx hnm hex hI hl
theorem T_X4_aim_118 {l : Launch} {G : gG} {S0 S : gm_S} {d0 fu : Nat} {r : Outcome × gM} (hf : gg_f G = true) (hD : 3 ≤ d0) {x1 : Int32} {x2 : Int32} {M : gM} (h : F_X4_aim_118 fu x1 x2 M = some r) : B_X4_aim l d0 G S0 118 [(0, va_rf (some (gg_o G))), (1, .int x1), (2, .int x2)] [] (gm_w S M) r.1 (gm_w S r.2) := by
  unfold F_X4_aim_118 at h
  intro p e s m args below meth c H locs cells slots ls cx hnm hex hI hl
  have hx := cx.1
  have hb := cx.2.1
  have hown := cx.2.2.2.1
  have hts := cx.2.2.2.2.1
  have hK := cx.2.2.2.2.2.1
  refine gr_aload_n hx hb (some (gg_o G)) dX4_aim_118 rfl (lv_at hl 0 rfl) ?_
  refine gr_mgA cx hf hI 57 rfl rfl (Or.inl (hts _ q1049)) dX4_aim_119 ?_
  refine lv_iload_n hx hb dX4_aim_122 rfl (lv_at hl 1 rfl) ?_
  obtain ⟨v2, e2, h⟩ := g_bind h
  refine gr_miald cx hf hI 57 rfl rfl rfl (nr_aI e2) dX4_aim_123 ?_
  refine lv_iconst hx hb dX4_aim_124 gz_ic_1 ?_
  refine gr_aload_n hx hb (some (gg_o G)) dX4_aim_125 rfl (lv_at hl 0 rfl) ?_
  refine gr_mgA cx hf hI 18 rfl rfl (Or.inl (hts _ q1010)) dX4_aim_126 ?_
  refine lv_iload_n hx hb dX4_aim_129 rfl (lv_at hl 2 rfl) ?_
  obtain ⟨v4, e4, h⟩ := g_bind h
  refine gr_miald cx hf hI 18 rfl rfl rfl (nr_aI e4) dX4_aim_130 ?_
  refine lv_ishl hx hb dX4_aim_131 ?_
  refine lv_ior hx hb dX4_aim_132 ?_
  refine gz_istore hx hb dX4_aim_133 hl (by decide) [0, 1, 2] rfl (gz_con ⟨gz_ne rfl, Or.inl (gz_ne rfl)⟩ (gz_con ⟨gz_ne rfl, Or.inl (gz_ne rfl)⟩ (gz_con ⟨gz_ne rfl, Or.inl (gz_ne rfl)⟩ gz_nil))) (fun ls hl => ?_)
  refine gr_aload_n hx hb (some (gg_o G)) dX4_aim_135 rfl (lv_at hl 1 rfl) ?_
  refine gr_aload_n hx hb (some (gg_o G)) dX4_aim_136 rfl (lv_at hl 1 rfl) ?_
  refine gr_mgA cx hf hI 18 rfl rfl (Or.inl (hts _ q1010)) dX4_aim_137 ?_
  refine lv_iload_n hx hb dX4_aim_140 rfl (lv_at hl 3 rfl) ?_
  obtain ⟨v6, e6, h⟩ := g_bind h
  refine gr_miald cx hf hI 18 rfl rfl rfl (nr_aI e6) dX4_aim_141 ?_
  refine C_X4_outerOf hf cx (gz_nh hex) hI (Or.inl (hts _ q1289)) hl.1 (gz_cs (Nat.le_of_ble_eq_true rfl)) (by omega) dX4_aim_142 h (fun v7 M7 h H locs cells slots hI => ?_)
  refine gz_istore hx hb dX4_aim_145 hl (by decide) [0, 1, 2] rfl (gz_con ⟨gz_ne rfl, Or.inr rfl⟩ (gz_con ⟨gz_ne rfl, Or.inl (gz_ne rfl)⟩ (gz_con ⟨gz_ne rfl, Or.inl (gz_ne rfl)⟩ gz_nil))) (fun ls hl => ?_)
  exact T_X4_aim_147 hf hD fu _ _ _ _ h p e s m args below meth c H locs cells slots ls cx hnm hex hI (lv_sub hl [2, 3, 1, 0] rfl)
theorem T_X4_aim_99 {l : Launch} {G : gG} {S0 S : gm_S} {d0 fu : Nat} {r : Outcome × gM} (hf : gg_f G = true) (hD : 3 ≤ d0) {x1 : Int32} {x2 : Int32} {x3 : Int32} {s0 : Int32} {s1 : Int32} {M : gM} (h : F_X4_aim_99 fu x1 x2 x3 s0 s1 M = some r) : B_X4_aim l d0 G S0 99 [(0, va_rf (some (gg_o G))), (1, .int x1), (2, .int x2), (3, .int x3)] [.int s0, .int s1, va_rf (some (gg_m G 57))] (gm_w S M) r.1 (gm_w S r.2) := by
  unfold F_X4_aim_99 at h
  intro p e s m args below meth c H locs cells slots ls cx hnm hex hI hl
  have hx := cx.1
  have hb := cx.2.1
  have hown := cx.2.2.2.1
  have hts := cx.2.2.2.2.1
  have hK := cx.2.2.2.2.2.1
  obtain ⟨M1, e1, h⟩ := g_bind h
  refine gr_miast cx hf hI 57 rfl rfl rfl (nr_sI e1) dX4_aim_99 (fun H locs hI => ?_)
  refine gr_aload_n hx hb (some (gg_o G)) dX4_aim_100 rfl (lv_at hl 0 rfl) ?_
  refine gr_mgA cx hf hI 57 rfl rfl (Or.inl (hts _ q1049)) dX4_aim_101 ?_
  refine lv_iload_n hx hb dX4_aim_104 rfl (lv_at hl 1 rfl) ?_
  obtain ⟨v3, e3, h⟩ := g_bind h
  refine gr_miald cx hf hI 57 rfl rfl rfl (nr_aI e3) dX4_aim_105 ?_
  refine lv_if_ne (tgt := 118) hx hb dX4_aim_106 rfl (fun hc => ?_) (fun hc => ?_)
  · have h := gz_f h hc
    exact T_X4_aim_118 hf hD h p e s m args below meth c H locs cells slots ls cx hnm hex hI (lv_sub hl [0, 1, 2] rfl)
  · have h := gz_t h hc
    refine gr_aload_n hx hb (some (gg_o G)) dX4_aim_109 rfl (lv_at hl 0 rfl) ?_
    refine gr_mgA cx hf hI 57 rfl rfl (Or.inl (hts _ q1049)) dX4_aim_110 ?_
    refine lv_iload_n hx hb dX4_aim_113 rfl (lv_at hl 1 rfl) ?_
    refine lv_iconst hx hb dX4_aim_114 gz_ic_1 ?_
    refine lv_iload_n hx hb dX4_aim_115 rfl (lv_at hl 3 rfl) ?_
    refine lv_ishl hx hb dX4_aim_116 ?_
    obtain ⟨M5, e5, h⟩ := g_bind h
    refine gr_miast cx hf hI 57 rfl rfl rfl (nr_sI e5) dX4_aim_117 (fun H locs hI => ?_)
    exact T_X4_aim_118 hf hD h p e s m args below meth c H locs cells slots ls cx hnm hex hI (lv_sub hl [0, 1, 2] rfl)
theorem T_X4_aim {l : Launch} {G : gG} {S0 S : gm_S} {d0 fu : Nat} {r : Outcome × gM} (hf : gg_f G = true) (hD : 3 ≤ d0) {x1 : Int32} {M : gM} (h : F_X4_aim fu x1 M = some r) : B_X4_aim l d0 G S0 0 [(0, va_rf (some (gg_o G))), (1, .int x1)] [] (gm_w S M) r.1 (gm_w S r.2) := by
  unfold F_X4_aim at h
  intro p e s m args below meth c H locs cells slots ls cx hnm hex hI hl
  have hx := cx.1
  have hb := cx.2.1
  have hown := cx.2.2.2.1
  have hts := cx.2.2.2.2.1
  have hK := cx.2.2.2.2.2.1
  refine gr_aload_n hx hb (some (gg_o G)) dX4_aim_0 rfl (lv_at hl 0 rfl) ?_
  refine gr_mgA cx hf hI 56 rfl rfl (Or.inl (hts _ q1048)) dX4_aim_1 ?_
  refine lv_iload_n hx hb dX4_aim_4 rfl (lv_at hl 1 rfl) ?_
  obtain ⟨v2, e2, h⟩ := g_bind h
  refine gr_miald cx hf hI 56 rfl rfl rfl (nr_aI e2) dX4_aim_5 ?_
  refine gz_istore_n hx hb dX4_aim_6 rfl hl (by decide) [0, 1] rfl (gz_con ⟨gz_ne rfl, Or.inl (gz_ne rfl)⟩ (gz_con ⟨gz_ne rfl, Or.inr rfl⟩ gz_nil)) (fun ls hl => ?_)
  refine gr_aload_n hx hb (some (gg_o G)) dX4_aim_7 rfl (lv_at hl 1 rfl) ?_
  refine gr_mgA cx hf hI 57 rfl rfl (Or.inl (hts _ q1049)) dX4_aim_8 ?_
  refine lv_iload_n hx hb dX4_aim_11 rfl (lv_at hl 2 rfl) ?_
  refine lv_iconst hx hb dX4_aim_12 gz_ic_0 ?_
  obtain ⟨M4, e4, h⟩ := g_bind h
  refine gr_miast cx hf hI 57 rfl rfl rfl (nr_sI e4) dX4_aim_13 (fun H locs hI => ?_)
  refine gr_aload_n hx hb (some (gg_o G)) dX4_aim_14 rfl (lv_at hl 1 rfl) ?_
  refine gr_mgA cx hf hI 58 rfl rfl (Or.inl (hts _ q1050)) dX4_aim_15 ?_
  refine lv_iload_n hx hb dX4_aim_18 rfl (lv_at hl 2 rfl) ?_
  refine lv_iconst hx hb dX4_aim_19 gz_ic_m1 ?_
  obtain ⟨M6, e6, h⟩ := g_bind h
  refine gr_miast cx hf hI 58 rfl rfl rfl (nr_sI e6) dX4_aim_20 (fun H locs hI => ?_)
  refine gr_aload_n hx hb (some (gg_o G)) dX4_aim_21 rfl (lv_at hl 1 rfl) ?_
  refine gr_mgA cx hf hI 59 rfl rfl (Or.inl (hts _ q1051)) dX4_aim_22 ?_
  refine lv_iload_n hx hb dX4_aim_25 rfl (lv_at hl 2 rfl) ?_
  refine lv_iconst hx hb dX4_aim_26 gz_ic_0 ?_
  obtain ⟨M8, e8, h⟩ := g_bind h
  refine gr_miast cx hf hI 59 rfl rfl rfl (nr_sI e8) dX4_aim_27 (fun H locs hI => ?_)
  refine gr_aload_n hx hb (some (gg_o G)) dX4_aim_28 rfl (lv_at hl 1 rfl) ?_
  refine gr_mgA cx hf hI 22 rfl rfl (Or.inl (hts _ q1014)) dX4_aim_29 ?_
  refine lv_iload_n hx hb dX4_aim_32 rfl (lv_at hl 0 rfl) ?_
  obtain ⟨v10, e10, h⟩ := g_bind h
  refine gr_miald cx hf hI 22 rfl rfl rfl (nr_aI e10) dX4_aim_33 ?_
  refine lv_if_ge (tgt := 38) hx hb dX4_aim_34 rfl (fun hc => ?_) (fun hc => ?_)
  · have h := gz_t h hc
    refine gr_aload_n hx hb (some (gg_o G)) dX4_aim_38 rfl (lv_at hl 1 rfl) ?_
    refine gr_mgA cx hf hI 23 rfl rfl (Or.inl (hts _ q1015)) dX4_aim_39 ?_
    refine gr_aload_n hx hb (some (gg_o G)) dX4_aim_42 rfl (lv_at hl 1 rfl) ?_
    refine gr_mgA cx hf hI 22 rfl rfl (Or.inl (hts _ q1014)) dX4_aim_43 ?_
    refine lv_iload_n hx hb dX4_aim_46 rfl (lv_at hl 0 rfl) ?_
    obtain ⟨v13, e13, h⟩ := g_bind h
    refine gr_miald cx hf hI 22 rfl rfl rfl (nr_aI e13) dX4_aim_47 ?_
    obtain ⟨v14, e14, h⟩ := g_bind h
    refine gr_miald cx hf hI 23 rfl rfl rfl (nr_aI e14) dX4_aim_48 ?_
    refine gz_istore_n hx hb dX4_aim_49 rfl hl (by decide) [0, 1, 2] rfl (gz_con ⟨gz_ne rfl, Or.inr rfl⟩ (gz_con ⟨gz_ne rfl, Or.inl (gz_ne rfl)⟩ (gz_con ⟨gz_ne rfl, Or.inl (gz_ne rfl)⟩ gz_nil))) (fun ls hl => ?_)
    refine gr_aload_n hx hb (some (gg_o G)) dX4_aim_50 rfl (lv_at hl 2 rfl) ?_
    refine gr_mgA cx hf hI 25 rfl rfl (Or.inl (hts _ q1017)) dX4_aim_51 ?_
    refine gr_aload_n hx hb (some (gg_o G)) dX4_aim_54 rfl (lv_at hl 2 rfl) ?_
    refine gr_mgA cx hf hI 22 rfl rfl (Or.inl (hts _ q1014)) dX4_aim_55 ?_
    refine lv_iload_n hx hb dX4_aim_58 rfl (lv_at hl 1 rfl) ?_
    obtain ⟨v17, e17, h⟩ := g_bind h
    refine gr_miald cx hf hI 22 rfl rfl rfl (nr_aI e17) dX4_aim_59 ?_
    obtain ⟨v18, e18, h⟩ := g_bind h
    refine gr_miald cx hf hI 25 rfl rfl rfl (nr_aI e18) dX4_aim_60 ?_
    refine gz_istore hx hb dX4_aim_61 hl (by decide) [0, 1, 2, 3] rfl (gz_con ⟨gz_ne rfl, Or.inr rfl⟩ (gz_con ⟨gz_ne rfl, Or.inl (gz_ne rfl)⟩ (gz_con ⟨gz_ne rfl, Or.inl (gz_ne rfl)⟩ (gz_con ⟨gz_ne rfl, Or.inl (gz_ne rfl)⟩ gz_nil)))) (fun ls hl => ?_)
    refine gr_aload_n hx hb (some (gg_o G)) dX4_aim_63 rfl (lv_at hl 3 rfl) ?_
    refine gr_mgA cx hf hI 57 rfl rfl (Or.inl (hts _ q1049)) dX4_aim_64 ?_
    refine lv_iload_n hx hb dX4_aim_67 rfl (lv_at hl 4 rfl) ?_
    refine lv_iload hx hb dX4_aim_68 (lv_at hl 0 rfl) ?_
    refine lv_iconst hx hb dX4_aim_70 gz_ic_1 ?_
    refine lv_icmp_ne (tgt := 83) hx hb dX4_aim_71 rfl (fun hc => ?_) (fun hc => ?_)
    · have h := gz_f h hc
      refine lv_iload hx hb dX4_aim_83 (lv_at hl 0 rfl) ?_
      refine lv_iconst hx hb dX4_aim_85 gz_ic_2 ?_
      refine lv_icmp_ne (tgt := 98) hx hb dX4_aim_86 rfl (fun hc => ?_) (fun hc => ?_)
      · have h := gz_f h hc
        refine lv_iconst hx hb dX4_aim_98 gz_ic_0 ?_
        exact T_X4_aim_99 hf hD h p e s m args below meth c H locs cells slots ls cx hnm hex hI (lv_sub hl [3, 4, 2, 1] rfl)
      · have h := gz_t h hc
        refine gr_aload_n hx hb (some (gg_o G)) dX4_aim_89 rfl (lv_at hl 3 rfl) ?_
        refine gr_mgA cx hf hI 44 rfl rfl (Or.inl (hts _ q1036)) dX4_aim_90 ?_
        refine lv_iload_n hx hb dX4_aim_93 rfl (lv_at hl 1 rfl) ?_
        obtain ⟨v21, e21, h⟩ := g_bind h
        refine gr_miald cx hf hI 44 rfl rfl rfl (nr_aI e21) dX4_aim_94 ?_
        refine lv_goto (tgt := 99) hx hb dX4_aim_95 rfl ?_
        exact T_X4_aim_99 hf hD h p e s m args below meth c H locs cells slots ls cx hnm hex hI (lv_sub hl [3, 4, 2, 1] rfl)
    · have h := gz_t h hc
      refine gr_aload_n hx hb (some (gg_o G)) dX4_aim_74 rfl (lv_at hl 3 rfl) ?_
      refine gr_mgA cx hf hI 43 rfl rfl (Or.inl (hts _ q1035)) dX4_aim_75 ?_
      refine lv_iload_n hx hb dX4_aim_78 rfl (lv_at hl 1 rfl) ?_
      obtain ⟨v23, e23, h⟩ := g_bind h
      refine gr_miald cx hf hI 43 rfl rfl rfl (nr_aI e23) dX4_aim_79 ?_
      refine lv_goto (tgt := 99) hx hb dX4_aim_80 rfl ?_
      exact T_X4_aim_99 hf hD h p e s m args below meth c H locs cells slots ls cx hnm hex hI (lv_sub hl [3, 4, 2, 1] rfl)
  · have h := gz_f h hc
    cases h
    exact gr_vret cx hI dX4_aim_37
theorem M_X4_aim {l : Launch} {G : gG} {fu d0 : Nat} (hf : gg_f G = true) (hfl : l.flags = flags0) (hD : 3 ≤ d0) {x1 : Int32} {S : gm_S} {M : gM} {o : Outcome} {M2 : gM} (h : F_X4_aim fu x1 M = some (o, M2)) : gx_Met l yX4_aim (ws_ yX4_aim cX4_aim 7 (Option.none : Option Jvm.ClassFile.FieldType)) d0 G (gm_w S M) [va_rf (some (gg_o G)), .int x1] o (gm_w S M2) := by
  refine gx_of hfl (by decide) (fun p e s m below meth c cx hnm hex hI => ?_)
  rw [lg_entry_eq]
  exact T_X4_aim (r := (o, M2)) hf hD h p e s m _ below meth c _ _ _ _ _ cx hnm (gz_nh0 hex) hI (lv_entry _ (Nat.le_of_ble_eq_true rfl))
theorem C_X4_aim {p : Program} {l : Launch} {e : Env} {s : State} {m : MethodId} {args : Array Value} {below : List Frame} {meth : Method} {c : Code} {H : Heap} {locs : List Loc} {cells slots : Nat} {cc : ByteArray} {pc nL : Nat} {ls : Array Slot} {rest : List Value} {G : gG} {S0 S : gm_S} {own : String} {ret : Option FieldType} {d0 index fu : Nat} {M : gM} {x1 : Int32} {k : gM → gQ} {r : Outcome × gM} (hf : gg_f G = true) (cx : gx_cx p l s m args meth c G own cc nL ret) (hex : ∀ x ∈ c.exceptionTable.toList, covers x pc = false) (hI : gw_I G S0 (gm_w S M) H locs cells slots) (hl : gl_M own index yX4_aim args s) (hlv : ls.size = nL) (hrest : (rest.map fun v => v.category).sum ≤ 8) (hD : 4 ≤ d0) (hdg : decode cc pc = .ok (.invokevirtual index, 3)) (h : gz_cV (F_X4_aim fu x1 M) k = some r)
    (kk : ∀ (z : gM), k z = some r → ∀ (H : Heap) (locs : List Loc) (cells slots : Nat), gw_I G S0 (gm_w S z) H locs cells slots → W p l e (gx_rm d0 S0) s m args below meth c H locs cells slots (gx_MQ below G S0 (gm_w S r.2) r.1 s) (F0 m (pc + 3) ls rest)) : W p l e (gx_rm d0 S0) s m args below meth c H locs cells slots (gx_MQ below G S0 (gm_w S r.2) r.1 s) (F0 m pc ls (.int x1 :: va_rf (some (gg_o G)) :: rest)) := by
  have hts := cx.2.2.2.2.1
  have hK := cx.2.2.2.2.2.1
  exact gz_goV (d := d0 - 1) (gm_w S) cx hex hI hlv hrest (by omega) (Nat.le_of_ble_eq_true rfl) (gz_ws (lw_meth q1338) hts) (hts _ q78) (gb_rawV (As := [.int x1]) cx hl (hts _ q1337) (hts _ qs61) (gl_C.code (hts _ q1338)) hy_X4_aim (gr_recvM hK hI.1 hf) rfl rfl hdg) (fun o S2 e => M_X4_aim hf cx.2.2.2.2.2.2.2.2 (by omega) e) h kk
abbrev B_X4_look (l : Launch) (d0 : Nat) (G : gG) (S0 : gm_S) : Nat → List (Nat × Value) → List Value → gm_S → Outcome → gm_S → Prop := gz_B l RX4 "look" cX4_look 1 (Option.some Jvm.ClassFile.FieldType.char) [] d0 G S0
theorem T_X4_look {l : Launch} {G : gG} {S0 S : gm_S} {d0 fu : Nat} {r : Outcome × gM} (hf : gg_f G = true) (hD : 2 ≤ d0)  {M : gM} (h : F_X4_look fu  M = some r) : B_X4_look l d0 G S0 0 [(0, va_rf (some (gg_o G)))] [] (gm_w S M) r.1 (gm_w S r.2) := by
  unfold F_X4_look at h
  intro p e s m args below meth c H locs cells slots ls cx hnm hex hI hl
  have hx := cx.1
  have hb := cx.2.1
  have hown := cx.2.2.2.1
  have hts := cx.2.2.2.2.1
  have hK := cx.2.2.2.2.2.1
  refine gr_aload_n hx hb (some (gg_o G)) dX4_look_0 rfl (lv_at hl 0 rfl) ?_
  refine nr_gI cx hf hI 5 rfl (fun _ => rfl) rfl (Or.inl (hts _ q997)) dX4_look_1 ?_
  refine lv_if_ne (tgt := 30) hx hb dX4_look_4 rfl (fun hc => ?_) (fun hc => ?_)
  · have h := gz_f h hc
    refine lv_iconst hx hb dX4_look_30 gz_ic_0 ?_
    obtain ⟨hz, h⟩ := g_ifs h
    cases h
    exact gr_cret cx hz hI dX4_look_31
  · have h := gz_t h hc
    refine gr_aload_n hx hb (some (gg_o G)) dX4_look_7 rfl (lv_at hl 0 rfl) ?_
    refine nr_gI cx hf hI 4 rfl (fun _ => rfl) rfl (Or.inl (hts _ q996)) dX4_look_8 ?_
    refine gr_aload_n hx hb (some (gg_o G)) dX4_look_11 rfl (lv_at hl 0 rfl) ?_
    refine nr_gI cx hf hI 2 rfl (fun _ => rfl) rfl (Or.inl (hts _ q994)) dX4_look_12 ?_
    refine lv_icmp_ge (tgt := 30) hx hb dX4_look_15 rfl (fun hc => ?_) (fun hc => ?_)
    · have h := gz_t h hc
      refine lv_iconst hx hb dX4_look_30 gz_ic_0 ?_
      obtain ⟨hz, h⟩ := g_ifs h
      cases h
      exact gr_cret cx hz hI dX4_look_31
    · have h := gz_f h hc
      refine gr_aload_n hx hb (some (gg_o G)) dX4_look_18 rfl (lv_at hl 0 rfl) ?_
      refine gr_mgA cx hf hI 3 rfl rfl (Or.inl (hts _ q995)) dX4_look_19 ?_
      refine gr_aload_n hx hb (some (gg_o G)) dX4_look_22 rfl (lv_at hl 0 rfl) ?_
      refine nr_gI cx hf hI 4 rfl (fun _ => rfl) rfl (Or.inl (hts _ q996)) dX4_look_23 ?_
      obtain ⟨v6, e6, h⟩ := g_bind h
      refine gr_mcald cx hf hI 3 rfl rfl rfl (nr_aI e6) dX4_look_26 ?_
      refine lv_goto (tgt := 31) hx hb dX4_look_27 rfl ?_
      obtain ⟨hz, h⟩ := g_ifs h
      cases h
      exact gr_cret cx hz hI dX4_look_31
theorem M_X4_look {l : Launch} {G : gG} {fu d0 : Nat} (hf : gg_f G = true) (hfl : l.flags = flags0) (hD : 2 ≤ d0)  {S : gm_S} {M : gM} {o : Outcome} {M2 : gM} (h : F_X4_look fu  M = some (o, M2)) : gx_Met l yX4_look (ws_ yX4_look cX4_look 1 (Option.some Jvm.ClassFile.FieldType.char)) d0 G (gm_w S M) [va_rf (some (gg_o G))] o (gm_w S M2) := by
  refine gx_of hfl (by decide) (fun p e s m below meth c cx hnm hex hI => ?_)
  rw [lg_entry_eq]
  exact T_X4_look (r := (o, M2)) hf hD h p e s m _ below meth c _ _ _ _ _ cx hnm (gz_nh0 hex) hI (lv_entry _ (Nat.le_of_ble_eq_true rfl))
theorem C_X4_look {p : Program} {l : Launch} {e : Env} {s : State} {m : MethodId} {args : Array Value} {below : List Frame} {meth : Method} {c : Code} {H : Heap} {locs : List Loc} {cells slots : Nat} {cc : ByteArray} {pc nL : Nat} {ls : Array Slot} {rest : List Value} {G : gG} {S0 S : gm_S} {own : String} {ret : Option FieldType} {d0 index fu : Nat} {M : gM}  {k : Int32 → gM → gQ} {r : Outcome × gM} (hf : gg_f G = true) (cx : gx_cx p l s m args meth c G own cc nL ret) (hex : ∀ x ∈ c.exceptionTable.toList, covers x pc = false) (hI : gw_I G S0 (gm_w S M) H locs cells slots) (hl : gl_M own index yX4_look args s) (hlv : ls.size = nL) (hrest : (rest.map fun v => v.category).sum ≤ 8) (hD : 3 ≤ d0) (hdg : decode cc pc = .ok (.invokevirtual index, 3)) (h : gz_cI (F_X4_look fu  M) k = some r)
    (kk : ∀ (v : Int32) (z : gM), k v z = some r → ∀ (H : Heap) (locs : List Loc) (cells slots : Nat), gw_I G S0 (gm_w S z) H locs cells slots → W p l e (gx_rm d0 S0) s m args below meth c H locs cells slots (gx_MQ below G S0 (gm_w S r.2) r.1 s) (F0 m (pc + 3) ls (.int v :: rest))) : W p l e (gx_rm d0 S0) s m args below meth c H locs cells slots (gx_MQ below G S0 (gm_w S r.2) r.1 s) (F0 m pc ls (va_rf (some (gg_o G)) :: rest)) := by
  have hts := cx.2.2.2.2.1
  have hK := cx.2.2.2.2.2.1
  exact gz_goI (d := d0 - 1) (gm_w S) cx hex hI hlv hrest (by omega) (Nat.le_of_ble_eq_true rfl) (gz_ws (lw_meth q1207) hts) (hts _ q78) (gb_rawV (As := []) cx hl (hts _ q1206) (hts _ qs31) (gl_C.code (hts _ q1207)) hy_X4_look (gr_recvM hK hI.1 hf) rfl rfl hdg) (fun o S2 e => M_X4_look hf cx.2.2.2.2.2.2.2.2 (by omega) e) h kk
abbrev B_X4_among (l : Launch) (d0 : Nat) (G : gG) (S0 : gm_S) : Nat → List (Nat × Value) → List Value → gm_S → Outcome → gm_S → Prop := gz_B l RX4 "among" cX4_among 3 (Option.some Jvm.ClassFile.FieldType.boolean) [] d0 G S0
theorem T_X4_among {l : Launch} {G : gG} {S0 S : gm_S} {d0 fu : Nat} {r : Outcome × gM} (hf : gg_f G = true) (hD : 3 ≤ d0) {x1 : Int32} {x2 : Int32} {M : gM} (h : F_X4_among fu x1 x2 M = some r) : B_X4_among l d0 G S0 0 [(0, va_rf (some (gg_o G))), (1, .int x1), (2, .int x2)] [] (gm_w S M) r.1 (gm_w S r.2) := by
  unfold F_X4_among at h
  intro p e s m args below meth c H locs cells slots ls cx hnm hex hI hl
  have hx := cx.1
  have hb := cx.2.1
  have hown := cx.2.2.2.1
  have hts := cx.2.2.2.2.1
  have hK := cx.2.2.2.2.2.1
  refine gr_aload_n hx hb (some (gg_o G)) dX4_among_0 rfl (lv_at hl 0 rfl) ?_
  refine C_X4_look hf cx (gz_nh hex) hI (Or.inl (hts _ q1204)) hl.1 (gz_cs (Nat.le_of_ble_eq_true rfl)) (by omega) dX4_among_1 h (fun v1 M1 h H locs cells slots hI => ?_)
  refine lv_iload_n hx hb dX4_among_4 rfl (lv_at hl 1 rfl) ?_
  refine lv_icmp_lt (tgt := 20) hx hb dX4_among_5 rfl (fun hc => ?_) (fun hc => ?_)
  · have h := gz_t h hc
    refine lv_iconst hx hb dX4_among_20 gz_ic_0 ?_
    obtain ⟨hz, h⟩ := g_ifs h
    cases h
    exact gr_zret cx hz hI dX4_among_21
  · have h := gz_f h hc
    refine gr_aload_n hx hb (some (gg_o G)) dX4_among_8 rfl (lv_at hl 0 rfl) ?_
    refine C_X4_look hf cx (gz_nh hex) hI (Or.inl (hts _ q1204)) hl.1 (gz_cs (Nat.le_of_ble_eq_true rfl)) (by omega) dX4_among_9 h (fun v2 M2 h H locs cells slots hI => ?_)
    refine lv_iload_n hx hb dX4_among_12 rfl (lv_at hl 2 rfl) ?_
    refine lv_icmp_gt (tgt := 20) hx hb dX4_among_13 rfl (fun hc => ?_) (fun hc => ?_)
    · have h := gz_t h hc
      refine lv_iconst hx hb dX4_among_20 gz_ic_0 ?_
      obtain ⟨hz, h⟩ := g_ifs h
      cases h
      exact gr_zret cx hz hI dX4_among_21
    · have h := gz_f h hc
      refine lv_iconst hx hb dX4_among_16 gz_ic_1 ?_
      refine lv_goto (tgt := 21) hx hb dX4_among_17 rfl ?_
      obtain ⟨hz, h⟩ := g_ifs h
      cases h
      exact gr_zret cx hz hI dX4_among_21
theorem M_X4_among {l : Launch} {G : gG} {fu d0 : Nat} (hf : gg_f G = true) (hfl : l.flags = flags0) (hD : 3 ≤ d0) {x1 : Int32} {x2 : Int32} {S : gm_S} {M : gM} {o : Outcome} {M2 : gM} (h : F_X4_among fu x1 x2 M = some (o, M2)) : gx_Met l yX4_among (ws_ yX4_among cX4_among 3 (Option.some Jvm.ClassFile.FieldType.boolean)) d0 G (gm_w S M) [va_rf (some (gg_o G)), .int x1, .int x2] o (gm_w S M2) := by
  refine gx_of hfl (by decide) (fun p e s m below meth c cx hnm hex hI => ?_)
  rw [lg_entry_eq]
  exact T_X4_among (r := (o, M2)) hf hD h p e s m _ below meth c _ _ _ _ _ cx hnm (gz_nh0 hex) hI (lv_entry _ (Nat.le_of_ble_eq_true rfl))
theorem C_X4_among {p : Program} {l : Launch} {e : Env} {s : State} {m : MethodId} {args : Array Value} {below : List Frame} {meth : Method} {c : Code} {H : Heap} {locs : List Loc} {cells slots : Nat} {cc : ByteArray} {pc nL : Nat} {ls : Array Slot} {rest : List Value} {G : gG} {S0 S : gm_S} {own : String} {ret : Option FieldType} {d0 index fu : Nat} {M : gM} {x1 : Int32} {x2 : Int32} {k : Int32 → gM → gQ} {r : Outcome × gM} (hf : gg_f G = true) (cx : gx_cx p l s m args meth c G own cc nL ret) (hex : ∀ x ∈ c.exceptionTable.toList, covers x pc = false) (hI : gw_I G S0 (gm_w S M) H locs cells slots) (hl : gl_M own index yX4_among args s) (hlv : ls.size = nL) (hrest : (rest.map fun v => v.category).sum ≤ 8) (hD : 4 ≤ d0) (hdg : decode cc pc = .ok (.invokevirtual index, 3)) (h : gz_cI (F_X4_among fu x1 x2 M) k = some r)
    (kk : ∀ (v : Int32) (z : gM), k v z = some r → ∀ (H : Heap) (locs : List Loc) (cells slots : Nat), gw_I G S0 (gm_w S z) H locs cells slots → W p l e (gx_rm d0 S0) s m args below meth c H locs cells slots (gx_MQ below G S0 (gm_w S r.2) r.1 s) (F0 m (pc + 3) ls (.int v :: rest))) : W p l e (gx_rm d0 S0) s m args below meth c H locs cells slots (gx_MQ below G S0 (gm_w S r.2) r.1 s) (F0 m pc ls (.int x2 :: .int x1 :: va_rf (some (gg_o G)) :: rest)) := by
  have hts := cx.2.2.2.2.1
  have hK := cx.2.2.2.2.2.1
  exact gz_goI (d := d0 - 1) (gm_w S) cx hex hI hlv hrest (by omega) (Nat.le_of_ble_eq_true rfl) (gz_ws (lw_meth q1203) hts) (hts _ q78) (gb_rawV (As := [.int x1, .int x2]) cx hl (hts _ q1202) (hts _ qs30) (gl_C.code (hts _ q1203)) hy_X4_among (gr_recvM hK hI.1 hf) rfl rfl hdg) (fun o S2 e => M_X4_among hf cx.2.2.2.2.2.2.2.2 (by omega) e) h kk
abbrev B_X4_answer (l : Launch) (d0 : Nat) (G : gG) (S0 : gm_S) : Nat → List (Nat × Value) → List Value → gm_S → Outcome → gm_S → Prop := gz_B l RX4 "answer" cX4_answer 2 (Option.some Jvm.ClassFile.FieldType.int) [] d0 G S0
theorem T_X4_answer_13 {l : Launch} {G : gG} {S0 S : gm_S} {d0 fu : Nat} {r : Outcome × gM} (hf : gg_f G = true) (hD : 2 ≤ d0) {s0 : Int32} {M : gM} (h : F_X4_answer_13 fu s0 M = some r) : B_X4_answer l d0 G S0 13 [(0, va_rf (some (gg_o G)))] [.int s0, va_rf (some (gg_o G))] (gm_w S M) r.1 (gm_w S r.2) := by
  unfold F_X4_answer_13 at h
  intro p e s m args below meth c H locs cells slots ls cx hnm hex hI hl
  have hx := cx.1
  have hb := cx.2.1
  have hown := cx.2.2.2.1
  have hts := cx.2.2.2.2.1
  have hK := cx.2.2.2.2.2.1
  obtain ⟨M1, e1, h⟩ := g_bind h
  refine nr_pI cx hf hI 0 rfl rfl rfl (Or.inl (hts _ q992)) e1 dX4_answer_13 (fun H locs hI => ?_)
  refine gr_aload_n hx hb (some (gg_o G)) dX4_answer_16 rfl (lv_at hl 0 rfl) ?_
  refine nr_gI cx hf hI 52 rfl (fun _ => rfl) rfl (Or.inl (hts _ q1044)) dX4_answer_17 ?_
  refine lv_if_eq (tgt := 27) hx hb dX4_answer_20 rfl (fun hc => ?_) (fun hc => ?_)
  · have h := gz_t h hc
    refine gr_aload_n hx hb (some (gg_o G)) dX4_answer_27 rfl (lv_at hl 0 rfl) ?_
    refine nr_gI cx hf hI 51 rfl (fun _ => rfl) rfl (Or.inl (hts _ q1043)) dX4_answer_28 ?_
    cases h
    exact gr_iret cx hI dX4_answer_31
  · have h := gz_f h hc
    refine lv_iconst hx hb dX4_answer_23 gz_ic_0 ?_
    refine lv_goto (tgt := 31) hx hb dX4_answer_24 rfl ?_
    cases h
    exact gr_iret cx hI dX4_answer_31
theorem T_X4_answer {l : Launch} {G : gG} {S0 S : gm_S} {d0 fu : Nat} {r : Outcome × gM} (hf : gg_f G = true) (hD : 2 ≤ d0) {x1 : Int32} {M : gM} (h : F_X4_answer fu x1 M = some r) : B_X4_answer l d0 G S0 0 [(0, va_rf (some (gg_o G))), (1, .int x1)] [] (gm_w S M) r.1 (gm_w S r.2) := by
  unfold F_X4_answer at h
  intro p e s m args below meth c H locs cells slots ls cx hnm hex hI hl
  have hx := cx.1
  have hb := cx.2.1
  have hown := cx.2.2.2.1
  have hts := cx.2.2.2.2.1
  have hK := cx.2.2.2.2.2.1
  refine gr_aload_n hx hb (some (gg_o G)) dX4_answer_0 rfl (lv_at hl 0 rfl) ?_
  refine gr_aload_n hx hb (some (gg_o G)) dX4_answer_1 rfl (lv_at hl 0 rfl) ?_
  refine nr_gI cx hf hI 52 rfl (fun _ => rfl) rfl (Or.inl (hts _ q1044)) dX4_answer_2 ?_
  refine lv_if_eq (tgt := 12) hx hb dX4_answer_5 rfl (fun hc => ?_) (fun hc => ?_)
  · have h := gz_t h hc
    refine lv_iconst hx hb dX4_answer_12 gz_ic_0 ?_
    exact T_X4_answer_13 hf hD h p e s m args below meth c H locs cells slots ls cx hnm hex hI (lv_sub hl [0] rfl)
  · have h := gz_f h hc
    refine lv_iload_n hx hb dX4_answer_8 rfl (lv_at hl 1 rfl) ?_
    refine lv_goto (tgt := 13) hx hb dX4_answer_9 rfl ?_
    exact T_X4_answer_13 hf hD h p e s m args below meth c H locs cells slots ls cx hnm hex hI (lv_sub hl [0] rfl)
theorem M_X4_answer {l : Launch} {G : gG} {fu d0 : Nat} (hf : gg_f G = true) (hfl : l.flags = flags0) (hD : 2 ≤ d0) {x1 : Int32} {S : gm_S} {M : gM} {o : Outcome} {M2 : gM} (h : F_X4_answer fu x1 M = some (o, M2)) : gx_Met l yX4_answer (ws_ yX4_answer cX4_answer 2 (Option.some Jvm.ClassFile.FieldType.int)) d0 G (gm_w S M) [va_rf (some (gg_o G)), .int x1] o (gm_w S M2) := by
  refine gx_of hfl (by decide) (fun p e s m below meth c cx hnm hex hI => ?_)
  rw [lg_entry_eq]
  exact T_X4_answer (r := (o, M2)) hf hD h p e s m _ below meth c _ _ _ _ _ cx hnm (gz_nh0 hex) hI (lv_entry _ (Nat.le_of_ble_eq_true rfl))
theorem C_X4_answer {p : Program} {l : Launch} {e : Env} {s : State} {m : MethodId} {args : Array Value} {below : List Frame} {meth : Method} {c : Code} {H : Heap} {locs : List Loc} {cells slots : Nat} {cc : ByteArray} {pc nL : Nat} {ls : Array Slot} {rest : List Value} {G : gG} {S0 S : gm_S} {own : String} {ret : Option FieldType} {d0 index fu : Nat} {M : gM} {x1 : Int32} {k : Int32 → gM → gQ} {r : Outcome × gM} (hf : gg_f G = true) (cx : gx_cx p l s m args meth c G own cc nL ret) (hex : ∀ x ∈ c.exceptionTable.toList, covers x pc = false) (hI : gw_I G S0 (gm_w S M) H locs cells slots) (hl : gl_M own index yX4_answer args s) (hlv : ls.size = nL) (hrest : (rest.map fun v => v.category).sum ≤ 8) (hD : 3 ≤ d0) (hdg : decode cc pc = .ok (.invokevirtual index, 3)) (h : gz_cI (F_X4_answer fu x1 M) k = some r)
    (kk : ∀ (v : Int32) (z : gM), k v z = some r → ∀ (H : Heap) (locs : List Loc) (cells slots : Nat), gw_I G S0 (gm_w S z) H locs cells slots → W p l e (gx_rm d0 S0) s m args below meth c H locs cells slots (gx_MQ below G S0 (gm_w S r.2) r.1 s) (F0 m (pc + 3) ls (.int v :: rest))) : W p l e (gx_rm d0 S0) s m args below meth c H locs cells slots (gx_MQ below G S0 (gm_w S r.2) r.1 s) (F0 m pc ls (.int x1 :: va_rf (some (gg_o G)) :: rest)) := by
  have hts := cx.2.2.2.2.1
  have hK := cx.2.2.2.2.2.1
  exact gz_goI (d := d0 - 1) (gm_w S) cx hex hI hlv hrest (by omega) (Nat.le_of_ble_eq_true rfl) (gz_ws (lw_meth q1362) hts) (hts _ q78) (gb_rawV (As := [.int x1]) cx hl (hts _ q1361) (hts _ qs67) (gl_C.code (hts _ q1362)) hy_X4_answer (gr_recvM hK hI.1 hf) rfl rfl hdg) (fun o S2 e => M_X4_answer hf cx.2.2.2.2.2.2.2.2 (by omega) e) h kk
abbrev B_X4_findNames (l : Launch) (d0 : Nat) (G : gG) (S0 : gm_S) : Nat → List (Nat × Value) → List Value → gm_S → Outcome → gm_S → Prop := gz_B l RX4 "findNames" cX4_findNames 3 (Option.none : Option Jvm.ClassFile.FieldType) [] d0 G S0
theorem T_X4_findNames_101 {l : Launch} {G : gG} {S0 S : gm_S} {d0 fu : Nat} {k8 : Int32 → gM → gQ} {r : Outcome × gM} (hf : gg_f G = true) (hD : 2 ≤ d0)
    (hk8 : ∀ (x1 : Int32) (M : gM), k8 x1 M = some r → B_X4_findNames l d0 G S0 8 [(0, va_rf (some (gg_o G))), (1, .int x1)] [] (gm_w S M) r.1 (gm_w S r.2)) {x1 : Int32} {x2 : Int32} {M : gM} (h : F_X4_findNames_101 fu k8 x1 x2 M = some r) : B_X4_findNames l d0 G S0 101 [(0, va_rf (some (gg_o G))), (1, .int x1), (2, .int x2)] [] (gm_w S M) r.1 (gm_w S r.2) := by
  unfold F_X4_findNames_101 at h
  intro p e s m args below meth c H locs cells slots ls cx hnm hex hI hl
  have hx := cx.1
  have hb := cx.2.1
  have hown := cx.2.2.2.1
  have hts := cx.2.2.2.2.1
  have hK := cx.2.2.2.2.2.1
  refine gr_aload_n hx hb (some (gg_o G)) dX4_findNames_101 rfl (lv_at hl 0 rfl) ?_
  refine gr_mgA cx hf hI 23 rfl rfl (Or.inl (hts _ q1015)) dX4_findNames_102 ?_
  refine lv_iload_n hx hb dX4_findNames_105 rfl (lv_at hl 1 rfl) ?_
  refine lv_iload_n hx hb dX4_findNames_106 rfl (lv_at hl 2 rfl) ?_
  obtain ⟨M2, e2, h⟩ := g_bind h
  refine gr_miast cx hf hI 23 rfl rfl rfl (nr_sI e2) dX4_findNames_107 (fun H locs hI => ?_)
  refine gz_iinc (k := 1) (v := (x1 + (1 : Int32))) hx hb dX4_findNames_108 hl rfl (congrArg (fun z => x1 + z) gz_ic_1) (by decide) [0] rfl (gz_con ⟨gz_ne rfl, Or.inr (gl_cat (some (gg_o G)))⟩ gz_nil) (fun ls hl => ?_)
  refine lv_goto (tgt := 8) hx hb dX4_findNames_111 rfl ?_
  exact hk8 _ _ h p e s m args below meth c H locs cells slots ls cx hnm hex hI (lv_sub hl [1, 0] rfl)
theorem T_X4_findNames_86 {l : Launch} {G : gG} {S0 S : gm_S} {d0 fu : Nat} {k8 : Int32 → gM → gQ} {r : Outcome × gM} (hf : gg_f G = true) (hD : 2 ≤ d0)
    (hk8 : ∀ (x1 : Int32) (M : gM), k8 x1 M = some r → B_X4_findNames l d0 G S0 8 [(0, va_rf (some (gg_o G))), (1, .int x1)] [] (gm_w S M) r.1 (gm_w S r.2)) {x1 : Int32} {x2 : Int32} {M : gM} (h : F_X4_findNames_86 fu k8 x1 x2 M = some r) : B_X4_findNames l d0 G S0 86 [(0, va_rf (some (gg_o G))), (1, .int x1), (2, .int x2)] [] (gm_w S M) r.1 (gm_w S r.2) := by
  unfold F_X4_findNames_86 at h
  intro p e s m args below meth c H locs cells slots ls cx hnm hex hI hl
  have hx := cx.1
  have hb := cx.2.1
  have hown := cx.2.2.2.1
  have hts := cx.2.2.2.2.1
  have hK := cx.2.2.2.2.2.1
  refine gr_aload_n hx hb (some (gg_o G)) dX4_findNames_86 rfl (lv_at hl 0 rfl) ?_
  refine lv_iconst hx hb dX4_findNames_87 gz_ic_1 ?_
  obtain ⟨M1, e1, h⟩ := g_bind h
  refine nr_pZ cx hf hI 5 rfl rfl rfl (Or.inl (hts _ q997)) e1 dX4_findNames_88 (fun H locs hI => ?_)
  refine gr_aload_n hx hb (some (gg_o G)) dX4_findNames_91 rfl (lv_at hl 0 rfl) ?_
  refine gr_aload_n hx hb (some (gg_o G)) dX4_findNames_92 rfl (lv_at hl 0 rfl) ?_
  refine gr_mgA cx hf hI 24 rfl rfl (Or.inl (hts _ q1016)) dX4_findNames_93 ?_
  refine lv_iload_n hx hb dX4_findNames_96 rfl (lv_at hl 1 rfl) ?_
  obtain ⟨v3, e3, h⟩ := g_bind h
  refine gr_miald cx hf hI 24 rfl rfl rfl (nr_aI e3) dX4_findNames_97 ?_
  obtain ⟨M4, e4, h⟩ := g_bind h
  refine nr_pI cx hf hI 4 rfl rfl rfl (Or.inl (hts _ q996)) e4 dX4_findNames_98 (fun H locs hI => ?_)
  exact T_X4_findNames_101 hf hD hk8 h p e s m args below meth c H locs cells slots ls cx hnm hex hI hl
theorem T_X4_findNames_8 {l : Launch} {G : gG} {S0 S : gm_S} {d0 fu : Nat} {r : Outcome × gM} (hf : gg_f G = true) (hD : 2 ≤ d0) : ∀ (n : Nat) (x1 : Int32) (M : gM), F_X4_findNames_8 fu n x1 M = some r → B_X4_findNames l d0 G S0 8 [(0, va_rf (some (gg_o G))), (1, .int x1)] [] (gm_w S M) r.1 (gm_w S r.2) := by
  intro n
  induction n with
  | zero => intro x1 M h; exact nomatch (show (none : gQ) = some r from h)
  | succ n ih =>
    intro x1 M h
    rw [F_X4_findNames_8] at h
    intro p e s m args below meth c H locs cells slots ls cx hnm hex hI hl
    have hx := cx.1
    have hb := cx.2.1
    have hown := cx.2.2.2.1
    have hts := cx.2.2.2.2.1
    have hK := cx.2.2.2.2.2.1
    refine lv_iload_n hx hb dX4_findNames_8 rfl (lv_at hl 1 rfl) ?_
    refine lv_bipush hx hb dX4_findNames_9 gz_bp_64 ?_
    refine gr_aload_n hx hb (some (gg_o G)) dX4_findNames_11 rfl (lv_at hl 0 rfl) ?_
    refine nr_gI cx hf hI 8 rfl (fun _ => rfl) rfl (Or.inl (hts _ q1000)) dX4_findNames_12 ?_
    refine lv_imul hx hb dX4_findNames_15 ?_
    refine gr_aload_n hx hb (some (gg_o G)) dX4_findNames_16 rfl (lv_at hl 0 rfl) ?_
    refine gr_mgA cx hf hI 13 rfl rfl (Or.inl (hts _ q1005)) dX4_findNames_17 ?_
    refine gr_aload_n hx hb (some (gg_o G)) dX4_findNames_20 rfl (lv_at hl 0 rfl) ?_
    refine nr_gI cx hf hI 8 rfl (fun _ => rfl) rfl (Or.inl (hts _ q1000)) dX4_findNames_21 ?_
    obtain ⟨v4, e4, h⟩ := g_bind h
    refine gr_miald cx hf hI 13 rfl rfl rfl (nr_aI e4) dX4_findNames_24 ?_
    refine lv_iadd hx hb dX4_findNames_25 ?_
    refine lv_icmp_ge (tgt := 114) hx hb dX4_findNames_26 rfl (fun hc => ?_) (fun hc => ?_)
    · have h := gz_t h hc
      cases h
      exact gr_vret cx hI dX4_findNames_114
    · have h := gz_f h hc
      refine gr_aload_n hx hb (some (gg_o G)) dX4_findNames_29 rfl (lv_at hl 0 rfl) ?_
      refine nr_gI cx hf hI 5 rfl (fun _ => rfl) rfl (Or.inl (hts _ q997)) dX4_findNames_30 ?_
      refine lv_if_ne (tgt := 114) hx hb dX4_findNames_33 rfl (fun hc => ?_) (fun hc => ?_)
      · have h := gz_f h hc
        cases h
        exact gr_vret cx hI dX4_findNames_114
      · have h := gz_t h hc
        refine gr_aload_n hx hb (some (gg_o G)) dX4_findNames_36 rfl (lv_at hl 0 rfl) ?_
        refine gr_mgA cx hf hI 17 rfl rfl (Or.inl (hts _ q1009)) dX4_findNames_37 ?_
        refine lv_bipush hx hb dX4_findNames_40 gz_bp_16 ?_
        refine gr_aload_n hx hb (some (gg_o G)) dX4_findNames_42 rfl (lv_at hl 0 rfl) ?_
        refine nr_gI cx hf hI 8 rfl (fun _ => rfl) rfl (Or.inl (hts _ q1000)) dX4_findNames_43 ?_
        refine lv_imul hx hb dX4_findNames_46 ?_
        refine gr_aload_n hx hb (some (gg_o G)) dX4_findNames_47 rfl (lv_at hl 0 rfl) ?_
        refine gr_mgA cx hf hI 23 rfl rfl (Or.inl (hts _ q1015)) dX4_findNames_48 ?_
        refine lv_iload_n hx hb dX4_findNames_51 rfl (lv_at hl 1 rfl) ?_
        obtain ⟨v9, e9, h⟩ := g_bind h
        refine gr_miald cx hf hI 23 rfl rfl rfl (nr_aI e9) dX4_findNames_52 ?_
        refine lv_iadd hx hb dX4_findNames_53 ?_
        obtain ⟨v10, e10, h⟩ := g_bind h
        refine gr_miald cx hf hI 17 rfl rfl rfl (nr_aI e10) dX4_findNames_54 ?_
        refine gz_istore_n hx hb dX4_findNames_55 rfl hl (by decide) [0, 1] rfl (gz_con ⟨gz_ne rfl, Or.inl (gz_ne rfl)⟩ (gz_con ⟨gz_ne rfl, Or.inr rfl⟩ gz_nil)) (fun ls hl => ?_)
        refine lv_iload_n hx hb dX4_findNames_56 rfl (lv_at hl 0 rfl) ?_
        refine lv_if_lt (tgt := 86) hx hb dX4_findNames_57 rfl (fun hc => ?_) (fun hc => ?_)
        · have h := gz_t h hc
          exact T_X4_findNames_86 hf hD ih h p e s m args below meth c H locs cells slots ls cx hnm hex hI (lv_sub hl [1, 2, 0] rfl)
        · have h := gz_f h hc
          refine gr_aload_n hx hb (some (gg_o G)) dX4_findNames_60 rfl (lv_at hl 1 rfl) ?_
          refine gr_mgA cx hf hI 25 rfl rfl (Or.inl (hts _ q1017)) dX4_findNames_61 ?_
          refine lv_iload_n hx hb dX4_findNames_64 rfl (lv_at hl 2 rfl) ?_
          obtain ⟨v12, e12, h⟩ := g_bind h
          refine gr_miald cx hf hI 25 rfl rfl rfl (nr_aI e12) dX4_findNames_65 ?_
          refine lv_if_le (tgt := 101) hx hb dX4_findNames_66 rfl (fun hc => ?_) (fun hc => ?_)
          · have h := gz_t h hc
            exact T_X4_findNames_101 hf hD ih h p e s m args below meth c H locs cells slots ls cx hnm hex hI (lv_sub hl [1, 2, 0] rfl)
          · have h := gz_f h hc
            refine gr_aload_n hx hb (some (gg_o G)) dX4_findNames_69 rfl (lv_at hl 1 rfl) ?_
            refine gr_mgA cx hf hI 14 rfl rfl (Or.inl (hts _ q1006)) dX4_findNames_70 ?_
            refine lv_bipush hx hb dX4_findNames_73 gz_bp_16 ?_
            refine gr_aload_n hx hb (some (gg_o G)) dX4_findNames_75 rfl (lv_at hl 1 rfl) ?_
            refine nr_gI cx hf hI 8 rfl (fun _ => rfl) rfl (Or.inl (hts _ q1000)) dX4_findNames_76 ?_
            refine lv_imul hx hb dX4_findNames_79 ?_
            refine lv_iload_n hx hb dX4_findNames_80 rfl (lv_at hl 0 rfl) ?_
            refine lv_iadd hx hb dX4_findNames_81 ?_
            obtain ⟨v15, e15, h⟩ := g_bind h
            refine gr_miald cx hf hI 14 rfl rfl rfl (nr_aI e15) dX4_findNames_82 ?_
            refine lv_if_ne (tgt := 101) hx hb dX4_findNames_83 rfl (fun hc => ?_) (fun hc => ?_)
            · have h := gz_f h hc
              exact T_X4_findNames_101 hf hD ih h p e s m args below meth c H locs cells slots ls cx hnm hex hI (lv_sub hl [1, 2, 0] rfl)
            · have h := gz_t h hc
              exact T_X4_findNames_86 hf hD ih h p e s m args below meth c H locs cells slots ls cx hnm hex hI (lv_sub hl [1, 2, 0] rfl)
theorem T_X4_findNames {l : Launch} {G : gG} {S0 S : gm_S} {d0 fu : Nat} {r : Outcome × gM} (hf : gg_f G = true) (hD : 2 ≤ d0)  {M : gM} (h : F_X4_findNames fu  M = some r) : B_X4_findNames l d0 G S0 0 [(0, va_rf (some (gg_o G)))] [] (gm_w S M) r.1 (gm_w S r.2) := by
  unfold F_X4_findNames at h
  intro p e s m args below meth c H locs cells slots ls cx hnm hex hI hl
  have hx := cx.1
  have hb := cx.2.1
  have hown := cx.2.2.2.1
  have hts := cx.2.2.2.2.1
  have hK := cx.2.2.2.2.2.1
  refine lv_bipush hx hb dX4_findNames_0 gz_bp_64 ?_
  refine gr_aload_n hx hb (some (gg_o G)) dX4_findNames_2 rfl (lv_at hl 0 rfl) ?_
  refine nr_gI cx hf hI 8 rfl (fun _ => rfl) rfl (Or.inl (hts _ q1000)) dX4_findNames_3 ?_
  refine lv_imul hx hb dX4_findNames_6 ?_
  refine gz_istore_n hx hb dX4_findNames_7 rfl hl (by decide) [0] rfl (gz_con ⟨gz_ne rfl, Or.inr (gl_cat (some (gg_o G)))⟩ gz_nil) (fun ls hl => ?_)
  exact T_X4_findNames_8 hf hD fu _ _ h p e s m args below meth c H locs cells slots ls cx hnm hex hI (lv_sub hl [1, 0] rfl)
theorem M_X4_findNames {l : Launch} {G : gG} {fu d0 : Nat} (hf : gg_f G = true) (hfl : l.flags = flags0) (hD : 2 ≤ d0)  {S : gm_S} {M : gM} {o : Outcome} {M2 : gM} (h : F_X4_findNames fu  M = some (o, M2)) : gx_Met l yX4_findNames (ws_ yX4_findNames cX4_findNames 3 (Option.none : Option Jvm.ClassFile.FieldType)) d0 G (gm_w S M) [va_rf (some (gg_o G))] o (gm_w S M2) := by
  refine gx_of hfl (by decide) (fun p e s m below meth c cx hnm hex hI => ?_)
  rw [lg_entry_eq]
  exact T_X4_findNames (r := (o, M2)) hf hD h p e s m _ below meth c _ _ _ _ _ cx hnm (gz_nh0 hex) hI (lv_entry _ (Nat.le_of_ble_eq_true rfl))
theorem C_X4_findNames {p : Program} {l : Launch} {e : Env} {s : State} {m : MethodId} {args : Array Value} {below : List Frame} {meth : Method} {c : Code} {H : Heap} {locs : List Loc} {cells slots : Nat} {cc : ByteArray} {pc nL : Nat} {ls : Array Slot} {rest : List Value} {G : gG} {S0 S : gm_S} {own : String} {ret : Option FieldType} {d0 index fu : Nat} {M : gM}  {k : gM → gQ} {r : Outcome × gM} (hf : gg_f G = true) (cx : gx_cx p l s m args meth c G own cc nL ret) (hex : ∀ x ∈ c.exceptionTable.toList, covers x pc = false) (hI : gw_I G S0 (gm_w S M) H locs cells slots) (hl : gl_M own index yX4_findNames args s) (hlv : ls.size = nL) (hrest : (rest.map fun v => v.category).sum ≤ 8) (hD : 3 ≤ d0) (hdg : decode cc pc = .ok (.invokevirtual index, 3)) (h : gz_cV (F_X4_findNames fu  M) k = some r)
    (kk : ∀ (z : gM), k z = some r → ∀ (H : Heap) (locs : List Loc) (cells slots : Nat), gw_I G S0 (gm_w S z) H locs cells slots → W p l e (gx_rm d0 S0) s m args below meth c H locs cells slots (gx_MQ below G S0 (gm_w S r.2) r.1 s) (F0 m (pc + 3) ls rest)) : W p l e (gx_rm d0 S0) s m args below meth c H locs cells slots (gx_MQ below G S0 (gm_w S r.2) r.1 s) (F0 m pc ls (va_rf (some (gg_o G)) :: rest)) := by
  have hts := cx.2.2.2.2.1
  have hK := cx.2.2.2.2.2.1
  exact gz_goV (d := d0 - 1) (gm_w S) cx hex hI hlv hrest (by omega) (Nat.le_of_ble_eq_true rfl) (gz_ws (lw_meth q1260) hts) (hts _ q78) (gb_rawV (As := []) cx hl (hts _ q1259) (hts _ qs44) (gl_C.code (hts _ q1260)) hy_X4_findNames (gr_recvM hK hI.1 hf) rfl rfl hdg) (fun o S2 e => M_X4_findNames hf cx.2.2.2.2.2.2.2.2 (by omega) e) h kk
abbrev B_X4_forget (l : Launch) (d0 : Nat) (G : gG) (S0 : gm_S) : Nat → List (Nat × Value) → List Value → gm_S → Outcome → gm_S → Prop := gz_B l RX4 "forget" cX4_forget 2 (Option.none : Option Jvm.ClassFile.FieldType) [] d0 G S0
theorem T_X4_forget_23 {l : Launch} {G : gG} {S0 S : gm_S} {d0 fu : Nat} {r : Outcome × gM} (hf : gg_f G = true) (hD : 2 ≤ d0) : ∀ (n : Nat) (x1 : Int32) (M : gM), F_X4_forget_23 fu n x1 M = some r → B_X4_forget l d0 G S0 23 [(0, va_rf (some (gg_o G))), (1, .int x1)] [] (gm_w S M) r.1 (gm_w S r.2) := by
  intro n
  induction n with
  | zero => intro x1 M h; exact nomatch (show (none : gQ) = some r from h)
  | succ n ih =>
    intro x1 M h
    rw [F_X4_forget_23] at h
    intro p e s m args below meth c H locs cells slots ls cx hnm hex hI hl
    have hx := cx.1
    have hb := cx.2.1
    have hown := cx.2.2.2.1
    have hts := cx.2.2.2.2.1
    have hK := cx.2.2.2.2.2.1
    refine lv_iload_n hx hb dX4_forget_23 rfl (lv_at hl 1 rfl) ?_
    refine lv_bipush hx hb dX4_forget_24 gz_bp_16 ?_
    refine lv_icmp_ge (tgt := 49) hx hb dX4_forget_26 rfl (fun hc => ?_) (fun hc => ?_)
    · have h := gz_t h hc
      refine gr_aload_n hx hb (some (gg_o G)) dX4_forget_49 rfl (lv_at hl 0 rfl) ?_
      refine lv_iconst hx hb dX4_forget_50 gz_ic_0 ?_
      obtain ⟨M1, e1, h⟩ := g_bind h
      refine nr_pI cx hf hI 45 rfl rfl rfl (Or.inl (hts _ q1037)) e1 dX4_forget_51 (fun H locs hI => ?_)
      refine gr_aload_n hx hb (some (gg_o G)) dX4_forget_54 rfl (lv_at hl 0 rfl) ?_
      refine lv_iconst hx hb dX4_forget_55 gz_ic_0 ?_
      obtain ⟨M2, e2, h⟩ := g_bind h
      refine nr_pI cx hf hI 47 rfl rfl rfl (Or.inl (hts _ q1039)) e2 dX4_forget_56 (fun H locs hI => ?_)
      refine gr_aload_n hx hb (some (gg_o G)) dX4_forget_59 rfl (lv_at hl 0 rfl) ?_
      refine lv_iconst hx hb dX4_forget_60 gz_ic_0 ?_
      obtain ⟨M3, e3, h⟩ := g_bind h
      refine nr_pI cx hf hI 50 rfl rfl rfl (Or.inl (hts _ q1042)) e3 dX4_forget_61 (fun H locs hI => ?_)
      cases h
      exact gr_vret cx hI dX4_forget_64
    · have h := gz_f h hc
      refine gr_aload_n hx hb (some (gg_o G)) dX4_forget_29 rfl (lv_at hl 0 rfl) ?_
      refine gr_mgA cx hf hI 43 rfl rfl (Or.inl (hts _ q1035)) dX4_forget_30 ?_
      refine lv_iload_n hx hb dX4_forget_33 rfl (lv_at hl 1 rfl) ?_
      refine lv_iconst hx hb dX4_forget_34 gz_ic_0 ?_
      obtain ⟨M5, e5, h⟩ := g_bind h
      refine gr_miast cx hf hI 43 rfl rfl rfl (nr_sI e5) dX4_forget_35 (fun H locs hI => ?_)
      refine gr_aload_n hx hb (some (gg_o G)) dX4_forget_36 rfl (lv_at hl 0 rfl) ?_
      refine gr_mgA cx hf hI 44 rfl rfl (Or.inl (hts _ q1036)) dX4_forget_37 ?_
      refine lv_iload_n hx hb dX4_forget_40 rfl (lv_at hl 1 rfl) ?_
      refine lv_iconst hx hb dX4_forget_41 gz_ic_0 ?_
      obtain ⟨M7, e7, h⟩ := g_bind h
      refine gr_miast cx hf hI 44 rfl rfl rfl (nr_sI e7) dX4_forget_42 (fun H locs hI => ?_)
      refine gz_iinc (k := 1) (v := (x1 + (1 : Int32))) hx hb dX4_forget_43 hl rfl (congrArg (fun z => x1 + z) gz_ic_1) (by decide) [0] rfl (gz_con ⟨gz_ne rfl, Or.inr (gl_cat (some (gg_o G)))⟩ gz_nil) (fun ls hl => ?_)
      refine lv_goto (tgt := 23) hx hb dX4_forget_46 rfl ?_
      exact ih _ _ h p e s m args below meth c H locs cells slots ls cx hnm hex hI (lv_sub hl [1, 0] rfl)
theorem T_X4_forget_2 {l : Launch} {G : gG} {S0 S : gm_S} {d0 fu : Nat} {r : Outcome × gM} (hf : gg_f G = true) (hD : 2 ≤ d0) : ∀ (n : Nat) (x1 : Int32) (M : gM), F_X4_forget_2 fu n x1 M = some r → B_X4_forget l d0 G S0 2 [(0, va_rf (some (gg_o G))), (1, .int x1)] [] (gm_w S M) r.1 (gm_w S r.2) := by
  intro n
  induction n with
  | zero => intro x1 M h; exact nomatch (show (none : gQ) = some r from h)
  | succ n ih =>
    intro x1 M h
    rw [F_X4_forget_2] at h
    intro p e s m args below meth c H locs cells slots ls cx hnm hex hI hl
    have hx := cx.1
    have hb := cx.2.1
    have hown := cx.2.2.2.1
    have hts := cx.2.2.2.2.1
    have hK := cx.2.2.2.2.2.1
    refine lv_iload_n hx hb dX4_forget_2 rfl (lv_at hl 1 rfl) ?_
    refine lv_bipush hx hb dX4_forget_3 gz_bp_6 ?_
    refine lv_icmp_ge (tgt := 21) hx hb dX4_forget_5 rfl (fun hc => ?_) (fun hc => ?_)
    · have h := gz_t h hc
      refine lv_iconst hx hb dX4_forget_21 gz_ic_0 ?_
      refine gz_istore_n hx hb dX4_forget_22 rfl hl (by decide) [0] rfl (gz_con ⟨gz_ne rfl, Or.inr (gl_cat (some (gg_o G)))⟩ gz_nil) (fun ls hl => ?_)
      exact T_X4_forget_23 hf hD fu _ _ h p e s m args below meth c H locs cells slots ls cx hnm hex hI (lv_sub hl [1, 0] rfl)
    · have h := gz_f h hc
      refine gr_aload_n hx hb (some (gg_o G)) dX4_forget_8 rfl (lv_at hl 0 rfl) ?_
      refine gr_mgA cx hf hI 42 rfl rfl (Or.inl (hts _ q1034)) dX4_forget_9 ?_
      refine lv_iload_n hx hb dX4_forget_12 rfl (lv_at hl 1 rfl) ?_
      refine lv_dconst0 hx hb dX4_forget_13 ?_
      obtain ⟨M2, e2, h⟩ := g_bind h
      refine gr_mdast cx hf hI 42 rfl rfl rfl (nr_sD e2) dX4_forget_14 (fun H locs hI => ?_)
      refine gz_iinc (k := 1) (v := (x1 + (1 : Int32))) hx hb dX4_forget_15 hl rfl (congrArg (fun z => x1 + z) gz_ic_1) (by decide) [0] rfl (gz_con ⟨gz_ne rfl, Or.inr (gl_cat (some (gg_o G)))⟩ gz_nil) (fun ls hl => ?_)
      refine lv_goto (tgt := 2) hx hb dX4_forget_18 rfl ?_
      exact ih _ _ h p e s m args below meth c H locs cells slots ls cx hnm hex hI (lv_sub hl [1, 0] rfl)
theorem T_X4_forget {l : Launch} {G : gG} {S0 S : gm_S} {d0 fu : Nat} {r : Outcome × gM} (hf : gg_f G = true) (hD : 2 ≤ d0)  {M : gM} (h : F_X4_forget fu  M = some r) : B_X4_forget l d0 G S0 0 [(0, va_rf (some (gg_o G)))] [] (gm_w S M) r.1 (gm_w S r.2) := by
  unfold F_X4_forget at h
  intro p e s m args below meth c H locs cells slots ls cx hnm hex hI hl
  have hx := cx.1
  have hb := cx.2.1
  have hown := cx.2.2.2.1
  have hts := cx.2.2.2.2.1
  have hK := cx.2.2.2.2.2.1
  refine lv_iconst hx hb dX4_forget_0 gz_ic_0 ?_
  refine gz_istore_n hx hb dX4_forget_1 rfl hl (by decide) [0] rfl (gz_con ⟨gz_ne rfl, Or.inr (gl_cat (some (gg_o G)))⟩ gz_nil) (fun ls hl => ?_)
  exact T_X4_forget_2 hf hD fu _ _ h p e s m args below meth c H locs cells slots ls cx hnm hex hI (lv_sub hl [1, 0] rfl)
theorem M_X4_forget {l : Launch} {G : gG} {fu d0 : Nat} (hf : gg_f G = true) (hfl : l.flags = flags0) (hD : 2 ≤ d0)  {S : gm_S} {M : gM} {o : Outcome} {M2 : gM} (h : F_X4_forget fu  M = some (o, M2)) : gx_Met l yX4_forget (ws_ yX4_forget cX4_forget 2 (Option.none : Option Jvm.ClassFile.FieldType)) d0 G (gm_w S M) [va_rf (some (gg_o G))] o (gm_w S M2) := by
  refine gx_of hfl (by decide) (fun p e s m below meth c cx hnm hex hI => ?_)
  rw [lg_entry_eq]
  exact T_X4_forget (r := (o, M2)) hf hD h p e s m _ below meth c _ _ _ _ _ cx hnm (gz_nh0 hex) hI (lv_entry _ (Nat.le_of_ble_eq_true rfl))
theorem C_X4_forget {p : Program} {l : Launch} {e : Env} {s : State} {m : MethodId} {args : Array Value} {below : List Frame} {meth : Method} {c : Code} {H : Heap} {locs : List Loc} {cells slots : Nat} {cc : ByteArray} {pc nL : Nat} {ls : Array Slot} {rest : List Value} {G : gG} {S0 S : gm_S} {own : String} {ret : Option FieldType} {d0 index fu : Nat} {M : gM}  {k : gM → gQ} {r : Outcome × gM} (hf : gg_f G = true) (cx : gx_cx p l s m args meth c G own cc nL ret) (hex : ∀ x ∈ c.exceptionTable.toList, covers x pc = false) (hI : gw_I G S0 (gm_w S M) H locs cells slots) (hl : gl_M own index yX4_forget args s) (hlv : ls.size = nL) (hrest : (rest.map fun v => v.category).sum ≤ 8) (hD : 3 ≤ d0) (hdg : decode cc pc = .ok (.invokevirtual index, 3)) (h : gz_cV (F_X4_forget fu  M) k = some r)
    (kk : ∀ (z : gM), k z = some r → ∀ (H : Heap) (locs : List Loc) (cells slots : Nat), gw_I G S0 (gm_w S z) H locs cells slots → W p l e (gx_rm d0 S0) s m args below meth c H locs cells slots (gx_MQ below G S0 (gm_w S r.2) r.1 s) (F0 m (pc + 3) ls rest)) : W p l e (gx_rm d0 S0) s m args below meth c H locs cells slots (gx_MQ below G S0 (gm_w S r.2) r.1 s) (F0 m pc ls (va_rf (some (gg_o G)) :: rest)) := by
  have hts := cx.2.2.2.2.1
  have hK := cx.2.2.2.2.2.1
  exact gz_goV (d := d0 - 1) (gm_w S) cx hex hI hlv hrest (by omega) (Nat.le_of_ble_eq_true rfl) (gz_ws (lw_meth q1264) hts) (hts _ q78) (gb_rawV (As := []) cx hl (hts _ q1263) (hts _ qs45) (gl_C.code (hts _ q1264)) hy_X4_forget (gr_recvM hK hI.1 hf) rfl rfl hdg) (fun o S2 e => M_X4_forget hf cx.2.2.2.2.2.2.2.2 (by omega) e) h kk
