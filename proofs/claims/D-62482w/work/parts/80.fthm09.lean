/-! LAYER 1 (printed): contracts -/
set_option maxRecDepth 100000
abbrev B_X4_innerOf (l : Launch) (d0 : Nat) (G : gG) (S0 : gm_S) : Nat → List (Nat × Value) → List Value → gm_S → Outcome → gm_S → Prop := gz_B l RX4 "innerOf" cX4_innerOf 4 (Option.some Jvm.ClassFile.FieldType.int) [] d0 G S0
theorem T_X4_innerOf_4 {l : Launch} {G : gG} {S0 S : gm_S} {d0 fu : Nat} {r : Outcome × gM} (hf : gg_f G = true) (hD : 2 ≤ d0) : ∀ (n : Nat) (x1 : Int32) (x2 : Int32) (x3 : Int32) (M : gM), F_X4_innerOf_4 fu n x1 x2 x3 M = some r → B_X4_innerOf l d0 G S0 4 [(0, va_rf (some (gg_o G))), (1, .int x1), (2, .int x2), (3, .int x3)] [] (gm_w S M) r.1 (gm_w S r.2) := by
  intro n
  induction n with
  | zero => intro x1 x2 x3 M h; exact nomatch (show (none : gQ) = some r from h)
  | succ n ih =>
    intro x1 x2 x3 M h
    rw [F_X4_innerOf_4] at h
    intro p e s m args below meth c H locs cells slots ls cx hnm hex hI hl
    have hx := cx.1
    have hb := cx.2.1
    have hown := cx.2.2.2.1
    have hts := cx.2.2.2.2.1
    have hK := cx.2.2.2.2.2.1
    refine lv_iload_n hx hb dX4_innerOf_4 rfl (lv_at hl 3 rfl) ?_
    refine gr_aload_n hx hb (some (gg_o G)) dX4_innerOf_5 rfl (lv_at hl 0 rfl) ?_
    refine gr_mgA cx hf hI 9 rfl rfl (Or.inl (hts _ q1001)) dX4_innerOf_6 ?_
    refine gr_aload_n hx hb (some (gg_o G)) dX4_innerOf_9 rfl (lv_at hl 0 rfl) ?_
    refine nr_gI cx hf hI 8 rfl (fun _ => rfl) rfl (Or.inl (hts _ q1000)) dX4_innerOf_10 ?_
    obtain ⟨v3, e3, h⟩ := g_bind h
    refine gr_miald cx hf hI 9 rfl rfl rfl (nr_aI e3) dX4_innerOf_13 ?_
    refine lv_icmp_ge (tgt := 44) hx hb dX4_innerOf_14 rfl (fun hc => ?_) (fun hc => ?_)
    · have h := gz_t h hc
      refine lv_iload_n hx hb dX4_innerOf_44 rfl (lv_at hl 2 rfl) ?_
      cases h
      exact gr_iret cx hI dX4_innerOf_45
    · have h := gz_f h hc
      refine gr_aload_n hx hb (some (gg_o G)) dX4_innerOf_17 rfl (lv_at hl 0 rfl) ?_
      refine gr_mgA cx hf hI 15 rfl rfl (Or.inl (hts _ q1007)) dX4_innerOf_18 ?_
      refine lv_bipush hx hb dX4_innerOf_21 gz_bp_16 ?_
      refine gr_aload_n hx hb (some (gg_o G)) dX4_innerOf_23 rfl (lv_at hl 0 rfl) ?_
      refine nr_gI cx hf hI 8 rfl (fun _ => rfl) rfl (Or.inl (hts _ q1000)) dX4_innerOf_24 ?_
      refine lv_imul hx hb dX4_innerOf_27 ?_
      refine lv_iload_n hx hb dX4_innerOf_28 rfl (lv_at hl 3 rfl) ?_
      refine lv_iadd hx hb dX4_innerOf_29 ?_
      obtain ⟨v6, e6, h⟩ := g_bind h
      refine gr_miald cx hf hI 15 rfl rfl rfl (nr_aI e6) dX4_innerOf_30 ?_
      refine lv_iload_n hx hb dX4_innerOf_31 rfl (lv_at hl 1 rfl) ?_
      refine lv_icmp_ne (tgt := 38) hx hb dX4_innerOf_32 rfl (fun hc => ?_) (fun hc => ?_)
      · have h := gz_f h hc
        refine gz_iinc (k := 3) (v := (x3 + (1 : Int32))) hx hb dX4_innerOf_38 hl rfl (congrArg (fun z => x3 + z) gz_ic_1) (by decide) [0, 1, 2] rfl (gz_con ⟨gz_ne rfl, Or.inl (gz_ne rfl)⟩ (gz_con ⟨gz_ne rfl, Or.inl (gz_ne rfl)⟩ (gz_con ⟨gz_ne rfl, Or.inr rfl⟩ gz_nil))) (fun ls hl => ?_)
        refine lv_goto (tgt := 4) hx hb dX4_innerOf_41 rfl ?_
        exact ih _ _ _ _ h p e s m args below meth c H locs cells slots ls cx hnm hex hI (lv_sub hl [1, 2, 3, 0] rfl)
      · have h := gz_t h hc
        refine gz_iinc (k := 2) (v := (x2 + (1 : Int32))) hx hb dX4_innerOf_35 hl rfl (congrArg (fun z => x2 + z) gz_ic_1) (by decide) [0, 1, 3] rfl (gz_con ⟨gz_ne rfl, Or.inl (gz_ne rfl)⟩ (gz_con ⟨gz_ne rfl, Or.inr rfl⟩ (gz_con ⟨gz_ne rfl, Or.inl (gz_ne rfl)⟩ gz_nil))) (fun ls hl => ?_)
        refine gz_iinc (k := 3) (v := (x3 + (1 : Int32))) hx hb dX4_innerOf_38 hl rfl (congrArg (fun z => x3 + z) gz_ic_1) (by decide) [0, 1, 2] rfl (gz_con ⟨gz_ne rfl, Or.inr rfl⟩ (gz_con ⟨gz_ne rfl, Or.inl (gz_ne rfl)⟩ (gz_con ⟨gz_ne rfl, Or.inl (gz_ne rfl)⟩ gz_nil))) (fun ls hl => ?_)
        refine lv_goto (tgt := 4) hx hb dX4_innerOf_41 rfl ?_
        exact ih _ _ _ _ h p e s m args below meth c H locs cells slots ls cx hnm hex hI (lv_sub hl [2, 3, 1, 0] rfl)
theorem T_X4_innerOf {l : Launch} {G : gG} {S0 S : gm_S} {d0 fu : Nat} {r : Outcome × gM} (hf : gg_f G = true) (hD : 2 ≤ d0) {x1 : Int32} {M : gM} (h : F_X4_innerOf fu x1 M = some r) : B_X4_innerOf l d0 G S0 0 [(0, va_rf (some (gg_o G))), (1, .int x1)] [] (gm_w S M) r.1 (gm_w S r.2) := by
  unfold F_X4_innerOf at h
  intro p e s m args below meth c H locs cells slots ls cx hnm hex hI hl
  have hx := cx.1
  have hb := cx.2.1
  have hown := cx.2.2.2.1
  have hts := cx.2.2.2.2.1
  have hK := cx.2.2.2.2.2.1
  refine lv_iconst hx hb dX4_innerOf_0 gz_ic_0 ?_
  refine gz_istore_n hx hb dX4_innerOf_1 rfl hl (by decide) [0, 1] rfl (gz_con ⟨gz_ne rfl, Or.inl (gz_ne rfl)⟩ (gz_con ⟨gz_ne rfl, Or.inr rfl⟩ gz_nil)) (fun ls hl => ?_)
  refine lv_iconst hx hb dX4_innerOf_2 gz_ic_0 ?_
  refine gz_istore_n hx hb dX4_innerOf_3 rfl hl (by decide) [0, 1, 2] rfl (gz_con ⟨gz_ne rfl, Or.inr rfl⟩ (gz_con ⟨gz_ne rfl, Or.inl (gz_ne rfl)⟩ (gz_con ⟨gz_ne rfl, Or.inl (gz_ne rfl)⟩ gz_nil))) (fun ls hl => ?_)
  exact T_X4_innerOf_4 hf hD fu _ _ _ _ h p e s m args below meth c H locs cells slots ls cx hnm hex hI (lv_sub hl [2, 3, 1, 0] rfl)
theorem M_X4_innerOf {l : Launch} {G : gG} {fu d0 : Nat} (hf : gg_f G = true) (hfl : l.flags = flags0) (hD : 2 ≤ d0) {x1 : Int32} {S : gm_S} {M : gM} {o : Outcome} {M2 : gM} (h : F_X4_innerOf fu x1 M = some (o, M2)) : gx_Met l yX4_innerOf (ws_ yX4_innerOf cX4_innerOf 4 (Option.some Jvm.ClassFile.FieldType.int)) d0 G (gm_w S M) [va_rf (some (gg_o G)), .int x1] o (gm_w S M2) := by
  refine gx_of hfl (by decide) (fun p e s m below meth c cx hnm hex hI => ?_)
  rw [lg_entry_eq]
  exact T_X4_innerOf (r := (o, M2)) hf hD h p e s m _ below meth c _ _ _ _ _ cx hnm (gz_nh0 hex) hI (lv_entry _ (Nat.le_of_ble_eq_true rfl))
theorem C_X4_innerOf {p : Program} {l : Launch} {e : Env} {s : State} {m : MethodId} {args : Array Value} {below : List Frame} {meth : Method} {c : Code} {H : Heap} {locs : List Loc} {cells slots : Nat} {cc : ByteArray} {pc nL : Nat} {ls : Array Slot} {rest : List Value} {G : gG} {S0 S : gm_S} {own : String} {ret : Option FieldType} {d0 index fu : Nat} {M : gM} {x1 : Int32} {k : Int32 → gM → gQ} {r : Outcome × gM} (hf : gg_f G = true) (cx : gx_cx p l s m args meth c G own cc nL ret) (hex : ∀ x ∈ c.exceptionTable.toList, covers x pc = false) (hI : gw_I G S0 (gm_w S M) H locs cells slots) (hl : gl_M own index yX4_innerOf args s) (hlv : ls.size = nL) (hrest : (rest.map fun v => v.category).sum ≤ 8) (hD : 3 ≤ d0) (hdg : decode cc pc = .ok (.invokevirtual index, 3)) (h : gz_cI (F_X4_innerOf fu x1 M) k = some r)
    (kk : ∀ (v : Int32) (z : gM), k v z = some r → ∀ (H : Heap) (locs : List Loc) (cells slots : Nat), gw_I G S0 (gm_w S z) H locs cells slots → W p l e (gx_rm d0 S0) s m args below meth c H locs cells slots (gx_MQ below G S0 (gm_w S r.2) r.1 s) (F0 m (pc + 3) ls (.int v :: rest))) : W p l e (gx_rm d0 S0) s m args below meth c H locs cells slots (gx_MQ below G S0 (gm_w S r.2) r.1 s) (F0 m pc ls (.int x1 :: va_rf (some (gg_o G)) :: rest)) := by
  have hts := cx.2.2.2.2.1
  have hK := cx.2.2.2.2.2.1
  exact gz_goI (d := d0 - 1) (gm_w S) cx hex hI hlv hrest (by omega) (Nat.le_of_ble_eq_true rfl) (gz_ws (lw_meth q1256) hts) (hts _ q78) (gb_rawV (As := [.int x1]) cx hl (hts _ q1255) (hts _ qs43) (gl_C.code (hts _ q1256)) hy_X4_innerOf (gr_recvM hK hI.1 hf) rfl rfl hdg) (fun o S2 e => M_X4_innerOf hf cx.2.2.2.2.2.2.2.2 (by omega) e) h kk
abbrev B_X4_next (l : Launch) (d0 : Nat) (G : gG) (S0 : gm_S) : Nat → List (Nat × Value) → List Value → gm_S → Outcome → gm_S → Prop := gz_B l RX4 "next" cX4_next 1 (Option.some Jvm.ClassFile.FieldType.char) [] d0 G S0
theorem T_X4_next {l : Launch} {G : gG} {S0 S : gm_S} {d0 fu : Nat} {r : Outcome × gM} (hf : gg_f G = true) (hD : 2 ≤ d0)  {M : gM} (h : F_X4_next fu  M = some r) : B_X4_next l d0 G S0 0 [(0, va_rf (some (gg_o G)))] [] (gm_w S M) r.1 (gm_w S r.2) := by
  unfold F_X4_next at h
  intro p e s m args below meth c H locs cells slots ls cx hnm hex hI hl
  have hx := cx.1
  have hb := cx.2.1
  have hown := cx.2.2.2.1
  have hts := cx.2.2.2.2.1
  have hK := cx.2.2.2.2.2.1
  refine gr_aload_n hx hb (some (gg_o G)) dX4_next_0 rfl (lv_at hl 0 rfl) ?_
  refine nr_gI cx hf hI 5 rfl (fun _ => rfl) rfl (Or.inl (hts _ q997)) dX4_next_1 ?_
  refine lv_if_eq (tgt := 9) hx hb dX4_next_4 rfl (fun hc => ?_) (fun hc => ?_)
  · have h := gz_t h hc
    refine gr_aload_n hx hb (some (gg_o G)) dX4_next_9 rfl (lv_at hl 0 rfl) ?_
    refine lv_dup hx hb dX4_next_10 (gl_cat (some (gg_o G))) ?_
    refine nr_gI cx hf hI 4 rfl (fun _ => rfl) rfl (Or.inl (hts _ q996)) dX4_next_11 ?_
    refine lv_iconst hx hb dX4_next_14 gz_ic_1 ?_
    refine lv_iadd hx hb dX4_next_15 ?_
    obtain ⟨M3, e3, h⟩ := g_bind h
    refine nr_pI cx hf hI 4 rfl rfl rfl (Or.inl (hts _ q996)) e3 dX4_next_16 (fun H locs hI => ?_)
    refine gr_aload_n hx hb (some (gg_o G)) dX4_next_19 rfl (lv_at hl 0 rfl) ?_
    refine gr_mgA cx hf hI 3 rfl rfl (Or.inl (hts _ q995)) dX4_next_20 ?_
    refine gr_aload_n hx hb (some (gg_o G)) dX4_next_23 rfl (lv_at hl 0 rfl) ?_
    refine nr_gI cx hf hI 4 rfl (fun _ => rfl) rfl (Or.inl (hts _ q996)) dX4_next_24 ?_
    refine lv_iconst hx hb dX4_next_27 gz_ic_1 ?_
    refine lv_isub hx hb dX4_next_28 ?_
    obtain ⟨v6, e6, h⟩ := g_bind h
    refine gr_mcald cx hf hI 3 rfl rfl rfl (nr_aI e6) dX4_next_29 ?_
    obtain ⟨hz, h⟩ := g_ifs h
    cases h
    exact gr_cret cx hz hI dX4_next_30
  · have h := gz_f h hc
    refine lv_iconst hx hb dX4_next_7 gz_ic_0 ?_
    obtain ⟨hz, h⟩ := g_ifs h
    cases h
    exact gr_cret cx hz hI dX4_next_8
theorem M_X4_next {l : Launch} {G : gG} {fu d0 : Nat} (hf : gg_f G = true) (hfl : l.flags = flags0) (hD : 2 ≤ d0)  {S : gm_S} {M : gM} {o : Outcome} {M2 : gM} (h : F_X4_next fu  M = some (o, M2)) : gx_Met l yX4_next (ws_ yX4_next cX4_next 1 (Option.some Jvm.ClassFile.FieldType.char)) d0 G (gm_w S M) [va_rf (some (gg_o G))] o (gm_w S M2) := by
  refine gx_of hfl (by decide) (fun p e s m below meth c cx hnm hex hI => ?_)
  rw [lg_entry_eq]
  exact T_X4_next (r := (o, M2)) hf hD h p e s m _ below meth c _ _ _ _ _ cx hnm (gz_nh0 hex) hI (lv_entry _ (Nat.le_of_ble_eq_true rfl))
theorem C_X4_next {p : Program} {l : Launch} {e : Env} {s : State} {m : MethodId} {args : Array Value} {below : List Frame} {meth : Method} {c : Code} {H : Heap} {locs : List Loc} {cells slots : Nat} {cc : ByteArray} {pc nL : Nat} {ls : Array Slot} {rest : List Value} {G : gG} {S0 S : gm_S} {own : String} {ret : Option FieldType} {d0 index fu : Nat} {M : gM}  {k : Int32 → gM → gQ} {r : Outcome × gM} (hf : gg_f G = true) (cx : gx_cx p l s m args meth c G own cc nL ret) (hex : ∀ x ∈ c.exceptionTable.toList, covers x pc = false) (hI : gw_I G S0 (gm_w S M) H locs cells slots) (hl : gl_M own index yX4_next args s) (hlv : ls.size = nL) (hrest : (rest.map fun v => v.category).sum ≤ 8) (hD : 3 ≤ d0) (hdg : decode cc pc = .ok (.invokevirtual index, 3)) (h : gz_cI (F_X4_next fu  M) k = some r)
    (kk : ∀ (v : Int32) (z : gM), k v z = some r → ∀ (H : Heap) (locs : List Loc) (cells slots : Nat), gw_I G S0 (gm_w S z) H locs cells slots → W p l e (gx_rm d0 S0) s m args below meth c H locs cells slots (gx_MQ below G S0 (gm_w S r.2) r.1 s) (F0 m (pc + 3) ls (.int v :: rest))) : W p l e (gx_rm d0 S0) s m args below meth c H locs cells slots (gx_MQ below G S0 (gm_w S r.2) r.1 s) (F0 m pc ls (va_rf (some (gg_o G)) :: rest)) := by
  have hts := cx.2.2.2.2.1
  have hK := cx.2.2.2.2.2.1
  exact gz_goI (d := d0 - 1) (gm_w S) cx hex hI hlv hrest (by omega) (Nat.le_of_ble_eq_true rfl) (gz_ws (lw_meth q1215) hts) (hts _ q78) (gb_rawV (As := []) cx hl (hts _ q1214) (hts _ qs33) (gl_C.code (hts _ q1215)) hy_X4_next (gr_recvM hK hI.1 hf) rfl rfl hdg) (fun o S2 e => M_X4_next hf cx.2.2.2.2.2.2.2.2 (by omega) e) h kk
abbrev B_X4_takes (l : Launch) (d0 : Nat) (G : gG) (S0 : gm_S) : Nat → List (Nat × Value) → List Value → gm_S → Outcome → gm_S → Prop := gz_B l RX4 "takes" cX4_takes 2 (Option.some Jvm.ClassFile.FieldType.boolean) [] d0 G S0
theorem T_X4_takes {l : Launch} {G : gG} {S0 S : gm_S} {d0 fu : Nat} {r : Outcome × gM} (hf : gg_f G = true) (hD : 3 ≤ d0) {x1 : Int32} {M : gM} (h : F_X4_takes fu x1 M = some r) : B_X4_takes l d0 G S0 0 [(0, va_rf (some (gg_o G))), (1, .int x1)] [] (gm_w S M) r.1 (gm_w S r.2) := by
  unfold F_X4_takes at h
  intro p e s m args below meth c H locs cells slots ls cx hnm hex hI hl
  have hx := cx.1
  have hb := cx.2.1
  have hown := cx.2.2.2.1
  have hts := cx.2.2.2.2.1
  have hK := cx.2.2.2.2.2.1
  refine gr_aload_n hx hb (some (gg_o G)) dX4_takes_0 rfl (lv_at hl 0 rfl) ?_
  refine C_X4_look hf cx (gz_nh hex) hI (Or.inl (hts _ q1204)) hl.1 (gz_cs (Nat.le_of_ble_eq_true rfl)) (by omega) dX4_takes_1 h (fun v1 M1 h H locs cells slots hI => ?_)
  refine lv_iload_n hx hb dX4_takes_4 rfl (lv_at hl 1 rfl) ?_
  refine lv_icmp_eq (tgt := 10) hx hb dX4_takes_5 rfl (fun hc => ?_) (fun hc => ?_)
  · have h := gz_t h hc
    refine gr_aload_n hx hb (some (gg_o G)) dX4_takes_10 rfl (lv_at hl 0 rfl) ?_
    refine lv_dup hx hb dX4_takes_11 (gl_cat (some (gg_o G))) ?_
    refine nr_gI cx hf hI 4 rfl (fun _ => rfl) rfl (Or.inl (hts _ q996)) dX4_takes_12 ?_
    refine lv_iconst hx hb dX4_takes_15 gz_ic_1 ?_
    refine lv_iadd hx hb dX4_takes_16 ?_
    obtain ⟨M3, e3, h⟩ := g_bind h
    refine nr_pI cx hf hI 4 rfl rfl rfl (Or.inl (hts _ q996)) e3 dX4_takes_17 (fun H locs hI => ?_)
    refine lv_iconst hx hb dX4_takes_20 gz_ic_1 ?_
    obtain ⟨hz, h⟩ := g_ifs h
    cases h
    exact gr_zret cx hz hI dX4_takes_21
  · have h := gz_f h hc
    refine lv_iconst hx hb dX4_takes_8 gz_ic_0 ?_
    obtain ⟨hz, h⟩ := g_ifs h
    cases h
    exact gr_zret cx hz hI dX4_takes_9
theorem M_X4_takes {l : Launch} {G : gG} {fu d0 : Nat} (hf : gg_f G = true) (hfl : l.flags = flags0) (hD : 3 ≤ d0) {x1 : Int32} {S : gm_S} {M : gM} {o : Outcome} {M2 : gM} (h : F_X4_takes fu x1 M = some (o, M2)) : gx_Met l yX4_takes (ws_ yX4_takes cX4_takes 2 (Option.some Jvm.ClassFile.FieldType.boolean)) d0 G (gm_w S M) [va_rf (some (gg_o G)), .int x1] o (gm_w S M2) := by
  refine gx_of hfl (by decide) (fun p e s m below meth c cx hnm hex hI => ?_)
  rw [lg_entry_eq]
  exact T_X4_takes (r := (o, M2)) hf hD h p e s m _ below meth c _ _ _ _ _ cx hnm (gz_nh0 hex) hI (lv_entry _ (Nat.le_of_ble_eq_true rfl))
theorem C_X4_takes {p : Program} {l : Launch} {e : Env} {s : State} {m : MethodId} {args : Array Value} {below : List Frame} {meth : Method} {c : Code} {H : Heap} {locs : List Loc} {cells slots : Nat} {cc : ByteArray} {pc nL : Nat} {ls : Array Slot} {rest : List Value} {G : gG} {S0 S : gm_S} {own : String} {ret : Option FieldType} {d0 index fu : Nat} {M : gM} {x1 : Int32} {k : Int32 → gM → gQ} {r : Outcome × gM} (hf : gg_f G = true) (cx : gx_cx p l s m args meth c G own cc nL ret) (hex : ∀ x ∈ c.exceptionTable.toList, covers x pc = false) (hI : gw_I G S0 (gm_w S M) H locs cells slots) (hl : gl_M own index yX4_takes args s) (hlv : ls.size = nL) (hrest : (rest.map fun v => v.category).sum ≤ 8) (hD : 4 ≤ d0) (hdg : decode cc pc = .ok (.invokevirtual index, 3)) (h : gz_cI (F_X4_takes fu x1 M) k = some r)
    (kk : ∀ (v : Int32) (z : gM), k v z = some r → ∀ (H : Heap) (locs : List Loc) (cells slots : Nat), gw_I G S0 (gm_w S z) H locs cells slots → W p l e (gx_rm d0 S0) s m args below meth c H locs cells slots (gx_MQ below G S0 (gm_w S r.2) r.1 s) (F0 m (pc + 3) ls (.int v :: rest))) : W p l e (gx_rm d0 S0) s m args below meth c H locs cells slots (gx_MQ below G S0 (gm_w S r.2) r.1 s) (F0 m pc ls (.int x1 :: va_rf (some (gg_o G)) :: rest)) := by
  have hts := cx.2.2.2.2.1
  have hK := cx.2.2.2.2.2.1
  exact gz_goI (d := d0 - 1) (gm_w S) cx hex hI hlv hrest (by omega) (Nat.le_of_ble_eq_true rfl) (gz_ws (lw_meth q1219) hts) (hts _ q78) (gb_rawV (As := [.int x1]) cx hl (hts _ q1218) (hts _ qs34) (gl_C.code (hts _ q1219)) hy_X4_takes (gr_recvM hK hI.1 hf) rfl rfl hdg) (fun o S2 e => M_X4_takes hf cx.2.2.2.2.2.2.2.2 (by omega) e) h kk
abbrev B_X4_want (l : Launch) (d0 : Nat) (G : gG) (S0 : gm_S) : Nat → List (Nat × Value) → List Value → gm_S → Outcome → gm_S → Prop := gz_B l RX4 "want" cX4_want 2 (Option.none : Option Jvm.ClassFile.FieldType) [] d0 G S0
theorem T_X4_want {l : Launch} {G : gG} {S0 S : gm_S} {d0 fu : Nat} {r : Outcome × gM} (hf : gg_f G = true) (hD : 2 ≤ d0) {x1 : Int32} {M : gM} (h : F_X4_want fu x1 M = some r) : B_X4_want l d0 G S0 0 [(0, va_rf (some (gg_o G))), (1, .int x1)] [] (gm_w S M) r.1 (gm_w S r.2) := by
  unfold F_X4_want at h
  intro p e s m args below meth c H locs cells slots ls cx hnm hex hI hl
  have hx := cx.1
  have hb := cx.2.1
  have hown := cx.2.2.2.1
  have hts := cx.2.2.2.2.1
  have hK := cx.2.2.2.2.2.1
  refine lv_iload_n hx hb dX4_want_0 rfl (lv_at hl 1 rfl) ?_
  refine lv_if_ne (tgt := 9) hx hb dX4_want_1 rfl (fun hc => ?_) (fun hc => ?_)
  · have h := gz_f h hc
    cases h
    exact gr_vret cx hI dX4_want_9
  · have h := gz_t h hc
    refine gr_aload_n hx hb (some (gg_o G)) dX4_want_4 rfl (lv_at hl 0 rfl) ?_
    refine lv_iconst hx hb dX4_want_5 gz_ic_1 ?_
    obtain ⟨M1, e1, h⟩ := g_bind h
    refine nr_pZ cx hf hI 5 rfl rfl rfl (Or.inl (hts _ q997)) e1 dX4_want_6 (fun H locs hI => ?_)
    cases h
    exact gr_vret cx hI dX4_want_9
theorem M_X4_want {l : Launch} {G : gG} {fu d0 : Nat} (hf : gg_f G = true) (hfl : l.flags = flags0) (hD : 2 ≤ d0) {x1 : Int32} {S : gm_S} {M : gM} {o : Outcome} {M2 : gM} (h : F_X4_want fu x1 M = some (o, M2)) : gx_Met l yX4_want (ws_ yX4_want cX4_want 2 (Option.none : Option Jvm.ClassFile.FieldType)) d0 G (gm_w S M) [va_rf (some (gg_o G)), .int x1] o (gm_w S M2) := by
  refine gx_of hfl (by decide) (fun p e s m below meth c cx hnm hex hI => ?_)
  rw [lg_entry_eq]
  exact T_X4_want (r := (o, M2)) hf hD h p e s m _ below meth c _ _ _ _ _ cx hnm (gz_nh0 hex) hI (lv_entry _ (Nat.le_of_ble_eq_true rfl))
theorem C_X4_want {p : Program} {l : Launch} {e : Env} {s : State} {m : MethodId} {args : Array Value} {below : List Frame} {meth : Method} {c : Code} {H : Heap} {locs : List Loc} {cells slots : Nat} {cc : ByteArray} {pc nL : Nat} {ls : Array Slot} {rest : List Value} {G : gG} {S0 S : gm_S} {own : String} {ret : Option FieldType} {d0 index fu : Nat} {M : gM} {x1 : Int32} {k : gM → gQ} {r : Outcome × gM} (hf : gg_f G = true) (cx : gx_cx p l s m args meth c G own cc nL ret) (hex : ∀ x ∈ c.exceptionTable.toList, covers x pc = false) (hI : gw_I G S0 (gm_w S M) H locs cells slots) (hl : gl_M own index yX4_want args s) (hlv : ls.size = nL) (hrest : (rest.map fun v => v.category).sum ≤ 8) (hD : 3 ≤ d0) (hdg : decode cc pc = .ok (.invokevirtual index, 3)) (h : gz_cV (F_X4_want fu x1 M) k = some r)
    (kk : ∀ (z : gM), k z = some r → ∀ (H : Heap) (locs : List Loc) (cells slots : Nat), gw_I G S0 (gm_w S z) H locs cells slots → W p l e (gx_rm d0 S0) s m args below meth c H locs cells slots (gx_MQ below G S0 (gm_w S r.2) r.1 s) (F0 m (pc + 3) ls rest)) : W p l e (gx_rm d0 S0) s m args below meth c H locs cells slots (gx_MQ below G S0 (gm_w S r.2) r.1 s) (F0 m pc ls (.int x1 :: va_rf (some (gg_o G)) :: rest)) := by
  have hts := cx.2.2.2.2.1
  have hK := cx.2.2.2.2.2.1
  exact gz_goV (d := d0 - 1) (gm_w S) cx hex hI hlv hrest (by omega) (Nat.le_of_ble_eq_true rfl) (gz_ws (lw_meth q1211) hts) (hts _ q78) (gb_rawV (As := [.int x1]) cx hl (hts _ q1210) (hts _ qs32) (gl_C.code (hts _ q1211)) hy_X4_want (gr_recvM hK hI.1 hf) rfl rfl hdg) (fun o S2 e => M_X4_want hf cx.2.2.2.2.2.2.2.2 (by omega) e) h kk
abbrev B_X4_readOperand (l : Launch) (d0 : Nat) (G : gG) (S0 : gm_S) : Nat → List (Nat × Value) → List Value → gm_S → Outcome → gm_S → Prop := gz_B l RX4 "readOperand" cX4_readOperand 3 (Option.none : Option Jvm.ClassFile.FieldType) [] d0 G S0
theorem T_X4_readOperand_84 {l : Launch} {G : gG} {S0 S : gm_S} {d0 fu : Nat} {r : Outcome × gM} (hf : gg_f G = true) (hD : 4 ≤ d0) {x1 : Int32} {M : gM} (h : F_X4_readOperand_84 fu x1 M = some r) : B_X4_readOperand l d0 G S0 84 [(0, va_rf (some (gg_o G))), (1, .int x1)] [] (gm_w S M) r.1 (gm_w S r.2) := by
  unfold F_X4_readOperand_84 at h
  intro p e s m args below meth c H locs cells slots ls cx hnm hex hI hl
  have hx := cx.1
  have hb := cx.2.1
  have hown := cx.2.2.2.1
  have hts := cx.2.2.2.2.1
  have hK := cx.2.2.2.2.2.1
  refine gr_aload_n hx hb (some (gg_o G)) dX4_readOperand_84 rfl (lv_at hl 0 rfl) ?_
  refine lv_iload_n hx hb dX4_readOperand_85 rfl (lv_at hl 1 rfl) ?_
  refine lv_i2d hx hb dX4_readOperand_86 ?_
  obtain ⟨M1, e1, h⟩ := g_bind h
  refine nr_pD cx hf hI 39 rfl rfl rfl (Or.inl (hts _ q1031)) e1 dX4_readOperand_87 (fun H locs hI => ?_)
  refine gr_aload_n hx hb (some (gg_o G)) dX4_readOperand_90 rfl (lv_at hl 0 rfl) ?_
  refine lv_bipush hx hb dX4_readOperand_91 gz_bp_46 ?_
  refine C_X4_takes hf cx (gz_nh hex) hI (Or.inl (hts _ q1216)) hl.1 (gz_cs (Nat.le_of_ble_eq_true rfl)) (by omega) dX4_readOperand_93 h (fun v2 M2 h H locs cells slots hI => ?_)
  refine lv_if_ne (tgt := 100) hx hb dX4_readOperand_96 rfl (fun hc => ?_) (fun hc => ?_)
  · have h := gz_f h hc
    refine gr_aload_n hx hb (some (gg_o G)) dX4_readOperand_100 rfl (lv_at hl 0 rfl) ?_
    refine gr_aload_n hx hb (some (gg_o G)) dX4_readOperand_101 rfl (lv_at hl 0 rfl) ?_
    refine lv_bipush hx hb dX4_readOperand_102 gz_bp_48 ?_
    refine lv_bipush hx hb dX4_readOperand_104 gz_bp_57 ?_
    refine C_X4_among hf cx (gz_nh hex) hI (Or.inl (hts _ q1200)) hl.1 (gz_cs (Nat.le_of_ble_eq_true rfl)) (by omega) dX4_readOperand_106 h (fun v3 M3 h H locs cells slots hI => ?_)
    refine C_X4_want hf cx (gz_nh hex) hI (Or.inl (hts _ q1208)) hl.1 (gz_cs (Nat.le_of_ble_eq_true rfl)) (by omega) dX4_readOperand_109 h (fun M4 h H locs cells slots hI => ?_)
    refine gr_aload_n hx hb (some (gg_o G)) dX4_readOperand_112 rfl (lv_at hl 0 rfl) ?_
    refine nr_gI cx hf hI 5 rfl (fun _ => rfl) rfl (Or.inl (hts _ q997)) dX4_readOperand_113 ?_
    refine lv_if_ne (tgt := 140) hx hb dX4_readOperand_116 rfl (fun hc => ?_) (fun hc => ?_)
    · have h := gz_f h hc
      cases h
      exact gr_vret cx hI dX4_readOperand_140
    · have h := gz_t h hc
      refine gr_aload_n hx hb (some (gg_o G)) dX4_readOperand_119 rfl (lv_at hl 0 rfl) ?_
      refine lv_bipush hx hb dX4_readOperand_120 gz_bp_10 ?_
      refine lv_iload_n hx hb dX4_readOperand_122 rfl (lv_at hl 1 rfl) ?_
      refine lv_imul hx hb dX4_readOperand_123 ?_
      refine gr_aload_n hx hb (some (gg_o G)) dX4_readOperand_124 rfl (lv_at hl 0 rfl) ?_
      refine C_X4_next hf cx (gz_nh hex) hI (Or.inl (hts _ q1212)) hl.1 (gz_cs (Nat.le_of_ble_eq_true rfl)) (by omega) dX4_readOperand_125 h (fun v6 M6 h H locs cells slots hI => ?_)
      refine lv_iadd hx hb dX4_readOperand_128 ?_
      refine lv_bipush hx hb dX4_readOperand_129 gz_bp_48 ?_
      refine lv_isub hx hb dX4_readOperand_131 ?_
      refine lv_i2d hx hb dX4_readOperand_132 ?_
      refine lv_ldc2d hx hb hown (hts _ q1236) dX4_readOperand_133 ?_
      obtain ⟨v7, e7, h⟩ := g_bind h
      obtain ⟨n7, w7⟩ := g_nn_s e7
      refine lv_ddiv hx hb dX4_readOperand_136 n7 ?_
      rw [← w7]
      obtain ⟨M8, e8, h⟩ := g_bind h
      refine nr_pD cx hf hI 39 rfl rfl rfl (Or.inl (hts _ q1031)) e8 dX4_readOperand_137 (fun H locs hI => ?_)
      cases h
      exact gr_vret cx hI dX4_readOperand_140
  · have h := gz_t h hc
    cases h
    exact gr_vret cx hI dX4_readOperand_99
theorem T_X4_readOperand_49 {l : Launch} {G : gG} {S0 S : gm_S} {d0 fu : Nat} {r : Outcome × gM} (hf : gg_f G = true) (hD : 4 ≤ d0) : ∀ (n : Nat) (x1 : Int32) (x2 : Int32) (M : gM), F_X4_readOperand_49 fu n x1 x2 M = some r → B_X4_readOperand l d0 G S0 49 [(0, va_rf (some (gg_o G))), (1, .int x1), (2, .int x2)] [] (gm_w S M) r.1 (gm_w S r.2) := by
  intro n
  induction n with
  | zero => intro x1 x2 M h; exact nomatch (show (none : gQ) = some r from h)
  | succ n ih =>
    intro x1 x2 M h
    rw [F_X4_readOperand_49] at h
    intro p e s m args below meth c H locs cells slots ls cx hnm hex hI hl
    have hx := cx.1
    have hb := cx.2.1
    have hown := cx.2.2.2.1
    have hts := cx.2.2.2.2.1
    have hK := cx.2.2.2.2.2.1
    refine lv_iload_n hx hb dX4_readOperand_49 rfl (lv_at hl 2 rfl) ?_
    refine lv_iconst hx hb dX4_readOperand_50 gz_ic_3 ?_
    refine lv_icmp_ge (tgt := 84) hx hb dX4_readOperand_51 rfl (fun hc => ?_) (fun hc => ?_)
    · have h := gz_t h hc
      exact T_X4_readOperand_84 hf hD h p e s m args below meth c H locs cells slots ls cx hnm hex hI (lv_sub hl [0, 1] rfl)
    · have h := gz_f h hc
      refine gr_aload_n hx hb (some (gg_o G)) dX4_readOperand_54 rfl (lv_at hl 0 rfl) ?_
      refine lv_bipush hx hb dX4_readOperand_55 gz_bp_48 ?_
      refine lv_bipush hx hb dX4_readOperand_57 gz_bp_57 ?_
      refine C_X4_among hf cx (gz_nh hex) hI (Or.inl (hts _ q1200)) hl.1 (gz_cs (Nat.le_of_ble_eq_true rfl)) (by omega) dX4_readOperand_59 h (fun v1 M1 h H locs cells slots hI => ?_)
      refine lv_if_eq (tgt := 84) hx hb dX4_readOperand_62 rfl (fun hc => ?_) (fun hc => ?_)
      · have h := gz_t h hc
        exact T_X4_readOperand_84 hf hD h p e s m args below meth c H locs cells slots ls cx hnm hex hI (lv_sub hl [0, 1] rfl)
      · have h := gz_f h hc
        refine lv_bipush hx hb dX4_readOperand_65 gz_bp_10 ?_
        refine lv_iload_n hx hb dX4_readOperand_67 rfl (lv_at hl 1 rfl) ?_
        refine lv_imul hx hb dX4_readOperand_68 ?_
        refine gr_aload_n hx hb (some (gg_o G)) dX4_readOperand_69 rfl (lv_at hl 0 rfl) ?_
        refine C_X4_next hf cx (gz_nh hex) hI (Or.inl (hts _ q1212)) hl.1 (gz_cs (Nat.le_of_ble_eq_true rfl)) (by omega) dX4_readOperand_70 h (fun v2 M2 h H locs cells slots hI => ?_)
        refine lv_iadd hx hb dX4_readOperand_73 ?_
        refine lv_bipush hx hb dX4_readOperand_74 gz_bp_48 ?_
        refine lv_isub hx hb dX4_readOperand_76 ?_
        refine gz_istore_n hx hb dX4_readOperand_77 rfl hl (by decide) [0, 2] rfl (gz_con ⟨gz_ne rfl, Or.inr (gl_cat (some (gg_o G)))⟩ (gz_con ⟨gz_ne rfl, Or.inl (gz_ne rfl)⟩ gz_nil)) (fun ls hl => ?_)
        refine gz_iinc (k := 2) (v := (x2 + (1 : Int32))) hx hb dX4_readOperand_78 hl rfl (congrArg (fun z => x2 + z) gz_ic_1) (by decide) [0, 1] rfl (gz_con ⟨gz_ne rfl, Or.inr rfl⟩ (gz_con ⟨gz_ne rfl, Or.inl (gz_ne rfl)⟩ gz_nil)) (fun ls hl => ?_)
        refine lv_goto (tgt := 49) hx hb dX4_readOperand_81 rfl ?_
        exact ih _ _ _ h p e s m args below meth c H locs cells slots ls cx hnm hex hI (lv_sub hl [2, 1, 0] rfl)
theorem T_X4_readOperand {l : Launch} {G : gG} {S0 S : gm_S} {d0 fu : Nat} {r : Outcome × gM} (hf : gg_f G = true) (hD : 4 ≤ d0)  {M : gM} (h : F_X4_readOperand fu  M = some r) : B_X4_readOperand l d0 G S0 0 [(0, va_rf (some (gg_o G)))] [] (gm_w S M) r.1 (gm_w S r.2) := by
  unfold F_X4_readOperand at h
  intro p e s m args below meth c H locs cells slots ls cx hnm hex hI hl
  have hx := cx.1
  have hb := cx.2.1
  have hown := cx.2.2.2.1
  have hts := cx.2.2.2.2.1
  have hK := cx.2.2.2.2.2.1
  refine gr_aload_n hx hb (some (gg_o G)) dX4_readOperand_0 rfl (lv_at hl 0 rfl) ?_
  refine lv_iconst hx hb dX4_readOperand_1 gz_ic_m1 ?_
  obtain ⟨M1, e1, h⟩ := g_bind h
  refine nr_pI cx hf hI 38 rfl rfl rfl (Or.inl (hts _ q1030)) e1 dX4_readOperand_2 (fun H locs hI => ?_)
  refine gr_aload_n hx hb (some (gg_o G)) dX4_readOperand_5 rfl (lv_at hl 0 rfl) ?_
  refine lv_dconst0 hx hb dX4_readOperand_6 ?_
  obtain ⟨M2, e2, h⟩ := g_bind h
  refine nr_pD cx hf hI 39 rfl rfl rfl (Or.inl (hts _ q1031)) e2 dX4_readOperand_7 (fun H locs hI => ?_)
  refine gr_aload_n hx hb (some (gg_o G)) dX4_readOperand_10 rfl (lv_at hl 0 rfl) ?_
  refine lv_bipush hx hb dX4_readOperand_11 gz_bp_117 ?_
  refine lv_bipush hx hb dX4_readOperand_13 gz_bp_122 ?_
  refine C_X4_among hf cx (gz_nh hex) hI (Or.inl (hts _ q1200)) hl.1 (gz_cs (Nat.le_of_ble_eq_true rfl)) (by omega) dX4_readOperand_15 h (fun v3 M3 h H locs cells slots hI => ?_)
  refine lv_if_eq (tgt := 33) hx hb dX4_readOperand_18 rfl (fun hc => ?_) (fun hc => ?_)
  · have h := gz_t h hc
    refine gr_aload_n hx hb (some (gg_o G)) dX4_readOperand_33 rfl (lv_at hl 0 rfl) ?_
    refine gr_aload_n hx hb (some (gg_o G)) dX4_readOperand_34 rfl (lv_at hl 0 rfl) ?_
    refine lv_bipush hx hb dX4_readOperand_35 gz_bp_48 ?_
    refine lv_bipush hx hb dX4_readOperand_37 gz_bp_57 ?_
    refine C_X4_among hf cx (gz_nh hex) hI (Or.inl (hts _ q1200)) hl.1 (gz_cs (Nat.le_of_ble_eq_true rfl)) (by omega) dX4_readOperand_39 h (fun v4 M4 h H locs cells slots hI => ?_)
    refine C_X4_want hf cx (gz_nh hex) hI (Or.inl (hts _ q1208)) hl.1 (gz_cs (Nat.le_of_ble_eq_true rfl)) (by omega) dX4_readOperand_42 h (fun M5 h H locs cells slots hI => ?_)
    refine lv_iconst hx hb dX4_readOperand_45 gz_ic_0 ?_
    refine gz_istore_n hx hb dX4_readOperand_46 rfl hl (by decide) [0] rfl (gz_con ⟨gz_ne rfl, Or.inr (gl_cat (some (gg_o G)))⟩ gz_nil) (fun ls hl => ?_)
    refine lv_iconst hx hb dX4_readOperand_47 gz_ic_0 ?_
    refine gz_istore_n hx hb dX4_readOperand_48 rfl hl (by decide) [0, 1] rfl (gz_con ⟨gz_ne rfl, Or.inr rfl⟩ (gz_con ⟨gz_ne rfl, Or.inl (gz_ne rfl)⟩ gz_nil)) (fun ls hl => ?_)
    exact T_X4_readOperand_49 hf hD fu _ _ _ h p e s m args below meth c H locs cells slots ls cx hnm hex hI (lv_sub hl [2, 1, 0] rfl)
  · have h := gz_f h hc
    refine gr_aload_n hx hb (some (gg_o G)) dX4_readOperand_21 rfl (lv_at hl 0 rfl) ?_
    refine gr_aload_n hx hb (some (gg_o G)) dX4_readOperand_22 rfl (lv_at hl 0 rfl) ?_
    refine C_X4_next hf cx (gz_nh hex) hI (Or.inl (hts _ q1212)) hl.1 (gz_cs (Nat.le_of_ble_eq_true rfl)) (by omega) dX4_readOperand_23 h (fun v6 M6 h H locs cells slots hI => ?_)
    refine lv_bipush hx hb dX4_readOperand_26 gz_bp_117 ?_
    refine lv_isub hx hb dX4_readOperand_28 ?_
    obtain ⟨M7, e7, h⟩ := g_bind h
    refine nr_pI cx hf hI 38 rfl rfl rfl (Or.inl (hts _ q1030)) e7 dX4_readOperand_29 (fun H locs hI => ?_)
    cases h
    exact gr_vret cx hI dX4_readOperand_32
theorem M_X4_readOperand {l : Launch} {G : gG} {fu d0 : Nat} (hf : gg_f G = true) (hfl : l.flags = flags0) (hD : 4 ≤ d0)  {S : gm_S} {M : gM} {o : Outcome} {M2 : gM} (h : F_X4_readOperand fu  M = some (o, M2)) : gx_Met l yX4_readOperand (ws_ yX4_readOperand cX4_readOperand 3 (Option.none : Option Jvm.ClassFile.FieldType)) d0 G (gm_w S M) [va_rf (some (gg_o G))] o (gm_w S M2) := by
  refine gx_of hfl (by decide) (fun p e s m below meth c cx hnm hex hI => ?_)
  rw [lg_entry_eq]
  exact T_X4_readOperand (r := (o, M2)) hf hD h p e s m _ below meth c _ _ _ _ _ cx hnm (gz_nh0 hex) hI (lv_entry _ (Nat.le_of_ble_eq_true rfl))
theorem C_X4_readOperand {p : Program} {l : Launch} {e : Env} {s : State} {m : MethodId} {args : Array Value} {below : List Frame} {meth : Method} {c : Code} {H : Heap} {locs : List Loc} {cells slots : Nat} {cc : ByteArray} {pc nL : Nat} {ls : Array Slot} {rest : List Value} {G : gG} {S0 S : gm_S} {own : String} {ret : Option FieldType} {d0 index fu : Nat} {M : gM}  {k : gM → gQ} {r : Outcome × gM} (hf : gg_f G = true) (cx : gx_cx p l s m args meth c G own cc nL ret) (hex : ∀ x ∈ c.exceptionTable.toList, covers x pc = false) (hI : gw_I G S0 (gm_w S M) H locs cells slots) (hl : gl_M own index yX4_readOperand args s) (hlv : ls.size = nL) (hrest : (rest.map fun v => v.category).sum ≤ 8) (hD : 5 ≤ d0) (hdg : decode cc pc = .ok (.invokevirtual index, 3)) (h : gz_cV (F_X4_readOperand fu  M) k = some r)
    (kk : ∀ (z : gM), k z = some r → ∀ (H : Heap) (locs : List Loc) (cells slots : Nat), gw_I G S0 (gm_w S z) H locs cells slots → W p l e (gx_rm d0 S0) s m args below meth c H locs cells slots (gx_MQ below G S0 (gm_w S r.2) r.1 s) (F0 m (pc + 3) ls rest)) : W p l e (gx_rm d0 S0) s m args below meth c H locs cells slots (gx_MQ below G S0 (gm_w S r.2) r.1 s) (F0 m pc ls (va_rf (some (gg_o G)) :: rest)) := by
  have hts := cx.2.2.2.2.1
  have hK := cx.2.2.2.2.2.1
  exact gz_goV (d := d0 - 1) (gm_w S) cx hex hI hlv hrest (by omega) (Nat.le_of_ble_eq_true rfl) (gz_ws (lw_meth q1235) hts) (hts _ q78) (gb_rawV (As := []) cx hl (hts _ q1234) (hts _ qs38) (gl_C.code (hts _ q1235)) hy_X4_readOperand (gr_recvM hK hI.1 hf) rfl rfl hdg) (fun o S2 e => M_X4_readOperand hf cx.2.2.2.2.2.2.2.2 (by omega) e) h kk
abbrev B_X4_readAction (l : Launch) (d0 : Nat) (G : gG) (S0 : gm_S) : Nat → List (Nat × Value) → List Value → gm_S → Outcome → gm_S → Prop := gz_B l RX4 "readAction" cX4_readAction 3 (Option.none : Option Jvm.ClassFile.FieldType) [] d0 G S0
theorem T_X4_readAction_197 {l : Launch} {G : gG} {S0 S : gm_S} {d0 fu : Nat} {r : Outcome × gM} (hf : gg_f G = true) (hD : 5 ≤ d0) {x2 : Int32} {s0 : Int32} {M : gM} (h : F_X4_readAction_197 fu x2 s0 M = some r) : B_X4_readAction l d0 G S0 197 [(0, va_rf (some (gg_o G))), (2, .int x2)] [.int s0, va_rf (some (gg_o G))] (gm_w S M) r.1 (gm_w S r.2) := by
  unfold F_X4_readAction_197 at h
  intro p e s m args below meth c H locs cells slots ls cx hnm hex hI hl
  have hx := cx.1
  have hb := cx.2.1
  have hown := cx.2.2.2.1
  have hts := cx.2.2.2.2.1
  have hK := cx.2.2.2.2.2.1
  refine C_X4_want hf cx (gz_nh hex) hI (Or.inl (hts _ q1208)) hl.1 (gz_cs (Nat.le_of_ble_eq_true rfl)) (by omega) dX4_readAction_197 h (fun M1 h H locs cells slots hI => ?_)
  refine gr_aload_n hx hb (some (gg_o G)) dX4_readAction_200 rfl (lv_at hl 0 rfl) ?_
  refine gr_mgA cx hf hI 35 rfl rfl (Or.inl (hts _ q1027)) dX4_readAction_201 ?_
  refine lv_iload_n hx hb dX4_readAction_204 rfl (lv_at hl 1 rfl) ?_
  refine gr_aload_n hx hb (some (gg_o G)) dX4_readAction_205 rfl (lv_at hl 0 rfl) ?_
  refine C_X4_next hf cx (gz_nh hex) hI (Or.inl (hts _ q1212)) hl.1 (gz_cs (Nat.le_of_ble_eq_true rfl)) (by omega) dX4_readAction_206 h (fun v3 M3 h H locs cells slots hI => ?_)
  obtain ⟨M4, e4, h⟩ := g_bind h
  refine gr_miast cx hf hI 35 rfl rfl rfl (nr_sI e4) dX4_readAction_209 (fun H locs hI => ?_)
  refine gr_aload_n hx hb (some (gg_o G)) dX4_readAction_210 rfl (lv_at hl 0 rfl) ?_
  refine C_X4_readOperand hf cx (gz_nh hex) hI (Or.inl (hts _ q1232)) hl.1 (gz_cs (Nat.le_of_ble_eq_true rfl)) (by omega) dX4_readAction_211 h (fun M5 h H locs cells slots hI => ?_)
  refine gr_aload_n hx hb (some (gg_o G)) dX4_readAction_214 rfl (lv_at hl 0 rfl) ?_
  refine gr_mgA cx hf hI 36 rfl rfl (Or.inl (hts _ q1028)) dX4_readAction_215 ?_
  refine lv_iload_n hx hb dX4_readAction_218 rfl (lv_at hl 1 rfl) ?_
  refine gr_aload_n hx hb (some (gg_o G)) dX4_readAction_219 rfl (lv_at hl 0 rfl) ?_
  refine nr_gI cx hf hI 38 rfl (fun _ => rfl) rfl (Or.inl (hts _ q1030)) dX4_readAction_220 ?_
  obtain ⟨M8, e8, h⟩ := g_bind h
  refine gr_miast cx hf hI 36 rfl rfl rfl (nr_sI e8) dX4_readAction_223 (fun H locs hI => ?_)
  refine gr_aload_n hx hb (some (gg_o G)) dX4_readAction_224 rfl (lv_at hl 0 rfl) ?_
  refine gr_mgA cx hf hI 37 rfl rfl (Or.inl (hts _ q1029)) dX4_readAction_225 ?_
  refine lv_iload_n hx hb dX4_readAction_228 rfl (lv_at hl 1 rfl) ?_
  refine gr_aload_n hx hb (some (gg_o G)) dX4_readAction_229 rfl (lv_at hl 0 rfl) ?_
  refine nr_gD cx hf hI 39 rfl (fun _ => rfl) rfl (Or.inl (hts _ q1031)) dX4_readAction_230 ?_
  obtain ⟨M11, e11, h⟩ := g_bind h
  refine gr_mdast cx hf hI 37 rfl rfl rfl (nr_sD e11) dX4_readAction_233 (fun H locs hI => ?_)
  cases h
  exact gr_vret cx hI dX4_readAction_234
theorem T_X4_readAction_42 {l : Launch} {G : gG} {S0 S : gm_S} {d0 fu : Nat} {r : Outcome × gM} (hf : gg_f G = true) (hD : 5 ≤ d0) {x1 : Int32} {s0 : Int32} {M : gM} (h : F_X4_readAction_42 fu x1 s0 M = some r) : B_X4_readAction l d0 G S0 42 [(0, va_rf (some (gg_o G))), (1, .int x1)] [.int s0, va_rf (some (gg_o G))] (gm_w S M) r.1 (gm_w S r.2) := by
  unfold F_X4_readAction_42 at h
  intro p e s m args below meth c H locs cells slots ls cx hnm hex hI hl
  have hx := cx.1
  have hb := cx.2.1
  have hown := cx.2.2.2.1
  have hts := cx.2.2.2.2.1
  have hK := cx.2.2.2.2.2.1
  refine C_X4_want hf cx (gz_nh hex) hI (Or.inl (hts _ q1208)) hl.1 (gz_cs (Nat.le_of_ble_eq_true rfl)) (by omega) dX4_readAction_42 h (fun M1 h H locs cells slots hI => ?_)
  refine lv_bipush hx hb dX4_readAction_45 gz_bp_48 ?_
  refine gr_aload_n hx hb (some (gg_o G)) dX4_readAction_47 rfl (lv_at hl 0 rfl) ?_
  refine nr_gI cx hf hI 8 rfl (fun _ => rfl) rfl (Or.inl (hts _ q1000)) dX4_readAction_48 ?_
  refine lv_imul hx hb dX4_readAction_51 ?_
  refine gr_aload_n hx hb (some (gg_o G)) dX4_readAction_52 rfl (lv_at hl 0 rfl) ?_
  refine gr_mgA cx hf hI 12 rfl rfl (Or.inl (hts _ q1004)) dX4_readAction_53 ?_
  refine gr_aload_n hx hb (some (gg_o G)) dX4_readAction_56 rfl (lv_at hl 0 rfl) ?_
  refine nr_gI cx hf hI 8 rfl (fun _ => rfl) rfl (Or.inl (hts _ q1000)) dX4_readAction_57 ?_
  obtain ⟨v5, e5, h⟩ := g_bind h
  refine gr_miald cx hf hI 12 rfl rfl rfl (nr_aI e5) dX4_readAction_60 ?_
  refine lv_iadd hx hb dX4_readAction_61 ?_
  refine gz_istore_n hx hb dX4_readAction_62 rfl hl (by decide) [0, 1] rfl (gz_con ⟨gz_ne rfl, Or.inl (gz_ne rfl)⟩ (gz_con ⟨gz_ne rfl, Or.inr rfl⟩ gz_nil)) (fun ls hl => ?_)
  refine gr_aload_n hx hb (some (gg_o G)) dX4_readAction_63 rfl (lv_at hl 1 rfl) ?_
  refine nr_gI cx hf hI 5 rfl (fun _ => rfl) rfl (Or.inl (hts _ q997)) dX4_readAction_64 ?_
  refine lv_if_eq (tgt := 71) hx hb dX4_readAction_67 rfl (fun hc => ?_) (fun hc => ?_)
  · have h := gz_t h hc
    refine gr_aload_n hx hb (some (gg_o G)) dX4_readAction_71 rfl (lv_at hl 1 rfl) ?_
    refine gr_mgA cx hf hI 33 rfl rfl (Or.inl (hts _ q1025)) dX4_readAction_72 ?_
    refine lv_iload_n hx hb dX4_readAction_75 rfl (lv_at hl 0 rfl) ?_
    refine lv_iload_n hx hb dX4_readAction_76 rfl (lv_at hl 2 rfl) ?_
    obtain ⟨M8, e8, h⟩ := g_bind h
    refine gr_miast cx hf hI 33 rfl rfl rfl (nr_sI e8) dX4_readAction_77 (fun H locs hI => ?_)
    refine gr_aload_n hx hb (some (gg_o G)) dX4_readAction_78 rfl (lv_at hl 1 rfl) ?_
    refine gr_mgA cx hf hI 34 rfl rfl (Or.inl (hts _ q1026)) dX4_readAction_79 ?_
    refine lv_iload_n hx hb dX4_readAction_82 rfl (lv_at hl 0 rfl) ?_
    refine gr_aload_n hx hb (some (gg_o G)) dX4_readAction_83 rfl (lv_at hl 1 rfl) ?_
    refine C_X4_next hf cx (gz_nh hex) hI (Or.inl (hts _ q1212)) hl.1 (gz_cs (Nat.le_of_ble_eq_true rfl)) (by omega) dX4_readAction_84 h (fun v10 M10 h H locs cells slots hI => ?_)
    obtain ⟨M11, e11, h⟩ := g_bind h
    refine gr_miast cx hf hI 34 rfl rfl rfl (nr_sI e11) dX4_readAction_87 (fun H locs hI => ?_)
    refine gr_aload_n hx hb (some (gg_o G)) dX4_readAction_88 rfl (lv_at hl 1 rfl) ?_
    refine gr_mgA cx hf hI 35 rfl rfl (Or.inl (hts _ q1027)) dX4_readAction_89 ?_
    refine lv_iload_n hx hb dX4_readAction_92 rfl (lv_at hl 0 rfl) ?_
    refine lv_iconst hx hb dX4_readAction_93 gz_ic_0 ?_
    obtain ⟨M13, e13, h⟩ := g_bind h
    refine gr_miast cx hf hI 35 rfl rfl rfl (nr_sI e13) dX4_readAction_94 (fun H locs hI => ?_)
    refine gr_aload_n hx hb (some (gg_o G)) dX4_readAction_95 rfl (lv_at hl 1 rfl) ?_
    refine gr_mgA cx hf hI 12 rfl rfl (Or.inl (hts _ q1004)) dX4_readAction_96 ?_
    refine gr_aload_n hx hb (some (gg_o G)) dX4_readAction_99 rfl (lv_at hl 1 rfl) ?_
    refine nr_gI cx hf hI 8 rfl (fun _ => rfl) rfl (Or.inl (hts _ q1000)) dX4_readAction_100 ?_
    refine lv_dup2_11 hx hb dX4_readAction_103 rfl (gl_cat (some (gg_m G 12))) ?_
    obtain ⟨v16, e16, h⟩ := g_bind h
    refine gr_miald cx hf hI 12 rfl rfl rfl (nr_aI e16) dX4_readAction_104 ?_
    refine lv_iconst hx hb dX4_readAction_105 gz_ic_1 ?_
    refine lv_iadd hx hb dX4_readAction_106 ?_
    obtain ⟨M17, e17, h⟩ := g_bind h
    refine gr_miast cx hf hI 12 rfl rfl rfl (nr_sI e17) dX4_readAction_107 (fun H locs hI => ?_)
    refine gr_aload_n hx hb (some (gg_o G)) dX4_readAction_108 rfl (lv_at hl 1 rfl) ?_
    refine gr_mgA cx hf hI 34 rfl rfl (Or.inl (hts _ q1026)) dX4_readAction_109 ?_
    refine lv_iload_n hx hb dX4_readAction_112 rfl (lv_at hl 0 rfl) ?_
    obtain ⟨v19, e19, h⟩ := g_bind h
    refine gr_miald cx hf hI 34 rfl rfl rfl (nr_aI e19) dX4_readAction_113 ?_
    refine lv_bipush hx hb dX4_readAction_114 gz_bp_72 ?_
    refine lv_icmp_gt (tgt := 155) hx hb dX4_readAction_116 rfl (fun hc => ?_) (fun hc => ?_)
    · have h := gz_t h hc
      refine gr_aload_n hx hb (some (gg_o G)) dX4_readAction_155 rfl (lv_at hl 1 rfl) ?_
      refine gr_aload_n hx hb (some (gg_o G)) dX4_readAction_156 rfl (lv_at hl 1 rfl) ?_
      refine C_X4_look hf cx (gz_nh hex) hI (Or.inl (hts _ q1204)) hl.1 (gz_cs (Nat.le_of_ble_eq_true rfl)) (by omega) dX4_readAction_157 h (fun v20 M20 h H locs cells slots hI => ?_)
      refine lv_bipush hx hb dX4_readAction_160 gz_bp_61 ?_
      refine lv_icmp_eq (tgt := 192) hx hb dX4_readAction_162 rfl (fun hc => ?_) (fun hc => ?_)
      · have h := gz_t h hc
        refine lv_iconst hx hb dX4_readAction_192 gz_ic_1 ?_
        refine lv_goto (tgt := 197) hx hb dX4_readAction_193 rfl ?_
        exact T_X4_readAction_197 hf hD h p e s m args below meth c H locs cells slots ls cx hnm hex hI (lv_sub hl [1, 0] rfl)
      · have h := gz_f h hc
        refine gr_aload_n hx hb (some (gg_o G)) dX4_readAction_165 rfl (lv_at hl 1 rfl) ?_
        refine C_X4_look hf cx (gz_nh hex) hI (Or.inl (hts _ q1204)) hl.1 (gz_cs (Nat.le_of_ble_eq_true rfl)) (by omega) dX4_readAction_166 h (fun v21 M21 h H locs cells slots hI => ?_)
        refine lv_bipush hx hb dX4_readAction_169 gz_bp_43 ?_
        refine lv_icmp_eq (tgt := 192) hx hb dX4_readAction_171 rfl (fun hc => ?_) (fun hc => ?_)
        · have h := gz_t h hc
          refine lv_iconst hx hb dX4_readAction_192 gz_ic_1 ?_
          refine lv_goto (tgt := 197) hx hb dX4_readAction_193 rfl ?_
          exact T_X4_readAction_197 hf hD h p e s m args below meth c H locs cells slots ls cx hnm hex hI (lv_sub hl [1, 0] rfl)
        · have h := gz_f h hc
          refine gr_aload_n hx hb (some (gg_o G)) dX4_readAction_174 rfl (lv_at hl 1 rfl) ?_
          refine C_X4_look hf cx (gz_nh hex) hI (Or.inl (hts _ q1204)) hl.1 (gz_cs (Nat.le_of_ble_eq_true rfl)) (by omega) dX4_readAction_175 h (fun v22 M22 h H locs cells slots hI => ?_)
          refine lv_bipush hx hb dX4_readAction_178 gz_bp_45 ?_
          refine lv_icmp_eq (tgt := 192) hx hb dX4_readAction_180 rfl (fun hc => ?_) (fun hc => ?_)
          · have h := gz_t h hc
            refine lv_iconst hx hb dX4_readAction_192 gz_ic_1 ?_
            refine lv_goto (tgt := 197) hx hb dX4_readAction_193 rfl ?_
            exact T_X4_readAction_197 hf hD h p e s m args below meth c H locs cells slots ls cx hnm hex hI (lv_sub hl [1, 0] rfl)
          · have h := gz_f h hc
            refine gr_aload_n hx hb (some (gg_o G)) dX4_readAction_183 rfl (lv_at hl 1 rfl) ?_
            refine C_X4_look hf cx (gz_nh hex) hI (Or.inl (hts _ q1204)) hl.1 (gz_cs (Nat.le_of_ble_eq_true rfl)) (by omega) dX4_readAction_184 h (fun v23 M23 h H locs cells slots hI => ?_)
            refine lv_bipush hx hb dX4_readAction_187 gz_bp_42 ?_
            refine lv_icmp_ne (tgt := 196) hx hb dX4_readAction_189 rfl (fun hc => ?_) (fun hc => ?_)
            · have h := gz_f h hc
              refine lv_iconst hx hb dX4_readAction_196 gz_ic_0 ?_
              exact T_X4_readAction_197 hf hD h p e s m args below meth c H locs cells slots ls cx hnm hex hI (lv_sub hl [1, 0] rfl)
            · have h := gz_t h hc
              refine lv_iconst hx hb dX4_readAction_192 gz_ic_1 ?_
              refine lv_goto (tgt := 197) hx hb dX4_readAction_193 rfl ?_
              exact T_X4_readAction_197 hf hD h p e s m args below meth c H locs cells slots ls cx hnm hex hI (lv_sub hl [1, 0] rfl)
    · have h := gz_f h hc
      refine gr_aload_n hx hb (some (gg_o G)) dX4_readAction_119 rfl (lv_at hl 1 rfl) ?_
      refine lv_bipush hx hb dX4_readAction_120 gz_bp_64 ?_
      refine C_X4_takes hf cx (gz_nh hex) hI (Or.inl (hts _ q1216)) hl.1 (gz_cs (Nat.le_of_ble_eq_true rfl)) (by omega) dX4_readAction_122 h (fun v24 M24 h H locs cells slots hI => ?_)
      refine lv_if_ne (tgt := 129) hx hb dX4_readAction_125 rfl (fun hc => ?_) (fun hc => ?_)
      · have h := gz_f h hc
        refine gr_aload_n hx hb (some (gg_o G)) dX4_readAction_129 rfl (lv_at hl 1 rfl) ?_
        refine gr_aload_n hx hb (some (gg_o G)) dX4_readAction_130 rfl (lv_at hl 1 rfl) ?_
        refine lv_bipush hx hb dX4_readAction_131 gz_bp_49 ?_
        refine lv_bipush hx hb dX4_readAction_133 gz_bp_57 ?_
        refine C_X4_among hf cx (gz_nh hex) hI (Or.inl (hts _ q1200)) hl.1 (gz_cs (Nat.le_of_ble_eq_true rfl)) (by omega) dX4_readAction_135 h (fun v25 M25 h H locs cells slots hI => ?_)
        refine C_X4_want hf cx (gz_nh hex) hI (Or.inl (hts _ q1208)) hl.1 (gz_cs (Nat.le_of_ble_eq_true rfl)) (by omega) dX4_readAction_138 h (fun M26 h H locs cells slots hI => ?_)
        refine gr_aload_n hx hb (some (gg_o G)) dX4_readAction_141 rfl (lv_at hl 1 rfl) ?_
        refine gr_mgA cx hf hI 35 rfl rfl (Or.inl (hts _ q1027)) dX4_readAction_142 ?_
        refine lv_iload_n hx hb dX4_readAction_145 rfl (lv_at hl 0 rfl) ?_
        refine gr_aload_n hx hb (some (gg_o G)) dX4_readAction_146 rfl (lv_at hl 1 rfl) ?_
        refine C_X4_next hf cx (gz_nh hex) hI (Or.inl (hts _ q1212)) hl.1 (gz_cs (Nat.le_of_ble_eq_true rfl)) (by omega) dX4_readAction_147 h (fun v28 M28 h H locs cells slots hI => ?_)
        refine lv_bipush hx hb dX4_readAction_150 gz_bp_48 ?_
        refine lv_isub hx hb dX4_readAction_152 ?_
        obtain ⟨M29, e29, h⟩ := g_bind h
        refine gr_miast cx hf hI 35 rfl rfl rfl (nr_sI e29) dX4_readAction_153 (fun H locs hI => ?_)
        cases h
        exact gr_vret cx hI dX4_readAction_154
      · have h := gz_t h hc
        cases h
        exact gr_vret cx hI dX4_readAction_128
  · have h := gz_f h hc
    cases h
    exact gr_vret cx hI dX4_readAction_70
theorem T_X4_readAction_23 {l : Launch} {G : gG} {S0 S : gm_S} {d0 fu : Nat} {r : Outcome × gM} (hf : gg_f G = true) (hD : 5 ≤ d0) {x1 : Int32} {M : gM} (h : F_X4_readAction_23 fu x1 M = some r) : B_X4_readAction l d0 G S0 23 [(0, va_rf (some (gg_o G))), (1, .int x1)] [va_rf (some (gg_o G))] (gm_w S M) r.1 (gm_w S r.2) := by
  unfold F_X4_readAction_23 at h
  intro p e s m args below meth c H locs cells slots ls cx hnm hex hI hl
  have hx := cx.1
  have hb := cx.2.1
  have hown := cx.2.2.2.1
  have hts := cx.2.2.2.2.1
  have hK := cx.2.2.2.2.2.1
  refine gr_aload_n hx hb (some (gg_o G)) dX4_readAction_23 rfl (lv_at hl 0 rfl) ?_
  refine gr_mgA cx hf hI 12 rfl rfl (Or.inl (hts _ q1004)) dX4_readAction_24 ?_
  refine gr_aload_n hx hb (some (gg_o G)) dX4_readAction_27 rfl (lv_at hl 0 rfl) ?_
  refine nr_gI cx hf hI 8 rfl (fun _ => rfl) rfl (Or.inl (hts _ q1000)) dX4_readAction_28 ?_
  obtain ⟨v3, e3, h⟩ := g_bind h
  refine gr_miald cx hf hI 12 rfl rfl rfl (nr_aI e3) dX4_readAction_31 ?_
  refine lv_bipush hx hb dX4_readAction_32 gz_bp_40 ?_
  refine lv_icmp_ge (tgt := 41) hx hb dX4_readAction_34 rfl (fun hc => ?_) (fun hc => ?_)
  · have h := gz_t h hc
    refine lv_iconst hx hb dX4_readAction_41 gz_ic_0 ?_
    exact T_X4_readAction_42 hf hD h p e s m args below meth c H locs cells slots ls cx hnm hex hI hl
  · have h := gz_f h hc
    refine lv_iconst hx hb dX4_readAction_37 gz_ic_1 ?_
    refine lv_goto (tgt := 42) hx hb dX4_readAction_38 rfl ?_
    exact T_X4_readAction_42 hf hD h p e s m args below meth c H locs cells slots ls cx hnm hex hI hl
theorem T_X4_readAction {l : Launch} {G : gG} {S0 S : gm_S} {d0 fu : Nat} {r : Outcome × gM} (hf : gg_f G = true) (hD : 5 ≤ d0) {x1 : Int32} {M : gM} (h : F_X4_readAction fu x1 M = some r) : B_X4_readAction l d0 G S0 0 [(0, va_rf (some (gg_o G))), (1, .int x1)] [] (gm_w S M) r.1 (gm_w S r.2) := by
  unfold F_X4_readAction at h
  intro p e s m args below meth c H locs cells slots ls cx hnm hex hI hl
  have hx := cx.1
  have hb := cx.2.1
  have hown := cx.2.2.2.1
  have hts := cx.2.2.2.2.1
  have hK := cx.2.2.2.2.2.1
  refine gr_aload_n hx hb (some (gg_o G)) dX4_readAction_0 rfl (lv_at hl 0 rfl) ?_
  refine gr_aload_n hx hb (some (gg_o G)) dX4_readAction_1 rfl (lv_at hl 0 rfl) ?_
  refine lv_bipush hx hb dX4_readAction_2 gz_bp_65 ?_
  refine lv_bipush hx hb dX4_readAction_4 gz_bp_72 ?_
  refine C_X4_among hf cx (gz_nh hex) hI (Or.inl (hts _ q1200)) hl.1 (gz_cs (Nat.le_of_ble_eq_true rfl)) (by omega) dX4_readAction_6 h (fun v1 M1 h H locs cells slots hI => ?_)
  refine lv_if_ne (tgt := 23) hx hb dX4_readAction_9 rfl (fun hc => ?_) (fun hc => ?_)
  · have h := gz_f h hc
    exact T_X4_readAction_23 hf hD h p e s m args below meth c H locs cells slots ls cx hnm hex hI hl
  · have h := gz_t h hc
    refine gr_aload_n hx hb (some (gg_o G)) dX4_readAction_12 rfl (lv_at hl 0 rfl) ?_
    refine lv_bipush hx hb dX4_readAction_13 gz_bp_117 ?_
    refine lv_bipush hx hb dX4_readAction_15 gz_bp_122 ?_
    refine C_X4_among hf cx (gz_nh hex) hI (Or.inl (hts _ q1200)) hl.1 (gz_cs (Nat.le_of_ble_eq_true rfl)) (by omega) dX4_readAction_17 h (fun v2 M2 h H locs cells slots hI => ?_)
    refine lv_if_eq (tgt := 41) hx hb dX4_readAction_20 rfl (fun hc => ?_) (fun hc => ?_)
    · have h := gz_t h hc
      refine lv_iconst hx hb dX4_readAction_41 gz_ic_0 ?_
      exact T_X4_readAction_42 hf hD h p e s m args below meth c H locs cells slots ls cx hnm hex hI hl
    · have h := gz_f h hc
      exact T_X4_readAction_23 hf hD h p e s m args below meth c H locs cells slots ls cx hnm hex hI hl
theorem M_X4_readAction {l : Launch} {G : gG} {fu d0 : Nat} (hf : gg_f G = true) (hfl : l.flags = flags0) (hD : 5 ≤ d0) {x1 : Int32} {S : gm_S} {M : gM} {o : Outcome} {M2 : gM} (h : F_X4_readAction fu x1 M = some (o, M2)) : gx_Met l yX4_readAction (ws_ yX4_readAction cX4_readAction 3 (Option.none : Option Jvm.ClassFile.FieldType)) d0 G (gm_w S M) [va_rf (some (gg_o G)), .int x1] o (gm_w S M2) := by
  refine gx_of hfl (by decide) (fun p e s m below meth c cx hnm hex hI => ?_)
  rw [lg_entry_eq]
  exact T_X4_readAction (r := (o, M2)) hf hD h p e s m _ below meth c _ _ _ _ _ cx hnm (gz_nh0 hex) hI (lv_entry _ (Nat.le_of_ble_eq_true rfl))
theorem C_X4_readAction {p : Program} {l : Launch} {e : Env} {s : State} {m : MethodId} {args : Array Value} {below : List Frame} {meth : Method} {c : Code} {H : Heap} {locs : List Loc} {cells slots : Nat} {cc : ByteArray} {pc nL : Nat} {ls : Array Slot} {rest : List Value} {G : gG} {S0 S : gm_S} {own : String} {ret : Option FieldType} {d0 index fu : Nat} {M : gM} {x1 : Int32} {k : gM → gQ} {r : Outcome × gM} (hf : gg_f G = true) (cx : gx_cx p l s m args meth c G own cc nL ret) (hex : ∀ x ∈ c.exceptionTable.toList, covers x pc = false) (hI : gw_I G S0 (gm_w S M) H locs cells slots) (hl : gl_M own index yX4_readAction args s) (hlv : ls.size = nL) (hrest : (rest.map fun v => v.category).sum ≤ 8) (hD : 6 ≤ d0) (hdg : decode cc pc = .ok (.invokevirtual index, 3)) (h : gz_cV (F_X4_readAction fu x1 M) k = some r)
    (kk : ∀ (z : gM), k z = some r → ∀ (H : Heap) (locs : List Loc) (cells slots : Nat), gw_I G S0 (gm_w S z) H locs cells slots → W p l e (gx_rm d0 S0) s m args below meth c H locs cells slots (gx_MQ below G S0 (gm_w S r.2) r.1 s) (F0 m (pc + 3) ls rest)) : W p l e (gx_rm d0 S0) s m args below meth c H locs cells slots (gx_MQ below G S0 (gm_w S r.2) r.1 s) (F0 m pc ls (.int x1 :: va_rf (some (gg_o G)) :: rest)) := by
  have hts := cx.2.2.2.2.1
  have hK := cx.2.2.2.2.2.1
  exact gz_goV (d := d0 - 1) (gm_w S) cx hex hI hlv hrest (by omega) (Nat.le_of_ble_eq_true rfl) (gz_ws (lw_meth q1231) hts) (hts _ q78) (gb_rawV (As := [.int x1]) cx hl (hts _ q1230) (hts _ qs37) (gl_C.code (hts _ q1231)) hy_X4_readAction (gr_recvM hK hI.1 hf) rfl rfl hdg) (fun o S2 e => M_X4_readAction hf cx.2.2.2.2.2.2.2.2 (by omega) e) h kk
abbrev B_X4_readActions (l : Launch) (d0 : Nat) (G : gG) (S0 : gm_S) : Nat → List (Nat × Value) → List Value → gm_S → Outcome → gm_S → Prop := gz_B l RX4 "readActions" cX4_readActions 2 (Option.none : Option Jvm.ClassFile.FieldType) [] d0 G S0
theorem T_X4_readActions_0 {l : Launch} {G : gG} {S0 S : gm_S} {d0 fu : Nat} {r : Outcome × gM} (hf : gg_f G = true) (hD : 6 ≤ d0) : ∀ (n : Nat) (x1 : Int32) (M : gM), F_X4_readActions_0 fu n x1 M = some r → B_X4_readActions l d0 G S0 0 [(0, va_rf (some (gg_o G))), (1, .int x1)] [] (gm_w S M) r.1 (gm_w S r.2) := by
  intro n
  induction n with
  | zero => intro x1 M h; exact nomatch (show (none : gQ) = some r from h)
  | succ n ih =>
    intro x1 M h
    rw [F_X4_readActions_0] at h
    intro p e s m args below meth c H locs cells slots ls cx hnm hex hI hl
    have hx := cx.1
    have hb := cx.2.1
    have hown := cx.2.2.2.1
    have hts := cx.2.2.2.2.1
    have hK := cx.2.2.2.2.2.1
    refine gr_aload_n hx hb (some (gg_o G)) dX4_readActions_0 rfl (lv_at hl 0 rfl) ?_
    refine lv_iload_n hx hb dX4_readActions_1 rfl (lv_at hl 1 rfl) ?_
    refine C_X4_readAction hf cx (gz_nh hex) hI (Or.inl (hts _ q1228)) hl.1 (gz_cs (Nat.le_of_ble_eq_true rfl)) (by omega) dX4_readActions_2 h (fun M1 h H locs cells slots hI => ?_)
    refine gr_aload_n hx hb (some (gg_o G)) dX4_readActions_5 rfl (lv_at hl 0 rfl) ?_
    refine lv_bipush hx hb dX4_readActions_6 gz_bp_44 ?_
    refine C_X4_takes hf cx (gz_nh hex) hI (Or.inl (hts _ q1216)) hl.1 (gz_cs (Nat.le_of_ble_eq_true rfl)) (by omega) dX4_readActions_8 h (fun v2 M2 h H locs cells slots hI => ?_)
    refine lv_if_ne (tgt := 0) hx hb dX4_readActions_11 rfl (fun hc => ?_) (fun hc => ?_)
    · have h := gz_f h hc
      exact ih _ _ h p e s m args below meth c H locs cells slots ls cx hnm hex hI hl
    · have h := gz_t h hc
      cases h
      exact gr_vret cx hI dX4_readActions_14
theorem T_X4_readActions {l : Launch} {G : gG} {S0 S : gm_S} {d0 fu : Nat} {r : Outcome × gM} (hf : gg_f G = true) (hD : 6 ≤ d0) {x1 : Int32} {M : gM} (h : F_X4_readActions fu x1 M = some r) : B_X4_readActions l d0 G S0 0 [(0, va_rf (some (gg_o G))), (1, .int x1)] [] (gm_w S M) r.1 (gm_w S r.2) := by
  unfold F_X4_readActions at h
  intro p e s m args below meth c H locs cells slots ls cx hnm hex hI hl
  have hx := cx.1
  have hb := cx.2.1
  have hown := cx.2.2.2.1
  have hts := cx.2.2.2.2.1
  have hK := cx.2.2.2.2.2.1
  exact T_X4_readActions_0 hf hD fu _ _ h p e s m args below meth c H locs cells slots ls cx hnm hex hI hl
theorem M_X4_readActions {l : Launch} {G : gG} {fu d0 : Nat} (hf : gg_f G = true) (hfl : l.flags = flags0) (hD : 6 ≤ d0) {x1 : Int32} {S : gm_S} {M : gM} {o : Outcome} {M2 : gM} (h : F_X4_readActions fu x1 M = some (o, M2)) : gx_Met l yX4_readActions (ws_ yX4_readActions cX4_readActions 2 (Option.none : Option Jvm.ClassFile.FieldType)) d0 G (gm_w S M) [va_rf (some (gg_o G)), .int x1] o (gm_w S M2) := by
  refine gx_of hfl (by decide) (fun p e s m below meth c cx hnm hex hI => ?_)
  rw [lg_entry_eq]
  exact T_X4_readActions (r := (o, M2)) hf hD h p e s m _ below meth c _ _ _ _ _ cx hnm (gz_nh0 hex) hI (lv_entry _ (Nat.le_of_ble_eq_true rfl))
theorem C_X4_readActions {p : Program} {l : Launch} {e : Env} {s : State} {m : MethodId} {args : Array Value} {below : List Frame} {meth : Method} {c : Code} {H : Heap} {locs : List Loc} {cells slots : Nat} {cc : ByteArray} {pc nL : Nat} {ls : Array Slot} {rest : List Value} {G : gG} {S0 S : gm_S} {own : String} {ret : Option FieldType} {d0 index fu : Nat} {M : gM} {x1 : Int32} {k : gM → gQ} {r : Outcome × gM} (hf : gg_f G = true) (cx : gx_cx p l s m args meth c G own cc nL ret) (hex : ∀ x ∈ c.exceptionTable.toList, covers x pc = false) (hI : gw_I G S0 (gm_w S M) H locs cells slots) (hl : gl_M own index yX4_readActions args s) (hlv : ls.size = nL) (hrest : (rest.map fun v => v.category).sum ≤ 8) (hD : 7 ≤ d0) (hdg : decode cc pc = .ok (.invokevirtual index, 3)) (h : gz_cV (F_X4_readActions fu x1 M) k = some r)
    (kk : ∀ (z : gM), k z = some r → ∀ (H : Heap) (locs : List Loc) (cells slots : Nat), gw_I G S0 (gm_w S z) H locs cells slots → W p l e (gx_rm d0 S0) s m args below meth c H locs cells slots (gx_MQ below G S0 (gm_w S r.2) r.1 s) (F0 m (pc + 3) ls rest)) : W p l e (gx_rm d0 S0) s m args below meth c H locs cells slots (gx_MQ below G S0 (gm_w S r.2) r.1 s) (F0 m pc ls (.int x1 :: va_rf (some (gg_o G)) :: rest)) := by
  have hts := cx.2.2.2.2.1
  have hK := cx.2.2.2.2.2.1
  exact gz_goV (d := d0 - 1) (gm_w S) cx hex hI hlv hrest (by omega) (Nat.le_of_ble_eq_true rfl) (gz_ws (lw_meth q1227) hts) (hts _ q78) (gb_rawV (As := [.int x1]) cx hl (hts _ q1226) (hts _ qs36) (gl_C.code (hts _ q1227)) hy_X4_readActions (gr_recvM hK hI.1 hf) rfl rfl hdg) (fun o S2 e => M_X4_readActions hf cx.2.2.2.2.2.2.2.2 (by omega) e) h kk
abbrev B_X4_readName (l : Launch) (d0 : Nat) (G : gG) (S0 : gm_S) : Nat → List (Nat × Value) → List Value → gm_S → Outcome → gm_S → Prop := gz_B l RX4 "readName" cX4_readName 4 (Option.some Jvm.ClassFile.FieldType.int) [] d0 G S0
theorem T_X4_readName_105 {l : Launch} {G : gG} {S0 S : gm_S} {d0 fu : Nat} {r : Outcome × gM} (hf : gg_f G = true) (hD : 4 ≤ d0) {x2 : Int32} {M : gM} (h : F_X4_readName_105 fu x2 M = some r) : B_X4_readName l d0 G S0 105 [(0, va_rf (some (gg_o G))), (2, .int x2)] [] (gm_w S M) r.1 (gm_w S r.2) := by
  unfold F_X4_readName_105 at h
  intro p e s m args below meth c H locs cells slots ls cx hnm hex hI hl
  have hx := cx.1
  have hb := cx.2.1
  have hown := cx.2.2.2.1
  have hts := cx.2.2.2.2.1
  have hK := cx.2.2.2.2.2.1
  refine gr_aload_n hx hb (some (gg_o G)) dX4_readName_105 rfl (lv_at hl 0 rfl) ?_
  refine gr_mgA cx hf hI 13 rfl rfl (Or.inl (hts _ q1005)) dX4_readName_106 ?_
  refine gr_aload_n hx hb (some (gg_o G)) dX4_readName_109 rfl (lv_at hl 0 rfl) ?_
  refine nr_gI cx hf hI 8 rfl (fun _ => rfl) rfl (Or.inl (hts _ q1000)) dX4_readName_110 ?_
  refine lv_dup2_11 hx hb dX4_readName_113 rfl (gl_cat (some (gg_m G 13))) ?_
  obtain ⟨v3, e3, h⟩ := g_bind h
  refine gr_miald cx hf hI 13 rfl rfl rfl (nr_aI e3) dX4_readName_114 ?_
  refine lv_iconst hx hb dX4_readName_115 gz_ic_1 ?_
  refine lv_iadd hx hb dX4_readName_116 ?_
  obtain ⟨M4, e4, h⟩ := g_bind h
  refine gr_miast cx hf hI 13 rfl rfl rfl (nr_sI e4) dX4_readName_117 (fun H locs hI => ?_)
  refine lv_iload_n hx hb dX4_readName_118 rfl (lv_at hl 1 rfl) ?_
  cases h
  exact gr_iret cx hI dX4_readName_119
theorem T_X4_readName_71 {l : Launch} {G : gG} {S0 S : gm_S} {d0 fu : Nat} {r : Outcome × gM} (hf : gg_f G = true) (hD : 4 ≤ d0) : ∀ (n : Nat) (x1 : Int32) (x2 : Int32) (x3 : Int32) (M : gM), F_X4_readName_71 fu n x1 x2 x3 M = some r → B_X4_readName l d0 G S0 71 [(0, va_rf (some (gg_o G))), (1, .int x1), (2, .int x2), (3, .int x3)] [] (gm_w S M) r.1 (gm_w S r.2) := by
  intro n
  induction n with
  | zero => intro x1 x2 x3 M h; exact nomatch (show (none : gQ) = some r from h)
  | succ n ih =>
    intro x1 x2 x3 M h
    rw [F_X4_readName_71] at h
    intro p e s m args below meth c H locs cells slots ls cx hnm hex hI hl
    have hx := cx.1
    have hb := cx.2.1
    have hown := cx.2.2.2.1
    have hts := cx.2.2.2.2.1
    have hK := cx.2.2.2.2.2.1
    refine lv_iload_n hx hb dX4_readName_71 rfl (lv_at hl 3 rfl) ?_
    refine lv_iconst hx hb dX4_readName_72 gz_ic_2 ?_
    refine lv_icmp_ge (tgt := 105) hx hb dX4_readName_73 rfl (fun hc => ?_) (fun hc => ?_)
    · have h := gz_t h hc
      exact T_X4_readName_105 hf hD h p e s m args below meth c H locs cells slots ls cx hnm hex hI (lv_sub hl [0, 2] rfl)
    · have h := gz_f h hc
      refine lv_iload_n hx hb dX4_readName_76 rfl (lv_at hl 1 rfl) ?_
      refine lv_if_eq (tgt := 105) hx hb dX4_readName_77 rfl (fun hc => ?_) (fun hc => ?_)
      · have h := gz_t h hc
        exact T_X4_readName_105 hf hD h p e s m args below meth c H locs cells slots ls cx hnm hex hI (lv_sub hl [0, 2] rfl)
      · have h := gz_f h hc
        refine gr_aload_n hx hb (some (gg_o G)) dX4_readName_80 rfl (lv_at hl 0 rfl) ?_
        refine lv_bipush hx hb dX4_readName_81 gz_bp_42 ?_
        refine C_X4_takes hf cx (gz_nh hex) hI (Or.inl (hts _ q1216)) hl.1 (gz_cs (Nat.le_of_ble_eq_true rfl)) (by omega) dX4_readName_83 h (fun v1 M1 h H locs cells slots hI => ?_)
        refine lv_if_eq (tgt := 105) hx hb dX4_readName_86 rfl (fun hc => ?_) (fun hc => ?_)
        · have h := gz_t h hc
          exact T_X4_readName_105 hf hD h p e s m args below meth c H locs cells slots ls cx hnm hex hI (lv_sub hl [0, 2] rfl)
        · have h := gz_f h hc
          refine gr_aload_n hx hb (some (gg_o G)) dX4_readName_89 rfl (lv_at hl 0 rfl) ?_
          refine gr_mgA cx hf hI 25 rfl rfl (Or.inl (hts _ q1017)) dX4_readName_90 ?_
          refine lv_iload_n hx hb dX4_readName_93 rfl (lv_at hl 2 rfl) ?_
          refine lv_dup2_11 hx hb dX4_readName_94 rfl (gl_cat (some (gg_m G 25))) ?_
          obtain ⟨v3, e3, h⟩ := g_bind h
          refine gr_miald cx hf hI 25 rfl rfl rfl (nr_aI e3) dX4_readName_95 ?_
          refine lv_iconst hx hb dX4_readName_96 gz_ic_1 ?_
          refine lv_iadd hx hb dX4_readName_97 ?_
          obtain ⟨M4, e4, h⟩ := g_bind h
          refine gr_miast cx hf hI 25 rfl rfl rfl (nr_sI e4) dX4_readName_98 (fun H locs hI => ?_)
          refine gz_iinc (k := 3) (v := (x3 + (1 : Int32))) hx hb dX4_readName_99 hl rfl (congrArg (fun z => x3 + z) gz_ic_1) (by decide) [0, 1, 2] rfl (gz_con ⟨gz_ne rfl, Or.inl (gz_ne rfl)⟩ (gz_con ⟨gz_ne rfl, Or.inl (gz_ne rfl)⟩ (gz_con ⟨gz_ne rfl, Or.inr rfl⟩ gz_nil))) (fun ls hl => ?_)
          refine lv_goto (tgt := 71) hx hb dX4_readName_102 rfl ?_
          exact ih _ _ _ _ h p e s m args below meth c H locs cells slots ls cx hnm hex hI (lv_sub hl [1, 2, 3, 0] rfl)
theorem T_X4_readName {l : Launch} {G : gG} {S0 S : gm_S} {d0 fu : Nat} {r : Outcome × gM} (hf : gg_f G = true) (hD : 4 ≤ d0) {x1 : Int32} {M : gM} (h : F_X4_readName fu x1 M = some r) : B_X4_readName l d0 G S0 0 [(0, va_rf (some (gg_o G))), (1, .int x1)] [] (gm_w S M) r.1 (gm_w S r.2) := by
  unfold F_X4_readName at h
  intro p e s m args below meth c H locs cells slots ls cx hnm hex hI hl
  have hx := cx.1
  have hb := cx.2.1
  have hown := cx.2.2.2.1
  have hts := cx.2.2.2.2.1
  have hK := cx.2.2.2.2.2.1
  refine gr_aload_n hx hb (some (gg_o G)) dX4_readName_0 rfl (lv_at hl 0 rfl) ?_
  refine gr_aload_n hx hb (some (gg_o G)) dX4_readName_1 rfl (lv_at hl 0 rfl) ?_
  refine lv_bipush hx hb dX4_readName_2 gz_bp_97 ?_
  refine lv_bipush hx hb dX4_readName_4 gz_bp_112 ?_
  refine C_X4_among hf cx (gz_nh hex) hI (Or.inl (hts _ q1200)) hl.1 (gz_cs (Nat.le_of_ble_eq_true rfl)) (by omega) dX4_readName_6 h (fun v1 M1 h H locs cells slots hI => ?_)
  refine C_X4_want hf cx (gz_nh hex) hI (Or.inl (hts _ q1208)) hl.1 (gz_cs (Nat.le_of_ble_eq_true rfl)) (by omega) dX4_readName_9 h (fun M2 h H locs cells slots hI => ?_)
  refine lv_bipush hx hb dX4_readName_12 gz_bp_64 ?_
  refine gr_aload_n hx hb (some (gg_o G)) dX4_readName_14 rfl (lv_at hl 0 rfl) ?_
  refine nr_gI cx hf hI 8 rfl (fun _ => rfl) rfl (Or.inl (hts _ q1000)) dX4_readName_15 ?_
  refine lv_imul hx hb dX4_readName_18 ?_
  refine gr_aload_n hx hb (some (gg_o G)) dX4_readName_19 rfl (lv_at hl 0 rfl) ?_
  refine gr_mgA cx hf hI 13 rfl rfl (Or.inl (hts _ q1005)) dX4_readName_20 ?_
  refine gr_aload_n hx hb (some (gg_o G)) dX4_readName_23 rfl (lv_at hl 0 rfl) ?_
  refine nr_gI cx hf hI 8 rfl (fun _ => rfl) rfl (Or.inl (hts _ q1000)) dX4_readName_24 ?_
  obtain ⟨v6, e6, h⟩ := g_bind h
  refine gr_miald cx hf hI 13 rfl rfl rfl (nr_aI e6) dX4_readName_27 ?_
  refine lv_iadd hx hb dX4_readName_28 ?_
  refine gz_istore_n hx hb dX4_readName_29 rfl hl (by decide) [0, 1] rfl (gz_con ⟨gz_ne rfl, Or.inl (gz_ne rfl)⟩ (gz_con ⟨gz_ne rfl, Or.inr rfl⟩ gz_nil)) (fun ls hl => ?_)
  refine gr_aload_n hx hb (some (gg_o G)) dX4_readName_30 rfl (lv_at hl 1 rfl) ?_
  refine nr_gI cx hf hI 5 rfl (fun _ => rfl) rfl (Or.inl (hts _ q997)) dX4_readName_31 ?_
  refine lv_if_eq (tgt := 39) hx hb dX4_readName_34 rfl (fun hc => ?_) (fun hc => ?_)
  · have h := gz_t h hc
    refine gr_aload_n hx hb (some (gg_o G)) dX4_readName_39 rfl (lv_at hl 1 rfl) ?_
    refine gr_mgA cx hf hI 24 rfl rfl (Or.inl (hts _ q1016)) dX4_readName_40 ?_
    refine lv_iload_n hx hb dX4_readName_43 rfl (lv_at hl 0 rfl) ?_
    refine gr_aload_n hx hb (some (gg_o G)) dX4_readName_44 rfl (lv_at hl 1 rfl) ?_
    refine nr_gI cx hf hI 4 rfl (fun _ => rfl) rfl (Or.inl (hts _ q996)) dX4_readName_45 ?_
    obtain ⟨M10, e10, h⟩ := g_bind h
    refine gr_miast cx hf hI 24 rfl rfl rfl (nr_sI e10) dX4_readName_48 (fun H locs hI => ?_)
    refine gr_aload_n hx hb (some (gg_o G)) dX4_readName_49 rfl (lv_at hl 1 rfl) ?_
    refine gr_mgA cx hf hI 23 rfl rfl (Or.inl (hts _ q1015)) dX4_readName_50 ?_
    refine lv_iload_n hx hb dX4_readName_53 rfl (lv_at hl 0 rfl) ?_
    refine gr_aload_n hx hb (some (gg_o G)) dX4_readName_54 rfl (lv_at hl 1 rfl) ?_
    refine C_X4_next hf cx (gz_nh hex) hI (Or.inl (hts _ q1212)) hl.1 (gz_cs (Nat.le_of_ble_eq_true rfl)) (by omega) dX4_readName_55 h (fun v12 M12 h H locs cells slots hI => ?_)
    refine lv_bipush hx hb dX4_readName_58 gz_bp_97 ?_
    refine lv_isub hx hb dX4_readName_60 ?_
    obtain ⟨M13, e13, h⟩ := g_bind h
    refine gr_miast cx hf hI 23 rfl rfl rfl (nr_sI e13) dX4_readName_61 (fun H locs hI => ?_)
    refine gr_aload_n hx hb (some (gg_o G)) dX4_readName_62 rfl (lv_at hl 1 rfl) ?_
    refine gr_mgA cx hf hI 25 rfl rfl (Or.inl (hts _ q1017)) dX4_readName_63 ?_
    refine lv_iload_n hx hb dX4_readName_66 rfl (lv_at hl 0 rfl) ?_
    refine lv_iconst hx hb dX4_readName_67 gz_ic_0 ?_
    obtain ⟨M15, e15, h⟩ := g_bind h
    refine gr_miast cx hf hI 25 rfl rfl rfl (nr_sI e15) dX4_readName_68 (fun H locs hI => ?_)
    refine lv_iconst hx hb dX4_readName_69 gz_ic_0 ?_
    refine gz_istore_n hx hb dX4_readName_70 rfl hl (by decide) [0, 1, 2] rfl (gz_con ⟨gz_ne rfl, Or.inr rfl⟩ (gz_con ⟨gz_ne rfl, Or.inl (gz_ne rfl)⟩ (gz_con ⟨gz_ne rfl, Or.inl (gz_ne rfl)⟩ gz_nil))) (fun ls hl => ?_)
    exact T_X4_readName_71 hf hD fu _ _ _ _ h p e s m args below meth c H locs cells slots ls cx hnm hex hI (lv_sub hl [2, 3, 1, 0] rfl)
  · have h := gz_f h hc
    refine lv_iconst hx hb dX4_readName_37 gz_ic_0 ?_
    cases h
    exact gr_iret cx hI dX4_readName_38
theorem M_X4_readName {l : Launch} {G : gG} {fu d0 : Nat} (hf : gg_f G = true) (hfl : l.flags = flags0) (hD : 4 ≤ d0) {x1 : Int32} {S : gm_S} {M : gM} {o : Outcome} {M2 : gM} (h : F_X4_readName fu x1 M = some (o, M2)) : gx_Met l yX4_readName (ws_ yX4_readName cX4_readName 4 (Option.some Jvm.ClassFile.FieldType.int)) d0 G (gm_w S M) [va_rf (some (gg_o G)), .int x1] o (gm_w S M2) := by
  refine gx_of hfl (by decide) (fun p e s m below meth c cx hnm hex hI => ?_)
  rw [lg_entry_eq]
  exact T_X4_readName (r := (o, M2)) hf hD h p e s m _ below meth c _ _ _ _ _ cx hnm (gz_nh0 hex) hI (lv_entry _ (Nat.le_of_ble_eq_true rfl))
theorem C_X4_readName {p : Program} {l : Launch} {e : Env} {s : State} {m : MethodId} {args : Array Value} {below : List Frame} {meth : Method} {c : Code} {H : Heap} {locs : List Loc} {cells slots : Nat} {cc : ByteArray} {pc nL : Nat} {ls : Array Slot} {rest : List Value} {G : gG} {S0 S : gm_S} {own : String} {ret : Option FieldType} {d0 index fu : Nat} {M : gM} {x1 : Int32} {k : Int32 → gM → gQ} {r : Outcome × gM} (hf : gg_f G = true) (cx : gx_cx p l s m args meth c G own cc nL ret) (hex : ∀ x ∈ c.exceptionTable.toList, covers x pc = false) (hI : gw_I G S0 (gm_w S M) H locs cells slots) (hl : gl_M own index yX4_readName args s) (hlv : ls.size = nL) (hrest : (rest.map fun v => v.category).sum ≤ 8) (hD : 5 ≤ d0) (hdg : decode cc pc = .ok (.invokevirtual index, 3)) (h : gz_cI (F_X4_readName fu x1 M) k = some r)
    (kk : ∀ (v : Int32) (z : gM), k v z = some r → ∀ (H : Heap) (locs : List Loc) (cells slots : Nat), gw_I G S0 (gm_w S z) H locs cells slots → W p l e (gx_rm d0 S0) s m args below meth c H locs cells slots (gx_MQ below G S0 (gm_w S r.2) r.1 s) (F0 m (pc + 3) ls (.int v :: rest))) : W p l e (gx_rm d0 S0) s m args below meth c H locs cells slots (gx_MQ below G S0 (gm_w S r.2) r.1 s) (F0 m pc ls (.int x1 :: va_rf (some (gg_o G)) :: rest)) := by
  have hts := cx.2.2.2.2.1
  have hK := cx.2.2.2.2.2.1
  exact gz_goI (d := d0 - 1) (gm_w S) cx hex hI hlv hrest (by omega) (Nat.le_of_ble_eq_true rfl) (gz_ws (lw_meth q1248) hts) (hts _ q78) (gb_rawV (As := [.int x1]) cx hl (hts _ q1247) (hts _ qs41) (gl_C.code (hts _ q1248)) hy_X4_readName (gr_recvM hK hI.1 hf) rfl rfl hdg) (fun o S2 e => M_X4_readName hf cx.2.2.2.2.2.2.2.2 (by omega) e) h kk
abbrev B_X4_readTest (l : Launch) (d0 : Nat) (G : gG) (S0 : gm_S) : Nat → List (Nat × Value) → List Value → gm_S → Outcome → gm_S → Prop := gz_B l RX4 "readTest" cX4_readTest 2 (Option.none : Option Jvm.ClassFile.FieldType) [] d0 G S0
theorem T_X4_readTest_154 {l : Launch} {G : gG} {S0 S : gm_S} {d0 fu : Nat} {r : Outcome × gM} (hf : gg_f G = true) (hD : 5 ≤ d0)  {M : gM} (h : F_X4_readTest_154 fu  M = some r) : B_X4_readTest l d0 G S0 154 [(0, va_rf (some (gg_o G)))] [] (gm_w S M) r.1 (gm_w S r.2) := by
  unfold F_X4_readTest_154 at h
  intro p e s m args below meth c H locs cells slots ls cx hnm hex hI hl
  have hx := cx.1
  have hb := cx.2.1
  have hown := cx.2.2.2.1
  have hts := cx.2.2.2.2.1
  have hK := cx.2.2.2.2.2.1
  refine gr_aload_n hx hb (some (gg_o G)) dX4_readTest_154 rfl (lv_at hl 0 rfl) ?_
  refine gr_mgA cx hf hI 11 rfl rfl (Or.inl (hts _ q1003)) dX4_readTest_155 ?_
  refine gr_aload_n hx hb (some (gg_o G)) dX4_readTest_158 rfl (lv_at hl 0 rfl) ?_
  refine nr_gI cx hf hI 8 rfl (fun _ => rfl) rfl (Or.inl (hts _ q1000)) dX4_readTest_159 ?_
  refine lv_dup2_11 hx hb dX4_readTest_162 rfl (gl_cat (some (gg_m G 11))) ?_
  obtain ⟨v3, e3, h⟩ := g_bind h
  refine gr_miald cx hf hI 11 rfl rfl rfl (nr_aI e3) dX4_readTest_163 ?_
  refine lv_iconst hx hb dX4_readTest_164 gz_ic_1 ?_
  refine lv_iadd hx hb dX4_readTest_165 ?_
  obtain ⟨M4, e4, h⟩ := g_bind h
  refine gr_miast cx hf hI 11 rfl rfl rfl (nr_sI e4) dX4_readTest_166 (fun H locs hI => ?_)
  cases h
  exact gr_vret cx hI dX4_readTest_167
theorem T_X4_readTest_117 {l : Launch} {G : gG} {S0 S : gm_S} {d0 fu : Nat} {r : Outcome × gM} (hf : gg_f G = true) (hD : 5 ≤ d0) {x1 : Int32} {s0 : Int32} {M : gM} (h : F_X4_readTest_117 fu x1 s0 M = some r) : B_X4_readTest l d0 G S0 117 [(0, va_rf (some (gg_o G))), (1, .int x1)] [.int s0, va_rf (some (gg_o G))] (gm_w S M) r.1 (gm_w S r.2) := by
  unfold F_X4_readTest_117 at h
  intro p e s m args below meth c H locs cells slots ls cx hnm hex hI hl
  have hx := cx.1
  have hb := cx.2.1
  have hown := cx.2.2.2.1
  have hts := cx.2.2.2.2.1
  have hK := cx.2.2.2.2.2.1
  refine C_X4_want hf cx (gz_nh hex) hI (Or.inl (hts _ q1208)) hl.1 (gz_cs (Nat.le_of_ble_eq_true rfl)) (by omega) dX4_readTest_117 h (fun M1 h H locs cells slots hI => ?_)
  refine gr_aload_n hx hb (some (gg_o G)) dX4_readTest_120 rfl (lv_at hl 0 rfl) ?_
  refine gr_mgA cx hf hI 28 rfl rfl (Or.inl (hts _ q1020)) dX4_readTest_121 ?_
  refine lv_iload_n hx hb dX4_readTest_124 rfl (lv_at hl 1 rfl) ?_
  refine gr_aload_n hx hb (some (gg_o G)) dX4_readTest_125 rfl (lv_at hl 0 rfl) ?_
  refine C_X4_next hf cx (gz_nh hex) hI (Or.inl (hts _ q1212)) hl.1 (gz_cs (Nat.le_of_ble_eq_true rfl)) (by omega) dX4_readTest_126 h (fun v3 M3 h H locs cells slots hI => ?_)
  obtain ⟨M4, e4, h⟩ := g_bind h
  refine gr_miast cx hf hI 28 rfl rfl rfl (nr_sI e4) dX4_readTest_129 (fun H locs hI => ?_)
  refine gr_aload_n hx hb (some (gg_o G)) dX4_readTest_130 rfl (lv_at hl 0 rfl) ?_
  refine C_X4_readOperand hf cx (gz_nh hex) hI (Or.inl (hts _ q1232)) hl.1 (gz_cs (Nat.le_of_ble_eq_true rfl)) (by omega) dX4_readTest_131 h (fun M5 h H locs cells slots hI => ?_)
  refine gr_aload_n hx hb (some (gg_o G)) dX4_readTest_134 rfl (lv_at hl 0 rfl) ?_
  refine gr_mgA cx hf hI 30 rfl rfl (Or.inl (hts _ q1022)) dX4_readTest_135 ?_
  refine lv_iload_n hx hb dX4_readTest_138 rfl (lv_at hl 1 rfl) ?_
  refine gr_aload_n hx hb (some (gg_o G)) dX4_readTest_139 rfl (lv_at hl 0 rfl) ?_
  refine nr_gI cx hf hI 38 rfl (fun _ => rfl) rfl (Or.inl (hts _ q1030)) dX4_readTest_140 ?_
  obtain ⟨M8, e8, h⟩ := g_bind h
  refine gr_miast cx hf hI 30 rfl rfl rfl (nr_sI e8) dX4_readTest_143 (fun H locs hI => ?_)
  refine gr_aload_n hx hb (some (gg_o G)) dX4_readTest_144 rfl (lv_at hl 0 rfl) ?_
  refine gr_mgA cx hf hI 32 rfl rfl (Or.inl (hts _ q1024)) dX4_readTest_145 ?_
  refine lv_iload_n hx hb dX4_readTest_148 rfl (lv_at hl 1 rfl) ?_
  refine gr_aload_n hx hb (some (gg_o G)) dX4_readTest_149 rfl (lv_at hl 0 rfl) ?_
  refine nr_gD cx hf hI 39 rfl (fun _ => rfl) rfl (Or.inl (hts _ q1031)) dX4_readTest_150 ?_
  obtain ⟨M11, e11, h⟩ := g_bind h
  refine gr_mdast cx hf hI 32 rfl rfl rfl (nr_sD e11) dX4_readTest_153 (fun H locs hI => ?_)
  exact T_X4_readTest_154 hf hD h p e s m args below meth c H locs cells slots ls cx hnm hex hI (lv_sub hl [0] rfl)
theorem T_X4_readTest {l : Launch} {G : gG} {S0 S : gm_S} {d0 fu : Nat} {r : Outcome × gM} (hf : gg_f G = true) (hD : 5 ≤ d0)  {M : gM} (h : F_X4_readTest fu  M = some r) : B_X4_readTest l d0 G S0 0 [(0, va_rf (some (gg_o G)))] [] (gm_w S M) r.1 (gm_w S r.2) := by
  unfold F_X4_readTest at h
  intro p e s m args below meth c H locs cells slots ls cx hnm hex hI hl
  have hx := cx.1
  have hb := cx.2.1
  have hown := cx.2.2.2.1
  have hts := cx.2.2.2.2.1
  have hK := cx.2.2.2.2.2.1
  refine lv_bipush hx hb dX4_readTest_0 gz_bp_64 ?_
  refine gr_aload_n hx hb (some (gg_o G)) dX4_readTest_2 rfl (lv_at hl 0 rfl) ?_
  refine nr_gI cx hf hI 8 rfl (fun _ => rfl) rfl (Or.inl (hts _ q1000)) dX4_readTest_3 ?_
  refine lv_imul hx hb dX4_readTest_6 ?_
  refine gr_aload_n hx hb (some (gg_o G)) dX4_readTest_7 rfl (lv_at hl 0 rfl) ?_
  refine gr_mgA cx hf hI 11 rfl rfl (Or.inl (hts _ q1003)) dX4_readTest_8 ?_
  refine gr_aload_n hx hb (some (gg_o G)) dX4_readTest_11 rfl (lv_at hl 0 rfl) ?_
  refine nr_gI cx hf hI 8 rfl (fun _ => rfl) rfl (Or.inl (hts _ q1000)) dX4_readTest_12 ?_
  obtain ⟨v4, e4, h⟩ := g_bind h
  refine gr_miald cx hf hI 11 rfl rfl rfl (nr_aI e4) dX4_readTest_15 ?_
  refine lv_iadd hx hb dX4_readTest_16 ?_
  refine gz_istore_n hx hb dX4_readTest_17 rfl hl (by decide) [0] rfl (gz_con ⟨gz_ne rfl, Or.inr (gl_cat (some (gg_o G)))⟩ gz_nil) (fun ls hl => ?_)
  refine gr_aload_n hx hb (some (gg_o G)) dX4_readTest_18 rfl (lv_at hl 1 rfl) ?_
  refine gr_mgA cx hf hI 26 rfl rfl (Or.inl (hts _ q1018)) dX4_readTest_19 ?_
  refine lv_iload_n hx hb dX4_readTest_22 rfl (lv_at hl 0 rfl) ?_
  refine gr_aload_n hx hb (some (gg_o G)) dX4_readTest_23 rfl (lv_at hl 1 rfl) ?_
  refine lv_bipush hx hb dX4_readTest_24 gz_bp_33 ?_
  refine C_X4_takes hf cx (gz_nh hex) hI (Or.inl (hts _ q1216)) hl.1 (gz_cs (Nat.le_of_ble_eq_true rfl)) (by omega) dX4_readTest_26 h (fun v6 M6 h H locs cells slots hI => ?_)
  obtain ⟨M7, e7, h⟩ := g_bind h
  refine gr_mzast cx hf hI 26 rfl rfl rfl (nr_sZ e7) dX4_readTest_29 (fun H locs hI => ?_)
  refine gr_aload_n hx hb (some (gg_o G)) dX4_readTest_30 rfl (lv_at hl 1 rfl) ?_
  refine gr_mgA cx hf hI 27 rfl rfl (Or.inl (hts _ q1019)) dX4_readTest_31 ?_
  refine lv_iload_n hx hb dX4_readTest_34 rfl (lv_at hl 0 rfl) ?_
  refine lv_iconst hx hb dX4_readTest_35 gz_ic_m1 ?_
  obtain ⟨M9, e9, h⟩ := g_bind h
  refine gr_miast cx hf hI 27 rfl rfl rfl (nr_sI e9) dX4_readTest_36 (fun H locs hI => ?_)
  refine gr_aload_n hx hb (some (gg_o G)) dX4_readTest_37 rfl (lv_at hl 1 rfl) ?_
  refine lv_bipush hx hb dX4_readTest_38 gz_bp_35 ?_
  refine C_X4_takes hf cx (gz_nh hex) hI (Or.inl (hts _ q1216)) hl.1 (gz_cs (Nat.le_of_ble_eq_true rfl)) (by omega) dX4_readTest_40 h (fun v10 M10 h H locs cells slots hI => ?_)
  refine lv_if_eq (tgt := 60) hx hb dX4_readTest_43 rfl (fun hc => ?_) (fun hc => ?_)
  · have h := gz_t h hc
    refine gr_aload_n hx hb (some (gg_o G)) dX4_readTest_60 rfl (lv_at hl 1 rfl) ?_
    refine C_X4_readOperand hf cx (gz_nh hex) hI (Or.inl (hts _ q1232)) hl.1 (gz_cs (Nat.le_of_ble_eq_true rfl)) (by omega) dX4_readTest_61 h (fun M11 h H locs cells slots hI => ?_)
    refine gr_aload_n hx hb (some (gg_o G)) dX4_readTest_64 rfl (lv_at hl 1 rfl) ?_
    refine gr_mgA cx hf hI 29 rfl rfl (Or.inl (hts _ q1021)) dX4_readTest_65 ?_
    refine lv_iload_n hx hb dX4_readTest_68 rfl (lv_at hl 0 rfl) ?_
    refine gr_aload_n hx hb (some (gg_o G)) dX4_readTest_69 rfl (lv_at hl 1 rfl) ?_
    refine nr_gI cx hf hI 38 rfl (fun _ => rfl) rfl (Or.inl (hts _ q1030)) dX4_readTest_70 ?_
    obtain ⟨M14, e14, h⟩ := g_bind h
    refine gr_miast cx hf hI 29 rfl rfl rfl (nr_sI e14) dX4_readTest_73 (fun H locs hI => ?_)
    refine gr_aload_n hx hb (some (gg_o G)) dX4_readTest_74 rfl (lv_at hl 1 rfl) ?_
    refine gr_mgA cx hf hI 31 rfl rfl (Or.inl (hts _ q1023)) dX4_readTest_75 ?_
    refine lv_iload_n hx hb dX4_readTest_78 rfl (lv_at hl 0 rfl) ?_
    refine gr_aload_n hx hb (some (gg_o G)) dX4_readTest_79 rfl (lv_at hl 1 rfl) ?_
    refine nr_gD cx hf hI 39 rfl (fun _ => rfl) rfl (Or.inl (hts _ q1031)) dX4_readTest_80 ?_
    obtain ⟨M17, e17, h⟩ := g_bind h
    refine gr_mdast cx hf hI 31 rfl rfl rfl (nr_sD e17) dX4_readTest_83 (fun H locs hI => ?_)
    refine gr_aload_n hx hb (some (gg_o G)) dX4_readTest_84 rfl (lv_at hl 1 rfl) ?_
    refine gr_aload_n hx hb (some (gg_o G)) dX4_readTest_85 rfl (lv_at hl 1 rfl) ?_
    refine C_X4_look hf cx (gz_nh hex) hI (Or.inl (hts _ q1204)) hl.1 (gz_cs (Nat.le_of_ble_eq_true rfl)) (by omega) dX4_readTest_86 h (fun v18 M18 h H locs cells slots hI => ?_)
    refine lv_bipush hx hb dX4_readTest_89 gz_bp_60 ?_
    refine lv_icmp_eq (tgt := 112) hx hb dX4_readTest_91 rfl (fun hc => ?_) (fun hc => ?_)
    · have h := gz_t h hc
      refine lv_iconst hx hb dX4_readTest_112 gz_ic_1 ?_
      refine lv_goto (tgt := 117) hx hb dX4_readTest_113 rfl ?_
      exact T_X4_readTest_117 hf hD h p e s m args below meth c H locs cells slots ls cx hnm hex hI (lv_sub hl [1, 0] rfl)
    · have h := gz_f h hc
      refine gr_aload_n hx hb (some (gg_o G)) dX4_readTest_94 rfl (lv_at hl 1 rfl) ?_
      refine C_X4_look hf cx (gz_nh hex) hI (Or.inl (hts _ q1204)) hl.1 (gz_cs (Nat.le_of_ble_eq_true rfl)) (by omega) dX4_readTest_95 h (fun v19 M19 h H locs cells slots hI => ?_)
      refine lv_bipush hx hb dX4_readTest_98 gz_bp_61 ?_
      refine lv_icmp_eq (tgt := 112) hx hb dX4_readTest_100 rfl (fun hc => ?_) (fun hc => ?_)
      · have h := gz_t h hc
        refine lv_iconst hx hb dX4_readTest_112 gz_ic_1 ?_
        refine lv_goto (tgt := 117) hx hb dX4_readTest_113 rfl ?_
        exact T_X4_readTest_117 hf hD h p e s m args below meth c H locs cells slots ls cx hnm hex hI (lv_sub hl [1, 0] rfl)
      · have h := gz_f h hc
        refine gr_aload_n hx hb (some (gg_o G)) dX4_readTest_103 rfl (lv_at hl 1 rfl) ?_
        refine C_X4_look hf cx (gz_nh hex) hI (Or.inl (hts _ q1204)) hl.1 (gz_cs (Nat.le_of_ble_eq_true rfl)) (by omega) dX4_readTest_104 h (fun v20 M20 h H locs cells slots hI => ?_)
        refine lv_bipush hx hb dX4_readTest_107 gz_bp_62 ?_
        refine lv_icmp_ne (tgt := 116) hx hb dX4_readTest_109 rfl (fun hc => ?_) (fun hc => ?_)
        · have h := gz_f h hc
          refine lv_iconst hx hb dX4_readTest_116 gz_ic_0 ?_
          exact T_X4_readTest_117 hf hD h p e s m args below meth c H locs cells slots ls cx hnm hex hI (lv_sub hl [1, 0] rfl)
        · have h := gz_t h hc
          refine lv_iconst hx hb dX4_readTest_112 gz_ic_1 ?_
          refine lv_goto (tgt := 117) hx hb dX4_readTest_113 rfl ?_
          exact T_X4_readTest_117 hf hD h p e s m args below meth c H locs cells slots ls cx hnm hex hI (lv_sub hl [1, 0] rfl)
  · have h := gz_f h hc
    refine gr_aload_n hx hb (some (gg_o G)) dX4_readTest_46 rfl (lv_at hl 1 rfl) ?_
    refine gr_mgA cx hf hI 27 rfl rfl (Or.inl (hts _ q1019)) dX4_readTest_47 ?_
    refine lv_iload_n hx hb dX4_readTest_50 rfl (lv_at hl 0 rfl) ?_
    refine gr_aload_n hx hb (some (gg_o G)) dX4_readTest_51 rfl (lv_at hl 1 rfl) ?_
    refine lv_iconst hx hb dX4_readTest_52 gz_ic_0 ?_
    refine C_X4_readName hf cx (gz_nh hex) hI (Or.inl (hts _ q1245)) hl.1 (gz_cs (Nat.le_of_ble_eq_true rfl)) (by omega) dX4_readTest_53 h (fun v22 M22 h H locs cells slots hI => ?_)
    obtain ⟨M23, e23, h⟩ := g_bind h
    refine gr_miast cx hf hI 27 rfl rfl rfl (nr_sI e23) dX4_readTest_56 (fun H locs hI => ?_)
    refine lv_goto (tgt := 154) hx hb dX4_readTest_57 rfl ?_
    exact T_X4_readTest_154 hf hD h p e s m args below meth c H locs cells slots ls cx hnm hex hI (lv_sub hl [1] rfl)
theorem M_X4_readTest {l : Launch} {G : gG} {fu d0 : Nat} (hf : gg_f G = true) (hfl : l.flags = flags0) (hD : 5 ≤ d0)  {S : gm_S} {M : gM} {o : Outcome} {M2 : gM} (h : F_X4_readTest fu  M = some (o, M2)) : gx_Met l yX4_readTest (ws_ yX4_readTest cX4_readTest 2 (Option.none : Option Jvm.ClassFile.FieldType)) d0 G (gm_w S M) [va_rf (some (gg_o G))] o (gm_w S M2) := by
  refine gx_of hfl (by decide) (fun p e s m below meth c cx hnm hex hI => ?_)
  rw [lg_entry_eq]
  exact T_X4_readTest (r := (o, M2)) hf hD h p e s m _ below meth c _ _ _ _ _ cx hnm (gz_nh0 hex) hI (lv_entry _ (Nat.le_of_ble_eq_true rfl))
theorem C_X4_readTest {p : Program} {l : Launch} {e : Env} {s : State} {m : MethodId} {args : Array Value} {below : List Frame} {meth : Method} {c : Code} {H : Heap} {locs : List Loc} {cells slots : Nat} {cc : ByteArray} {pc nL : Nat} {ls : Array Slot} {rest : List Value} {G : gG} {S0 S : gm_S} {own : String} {ret : Option FieldType} {d0 index fu : Nat} {M : gM}  {k : gM → gQ} {r : Outcome × gM} (hf : gg_f G = true) (cx : gx_cx p l s m args meth c G own cc nL ret) (hex : ∀ x ∈ c.exceptionTable.toList, covers x pc = false) (hI : gw_I G S0 (gm_w S M) H locs cells slots) (hl : gl_M own index yX4_readTest args s) (hlv : ls.size = nL) (hrest : (rest.map fun v => v.category).sum ≤ 8) (hD : 6 ≤ d0) (hdg : decode cc pc = .ok (.invokevirtual index, 3)) (h : gz_cV (F_X4_readTest fu  M) k = some r)
    (kk : ∀ (z : gM), k z = some r → ∀ (H : Heap) (locs : List Loc) (cells slots : Nat), gw_I G S0 (gm_w S z) H locs cells slots → W p l e (gx_rm d0 S0) s m args below meth c H locs cells slots (gx_MQ below G S0 (gm_w S r.2) r.1 s) (F0 m (pc + 3) ls rest)) : W p l e (gx_rm d0 S0) s m args below meth c H locs cells slots (gx_MQ below G S0 (gm_w S r.2) r.1 s) (F0 m pc ls (va_rf (some (gg_o G)) :: rest)) := by
  have hts := cx.2.2.2.2.1
  have hK := cx.2.2.2.2.2.1
  exact gz_goV (d := d0 - 1) (gm_w S) cx hex hI hlv hrest (by omega) (Nat.le_of_ble_eq_true rfl) (gz_ws (lw_meth q1244) hts) (hts _ q78) (gb_rawV (As := []) cx hl (hts _ q1243) (hts _ qs40) (gl_C.code (hts _ q1244)) hy_X4_readTest (gr_recvM hK hI.1 hf) rfl rfl hdg) (fun o S2 e => M_X4_readTest hf cx.2.2.2.2.2.2.2.2 (by omega) e) h kk
abbrev B_X4_take (l : Launch) (d0 : Nat) (G : gG) (S0 : gm_S) : Nat → List (Nat × Value) → List Value → gm_S → Outcome → gm_S → Prop := gz_B l RX4 "take" cX4_take 2 (Option.none : Option Jvm.ClassFile.FieldType) [] d0 G S0
theorem T_X4_take {l : Launch} {G : gG} {S0 S : gm_S} {d0 fu : Nat} {r : Outcome × gM} (hf : gg_f G = true) (hD : 4 ≤ d0) {x1 : Int32} {M : gM} (h : F_X4_take fu x1 M = some r) : B_X4_take l d0 G S0 0 [(0, va_rf (some (gg_o G))), (1, .int x1)] [] (gm_w S M) r.1 (gm_w S r.2) := by
  unfold F_X4_take at h
  intro p e s m args below meth c H locs cells slots ls cx hnm hex hI hl
  have hx := cx.1
  have hb := cx.2.1
  have hown := cx.2.2.2.1
  have hts := cx.2.2.2.2.1
  have hK := cx.2.2.2.2.2.1
  refine gr_aload_n hx hb (some (gg_o G)) dX4_take_0 rfl (lv_at hl 0 rfl) ?_
  refine gr_aload_n hx hb (some (gg_o G)) dX4_take_1 rfl (lv_at hl 0 rfl) ?_
  refine lv_iload_n hx hb dX4_take_2 rfl (lv_at hl 1 rfl) ?_
  refine C_X4_takes hf cx (gz_nh hex) hI (Or.inl (hts _ q1216)) hl.1 (gz_cs (Nat.le_of_ble_eq_true rfl)) (by omega) dX4_take_3 h (fun v1 M1 h H locs cells slots hI => ?_)
  refine C_X4_want hf cx (gz_nh hex) hI (Or.inl (hts _ q1208)) hl.1 (gz_cs (Nat.le_of_ble_eq_true rfl)) (by omega) dX4_take_6 h (fun M2 h H locs cells slots hI => ?_)
  cases h
  exact gr_vret cx hI dX4_take_9
theorem M_X4_take {l : Launch} {G : gG} {fu d0 : Nat} (hf : gg_f G = true) (hfl : l.flags = flags0) (hD : 4 ≤ d0) {x1 : Int32} {S : gm_S} {M : gM} {o : Outcome} {M2 : gM} (h : F_X4_take fu x1 M = some (o, M2)) : gx_Met l yX4_take (ws_ yX4_take cX4_take 2 (Option.none : Option Jvm.ClassFile.FieldType)) d0 G (gm_w S M) [va_rf (some (gg_o G)), .int x1] o (gm_w S M2) := by
  refine gx_of hfl (by decide) (fun p e s m below meth c cx hnm hex hI => ?_)
  rw [lg_entry_eq]
  exact T_X4_take (r := (o, M2)) hf hD h p e s m _ below meth c _ _ _ _ _ cx hnm (gz_nh0 hex) hI (lv_entry _ (Nat.le_of_ble_eq_true rfl))
theorem C_X4_take {p : Program} {l : Launch} {e : Env} {s : State} {m : MethodId} {args : Array Value} {below : List Frame} {meth : Method} {c : Code} {H : Heap} {locs : List Loc} {cells slots : Nat} {cc : ByteArray} {pc nL : Nat} {ls : Array Slot} {rest : List Value} {G : gG} {S0 S : gm_S} {own : String} {ret : Option FieldType} {d0 index fu : Nat} {M : gM} {x1 : Int32} {k : gM → gQ} {r : Outcome × gM} (hf : gg_f G = true) (cx : gx_cx p l s m args meth c G own cc nL ret) (hex : ∀ x ∈ c.exceptionTable.toList, covers x pc = false) (hI : gw_I G S0 (gm_w S M) H locs cells slots) (hl : gl_M own index yX4_take args s) (hlv : ls.size = nL) (hrest : (rest.map fun v => v.category).sum ≤ 8) (hD : 5 ≤ d0) (hdg : decode cc pc = .ok (.invokevirtual index, 3)) (h : gz_cV (F_X4_take fu x1 M) k = some r)
    (kk : ∀ (z : gM), k z = some r → ∀ (H : Heap) (locs : List Loc) (cells slots : Nat), gw_I G S0 (gm_w S z) H locs cells slots → W p l e (gx_rm d0 S0) s m args below meth c H locs cells slots (gx_MQ below G S0 (gm_w S r.2) r.1 s) (F0 m (pc + 3) ls rest)) : W p l e (gx_rm d0 S0) s m args below meth c H locs cells slots (gx_MQ below G S0 (gm_w S r.2) r.1 s) (F0 m pc ls (.int x1 :: va_rf (some (gg_o G)) :: rest)) := by
  have hts := cx.2.2.2.2.1
  have hK := cx.2.2.2.2.2.1
  exact gz_goV (d := d0 - 1) (gm_w S) cx hex hI hlv hrest (by omega) (Nat.le_of_ble_eq_true rfl) (gz_ws (lw_meth q1252) hts) (hts _ q78) (gb_rawV (As := [.int x1]) cx hl (hts _ q1251) (hts _ qs42) (gl_C.code (hts _ q1252)) hy_X4_take (gr_recvM hK hI.1 hf) rfl rfl hdg) (fun o S2 e => M_X4_take hf cx.2.2.2.2.2.2.2.2 (by omega) e) h kk
