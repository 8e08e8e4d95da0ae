/-! LAYER 1 (printed): contracts -/
set_option maxRecDepth 100000
abbrev B_X4_type (l : Launch) (d0 : Nat) (G : gG) (S0 : gm_S) : Nat → List (Nat × Value) → List Value → gm_S → Outcome → gm_S → Prop := gz_B l RX4 "type" cX4_type 2 (Option.some Jvm.ClassFile.FieldType.boolean) [] d0 G S0
theorem T_X4_type {l : Launch} {G : gG} {S0 S : gm_S} {d0 fu : Nat} {r : Outcome × gM} (hf : gg_f G = true) (hD : 2 ≤ d0) {x1 : Int32} {M : gM} (h : F_X4_type fu x1 M = some r) : B_X4_type l d0 G S0 0 [(0, va_rf (some (gg_o G))), (1, .int x1)] [] (gm_w S M) r.1 (gm_w S r.2) := by
  unfold F_X4_type at h
  intro p e s m args below meth c H locs cells slots ls cx hnm hex hI hl
  have hx := cx.1
  have hb := cx.2.1
  have hown := cx.2.2.2.1
  have hts := cx.2.2.2.2.1
  have hK := cx.2.2.2.2.2.1
  refine gr_aload_n hx hb (some (gg_o G)) dX4_type_0 rfl (lv_at hl 0 rfl) ?_
  refine lv_iconst hx hb dX4_type_1 gz_ic_0 ?_
  obtain ⟨M1, e1, h⟩ := g_bind h
  refine nr_pI cx hf hI 0 rfl rfl rfl (Or.inl (hts _ q992)) e1 dX4_type_2 (fun H locs hI => ?_)
  refine lv_iload_n hx hb dX4_type_5 rfl (lv_at hl 1 rfl) ?_
  refine lv_bipush hx hb dX4_type_6 gz_bp_32 ?_
  refine lv_icmp_lt (tgt := 27) hx hb dX4_type_8 rfl (fun hc => ?_) (fun hc => ?_)
  · have h := gz_t h hc
    refine lv_iconst hx hb dX4_type_27 gz_ic_0 ?_
    obtain ⟨hz, h⟩ := g_ifs h
    cases h
    exact gr_zret cx hz hI dX4_type_28
  · have h := gz_f h hc
    refine lv_iload_n hx hb dX4_type_11 rfl (lv_at hl 1 rfl) ?_
    refine lv_bipush hx hb dX4_type_12 gz_bp_126 ?_
    refine lv_icmp_gt (tgt := 27) hx hb dX4_type_14 rfl (fun hc => ?_) (fun hc => ?_)
    · have h := gz_t h hc
      refine lv_iconst hx hb dX4_type_27 gz_ic_0 ?_
      obtain ⟨hz, h⟩ := g_ifs h
      cases h
      exact gr_zret cx hz hI dX4_type_28
    · have h := gz_f h hc
      refine gr_aload_n hx hb (some (gg_o G)) dX4_type_17 rfl (lv_at hl 0 rfl) ?_
      refine nr_gI cx hf hI 1 rfl (fun _ => rfl) rfl (Or.inl (hts _ q993)) dX4_type_18 ?_
      refine lv_sipush hx hb dX4_type_21 gz_sp_160 ?_
      refine lv_icmp_ne (tgt := 29) hx hb dX4_type_24 rfl (fun hc => ?_) (fun hc => ?_)
      · have h := gz_f h hc
        refine gr_aload_n hx hb (some (gg_o G)) dX4_type_29 rfl (lv_at hl 0 rfl) ?_
        refine lv_dup hx hb dX4_type_30 (gl_cat (some (gg_o G))) ?_
        refine nr_gI cx hf hI 1 rfl (fun _ => rfl) rfl (Or.inl (hts _ q993)) dX4_type_31 ?_
        refine lv_iconst hx hb dX4_type_34 gz_ic_1 ?_
        refine lv_iadd hx hb dX4_type_35 ?_
        obtain ⟨M4, e4, h⟩ := g_bind h
        refine nr_pI cx hf hI 1 rfl rfl rfl (Or.inl (hts _ q993)) e4 dX4_type_36 (fun H locs hI => ?_)
        refine lv_iload_n hx hb dX4_type_39 rfl (lv_at hl 1 rfl) ?_
        refine lv_bipush hx hb dX4_type_40 gz_bp_32 ?_
        refine lv_icmp_ne (tgt := 47) hx hb dX4_type_42 rfl (fun hc => ?_) (fun hc => ?_)
        · have h := gz_f h hc
          refine gr_aload_n hx hb (some (gg_o G)) dX4_type_47 rfl (lv_at hl 0 rfl) ?_
          refine gr_mgA cx hf hI 3 rfl rfl (Or.inl (hts _ q995)) dX4_type_48 ?_
          refine gr_aload_n hx hb (some (gg_o G)) dX4_type_51 rfl (lv_at hl 0 rfl) ?_
          refine nr_gI cx hf hI 2 rfl (fun _ => rfl) rfl (Or.inl (hts _ q994)) dX4_type_52 ?_
          refine lv_iload_n hx hb dX4_type_55 rfl (lv_at hl 1 rfl) ?_
          obtain ⟨M7, e7, h⟩ := g_bind h
          refine gr_mcast cx hf hI 3 rfl rfl rfl (nr_sC e7) dX4_type_56 (fun H locs hI => ?_)
          refine gr_aload_n hx hb (some (gg_o G)) dX4_type_57 rfl (lv_at hl 0 rfl) ?_
          refine lv_dup hx hb dX4_type_58 (gl_cat (some (gg_o G))) ?_
          refine nr_gI cx hf hI 2 rfl (fun _ => rfl) rfl (Or.inl (hts _ q994)) dX4_type_59 ?_
          refine lv_iconst hx hb dX4_type_62 gz_ic_1 ?_
          refine lv_iadd hx hb dX4_type_63 ?_
          obtain ⟨M9, e9, h⟩ := g_bind h
          refine nr_pI cx hf hI 2 rfl rfl rfl (Or.inl (hts _ q994)) e9 dX4_type_64 (fun H locs hI => ?_)
          refine lv_iconst hx hb dX4_type_67 gz_ic_1 ?_
          obtain ⟨hz, h⟩ := g_ifs h
          cases h
          exact gr_zret cx hz hI dX4_type_68
        · have h := gz_t h hc
          refine lv_iconst hx hb dX4_type_45 gz_ic_1 ?_
          obtain ⟨hz, h⟩ := g_ifs h
          cases h
          exact gr_zret cx hz hI dX4_type_46
      · have h := gz_t h hc
        refine lv_iconst hx hb dX4_type_27 gz_ic_0 ?_
        obtain ⟨hz, h⟩ := g_ifs h
        cases h
        exact gr_zret cx hz hI dX4_type_28
theorem M_X4_type {l : Launch} {G : gG} {fu d0 : Nat} (hf : gg_f G = true) (hfl : l.flags = flags0) (hD : 2 ≤ d0) {x1 : Int32} {S : gm_S} {M : gM} {o : Outcome} {M2 : gM} (h : F_X4_type fu x1 M = some (o, M2)) : gx_Met l yX4_type (ws_ yX4_type cX4_type 2 (Option.some Jvm.ClassFile.FieldType.boolean)) d0 G (gm_w S M) [va_rf (some (gg_o G)), .int x1] o (gm_w S M2) := by
  refine gx_of hfl (by decide) (fun p e s m below meth c cx hnm hex hI => ?_)
  rw [lg_entry_eq]
  exact T_X4_type (r := (o, M2)) hf hD h p e s m _ below meth c _ _ _ _ _ cx hnm (gz_nh0 hex) hI (lv_entry _ (Nat.le_of_ble_eq_true rfl))
abbrev B_X4_variable (l : Launch) (d0 : Nat) (G : gG) (S0 : gm_S) : Nat → List (Nat × Value) → List Value → gm_S → Outcome → gm_S → Prop := gz_B l RX4 "variable" cX4_variable 2 (Option.some Jvm.ClassFile.FieldType.double) [] d0 G S0
theorem T_X4_variable {l : Launch} {G : gG} {S0 S : gm_S} {d0 fu : Nat} {r : Outcome × gM} (hf : gg_f G = true) (hD : 2 ≤ d0) {x1 : Int32} {M : gM} (h : F_X4_variable fu x1 M = some r) : B_X4_variable l d0 G S0 0 [(0, va_rf (some (gg_o G))), (1, .int x1)] [] (gm_w S M) r.1 (gm_w S r.2) := by
  unfold F_X4_variable at h
  intro p e s m args below meth c H locs cells slots ls cx hnm hex hI hl
  have hx := cx.1
  have hb := cx.2.1
  have hown := cx.2.2.2.1
  have hts := cx.2.2.2.2.1
  have hK := cx.2.2.2.2.2.1
  refine gr_aload_n hx hb (some (gg_o G)) dX4_variable_0 rfl (lv_at hl 0 rfl) ?_
  refine lv_iconst hx hb dX4_variable_1 gz_ic_0 ?_
  obtain ⟨M1, e1, h⟩ := g_bind h
  refine nr_pI cx hf hI 0 rfl rfl rfl (Or.inl (hts _ q992)) e1 dX4_variable_2 (fun H locs hI => ?_)
  refine lv_iload_n hx hb dX4_variable_5 rfl (lv_at hl 1 rfl) ?_
  refine lv_bipush hx hb dX4_variable_6 gz_bp_117 ?_
  refine lv_icmp_lt (tgt := 17) hx hb dX4_variable_8 rfl (fun hc => ?_) (fun hc => ?_)
  · have h := gz_t h hc
    refine lv_dconst0 hx hb dX4_variable_17 ?_
    refine lv_goto (tgt := 30) hx hb dX4_variable_18 rfl ?_
    cases h
    exact gr_dret cx hI dX4_variable_30
  · have h := gz_f h hc
    refine lv_iload_n hx hb dX4_variable_11 rfl (lv_at hl 1 rfl) ?_
    refine lv_bipush hx hb dX4_variable_12 gz_bp_122 ?_
    refine lv_icmp_le (tgt := 21) hx hb dX4_variable_14 rfl (fun hc => ?_) (fun hc => ?_)
    · have h := gz_t h hc
      refine gr_aload_n hx hb (some (gg_o G)) dX4_variable_21 rfl (lv_at hl 0 rfl) ?_
      refine gr_mgA cx hf hI 42 rfl rfl (Or.inl (hts _ q1034)) dX4_variable_22 ?_
      refine lv_iload_n hx hb dX4_variable_25 rfl (lv_at hl 1 rfl) ?_
      refine lv_bipush hx hb dX4_variable_26 gz_bp_117 ?_
      refine lv_isub hx hb dX4_variable_28 ?_
      obtain ⟨v3, e3, h⟩ := g_bind h
      refine gr_mdald cx hf hI 42 rfl rfl rfl (nr_aD e3) dX4_variable_29 ?_
      cases h
      exact gr_dret cx hI dX4_variable_30
    · have h := gz_f h hc
      refine lv_dconst0 hx hb dX4_variable_17 ?_
      refine lv_goto (tgt := 30) hx hb dX4_variable_18 rfl ?_
      cases h
      exact gr_dret cx hI dX4_variable_30
theorem M_X4_variable {l : Launch} {G : gG} {fu d0 : Nat} (hf : gg_f G = true) (hfl : l.flags = flags0) (hD : 2 ≤ d0) {x1 : Int32} {S : gm_S} {M : gM} {o : Outcome} {M2 : gM} (h : F_X4_variable fu x1 M = some (o, M2)) : gx_Met l yX4_variable (ws_ yX4_variable cX4_variable 2 (Option.some Jvm.ClassFile.FieldType.double)) d0 G (gm_w S M) [va_rf (some (gg_o G)), .int x1] o (gm_w S M2) := by
  refine gx_of hfl (by decide) (fun p e s m below meth c cx hnm hex hI => ?_)
  rw [lg_entry_eq]
  exact T_X4_variable (r := (o, M2)) hf hD h p e s m _ below meth c _ _ _ _ _ cx hnm (gz_nh0 hex) hI (lv_entry _ (Nat.le_of_ble_eq_true rfl))
