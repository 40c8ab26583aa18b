/-! THE WALK, printed by wip/D-93865w/gen/main.py -/
set_option maxRecDepth 100000
/-! BeforeTheEnd$Reader.word(I)LBeforeTheEnd$Told; -/
def wp_X5_word (post : Nat → Hp → Prop) (px : Nat → Hp → Prop) (h : Hp) (r0 : Nat) (p1 : Int32) : Prop := (wp_X5_number (fun r_4 h_1 => GI h_1 → Ext h h_1 → (wp_X5_take (fun h_6 => GI h_6 → Ext h_1 h_6 → (wp_X5_digit (fun r_14 h_11 => GI h_11 → Ext h_6 h_11 → (wp_X5_take (fun h_16 => GI h_16 → Ext h_11 h_16 → (wp_X5_digit (fun r_24 h_21 => GI h_21 → Ext (al h_16 (16, 0)) h_21 → (wp_X8_init_c6 (fun h_26 => GI h_26 → Ext h_21 h_26 → (post (sz h_16 + 1) h_26)) h_21 (sz h_16 + 1) p1 r_4 r_14 r_24)) px (al h_16 (16, 0)) r0)) px h_11 r0 44)) px h_6 r0)) px h_1 r0 44)) px h r0 2)
abbrev rm_X5_word : Room := ({ frames := 12, cells := 9, slots := 60, locals := 285 })
abbrev K_X5_word : Kx := ("BeforeTheEnd$Reader", cX5_word, 4, (Option.some (Jvm.ClassFile.FieldType.object "BeforeTheEnd$Told")), rm_X5_word, [], false)
set_option maxHeartbeats 4000000 in
theorem k_X5_word {ρ : Rho} {h : Hp} {post : Nat → Hp → Prop} {px : Nat → Hp → Prop} {r0 : Nat} {p1 : Int32} (G : G0 ρ) (g : GI h) (fr0 : isRd h r0) (hw : wp_X5_word post px h r0 p1) : Con ρ yX5_word (ws_ yX5_word cX5_word 4 (Option.some (Jvm.ClassFile.FieldType.object "BeforeTheEnd$Told"))) rm_X5_word [.ref (mr ρ r0), .int p1] h (phR ρ h post) (psX h px) := by
  refine con_of (own := "BeforeTheEnd$Reader") (isI := false) (l0 := [(0, .ref (mr ρ r0)), (1, .int p1)]) (by decide) rfl (fun z => by cases z) (Nat.le_of_ble_eq_true rfl) rfl (fun _ => ?_)
  show X ρ K_X5_word 0 [(0, .ref (mr ρ r0)), (1, .int p1)] [] h 0 0 (phR ρ h post) (psX h px)
  refine x_aload_n 0 dX5_word_0 rfl ?_
  refine x_iconst 2 dX5_word_1 (by decide) ?_
  refine x_callV (ci := 4) [.int 2] 1 dX5_word_2 (k_X5_number G g fr0 hw) fr0.1 rfl q453 q455 qs10 q112 q456 (by decide) rfl rfl ⟨(Nat.le_of_ble_eq_true rfl), (Nat.le_of_ble_eq_true rfl)⟩ (Nat.le_of_ble_eq_true rfl) ⟨(Nat.le_of_ble_eq_true rfl), (Nat.le_of_ble_eq_true rfl)⟩ (fun v9 h_1 hv9 => ?_) (fun q9 h9 ci9 n9 x9 hx9 hs9 hc9 => xt_out hs9 hc9 (fun z hz => by cases hz) (Nat.le_of_ble_eq_true rfl) (Nat.le_of_ble_eq_true rfl) ⟨hx9.1, Ext.tr Ext.rf hx9.2.1, hx9.2.2⟩)
  obtain ⟨r_4, rfl, g_2, e_3, hw⟩ := hv9
  have hw := hw g_2 e_3
  show X ρ K_X5_word 5 [(0, .ref (mr ρ r0)), (1, .int p1)] [.int r_4] h_1 4 28 (phR ρ h post) (psX h px)
  refine x_istore_n (lv' := [(2, .int r_4), (0, .ref (mr ρ r0)), (1, .int p1)]) dX5_word_5 (Nat.le_of_ble_eq_true rfl) rfl ?_
  refine x_aload_n 1 dX5_word_6 rfl ?_
  refine x_bipush 44 dX5_word_7 (by decide) ?_
  refine x_callV (ci := 4) [.int 44] 1 dX5_word_9 (k_X5_take G g_2 (isRd.ext fr0 e_3) hw) (isRd.ext fr0 e_3).1 rfl q466 q468 qs12 q112 q469 (by decide) rfl rfl ⟨(Nat.le_of_ble_eq_true rfl), (Nat.le_of_ble_eq_true rfl)⟩ (Nat.le_of_ble_eq_true rfl) ⟨(Nat.le_of_ble_eq_true rfl), (Nat.le_of_ble_eq_true rfl)⟩ (fun v9 h_6 hv9 => ?_) (fun q9 h9 ci9 n9 x9 hx9 hs9 hc9 => xt_out hs9 hc9 (fun z hz => by cases hz) (Nat.le_of_ble_eq_true rfl) (Nat.le_of_ble_eq_true rfl) ⟨hx9.1, Ext.tr e_3 hx9.2.1, hx9.2.2⟩)
  obtain ⟨rfl, g_7, e_8, hw⟩ := hv9
  have hw := hw g_7 e_8
  show X ρ K_X5_word 12 [(2, .int r_4), (0, .ref (mr ρ r0)), (1, .int p1)] [] h_6 5 35 (phR ρ h post) (psX h px)
  refine x_aload_n 1 dX5_word_12 rfl ?_
  refine x_callV (ci := 4) [] 0 dX5_word_13 (k_X5_digit G g_7 (isRd.ext (isRd.ext fr0 e_3) e_8) hw) (isRd.ext (isRd.ext fr0 e_3) e_8).1 rfl q457 q459 qs11 q112 q460 (by decide) rfl rfl ⟨(Nat.le_of_ble_eq_true rfl), (Nat.le_of_ble_eq_true rfl)⟩ (Nat.le_of_ble_eq_true rfl) ⟨(Nat.le_of_ble_eq_true rfl), (Nat.le_of_ble_eq_true rfl)⟩ (fun v9 h_11 hv9 => ?_) (fun q9 h9 ci9 n9 x9 hx9 hs9 hc9 => xt_out hs9 hc9 (fun z hz => by cases hz) (Nat.le_of_ble_eq_true rfl) (Nat.le_of_ble_eq_true rfl) ⟨hx9.1, Ext.tr (Ext.tr e_3 e_8) hx9.2.1, hx9.2.2⟩)
  obtain ⟨r_14, rfl, g_12, e_13, hw⟩ := hv9
  have hw := hw g_12 e_13
  show X ρ K_X5_word 16 [(2, .int r_4), (0, .ref (mr ρ r0)), (1, .int p1)] [.int r_14] h_11 6 42 (phR ρ h post) (psX h px)
  refine x_istore_n (lv' := [(3, .int r_14), (2, .int r_4), (0, .ref (mr ρ r0)), (1, .int p1)]) dX5_word_16 (Nat.le_of_ble_eq_true rfl) rfl ?_
  refine x_aload_n 2 dX5_word_17 rfl ?_
  refine x_bipush 44 dX5_word_18 (by decide) ?_
  refine x_callV (ci := 4) [.int 44] 1 dX5_word_20 (k_X5_take G g_12 (isRd.ext (isRd.ext (isRd.ext fr0 e_3) e_8) e_13) hw) (isRd.ext (isRd.ext (isRd.ext fr0 e_3) e_8) e_13).1 rfl q466 q468 qs12 q112 q469 (by decide) rfl rfl ⟨(Nat.le_of_ble_eq_true rfl), (Nat.le_of_ble_eq_true rfl)⟩ (Nat.le_of_ble_eq_true rfl) ⟨(Nat.le_of_ble_eq_true rfl), (Nat.le_of_ble_eq_true rfl)⟩ (fun v9 h_16 hv9 => ?_) (fun q9 h9 ci9 n9 x9 hx9 hs9 hc9 => xt_out hs9 hc9 (fun z hz => by cases hz) (Nat.le_of_ble_eq_true rfl) (Nat.le_of_ble_eq_true rfl) ⟨hx9.1, Ext.tr (Ext.tr (Ext.tr e_3 e_8) e_13) hx9.2.1, hx9.2.2⟩)
  obtain ⟨rfl, g_17, e_18, hw⟩ := hv9
  have hw := hw g_17 e_18
  show X ρ K_X5_word 23 [(3, .int r_14), (2, .int r_4), (0, .ref (mr ρ r0)), (1, .int p1)] [] h_16 7 49 (phR ρ h post) (psX h px)
  refine x_new (ci := 6) (n := 4) dX5_word_23 rfl in_X8 tyX8_ok df_X8 q470 q471 q115 (Nat.le_of_ble_eq_true rfl) (Nat.le_of_ble_eq_true rfl) ?_
  refine x_dup dX5_word_26 rfl ?_
  refine x_iload_n 3 dX5_word_27 rfl ?_
  refine x_iload_n 1 dX5_word_28 rfl ?_
  refine x_iload_n 0 dX5_word_29 rfl ?_
  refine x_aload_n 2 dX5_word_30 rfl ?_
  refine x_callV (ci := 4) [] 0 dX5_word_31 (k_X5_digit G (GI.w g_17) (isRd.w (isRd.ext (isRd.ext (isRd.ext (isRd.ext fr0 e_3) e_8) e_13) e_18) (GI.live g_17)) hw) (isRd.w (isRd.ext (isRd.ext (isRd.ext (isRd.ext fr0 e_3) e_8) e_13) e_18) (GI.live g_17)).1 rfl q457 q459 qs11 q112 q460 (by decide) rfl rfl ⟨(Nat.le_of_ble_eq_true rfl), (Nat.le_of_ble_eq_true rfl)⟩ (Nat.le_of_ble_eq_true rfl) ⟨(Nat.le_of_ble_eq_true rfl), (Nat.le_of_ble_eq_true rfl)⟩ (fun v9 h_21 hv9 => ?_) (fun q9 h9 ci9 n9 x9 hx9 hs9 hc9 => xt_out hs9 hc9 (fun z hz => by cases hz) (Nat.le_of_ble_eq_true rfl) (Nat.le_of_ble_eq_true rfl) ⟨hx9.1, Ext.tr (Ext.w (Ext.tr (Ext.tr (Ext.tr e_3 e_8) e_13) e_18) (GI.live g_17)) hx9.2.1, hx9.2.2⟩)
  obtain ⟨r_24, rfl, g_22, e_23, hw⟩ := hv9
  have hw := hw g_22 e_23
  show X ρ K_X5_word 34 [(3, .int r_14), (2, .int r_4), (0, .ref (mr ρ r0)), (1, .int p1)] [.int r_24, .int r_14, .int r_4, .int p1, .ref (mr ρ (sz h_16 + 1)), .ref (mr ρ (sz h_16 + 1))] h_21 9 60 (phR ρ h post) (psX h px)
  refine x_callI [.int p1, .int r_4, .int r_14, .int r_24] 4 dX5_word_34 (k_X8_init_c6 G g_22 (Ext.s e_23 sh_new (by decide)) hw) q472 q473 q115 q474 rfl (by decide) rfl rfl ⟨(Nat.le_of_ble_eq_true rfl), (Nat.le_of_ble_eq_true rfl)⟩ (Nat.le_of_ble_eq_true rfl) ⟨(Nat.le_of_ble_eq_true rfl), (Nat.le_of_ble_eq_true rfl)⟩ (fun v9 h_26 hv9 => ?_) (fun _ _ _ _ _ z _ _ => False.elim z)
  obtain ⟨rfl, g_27, e_28, hw⟩ := hv9
  have hw := hw g_27 e_28
  show X ρ K_X5_word 37 [(3, .int r_14), (2, .int r_4), (0, .ref (mr ρ r0)), (1, .int p1)] [.ref (mr ρ (sz h_16 + 1))] h_26 9 60 (phR ρ h post) (psX h px)
  exact x_aret dX5_word_37 rfl (Nat.le_of_ble_eq_true rfl) (Nat.le_of_ble_eq_true rfl) ⟨_, rfl, g_27, (Ext.tr (Ext.tr (Ext.w (Ext.tr (Ext.tr (Ext.tr e_3 e_8) e_13) e_18) (GI.live g_17)) e_23) e_28), hw⟩

/-! BeforeTheEnd$Player.<init>(III)V on an object of class 8 -/
def wp_X10_init_c8 (post : Hp → Prop) (h : Hp) (r0 : Nat) (p1 : Int32) (p2 : Int32) (p3 : Int32) : Prop := (post (si (si (si h r0 0 p1) r0 1 p2) r0 2 p3))
abbrev rm_X10_init_c8 : Room := ({ frames := 1, cells := 0, slots := 0, locals := 60 })
abbrev K_X10_init_c8 : Kx := ("BeforeTheEnd$Player", cX10_init, 4, (Option.none : Option Jvm.ClassFile.FieldType), rm_X10_init_c8, [], true)
set_option maxHeartbeats 4000000 in
theorem k_X10_init_c8 {ρ : Rho} {h : Hp} {post : Hp → Prop} {r0 : Nat} {p1 : Int32} {p2 : Int32} {p3 : Int32} (G : G0 ρ) (g : GI h) (fr0 : sh h r0 = (18, 0)) (hw : wp_X10_init_c8 post h r0 p1 p2 p3) : Con ρ yX10_init (ws_ yX10_init cX10_init 4 (Option.none : Option Jvm.ClassFile.FieldType)) rm_X10_init_c8 [.ref (mr ρ r0), .int p1, .int p2, .int p3] h (phV h post) psN := by
  refine con_of (own := "BeforeTheEnd$Player") (isI := true) (l0 := [(0, .ref (mr ρ r0)), (1, .int p1), (2, .int p2), (3, .int p3)]) (by decide) rfl (fun _ => rfl) (Nat.le_of_ble_eq_true rfl) rfl (fun _ => ?_)
  show X ρ K_X10_init_c8 0 [(0, .ref (mr ρ r0)), (1, .int p1), (2, .int p2), (3, .int p3)] [] h 0 0 (phV h post) psN
  refine x_aload_n 0 dX10_init_0 rfl ?_
  refine x_objInit dX10_init_1 q601 q137 q138 (Nat.le_of_ble_eq_true rfl) (Nat.le_of_ble_eq_true rfl) ?_
  refine x_aload_n 0 dX10_init_4 rfl ?_
  refine x_iload_n 1 dX10_init_5 rfl ?_
  refine x_putF (ci := 8) 0 dX10_init_6 fr0 rfl in_X11 tyX11 tyX11_ok nmX11 (by decide) q602 rfl rfl rfl rfl rfl rfl (isPut_i rfl) ?_
  refine x_aload_n 0 dX10_init_9 rfl ?_
  refine x_iload_n 2 dX10_init_10 rfl ?_
  refine x_putF (ci := 8) 1 dX10_init_11 fr0 rfl in_X11 tyX11 tyX11_ok nmX11 (by decide) q608 rfl rfl rfl rfl rfl rfl (isPut_i rfl) ?_
  refine x_aload_n 0 dX10_init_14 rfl ?_
  refine x_iload_n 3 dX10_init_15 rfl ?_
  refine x_putF (ci := 8) 2 dX10_init_16 fr0 rfl in_X11 tyX11 tyX11_ok nmX11 (by decide) q617 rfl rfl rfl rfl rfl rfl (isPut_i rfl) ?_
  exact x_vret dX10_init_19 rfl (Nat.le_of_ble_eq_true rfl) (Nat.le_of_ble_eq_true rfl) ⟨rfl, (GI.i (GI.i (GI.i g))), (Ext.i (Ext.i (Ext.i Ext.rf))), hw⟩

/-! BeforeTheEnd$Ends.<init>(III)V on an object of class 8 -/
def wp_X11_init_c8 (post : Hp → Prop) (h : Hp) (r0 : Nat) (p1 : Int32) (p2 : Int32) (p3 : Int32) : Prop := (wp_X10_init_c8 (fun h_1 => GI h_1 → Ext h h_1 → (post h_1)) h r0 p1 p2 p3)
abbrev rm_X11_init_c8 : Room := ({ frames := 2, cells := 0, slots := 0, locals := 83 })
abbrev K_X11_init_c8 : Kx := ("BeforeTheEnd$Ends", cX11_init, 4, (Option.none : Option Jvm.ClassFile.FieldType), rm_X11_init_c8, [], true)
set_option maxHeartbeats 4000000 in
theorem k_X11_init_c8 {ρ : Rho} {h : Hp} {post : Hp → Prop} {r0 : Nat} {p1 : Int32} {p2 : Int32} {p3 : Int32} (G : G0 ρ) (g : GI h) (fr0 : sh h r0 = (18, 0)) (hw : wp_X11_init_c8 post h r0 p1 p2 p3) : Con ρ yX11_init (ws_ yX11_init cX11_init 4 (Option.none : Option Jvm.ClassFile.FieldType)) rm_X11_init_c8 [.ref (mr ρ r0), .int p1, .int p2, .int p3] h (phV h post) psN := by
  refine con_of (own := "BeforeTheEnd$Ends") (isI := true) (l0 := [(0, .ref (mr ρ r0)), (1, .int p1), (2, .int p2), (3, .int p3)]) (by decide) rfl (fun _ => rfl) (Nat.le_of_ble_eq_true rfl) rfl (fun _ => ?_)
  show X ρ K_X11_init_c8 0 [(0, .ref (mr ρ r0)), (1, .int p1), (2, .int p2), (3, .int p3)] [] h 0 0 (phV h post) psN
  refine x_aload_n 0 dX11_init_0 rfl ?_
  refine x_iload_n 1 dX11_init_1 rfl ?_
  refine x_iload_n 2 dX11_init_2 rfl ?_
  refine x_iload_n 3 dX11_init_3 rfl ?_
  refine x_callI [.int p1, .int p2, .int p3] 3 dX11_init_4 (k_X10_init_c8 G g fr0 hw) q598 q599 q123 q600 rfl (by decide) rfl rfl ⟨(Nat.le_of_ble_eq_true rfl), (Nat.le_of_ble_eq_true rfl)⟩ (Nat.le_of_ble_eq_true rfl) ⟨(Nat.le_of_ble_eq_true rfl), (Nat.le_of_ble_eq_true rfl)⟩ (fun v9 h_1 hv9 => ?_) (fun _ _ _ _ _ z _ _ => False.elim z)
  obtain ⟨rfl, g_2, e_3, hw⟩ := hv9
  have hw := hw g_2 e_3
  show X ρ K_X11_init_c8 7 [(0, .ref (mr ρ r0)), (1, .int p1), (2, .int p2), (3, .int p3)] [] h_1 0 0 (phV h post) psN
  exact x_vret dX11_init_7 rfl (Nat.le_of_ble_eq_true rfl) (Nat.le_of_ble_eq_true rfl) ⟨rfl, g_2, e_3, hw⟩

/-! BeforeTheEnd$Player.<init>(III)V on an object of class 9 -/
def wp_X10_init_c9 (post : Hp → Prop) (h : Hp) (r0 : Nat) (p1 : Int32) (p2 : Int32) (p3 : Int32) : Prop := (post (si (si (si h r0 0 p1) r0 1 p2) r0 2 p3))
abbrev rm_X10_init_c9 : Room := ({ frames := 1, cells := 0, slots := 0, locals := 60 })
abbrev K_X10_init_c9 : Kx := ("BeforeTheEnd$Player", cX10_init, 4, (Option.none : Option Jvm.ClassFile.FieldType), rm_X10_init_c9, [], true)
set_option maxHeartbeats 4000000 in
theorem k_X10_init_c9 {ρ : Rho} {h : Hp} {post : Hp → Prop} {r0 : Nat} {p1 : Int32} {p2 : Int32} {p3 : Int32} (G : G0 ρ) (g : GI h) (fr0 : sh h r0 = (19, 0)) (hw : wp_X10_init_c9 post h r0 p1 p2 p3) : Con ρ yX10_init (ws_ yX10_init cX10_init 4 (Option.none : Option Jvm.ClassFile.FieldType)) rm_X10_init_c9 [.ref (mr ρ r0), .int p1, .int p2, .int p3] h (phV h post) psN := by
  refine con_of (own := "BeforeTheEnd$Player") (isI := true) (l0 := [(0, .ref (mr ρ r0)), (1, .int p1), (2, .int p2), (3, .int p3)]) (by decide) rfl (fun _ => rfl) (Nat.le_of_ble_eq_true rfl) rfl (fun _ => ?_)
  show X ρ K_X10_init_c9 0 [(0, .ref (mr ρ r0)), (1, .int p1), (2, .int p2), (3, .int p3)] [] h 0 0 (phV h post) psN
  refine x_aload_n 0 dX10_init_0 rfl ?_
  refine x_objInit dX10_init_1 q601 q137 q138 (Nat.le_of_ble_eq_true rfl) (Nat.le_of_ble_eq_true rfl) ?_
  refine x_aload_n 0 dX10_init_4 rfl ?_
  refine x_iload_n 1 dX10_init_5 rfl ?_
  refine x_putF (ci := 9) 0 dX10_init_6 fr0 rfl in_X12 tyX12 tyX12_ok nmX12 (by decide) q602 rfl rfl rfl rfl rfl rfl (isPut_i rfl) ?_
  refine x_aload_n 0 dX10_init_9 rfl ?_
  refine x_iload_n 2 dX10_init_10 rfl ?_
  refine x_putF (ci := 9) 1 dX10_init_11 fr0 rfl in_X12 tyX12 tyX12_ok nmX12 (by decide) q608 rfl rfl rfl rfl rfl rfl (isPut_i rfl) ?_
  refine x_aload_n 0 dX10_init_14 rfl ?_
  refine x_iload_n 3 dX10_init_15 rfl ?_
  refine x_putF (ci := 9) 2 dX10_init_16 fr0 rfl in_X12 tyX12 tyX12_ok nmX12 (by decide) q617 rfl rfl rfl rfl rfl rfl (isPut_i rfl) ?_
  exact x_vret dX10_init_19 rfl (Nat.le_of_ble_eq_true rfl) (Nat.le_of_ble_eq_true rfl) ⟨rfl, (GI.i (GI.i (GI.i g))), (Ext.i (Ext.i (Ext.i Ext.rf))), hw⟩

/-! BeforeTheEnd$Ends.<init>(III)V on an object of class 9 -/
def wp_X11_init_c9 (post : Hp → Prop) (h : Hp) (r0 : Nat) (p1 : Int32) (p2 : Int32) (p3 : Int32) : Prop := (wp_X10_init_c9 (fun h_1 => GI h_1 → Ext h h_1 → (post h_1)) h r0 p1 p2 p3)
abbrev rm_X11_init_c9 : Room := ({ frames := 2, cells := 0, slots := 0, locals := 83 })
abbrev K_X11_init_c9 : Kx := ("BeforeTheEnd$Ends", cX11_init, 4, (Option.none : Option Jvm.ClassFile.FieldType), rm_X11_init_c9, [], true)
set_option maxHeartbeats 4000000 in
theorem k_X11_init_c9 {ρ : Rho} {h : Hp} {post : Hp → Prop} {r0 : Nat} {p1 : Int32} {p2 : Int32} {p3 : Int32} (G : G0 ρ) (g : GI h) (fr0 : sh h r0 = (19, 0)) (hw : wp_X11_init_c9 post h r0 p1 p2 p3) : Con ρ yX11_init (ws_ yX11_init cX11_init 4 (Option.none : Option Jvm.ClassFile.FieldType)) rm_X11_init_c9 [.ref (mr ρ r0), .int p1, .int p2, .int p3] h (phV h post) psN := by
  refine con_of (own := "BeforeTheEnd$Ends") (isI := true) (l0 := [(0, .ref (mr ρ r0)), (1, .int p1), (2, .int p2), (3, .int p3)]) (by decide) rfl (fun _ => rfl) (Nat.le_of_ble_eq_true rfl) rfl (fun _ => ?_)
  show X ρ K_X11_init_c9 0 [(0, .ref (mr ρ r0)), (1, .int p1), (2, .int p2), (3, .int p3)] [] h 0 0 (phV h post) psN
  refine x_aload_n 0 dX11_init_0 rfl ?_
  refine x_iload_n 1 dX11_init_1 rfl ?_
  refine x_iload_n 2 dX11_init_2 rfl ?_
  refine x_iload_n 3 dX11_init_3 rfl ?_
  refine x_callI [.int p1, .int p2, .int p3] 3 dX11_init_4 (k_X10_init_c9 G g fr0 hw) q598 q599 q123 q600 rfl (by decide) rfl rfl ⟨(Nat.le_of_ble_eq_true rfl), (Nat.le_of_ble_eq_true rfl)⟩ (Nat.le_of_ble_eq_true rfl) ⟨(Nat.le_of_ble_eq_true rfl), (Nat.le_of_ble_eq_true rfl)⟩ (fun v9 h_1 hv9 => ?_) (fun _ _ _ _ _ z _ _ => False.elim z)
  obtain ⟨rfl, g_2, e_3, hw⟩ := hv9
  have hw := hw g_2 e_3
  show X ρ K_X11_init_c9 7 [(0, .ref (mr ρ r0)), (1, .int p1), (2, .int p2), (3, .int p3)] [] h_1 0 0 (phV h post) psN
  exact x_vret dX11_init_7 rfl (Nat.le_of_ble_eq_true rfl) (Nat.le_of_ble_eq_true rfl) ⟨rfl, g_2, e_3, hw⟩

/-! BeforeTheEnd$Sure.<init>(III)V on an object of class 9 -/
def wp_X12_init_c9 (post : Hp → Prop) (h : Hp) (r0 : Nat) (p1 : Int32) (p2 : Int32) (p3 : Int32) : Prop := (wp_X11_init_c9 (fun h_1 => GI h_1 → Ext h h_1 → (post h_1)) h r0 p1 p2 p3)
abbrev rm_X12_init_c9 : Room := ({ frames := 3, cells := 0, slots := 0, locals := 106 })
abbrev K_X12_init_c9 : Kx := ("BeforeTheEnd$Sure", cX12_init, 4, (Option.none : Option Jvm.ClassFile.FieldType), rm_X12_init_c9, [], true)
set_option maxHeartbeats 4000000 in
theorem k_X12_init_c9 {ρ : Rho} {h : Hp} {post : Hp → Prop} {r0 : Nat} {p1 : Int32} {p2 : Int32} {p3 : Int32} (G : G0 ρ) (g : GI h) (fr0 : sh h r0 = (19, 0)) (hw : wp_X12_init_c9 post h r0 p1 p2 p3) : Con ρ yX12_init (ws_ yX12_init cX12_init 4 (Option.none : Option Jvm.ClassFile.FieldType)) rm_X12_init_c9 [.ref (mr ρ r0), .int p1, .int p2, .int p3] h (phV h post) psN := by
  refine con_of (own := "BeforeTheEnd$Sure") (isI := true) (l0 := [(0, .ref (mr ρ r0)), (1, .int p1), (2, .int p2), (3, .int p3)]) (by decide) rfl (fun _ => rfl) (Nat.le_of_ble_eq_true rfl) rfl (fun _ => ?_)
  show X ρ K_X12_init_c9 0 [(0, .ref (mr ρ r0)), (1, .int p1), (2, .int p2), (3, .int p3)] [] h 0 0 (phV h post) psN
  refine x_aload_n 0 dX12_init_0 rfl ?_
  refine x_iload_n 1 dX12_init_1 rfl ?_
  refine x_iload_n 2 dX12_init_2 rfl ?_
  refine x_iload_n 3 dX12_init_3 rfl ?_
  refine x_callI [.int p1, .int p2, .int p3] 3 dX12_init_4 (k_X11_init_c9 G g fr0 hw) q635 q596 q124 q597 rfl (by decide) rfl rfl ⟨(Nat.le_of_ble_eq_true rfl), (Nat.le_of_ble_eq_true rfl)⟩ (Nat.le_of_ble_eq_true rfl) ⟨(Nat.le_of_ble_eq_true rfl), (Nat.le_of_ble_eq_true rfl)⟩ (fun v9 h_1 hv9 => ?_) (fun _ _ _ _ _ z _ _ => False.elim z)
  obtain ⟨rfl, g_2, e_3, hw⟩ := hv9
  have hw := hw g_2 e_3
  show X ρ K_X12_init_c9 7 [(0, .ref (mr ρ r0)), (1, .int p1), (2, .int p2), (3, .int p3)] [] h_1 0 0 (phV h post) psN
  exact x_vret dX12_init_7 rfl (Nat.le_of_ble_eq_true rfl) (Nat.le_of_ble_eq_true rfl) ⟨rfl, g_2, e_3, hw⟩

/-! BeforeTheEnd$Player.<init>(III)V on an object of class 10 -/
def wp_X10_init_c10 (post : Hp → Prop) (h : Hp) (r0 : Nat) (p1 : Int32) (p2 : Int32) (p3 : Int32) : Prop := (post (si (si (si h r0 0 p1) r0 1 p2) r0 2 p3))
abbrev rm_X10_init_c10 : Room := ({ frames := 1, cells := 0, slots := 0, locals := 60 })
abbrev K_X10_init_c10 : Kx := ("BeforeTheEnd$Player", cX10_init, 4, (Option.none : Option Jvm.ClassFile.FieldType), rm_X10_init_c10, [], true)
set_option maxHeartbeats 4000000 in
theorem k_X10_init_c10 {ρ : Rho} {h : Hp} {post : Hp → Prop} {r0 : Nat} {p1 : Int32} {p2 : Int32} {p3 : Int32} (G : G0 ρ) (g : GI h) (fr0 : sh h r0 = (20, 0)) (hw : wp_X10_init_c10 post h r0 p1 p2 p3) : Con ρ yX10_init (ws_ yX10_init cX10_init 4 (Option.none : Option Jvm.ClassFile.FieldType)) rm_X10_init_c10 [.ref (mr ρ r0), .int p1, .int p2, .int p3] h (phV h post) psN := by
  refine con_of (own := "BeforeTheEnd$Player") (isI := true) (l0 := [(0, .ref (mr ρ r0)), (1, .int p1), (2, .int p2), (3, .int p3)]) (by decide) rfl (fun _ => rfl) (Nat.le_of_ble_eq_true rfl) rfl (fun _ => ?_)
  show X ρ K_X10_init_c10 0 [(0, .ref (mr ρ r0)), (1, .int p1), (2, .int p2), (3, .int p3)] [] h 0 0 (phV h post) psN
  refine x_aload_n 0 dX10_init_0 rfl ?_
  refine x_objInit dX10_init_1 q601 q137 q138 (Nat.le_of_ble_eq_true rfl) (Nat.le_of_ble_eq_true rfl) ?_
  refine x_aload_n 0 dX10_init_4 rfl ?_
  refine x_iload_n 1 dX10_init_5 rfl ?_
  refine x_putF (ci := 10) 0 dX10_init_6 fr0 rfl in_X13 tyX13 tyX13_ok nmX13 (by decide) q602 rfl rfl rfl rfl rfl rfl (isPut_i rfl) ?_
  refine x_aload_n 0 dX10_init_9 rfl ?_
  refine x_iload_n 2 dX10_init_10 rfl ?_
  refine x_putF (ci := 10) 1 dX10_init_11 fr0 rfl in_X13 tyX13 tyX13_ok nmX13 (by decide) q608 rfl rfl rfl rfl rfl rfl (isPut_i rfl) ?_
  refine x_aload_n 0 dX10_init_14 rfl ?_
  refine x_iload_n 3 dX10_init_15 rfl ?_
  refine x_putF (ci := 10) 2 dX10_init_16 fr0 rfl in_X13 tyX13 tyX13_ok nmX13 (by decide) q617 rfl rfl rfl rfl rfl rfl (isPut_i rfl) ?_
  exact x_vret dX10_init_19 rfl (Nat.le_of_ble_eq_true rfl) (Nat.le_of_ble_eq_true rfl) ⟨rfl, (GI.i (GI.i (GI.i g))), (Ext.i (Ext.i (Ext.i Ext.rf))), hw⟩

/-! BeforeTheEnd$Ends.<init>(III)V on an object of class 10 -/
def wp_X11_init_c10 (post : Hp → Prop) (h : Hp) (r0 : Nat) (p1 : Int32) (p2 : Int32) (p3 : Int32) : Prop := (wp_X10_init_c10 (fun h_1 => GI h_1 → Ext h h_1 → (post h_1)) h r0 p1 p2 p3)
abbrev rm_X11_init_c10 : Room := ({ frames := 2, cells := 0, slots := 0, locals := 83 })
abbrev K_X11_init_c10 : Kx := ("BeforeTheEnd$Ends", cX11_init, 4, (Option.none : Option Jvm.ClassFile.FieldType), rm_X11_init_c10, [], true)
set_option maxHeartbeats 4000000 in
theorem k_X11_init_c10 {ρ : Rho} {h : Hp} {post : Hp → Prop} {r0 : Nat} {p1 : Int32} {p2 : Int32} {p3 : Int32} (G : G0 ρ) (g : GI h) (fr0 : sh h r0 = (20, 0)) (hw : wp_X11_init_c10 post h r0 p1 p2 p3) : Con ρ yX11_init (ws_ yX11_init cX11_init 4 (Option.none : Option Jvm.ClassFile.FieldType)) rm_X11_init_c10 [.ref (mr ρ r0), .int p1, .int p2, .int p3] h (phV h post) psN := by
  refine con_of (own := "BeforeTheEnd$Ends") (isI := true) (l0 := [(0, .ref (mr ρ r0)), (1, .int p1), (2, .int p2), (3, .int p3)]) (by decide) rfl (fun _ => rfl) (Nat.le_of_ble_eq_true rfl) rfl (fun _ => ?_)
  show X ρ K_X11_init_c10 0 [(0, .ref (mr ρ r0)), (1, .int p1), (2, .int p2), (3, .int p3)] [] h 0 0 (phV h post) psN
  refine x_aload_n 0 dX11_init_0 rfl ?_
  refine x_iload_n 1 dX11_init_1 rfl ?_
  refine x_iload_n 2 dX11_init_2 rfl ?_
  refine x_iload_n 3 dX11_init_3 rfl ?_
  refine x_callI [.int p1, .int p2, .int p3] 3 dX11_init_4 (k_X10_init_c10 G g fr0 hw) q598 q599 q123 q600 rfl (by decide) rfl rfl ⟨(Nat.le_of_ble_eq_true rfl), (Nat.le_of_ble_eq_true rfl)⟩ (Nat.le_of_ble_eq_true rfl) ⟨(Nat.le_of_ble_eq_true rfl), (Nat.le_of_ble_eq_true rfl)⟩ (fun v9 h_1 hv9 => ?_) (fun _ _ _ _ _ z _ _ => False.elim z)
  obtain ⟨rfl, g_2, e_3, hw⟩ := hv9
  have hw := hw g_2 e_3
  show X ρ K_X11_init_c10 7 [(0, .ref (mr ρ r0)), (1, .int p1), (2, .int p2), (3, .int p3)] [] h_1 0 0 (phV h post) psN
  exact x_vret dX11_init_7 rfl (Nat.le_of_ble_eq_true rfl) (Nat.le_of_ble_eq_true rfl) ⟨rfl, g_2, e_3, hw⟩

/-! BeforeTheEnd$Sure.<init>(III)V on an object of class 10 -/
def wp_X12_init_c10 (post : Hp → Prop) (h : Hp) (r0 : Nat) (p1 : Int32) (p2 : Int32) (p3 : Int32) : Prop := (wp_X11_init_c10 (fun h_1 => GI h_1 → Ext h h_1 → (post h_1)) h r0 p1 p2 p3)
abbrev rm_X12_init_c10 : Room := ({ frames := 3, cells := 0, slots := 0, locals := 106 })
abbrev K_X12_init_c10 : Kx := ("BeforeTheEnd$Sure", cX12_init, 4, (Option.none : Option Jvm.ClassFile.FieldType), rm_X12_init_c10, [], true)
set_option maxHeartbeats 4000000 in
theorem k_X12_init_c10 {ρ : Rho} {h : Hp} {post : Hp → Prop} {r0 : Nat} {p1 : Int32} {p2 : Int32} {p3 : Int32} (G : G0 ρ) (g : GI h) (fr0 : sh h r0 = (20, 0)) (hw : wp_X12_init_c10 post h r0 p1 p2 p3) : Con ρ yX12_init (ws_ yX12_init cX12_init 4 (Option.none : Option Jvm.ClassFile.FieldType)) rm_X12_init_c10 [.ref (mr ρ r0), .int p1, .int p2, .int p3] h (phV h post) psN := by
  refine con_of (own := "BeforeTheEnd$Sure") (isI := true) (l0 := [(0, .ref (mr ρ r0)), (1, .int p1), (2, .int p2), (3, .int p3)]) (by decide) rfl (fun _ => rfl) (Nat.le_of_ble_eq_true rfl) rfl (fun _ => ?_)
  show X ρ K_X12_init_c10 0 [(0, .ref (mr ρ r0)), (1, .int p1), (2, .int p2), (3, .int p3)] [] h 0 0 (phV h post) psN
  refine x_aload_n 0 dX12_init_0 rfl ?_
  refine x_iload_n 1 dX12_init_1 rfl ?_
  refine x_iload_n 2 dX12_init_2 rfl ?_
  refine x_iload_n 3 dX12_init_3 rfl ?_
  refine x_callI [.int p1, .int p2, .int p3] 3 dX12_init_4 (k_X11_init_c10 G g fr0 hw) q635 q596 q124 q597 rfl (by decide) rfl rfl ⟨(Nat.le_of_ble_eq_true rfl), (Nat.le_of_ble_eq_true rfl)⟩ (Nat.le_of_ble_eq_true rfl) ⟨(Nat.le_of_ble_eq_true rfl), (Nat.le_of_ble_eq_true rfl)⟩ (fun v9 h_1 hv9 => ?_) (fun _ _ _ _ _ z _ _ => False.elim z)
  obtain ⟨rfl, g_2, e_3, hw⟩ := hv9
  have hw := hw g_2 e_3
  show X ρ K_X12_init_c10 7 [(0, .ref (mr ρ r0)), (1, .int p1), (2, .int p2), (3, .int p3)] [] h_1 0 0 (phV h post) psN
  exact x_vret dX12_init_7 rfl (Nat.le_of_ble_eq_true rfl) (Nat.le_of_ble_eq_true rfl) ⟨rfl, g_2, e_3, hw⟩

/-! BeforeTheEnd$Bold.<init>(III)V on an object of class 10 -/
def wp_X13_init_c10 (post : Hp → Prop) (h : Hp) (r0 : Nat) (p1 : Int32) (p2 : Int32) (p3 : Int32) : Prop := (wp_X12_init_c10 (fun h_1 => GI h_1 → Ext h h_1 → (post h_1)) h r0 p1 p2 p3)
abbrev rm_X13_init_c10 : Room := ({ frames := 4, cells := 0, slots := 0, locals := 129 })
abbrev K_X13_init_c10 : Kx := ("BeforeTheEnd$Bold", cX13_init, 4, (Option.none : Option Jvm.ClassFile.FieldType), rm_X13_init_c10, [], true)
set_option maxHeartbeats 4000000 in
theorem k_X13_init_c10 {ρ : Rho} {h : Hp} {post : Hp → Prop} {r0 : Nat} {p1 : Int32} {p2 : Int32} {p3 : Int32} (G : G0 ρ) (g : GI h) (fr0 : sh h r0 = (20, 0)) (hw : wp_X13_init_c10 post h r0 p1 p2 p3) : Con ρ yX13_init (ws_ yX13_init cX13_init 4 (Option.none : Option Jvm.ClassFile.FieldType)) rm_X13_init_c10 [.ref (mr ρ r0), .int p1, .int p2, .int p3] h (phV h post) psN := by
  refine con_of (own := "BeforeTheEnd$Bold") (isI := true) (l0 := [(0, .ref (mr ρ r0)), (1, .int p1), (2, .int p2), (3, .int p3)]) (by decide) rfl (fun _ => rfl) (Nat.le_of_ble_eq_true rfl) rfl (fun _ => ?_)
  show X ρ K_X13_init_c10 0 [(0, .ref (mr ρ r0)), (1, .int p1), (2, .int p2), (3, .int p3)] [] h 0 0 (phV h post) psN
  refine x_aload_n 0 dX13_init_0 rfl ?_
  refine x_iload_n 1 dX13_init_1 rfl ?_
  refine x_iload_n 2 dX13_init_2 rfl ?_
  refine x_iload_n 3 dX13_init_3 rfl ?_
  refine x_callI [.int p1, .int p2, .int p3] 3 dX13_init_4 (k_X12_init_c10 G g fr0 hw) q645 q633 q125 q634 rfl (by decide) rfl rfl ⟨(Nat.le_of_ble_eq_true rfl), (Nat.le_of_ble_eq_true rfl)⟩ (Nat.le_of_ble_eq_true rfl) ⟨(Nat.le_of_ble_eq_true rfl), (Nat.le_of_ble_eq_true rfl)⟩ (fun v9 h_1 hv9 => ?_) (fun _ _ _ _ _ z _ _ => False.elim z)
  obtain ⟨rfl, g_2, e_3, hw⟩ := hv9
  have hw := hw g_2 e_3
  show X ρ K_X13_init_c10 7 [(0, .ref (mr ρ r0)), (1, .int p1), (2, .int p2), (3, .int p3)] [] h_1 0 0 (phV h post) psN
  exact x_vret dX13_init_7 rfl (Nat.le_of_ble_eq_true rfl) (Nat.le_of_ble_eq_true rfl) ⟨rfl, g_2, e_3, hw⟩

/-! BeforeTheEnd$Player.<init>(III)V on an object of class 11 -/
def wp_X10_init_c11 (post : Hp → Prop) (h : Hp) (r0 : Nat) (p1 : Int32) (p2 : Int32) (p3 : Int32) : Prop := (post (si (si (si h r0 0 p1) r0 1 p2) r0 2 p3))
abbrev rm_X10_init_c11 : Room := ({ frames := 1, cells := 0, slots := 0, locals := 60 })
abbrev K_X10_init_c11 : Kx := ("BeforeTheEnd$Player", cX10_init, 4, (Option.none : Option Jvm.ClassFile.FieldType), rm_X10_init_c11, [], true)
set_option maxHeartbeats 4000000 in
theorem k_X10_init_c11 {ρ : Rho} {h : Hp} {post : Hp → Prop} {r0 : Nat} {p1 : Int32} {p2 : Int32} {p3 : Int32} (G : G0 ρ) (g : GI h) (fr0 : sh h r0 = (21, 0)) (hw : wp_X10_init_c11 post h r0 p1 p2 p3) : Con ρ yX10_init (ws_ yX10_init cX10_init 4 (Option.none : Option Jvm.ClassFile.FieldType)) rm_X10_init_c11 [.ref (mr ρ r0), .int p1, .int p2, .int p3] h (phV h post) psN := by
  refine con_of (own := "BeforeTheEnd$Player") (isI := true) (l0 := [(0, .ref (mr ρ r0)), (1, .int p1), (2, .int p2), (3, .int p3)]) (by decide) rfl (fun _ => rfl) (Nat.le_of_ble_eq_true rfl) rfl (fun _ => ?_)
  show X ρ K_X10_init_c11 0 [(0, .ref (mr ρ r0)), (1, .int p1), (2, .int p2), (3, .int p3)] [] h 0 0 (phV h post) psN
  refine x_aload_n 0 dX10_init_0 rfl ?_
  refine x_objInit dX10_init_1 q601 q137 q138 (Nat.le_of_ble_eq_true rfl) (Nat.le_of_ble_eq_true rfl) ?_
  refine x_aload_n 0 dX10_init_4 rfl ?_
  refine x_iload_n 1 dX10_init_5 rfl ?_
  refine x_putF (ci := 11) 0 dX10_init_6 fr0 rfl in_X14 tyX14 tyX14_ok nmX14 (by decide) q602 rfl rfl rfl rfl rfl rfl (isPut_i rfl) ?_
  refine x_aload_n 0 dX10_init_9 rfl ?_
  refine x_iload_n 2 dX10_init_10 rfl ?_
  refine x_putF (ci := 11) 1 dX10_init_11 fr0 rfl in_X14 tyX14 tyX14_ok nmX14 (by decide) q608 rfl rfl rfl rfl rfl rfl (isPut_i rfl) ?_
  refine x_aload_n 0 dX10_init_14 rfl ?_
  refine x_iload_n 3 dX10_init_15 rfl ?_
  refine x_putF (ci := 11) 2 dX10_init_16 fr0 rfl in_X14 tyX14 tyX14_ok nmX14 (by decide) q617 rfl rfl rfl rfl rfl rfl (isPut_i rfl) ?_
  exact x_vret dX10_init_19 rfl (Nat.le_of_ble_eq_true rfl) (Nat.le_of_ble_eq_true rfl) ⟨rfl, (GI.i (GI.i (GI.i g))), (Ext.i (Ext.i (Ext.i Ext.rf))), hw⟩

/-! BeforeTheEnd$Ends.<init>(III)V on an object of class 11 -/
def wp_X11_init_c11 (post : Hp → Prop) (h : Hp) (r0 : Nat) (p1 : Int32) (p2 : Int32) (p3 : Int32) : Prop := (wp_X10_init_c11 (fun h_1 => GI h_1 → Ext h h_1 → (post h_1)) h r0 p1 p2 p3)
abbrev rm_X11_init_c11 : Room := ({ frames := 2, cells := 0, slots := 0, locals := 83 })
abbrev K_X11_init_c11 : Kx := ("BeforeTheEnd$Ends", cX11_init, 4, (Option.none : Option Jvm.ClassFile.FieldType), rm_X11_init_c11, [], true)
set_option maxHeartbeats 4000000 in
theorem k_X11_init_c11 {ρ : Rho} {h : Hp} {post : Hp → Prop} {r0 : Nat} {p1 : Int32} {p2 : Int32} {p3 : Int32} (G : G0 ρ) (g : GI h) (fr0 : sh h r0 = (21, 0)) (hw : wp_X11_init_c11 post h r0 p1 p2 p3) : Con ρ yX11_init (ws_ yX11_init cX11_init 4 (Option.none : Option Jvm.ClassFile.FieldType)) rm_X11_init_c11 [.ref (mr ρ r0), .int p1, .int p2, .int p3] h (phV h post) psN := by
  refine con_of (own := "BeforeTheEnd$Ends") (isI := true) (l0 := [(0, .ref (mr ρ r0)), (1, .int p1), (2, .int p2), (3, .int p3)]) (by decide) rfl (fun _ => rfl) (Nat.le_of_ble_eq_true rfl) rfl (fun _ => ?_)
  show X ρ K_X11_init_c11 0 [(0, .ref (mr ρ r0)), (1, .int p1), (2, .int p2), (3, .int p3)] [] h 0 0 (phV h post) psN
  refine x_aload_n 0 dX11_init_0 rfl ?_
  refine x_iload_n 1 dX11_init_1 rfl ?_
  refine x_iload_n 2 dX11_init_2 rfl ?_
  refine x_iload_n 3 dX11_init_3 rfl ?_
  refine x_callI [.int p1, .int p2, .int p3] 3 dX11_init_4 (k_X10_init_c11 G g fr0 hw) q598 q599 q123 q600 rfl (by decide) rfl rfl ⟨(Nat.le_of_ble_eq_true rfl), (Nat.le_of_ble_eq_true rfl)⟩ (Nat.le_of_ble_eq_true rfl) ⟨(Nat.le_of_ble_eq_true rfl), (Nat.le_of_ble_eq_true rfl)⟩ (fun v9 h_1 hv9 => ?_) (fun _ _ _ _ _ z _ _ => False.elim z)
  obtain ⟨rfl, g_2, e_3, hw⟩ := hv9
  have hw := hw g_2 e_3
  show X ρ K_X11_init_c11 7 [(0, .ref (mr ρ r0)), (1, .int p1), (2, .int p2), (3, .int p3)] [] h_1 0 0 (phV h post) psN
  exact x_vret dX11_init_7 rfl (Nat.le_of_ble_eq_true rfl) (Nat.le_of_ble_eq_true rfl) ⟨rfl, g_2, e_3, hw⟩

/-! BeforeTheEnd$Sure.<init>(III)V on an object of class 11 -/
def wp_X12_init_c11 (post : Hp → Prop) (h : Hp) (r0 : Nat) (p1 : Int32) (p2 : Int32) (p3 : Int32) : Prop := (wp_X11_init_c11 (fun h_1 => GI h_1 → Ext h h_1 → (post h_1)) h r0 p1 p2 p3)
abbrev rm_X12_init_c11 : Room := ({ frames := 3, cells := 0, slots := 0, locals := 106 })
abbrev K_X12_init_c11 : Kx := ("BeforeTheEnd$Sure", cX12_init, 4, (Option.none : Option Jvm.ClassFile.FieldType), rm_X12_init_c11, [], true)
set_option maxHeartbeats 4000000 in
theorem k_X12_init_c11 {ρ : Rho} {h : Hp} {post : Hp → Prop} {r0 : Nat} {p1 : Int32} {p2 : Int32} {p3 : Int32} (G : G0 ρ) (g : GI h) (fr0 : sh h r0 = (21, 0)) (hw : wp_X12_init_c11 post h r0 p1 p2 p3) : Con ρ yX12_init (ws_ yX12_init cX12_init 4 (Option.none : Option Jvm.ClassFile.FieldType)) rm_X12_init_c11 [.ref (mr ρ r0), .int p1, .int p2, .int p3] h (phV h post) psN := by
  refine con_of (own := "BeforeTheEnd$Sure") (isI := true) (l0 := [(0, .ref (mr ρ r0)), (1, .int p1), (2, .int p2), (3, .int p3)]) (by decide) rfl (fun _ => rfl) (Nat.le_of_ble_eq_true rfl) rfl (fun _ => ?_)
  show X ρ K_X12_init_c11 0 [(0, .ref (mr ρ r0)), (1, .int p1), (2, .int p2), (3, .int p3)] [] h 0 0 (phV h post) psN
  refine x_aload_n 0 dX12_init_0 rfl ?_
  refine x_iload_n 1 dX12_init_1 rfl ?_
  refine x_iload_n 2 dX12_init_2 rfl ?_
  refine x_iload_n 3 dX12_init_3 rfl ?_
  refine x_callI [.int p1, .int p2, .int p3] 3 dX12_init_4 (k_X11_init_c11 G g fr0 hw) q635 q596 q124 q597 rfl (by decide) rfl rfl ⟨(Nat.le_of_ble_eq_true rfl), (Nat.le_of_ble_eq_true rfl)⟩ (Nat.le_of_ble_eq_true rfl) ⟨(Nat.le_of_ble_eq_true rfl), (Nat.le_of_ble_eq_true rfl)⟩ (fun v9 h_1 hv9 => ?_) (fun _ _ _ _ _ z _ _ => False.elim z)
  obtain ⟨rfl, g_2, e_3, hw⟩ := hv9
  have hw := hw g_2 e_3
  show X ρ K_X12_init_c11 7 [(0, .ref (mr ρ r0)), (1, .int p1), (2, .int p2), (3, .int p3)] [] h_1 0 0 (phV h post) psN
  exact x_vret dX12_init_7 rfl (Nat.le_of_ble_eq_true rfl) (Nat.le_of_ble_eq_true rfl) ⟨rfl, g_2, e_3, hw⟩

/-! BeforeTheEnd$Learn.<init>(III)V on an object of class 11 -/
def wp_X14_init_c11 (post : Hp → Prop) (h : Hp) (r0 : Nat) (p1 : Int32) (p2 : Int32) (p3 : Int32) : Prop := (wp_X12_init_c11 (fun h_1 => GI h_1 → Ext h h_1 → (post h_1)) h r0 p1 p2 p3)
abbrev rm_X14_init_c11 : Room := ({ frames := 4, cells := 0, slots := 0, locals := 129 })
abbrev K_X14_init_c11 : Kx := ("BeforeTheEnd$Learn", cX14_init, 4, (Option.none : Option Jvm.ClassFile.FieldType), rm_X14_init_c11, [], true)
set_option maxHeartbeats 4000000 in
theorem k_X14_init_c11 {ρ : Rho} {h : Hp} {post : Hp → Prop} {r0 : Nat} {p1 : Int32} {p2 : Int32} {p3 : Int32} (G : G0 ρ) (g : GI h) (fr0 : sh h r0 = (21, 0)) (hw : wp_X14_init_c11 post h r0 p1 p2 p3) : Con ρ yX14_init (ws_ yX14_init cX14_init 4 (Option.none : Option Jvm.ClassFile.FieldType)) rm_X14_init_c11 [.ref (mr ρ r0), .int p1, .int p2, .int p3] h (phV h post) psN := by
  refine con_of (own := "BeforeTheEnd$Learn") (isI := true) (l0 := [(0, .ref (mr ρ r0)), (1, .int p1), (2, .int p2), (3, .int p3)]) (by decide) rfl (fun _ => rfl) (Nat.le_of_ble_eq_true rfl) rfl (fun _ => ?_)
  show X ρ K_X14_init_c11 0 [(0, .ref (mr ρ r0)), (1, .int p1), (2, .int p2), (3, .int p3)] [] h 0 0 (phV h post) psN
  refine x_aload_n 0 dX14_init_0 rfl ?_
  refine x_iload_n 1 dX14_init_1 rfl ?_
  refine x_iload_n 2 dX14_init_2 rfl ?_
  refine x_iload_n 3 dX14_init_3 rfl ?_
  refine x_callI [.int p1, .int p2, .int p3] 3 dX14_init_4 (k_X12_init_c11 G g fr0 hw) q655 q633 q125 q634 rfl (by decide) rfl rfl ⟨(Nat.le_of_ble_eq_true rfl), (Nat.le_of_ble_eq_true rfl)⟩ (Nat.le_of_ble_eq_true rfl) ⟨(Nat.le_of_ble_eq_true rfl), (Nat.le_of_ble_eq_true rfl)⟩ (fun v9 h_1 hv9 => ?_) (fun _ _ _ _ _ z _ _ => False.elim z)
  obtain ⟨rfl, g_2, e_3, hw⟩ := hv9
  have hw := hw g_2 e_3
  show X ρ K_X14_init_c11 7 [(0, .ref (mr ρ r0)), (1, .int p1), (2, .int p2), (3, .int p3)] [] h_1 0 0 (phV h post) psN
  exact x_vret dX14_init_7 rfl (Nat.le_of_ble_eq_true rfl) (Nat.le_of_ble_eq_true rfl) ⟨rfl, g_2, e_3, hw⟩

/-! BeforeTheEnd$Player.<init>(III)V on an object of class 12 -/
def wp_X10_init_c12 (post : Hp → Prop) (h : Hp) (r0 : Nat) (p1 : Int32) (p2 : Int32) (p3 : Int32) : Prop := (post (si (si (si h r0 0 p1) r0 1 p2) r0 2 p3))
abbrev rm_X10_init_c12 : Room := ({ frames := 1, cells := 0, slots := 0, locals := 60 })
abbrev K_X10_init_c12 : Kx := ("BeforeTheEnd$Player", cX10_init, 4, (Option.none : Option Jvm.ClassFile.FieldType), rm_X10_init_c12, [], true)
set_option maxHeartbeats 4000000 in
theorem k_X10_init_c12 {ρ : Rho} {h : Hp} {post : Hp → Prop} {r0 : Nat} {p1 : Int32} {p2 : Int32} {p3 : Int32} (G : G0 ρ) (g : GI h) (fr0 : sh h r0 = (22, 0)) (hw : wp_X10_init_c12 post h r0 p1 p2 p3) : Con ρ yX10_init (ws_ yX10_init cX10_init 4 (Option.none : Option Jvm.ClassFile.FieldType)) rm_X10_init_c12 [.ref (mr ρ r0), .int p1, .int p2, .int p3] h (phV h post) psN := by
  refine con_of (own := "BeforeTheEnd$Player") (isI := true) (l0 := [(0, .ref (mr ρ r0)), (1, .int p1), (2, .int p2), (3, .int p3)]) (by decide) rfl (fun _ => rfl) (Nat.le_of_ble_eq_true rfl) rfl (fun _ => ?_)
  show X ρ K_X10_init_c12 0 [(0, .ref (mr ρ r0)), (1, .int p1), (2, .int p2), (3, .int p3)] [] h 0 0 (phV h post) psN
  refine x_aload_n 0 dX10_init_0 rfl ?_
  refine x_objInit dX10_init_1 q601 q137 q138 (Nat.le_of_ble_eq_true rfl) (Nat.le_of_ble_eq_true rfl) ?_
  refine x_aload_n 0 dX10_init_4 rfl ?_
  refine x_iload_n 1 dX10_init_5 rfl ?_
  refine x_putF (ci := 12) 0 dX10_init_6 fr0 rfl in_X15 tyX15 tyX15_ok nmX15 (by decide) q602 rfl rfl rfl rfl rfl rfl (isPut_i rfl) ?_
  refine x_aload_n 0 dX10_init_9 rfl ?_
  refine x_iload_n 2 dX10_init_10 rfl ?_
  refine x_putF (ci := 12) 1 dX10_init_11 fr0 rfl in_X15 tyX15 tyX15_ok nmX15 (by decide) q608 rfl rfl rfl rfl rfl rfl (isPut_i rfl) ?_
  refine x_aload_n 0 dX10_init_14 rfl ?_
  refine x_iload_n 3 dX10_init_15 rfl ?_
  refine x_putF (ci := 12) 2 dX10_init_16 fr0 rfl in_X15 tyX15 tyX15_ok nmX15 (by decide) q617 rfl rfl rfl rfl rfl rfl (isPut_i rfl) ?_
  exact x_vret dX10_init_19 rfl (Nat.le_of_ble_eq_true rfl) (Nat.le_of_ble_eq_true rfl) ⟨rfl, (GI.i (GI.i (GI.i g))), (Ext.i (Ext.i (Ext.i Ext.rf))), hw⟩

/-! BeforeTheEnd$ToldPlayer.<init>(III)V on an object of class 12 -/
def wp_X15_init_c12 (post : Hp → Prop) (h : Hp) (r0 : Nat) (p1 : Int32) (p2 : Int32) (p3 : Int32) : Prop := (wp_X10_init_c12 (fun h_1 => GI h_1 → Ext h h_1 → (post h_1)) h r0 p1 p2 p3)
abbrev rm_X15_init_c12 : Room := ({ frames := 2, cells := 0, slots := 0, locals := 83 })
abbrev K_X15_init_c12 : Kx := ("BeforeTheEnd$ToldPlayer", cX15_init, 4, (Option.none : Option Jvm.ClassFile.FieldType), rm_X15_init_c12, [], true)
set_option maxHeartbeats 4000000 in
theorem k_X15_init_c12 {ρ : Rho} {h : Hp} {post : Hp → Prop} {r0 : Nat} {p1 : Int32} {p2 : Int32} {p3 : Int32} (G : G0 ρ) (g : GI h) (fr0 : sh h r0 = (22, 0)) (hw : wp_X15_init_c12 post h r0 p1 p2 p3) : Con ρ yX15_init (ws_ yX15_init cX15_init 4 (Option.none : Option Jvm.ClassFile.FieldType)) rm_X15_init_c12 [.ref (mr ρ r0), .int p1, .int p2, .int p3] h (phV h post) psN := by
  refine con_of (own := "BeforeTheEnd$ToldPlayer") (isI := true) (l0 := [(0, .ref (mr ρ r0)), (1, .int p1), (2, .int p2), (3, .int p3)]) (by decide) rfl (fun _ => rfl) (Nat.le_of_ble_eq_true rfl) rfl (fun _ => ?_)
  show X ρ K_X15_init_c12 0 [(0, .ref (mr ρ r0)), (1, .int p1), (2, .int p2), (3, .int p3)] [] h 0 0 (phV h post) psN
  refine x_aload_n 0 dX15_init_0 rfl ?_
  refine x_iload_n 1 dX15_init_1 rfl ?_
  refine x_iload_n 2 dX15_init_2 rfl ?_
  refine x_iload_n 3 dX15_init_3 rfl ?_
  refine x_callI [.int p1, .int p2, .int p3] 3 dX15_init_4 (k_X10_init_c12 G g fr0 hw) q665 q599 q123 q600 rfl (by decide) rfl rfl ⟨(Nat.le_of_ble_eq_true rfl), (Nat.le_of_ble_eq_true rfl)⟩ (Nat.le_of_ble_eq_true rfl) ⟨(Nat.le_of_ble_eq_true rfl), (Nat.le_of_ble_eq_true rfl)⟩ (fun v9 h_1 hv9 => ?_) (fun _ _ _ _ _ z _ _ => False.elim z)
  obtain ⟨rfl, g_2, e_3, hw⟩ := hv9
  have hw := hw g_2 e_3
  show X ρ K_X15_init_c12 7 [(0, .ref (mr ρ r0)), (1, .int p1), (2, .int p2), (3, .int p3)] [] h_1 0 0 (phV h post) psN
  exact x_vret dX15_init_7 rfl (Nat.le_of_ble_eq_true rfl) (Nat.le_of_ble_eq_true rfl) ⟨rfl, g_2, e_3, hw⟩

/-! BeforeTheEnd$Player.<init>(III)V on an object of class 13 -/
def wp_X10_init_c13 (post : Hp → Prop) (h : Hp) (r0 : Nat) (p1 : Int32) (p2 : Int32) (p3 : Int32) : Prop := (post (si (si (si h r0 0 p1) r0 1 p2) r0 2 p3))
abbrev rm_X10_init_c13 : Room := ({ frames := 1, cells := 0, slots := 0, locals := 60 })
abbrev K_X10_init_c13 : Kx := ("BeforeTheEnd$Player", cX10_init, 4, (Option.none : Option Jvm.ClassFile.FieldType), rm_X10_init_c13, [], true)
set_option maxHeartbeats 4000000 in
theorem k_X10_init_c13 {ρ : Rho} {h : Hp} {post : Hp → Prop} {r0 : Nat} {p1 : Int32} {p2 : Int32} {p3 : Int32} (G : G0 ρ) (g : GI h) (fr0 : sh h r0 = (23, 0)) (hw : wp_X10_init_c13 post h r0 p1 p2 p3) : Con ρ yX10_init (ws_ yX10_init cX10_init 4 (Option.none : Option Jvm.ClassFile.FieldType)) rm_X10_init_c13 [.ref (mr ρ r0), .int p1, .int p2, .int p3] h (phV h post) psN := by
  refine con_of (own := "BeforeTheEnd$Player") (isI := true) (l0 := [(0, .ref (mr ρ r0)), (1, .int p1), (2, .int p2), (3, .int p3)]) (by decide) rfl (fun _ => rfl) (Nat.le_of_ble_eq_true rfl) rfl (fun _ => ?_)
  show X ρ K_X10_init_c13 0 [(0, .ref (mr ρ r0)), (1, .int p1), (2, .int p2), (3, .int p3)] [] h 0 0 (phV h post) psN
  refine x_aload_n 0 dX10_init_0 rfl ?_
  refine x_objInit dX10_init_1 q601 q137 q138 (Nat.le_of_ble_eq_true rfl) (Nat.le_of_ble_eq_true rfl) ?_
  refine x_aload_n 0 dX10_init_4 rfl ?_
  refine x_iload_n 1 dX10_init_5 rfl ?_
  refine x_putF (ci := 13) 0 dX10_init_6 fr0 rfl in_X16 tyX16 tyX16_ok nmX16 (by decide) q602 rfl rfl rfl rfl rfl rfl (isPut_i rfl) ?_
  refine x_aload_n 0 dX10_init_9 rfl ?_
  refine x_iload_n 2 dX10_init_10 rfl ?_
  refine x_putF (ci := 13) 1 dX10_init_11 fr0 rfl in_X16 tyX16 tyX16_ok nmX16 (by decide) q608 rfl rfl rfl rfl rfl rfl (isPut_i rfl) ?_
  refine x_aload_n 0 dX10_init_14 rfl ?_
  refine x_iload_n 3 dX10_init_15 rfl ?_
  refine x_putF (ci := 13) 2 dX10_init_16 fr0 rfl in_X16 tyX16 tyX16_ok nmX16 (by decide) q617 rfl rfl rfl rfl rfl rfl (isPut_i rfl) ?_
  exact x_vret dX10_init_19 rfl (Nat.le_of_ble_eq_true rfl) (Nat.le_of_ble_eq_true rfl) ⟨rfl, (GI.i (GI.i (GI.i g))), (Ext.i (Ext.i (Ext.i Ext.rf))), hw⟩

/-! BeforeTheEnd$ToldPlayer.<init>(III)V on an object of class 13 -/
def wp_X15_init_c13 (post : Hp → Prop) (h : Hp) (r0 : Nat) (p1 : Int32) (p2 : Int32) (p3 : Int32) : Prop := (wp_X10_init_c13 (fun h_1 => GI h_1 → Ext h h_1 → (post h_1)) h r0 p1 p2 p3)
abbrev rm_X15_init_c13 : Room := ({ frames := 2, cells := 0, slots := 0, locals := 83 })
abbrev K_X15_init_c13 : Kx := ("BeforeTheEnd$ToldPlayer", cX15_init, 4, (Option.none : Option Jvm.ClassFile.FieldType), rm_X15_init_c13, [], true)
set_option maxHeartbeats 4000000 in
theorem k_X15_init_c13 {ρ : Rho} {h : Hp} {post : Hp → Prop} {r0 : Nat} {p1 : Int32} {p2 : Int32} {p3 : Int32} (G : G0 ρ) (g : GI h) (fr0 : sh h r0 = (23, 0)) (hw : wp_X15_init_c13 post h r0 p1 p2 p3) : Con ρ yX15_init (ws_ yX15_init cX15_init 4 (Option.none : Option Jvm.ClassFile.FieldType)) rm_X15_init_c13 [.ref (mr ρ r0), .int p1, .int p2, .int p3] h (phV h post) psN := by
  refine con_of (own := "BeforeTheEnd$ToldPlayer") (isI := true) (l0 := [(0, .ref (mr ρ r0)), (1, .int p1), (2, .int p2), (3, .int p3)]) (by decide) rfl (fun _ => rfl) (Nat.le_of_ble_eq_true rfl) rfl (fun _ => ?_)
  show X ρ K_X15_init_c13 0 [(0, .ref (mr ρ r0)), (1, .int p1), (2, .int p2), (3, .int p3)] [] h 0 0 (phV h post) psN
  refine x_aload_n 0 dX15_init_0 rfl ?_
  refine x_iload_n 1 dX15_init_1 rfl ?_
  refine x_iload_n 2 dX15_init_2 rfl ?_
  refine x_iload_n 3 dX15_init_3 rfl ?_
  refine x_callI [.int p1, .int p2, .int p3] 3 dX15_init_4 (k_X10_init_c13 G g fr0 hw) q665 q599 q123 q600 rfl (by decide) rfl rfl ⟨(Nat.le_of_ble_eq_true rfl), (Nat.le_of_ble_eq_true rfl)⟩ (Nat.le_of_ble_eq_true rfl) ⟨(Nat.le_of_ble_eq_true rfl), (Nat.le_of_ble_eq_true rfl)⟩ (fun v9 h_1 hv9 => ?_) (fun _ _ _ _ _ z _ _ => False.elim z)
  obtain ⟨rfl, g_2, e_3, hw⟩ := hv9
  have hw := hw g_2 e_3
  show X ρ K_X15_init_c13 7 [(0, .ref (mr ρ r0)), (1, .int p1), (2, .int p2), (3, .int p3)] [] h_1 0 0 (phV h post) psN
  exact x_vret dX15_init_7 rfl (Nat.le_of_ble_eq_true rfl) (Nat.le_of_ble_eq_true rfl) ⟨rfl, g_2, e_3, hw⟩

/-! BeforeTheEnd$Alone.<init>(III)V on an object of class 13 -/
def wp_X16_init_c13 (post : Hp → Prop) (h : Hp) (r0 : Nat) (p1 : Int32) (p2 : Int32) (p3 : Int32) : Prop := (wp_X15_init_c13 (fun h_1 => GI h_1 → Ext h h_1 → (post (si h_1 r0 5 (-9)))) h r0 p1 p2 p3)
abbrev rm_X16_init_c13 : Room := ({ frames := 3, cells := 0, slots := 0, locals := 106 })
abbrev K_X16_init_c13 : Kx := ("BeforeTheEnd$Alone", cX16_init, 4, (Option.none : Option Jvm.ClassFile.FieldType), rm_X16_init_c13, [], true)
set_option maxHeartbeats 4000000 in
theorem k_X16_init_c13 {ρ : Rho} {h : Hp} {post : Hp → Prop} {r0 : Nat} {p1 : Int32} {p2 : Int32} {p3 : Int32} (G : G0 ρ) (g : GI h) (fr0 : sh h r0 = (23, 0)) (hw : wp_X16_init_c13 post h r0 p1 p2 p3) : Con ρ yX16_init (ws_ yX16_init cX16_init 4 (Option.none : Option Jvm.ClassFile.FieldType)) rm_X16_init_c13 [.ref (mr ρ r0), .int p1, .int p2, .int p3] h (phV h post) psN := by
  refine con_of (own := "BeforeTheEnd$Alone") (isI := true) (l0 := [(0, .ref (mr ρ r0)), (1, .int p1), (2, .int p2), (3, .int p3)]) (by decide) rfl (fun _ => rfl) (Nat.le_of_ble_eq_true rfl) rfl (fun _ => ?_)
  show X ρ K_X16_init_c13 0 [(0, .ref (mr ρ r0)), (1, .int p1), (2, .int p2), (3, .int p3)] [] h 0 0 (phV h post) psN
  refine x_aload_n 0 dX16_init_0 rfl ?_
  refine x_iload_n 1 dX16_init_1 rfl ?_
  refine x_iload_n 2 dX16_init_2 rfl ?_
  refine x_iload_n 3 dX16_init_3 rfl ?_
  refine x_callI [.int p1, .int p2, .int p3] 3 dX16_init_4 (k_X15_init_c13 G g fr0 hw) q679 q663 q128 q664 rfl (by decide) rfl rfl ⟨(Nat.le_of_ble_eq_true rfl), (Nat.le_of_ble_eq_true rfl)⟩ (Nat.le_of_ble_eq_true rfl) ⟨(Nat.le_of_ble_eq_true rfl), (Nat.le_of_ble_eq_true rfl)⟩ (fun v9 h_1 hv9 => ?_) (fun _ _ _ _ _ z _ _ => False.elim z)
  obtain ⟨rfl, g_2, e_3, hw⟩ := hv9
  have hw := hw g_2 e_3
  show X ρ K_X16_init_c13 7 [(0, .ref (mr ρ r0)), (1, .int p1), (2, .int p2), (3, .int p3)] [] h_1 0 0 (phV h post) psN
  refine x_aload_n 0 dX16_init_7 rfl ?_
  refine x_bipush (-9) dX16_init_8 (by decide) ?_
  refine x_put (ci := 13) 5 dX16_init_10 (Ext.s e_3 fr0 (by decide)) rfl in_X16 tyX16 tyX16_ok nmX16 (by decide) q681 (Or.inl rfl) rfl rfl rfl (isPut_i rfl) ?_
  exact x_vret dX16_init_13 rfl (Nat.le_of_ble_eq_true rfl) (Nat.le_of_ble_eq_true rfl) ⟨rfl, (GI.i g_2), (Ext.i e_3), hw⟩

/-! BeforeTheEnd.playerOf(IIII)LBeforeTheEnd$Player; -/
def wp_X0_playerOf (post : Nat → Hp → Prop) (h : Hp) (p1 : Int32) (p2 : Int32) (p3 : Int32) (p4 : Int32) : Prop := (((p1.toInt < 0 ∨ 4 < p1.toInt) → (wp_X16_init_c13 (fun h_10 => GI h_10 → Ext (al h (23, 0)) h_10 → (post (sz h + 1) h_10)) (al h (23, 0)) (sz h + 1) p2 p3 p4)) ∧ (p1 = 0 → (wp_X11_init_c8 (fun h_15 => GI h_15 → Ext (al h (18, 0)) h_15 → (post (sz h + 1) h_15)) (al h (18, 0)) (sz h + 1) p2 p3 p4)) ∧ (p1 = 1 → (wp_X12_init_c9 (fun h_20 => GI h_20 → Ext (al h (19, 0)) h_20 → (post (sz h + 1) h_20)) (al h (19, 0)) (sz h + 1) p2 p3 p4)) ∧ (p1 = 2 → (wp_X13_init_c10 (fun h_25 => GI h_25 → Ext (al h (20, 0)) h_25 → (post (sz h + 1) h_25)) (al h (20, 0)) (sz h + 1) p2 p3 p4)) ∧ (p1 = 3 → (wp_X14_init_c11 (fun h_30 => GI h_30 → Ext (al h (21, 0)) h_30 → (post (sz h + 1) h_30)) (al h (21, 0)) (sz h + 1) p2 p3 p4)) ∧ (p1 = 4 → (wp_X15_init_c12 (fun h_35 => GI h_35 → Ext (al h (22, 0)) h_35 → (post (sz h + 1) h_35)) (al h (22, 0)) (sz h + 1) p2 p3 p4)))
abbrev rm_X0_playerOf : Room := ({ frames := 5, cells := 1, slots := 6, locals := 152 })
abbrev K_X0_playerOf : Kx := ("BeforeTheEnd", cX0_playerOf, 4, (Option.some (Jvm.ClassFile.FieldType.object "BeforeTheEnd$Player")), rm_X0_playerOf, [], false)
set_option maxHeartbeats 4000000 in
theorem k_X0_playerOf {ρ : Rho} {h : Hp} {post : Nat → Hp → Prop} {p1 : Int32} {p2 : Int32} {p3 : Int32} {p4 : Int32} (G : G0 ρ) (g : GI h) (hw : wp_X0_playerOf post h p1 p2 p3 p4) : Con ρ yX0_playerOf (ws_ yX0_playerOf cX0_playerOf 4 (Option.some (Jvm.ClassFile.FieldType.object "BeforeTheEnd$Player"))) rm_X0_playerOf [.int p1, .int p2, .int p3, .int p4] h (phR ρ h post) psN := by
  refine con_of (own := "BeforeTheEnd") (isI := false) (l0 := [(0, .int p1), (1, .int p2), (2, .int p3), (3, .int p4)]) (by decide) rfl (fun z => by cases z) (Nat.le_of_ble_eq_true rfl) rfl (fun _ => ?_)
  show X ρ K_X0_playerOf 0 [(0, .int p1), (1, .int p2), (2, .int p3), (3, .int p4)] [] h 0 0 (phR ρ h post) psN
  refine x_iload_n 0 dX0_playerOf_0 rfl ?_
  obtain ⟨wd_1, ws_2, ws_3, ws_4, ws_5, ws_6⟩ := hw
  rcases tab_or p1 0 5 (by decide) with c_9 | ⟨i_8, c_9i, c_9⟩
  · have c_9o : p1.toInt < 0 ∨ 4 < p1.toInt := by omega
    have hw := wd_1 c_9o
    refine x_tableOut 91 dX0_playerOf_1 c_9o (by decide) ?_
    refine x_new (ci := 13) (n := 6) dX0_playerOf_91 rfl in_X16 tyX16_ok df_X16 q674 q675 q129 (Nat.le_of_ble_eq_true rfl) (Nat.le_of_ble_eq_true rfl) ?_
    refine x_dup dX0_playerOf_94 rfl ?_
    refine x_iload_n 1 dX0_playerOf_95 rfl ?_
    refine x_iload_n 2 dX0_playerOf_96 rfl ?_
    refine x_iload_n 3 dX0_playerOf_97 rfl ?_
    refine x_callI [.int p2, .int p3, .int p4] 3 dX0_playerOf_98 (k_X16_init_c13 G (GI.w g) sh_new hw) q676 q677 q129 q678 rfl (by decide) rfl rfl ⟨(Nat.le_of_ble_eq_true rfl), (Nat.le_of_ble_eq_true rfl)⟩ (Nat.le_of_ble_eq_true rfl) ⟨(Nat.le_of_ble_eq_true rfl), (Nat.le_of_ble_eq_true rfl)⟩ (fun v9 h_10 hv9 => ?_) (fun _ _ _ _ _ z _ _ => False.elim z)
    obtain ⟨rfl, g_11, e_12, hw⟩ := hv9
    have hw := hw g_11 e_12
    show X ρ K_X0_playerOf 101 [(0, .int p1), (1, .int p2), (2, .int p3), (3, .int p4)] [.ref (mr ρ (sz h + 1))] h_10 1 6 (phR ρ h post) psN
    exact x_aret dX0_playerOf_101 rfl (Nat.le_of_ble_eq_true rfl) (Nat.le_of_ble_eq_true rfl) ⟨_, rfl, g_11, (Ext.tr (Ext.w Ext.rf (GI.live g)) e_12), hw⟩
  · match i_8, c_9i, c_9 with
    | 0, _, c_9 =>
      have c_9 : p1 = 0 := c_9
      have hw := ws_2 c_9
      refine x_tableIn (off := 35) 36 dX0_playerOf_1 (by rw [c_9]; decide) (by rw [c_9]; decide) (by rw [c_9]; rfl) (by decide) ?_
      refine x_new (ci := 8) (n := 3) dX0_playerOf_36 rfl in_X11 tyX11_ok df_X11 q593 q594 q124 (Nat.le_of_ble_eq_true rfl) (Nat.le_of_ble_eq_true rfl) ?_
      refine x_dup dX0_playerOf_39 rfl ?_
      refine x_iload_n 1 dX0_playerOf_40 rfl ?_
      refine x_iload_n 2 dX0_playerOf_41 rfl ?_
      refine x_iload_n 3 dX0_playerOf_42 rfl ?_
      refine x_callI [.int p2, .int p3, .int p4] 3 dX0_playerOf_43 (k_X11_init_c8 G (GI.w g) sh_new hw) q595 q596 q124 q597 rfl (by decide) rfl rfl ⟨(Nat.le_of_ble_eq_true rfl), (Nat.le_of_ble_eq_true rfl)⟩ (Nat.le_of_ble_eq_true rfl) ⟨(Nat.le_of_ble_eq_true rfl), (Nat.le_of_ble_eq_true rfl)⟩ (fun v9 h_15 hv9 => ?_) (fun _ _ _ _ _ z _ _ => False.elim z)
      obtain ⟨rfl, g_16, e_17, hw⟩ := hv9
      have hw := hw g_16 e_17
      show X ρ K_X0_playerOf 46 [(0, .int p1), (1, .int p2), (2, .int p3), (3, .int p4)] [.ref (mr ρ (sz h + 1))] h_15 1 3 (phR ρ h post) psN
      exact x_aret dX0_playerOf_46 rfl (Nat.le_of_ble_eq_true rfl) (Nat.le_of_ble_eq_true rfl) ⟨_, rfl, g_16, (Ext.tr (Ext.w Ext.rf (GI.live g)) e_17), hw⟩
    | 1, _, c_9 =>
      have c_9 : p1 = 1 := c_9
      have hw := ws_3 c_9
      refine x_tableIn (off := 46) 47 dX0_playerOf_1 (by rw [c_9]; decide) (by rw [c_9]; decide) (by rw [c_9]; rfl) (by decide) ?_
      refine x_new (ci := 9) (n := 3) dX0_playerOf_47 rfl in_X12 tyX12_ok df_X12 q630 q631 q125 (Nat.le_of_ble_eq_true rfl) (Nat.le_of_ble_eq_true rfl) ?_
      refine x_dup dX0_playerOf_50 rfl ?_
      refine x_iload_n 1 dX0_playerOf_51 rfl ?_
      refine x_iload_n 2 dX0_playerOf_52 rfl ?_
      refine x_iload_n 3 dX0_playerOf_53 rfl ?_
      refine x_callI [.int p2, .int p3, .int p4] 3 dX0_playerOf_54 (k_X12_init_c9 G (GI.w g) sh_new hw) q632 q633 q125 q634 rfl (by decide) rfl rfl ⟨(Nat.le_of_ble_eq_true rfl), (Nat.le_of_ble_eq_true rfl)⟩ (Nat.le_of_ble_eq_true rfl) ⟨(Nat.le_of_ble_eq_true rfl), (Nat.le_of_ble_eq_true rfl)⟩ (fun v9 h_20 hv9 => ?_) (fun _ _ _ _ _ z _ _ => False.elim z)
      obtain ⟨rfl, g_21, e_22, hw⟩ := hv9
      have hw := hw g_21 e_22
      show X ρ K_X0_playerOf 57 [(0, .int p1), (1, .int p2), (2, .int p3), (3, .int p4)] [.ref (mr ρ (sz h + 1))] h_20 1 3 (phR ρ h post) psN
      exact x_aret dX0_playerOf_57 rfl (Nat.le_of_ble_eq_true rfl) (Nat.le_of_ble_eq_true rfl) ⟨_, rfl, g_21, (Ext.tr (Ext.w Ext.rf (GI.live g)) e_22), hw⟩
    | 2, _, c_9 =>
      have c_9 : p1 = 2 := c_9
      have hw := ws_4 c_9
      refine x_tableIn (off := 57) 58 dX0_playerOf_1 (by rw [c_9]; decide) (by rw [c_9]; decide) (by rw [c_9]; rfl) (by decide) ?_
      refine x_new (ci := 10) (n := 3) dX0_playerOf_58 rfl in_X13 tyX13_ok df_X13 q640 q641 q126 (Nat.le_of_ble_eq_true rfl) (Nat.le_of_ble_eq_true rfl) ?_
      refine x_dup dX0_playerOf_61 rfl ?_
      refine x_iload_n 1 dX0_playerOf_62 rfl ?_
      refine x_iload_n 2 dX0_playerOf_63 rfl ?_
      refine x_iload_n 3 dX0_playerOf_64 rfl ?_
      refine x_callI [.int p2, .int p3, .int p4] 3 dX0_playerOf_65 (k_X13_init_c10 G (GI.w g) sh_new hw) q642 q643 q126 q644 rfl (by decide) rfl rfl ⟨(Nat.le_of_ble_eq_true rfl), (Nat.le_of_ble_eq_true rfl)⟩ (Nat.le_of_ble_eq_true rfl) ⟨(Nat.le_of_ble_eq_true rfl), (Nat.le_of_ble_eq_true rfl)⟩ (fun v9 h_25 hv9 => ?_) (fun _ _ _ _ _ z _ _ => False.elim z)
      obtain ⟨rfl, g_26, e_27, hw⟩ := hv9
      have hw := hw g_26 e_27
      show X ρ K_X0_playerOf 68 [(0, .int p1), (1, .int p2), (2, .int p3), (3, .int p4)] [.ref (mr ρ (sz h + 1))] h_25 1 3 (phR ρ h post) psN
      exact x_aret dX0_playerOf_68 rfl (Nat.le_of_ble_eq_true rfl) (Nat.le_of_ble_eq_true rfl) ⟨_, rfl, g_26, (Ext.tr (Ext.w Ext.rf (GI.live g)) e_27), hw⟩
    | 3, _, c_9 =>
      have c_9 : p1 = 3 := c_9
      have hw := ws_5 c_9
      refine x_tableIn (off := 68) 69 dX0_playerOf_1 (by rw [c_9]; decide) (by rw [c_9]; decide) (by rw [c_9]; rfl) (by decide) ?_
      refine x_new (ci := 11) (n := 3) dX0_playerOf_69 rfl in_X14 tyX14_ok df_X14 q650 q651 q127 (Nat.le_of_ble_eq_true rfl) (Nat.le_of_ble_eq_true rfl) ?_
      refine x_dup dX0_playerOf_72 rfl ?_
      refine x_iload_n 1 dX0_playerOf_73 rfl ?_
      refine x_iload_n 2 dX0_playerOf_74 rfl ?_
      refine x_iload_n 3 dX0_playerOf_75 rfl ?_
      refine x_callI [.int p2, .int p3, .int p4] 3 dX0_playerOf_76 (k_X14_init_c11 G (GI.w g) sh_new hw) q652 q653 q127 q654 rfl (by decide) rfl rfl ⟨(Nat.le_of_ble_eq_true rfl), (Nat.le_of_ble_eq_true rfl)⟩ (Nat.le_of_ble_eq_true rfl) ⟨(Nat.le_of_ble_eq_true rfl), (Nat.le_of_ble_eq_true rfl)⟩ (fun v9 h_30 hv9 => ?_) (fun _ _ _ _ _ z _ _ => False.elim z)
      obtain ⟨rfl, g_31, e_32, hw⟩ := hv9
      have hw := hw g_31 e_32
      show X ρ K_X0_playerOf 79 [(0, .int p1), (1, .int p2), (2, .int p3), (3, .int p4)] [.ref (mr ρ (sz h + 1))] h_30 1 3 (phR ρ h post) psN
      exact x_aret dX0_playerOf_79 rfl (Nat.le_of_ble_eq_true rfl) (Nat.le_of_ble_eq_true rfl) ⟨_, rfl, g_31, (Ext.tr (Ext.w Ext.rf (GI.live g)) e_32), hw⟩
    | 4, _, c_9 =>
      have c_9 : p1 = 4 := c_9
      have hw := ws_6 c_9
      refine x_tableIn (off := 79) 80 dX0_playerOf_1 (by rw [c_9]; decide) (by rw [c_9]; decide) (by rw [c_9]; rfl) (by decide) ?_
      refine x_new (ci := 12) (n := 4) dX0_playerOf_80 rfl in_X15 tyX15_ok df_X15 q660 q661 q128 (Nat.le_of_ble_eq_true rfl) (Nat.le_of_ble_eq_true rfl) ?_
      refine x_dup dX0_playerOf_83 rfl ?_
      refine x_iload_n 1 dX0_playerOf_84 rfl ?_
      refine x_iload_n 2 dX0_playerOf_85 rfl ?_
      refine x_iload_n 3 dX0_playerOf_86 rfl ?_
      refine x_callI [.int p2, .int p3, .int p4] 3 dX0_playerOf_87 (k_X15_init_c12 G (GI.w g) sh_new hw) q662 q663 q128 q664 rfl (by decide) rfl rfl ⟨(Nat.le_of_ble_eq_true rfl), (Nat.le_of_ble_eq_true rfl)⟩ (Nat.le_of_ble_eq_true rfl) ⟨(Nat.le_of_ble_eq_true rfl), (Nat.le_of_ble_eq_true rfl)⟩ (fun v9 h_35 hv9 => ?_) (fun _ _ _ _ _ z _ _ => False.elim z)
      obtain ⟨rfl, g_36, e_37, hw⟩ := hv9
      have hw := hw g_36 e_37
      show X ρ K_X0_playerOf 90 [(0, .int p1), (1, .int p2), (2, .int p3), (3, .int p4)] [.ref (mr ρ (sz h + 1))] h_35 1 4 (phR ρ h post) psN
      exact x_aret dX0_playerOf_90 rfl (Nat.le_of_ble_eq_true rfl) (Nat.le_of_ble_eq_true rfl) ⟨_, rfl, g_36, (Ext.tr (Ext.w Ext.rf (GI.live g)) e_37), hw⟩
    | i9 + 5, h9, _ => exact absurd h9 (by omega)

/-! BeforeTheEnd$Told.<init>(I)V on an object of class 7 -/
def wp_X7_init_c7 (post : Hp → Prop) (h : Hp) (r0 : Nat) (p1 : Int32) : Prop := (post (si h r0 0 p1))
abbrev rm_X7_init_c7 : Room := ({ frames := 1, cells := 0, slots := 0, locals := 60 })
abbrev K_X7_init_c7 : Kx := ("BeforeTheEnd$Told", cX7_init, 2, (Option.none : Option Jvm.ClassFile.FieldType), rm_X7_init_c7, [], true)
set_option maxHeartbeats 4000000 in
theorem k_X7_init_c7 {ρ : Rho} {h : Hp} {post : Hp → Prop} {r0 : Nat} {p1 : Int32} (G : G0 ρ) (g : GI h) (fr0 : sh h r0 = (17, 0)) (hw : wp_X7_init_c7 post h r0 p1) : Con ρ yX7_init (ws_ yX7_init cX7_init 2 (Option.none : Option Jvm.ClassFile.FieldType)) rm_X7_init_c7 [.ref (mr ρ r0), .int p1] h (phV h post) psN := by
  refine con_of (own := "BeforeTheEnd$Told") (isI := true) (l0 := [(0, .ref (mr ρ r0)), (1, .int p1)]) (by decide) rfl (fun _ => rfl) (Nat.le_of_ble_eq_true rfl) rfl (fun _ => ?_)
  show X ρ K_X7_init_c7 0 [(0, .ref (mr ρ r0)), (1, .int p1)] [] h 0 0 (phV h post) psN
  refine x_aload_n 0 dX7_init_0 rfl ?_
  refine x_objInit dX7_init_1 q478 q137 q138 (Nat.le_of_ble_eq_true rfl) (Nat.le_of_ble_eq_true rfl) ?_
  refine x_aload_n 0 dX7_init_4 rfl ?_
  refine x_iload_n 1 dX7_init_5 rfl ?_
  refine x_putF (ci := 7) 0 dX7_init_6 fr0 rfl in_X9 tyX9 tyX9_ok nmX9 (by decide) q485 rfl rfl rfl rfl rfl rfl (isPut_i rfl) ?_
  exact x_vret dX7_init_9 rfl (Nat.le_of_ble_eq_true rfl) (Nat.le_of_ble_eq_true rfl) ⟨rfl, (GI.i g), (Ext.i Ext.rf), hw⟩

/-! BeforeTheEnd$PlayerTold.<init>(ILBeforeTheEnd$Player;Z)V on an object of class 7 -/
def wp_X9_init_c7 (post : Hp → Prop) (h : Hp) (r0 : Nat) (p1 : Int32) (p2 : Nat) (p3 : Int32) : Prop := (wp_X7_init_c7 (fun h_1 => GI h_1 → Ext h h_1 → (isB p3 ∧ (post (si (sr h_1 r0 1 p2) r0 2 p3)))) h r0 p1)
abbrev rm_X9_init_c7 : Room := ({ frames := 2, cells := 0, slots := 0, locals := 81 })
abbrev K_X9_init_c7 : Kx := ("BeforeTheEnd$PlayerTold", cX9_init, 4, (Option.none : Option Jvm.ClassFile.FieldType), rm_X9_init_c7, [], true)
set_option maxHeartbeats 4000000 in
theorem k_X9_init_c7 {ρ : Rho} {h : Hp} {post : Hp → Prop} {r0 : Nat} {p1 : Int32} {p2 : Nat} {p3 : Int32} (G : G0 ρ) (g : GI h) (fr0 : sh h r0 = (17, 0)) (fp2 : isPl h p2) (hw : wp_X9_init_c7 post h r0 p1 p2 p3) : Con ρ yX9_init (ws_ yX9_init cX9_init 4 (Option.none : Option Jvm.ClassFile.FieldType)) rm_X9_init_c7 [.ref (mr ρ r0), .int p1, .ref (mr ρ p2), .int p3] h (phV h post) psN := by
  refine con_of (own := "BeforeTheEnd$PlayerTold") (isI := true) (l0 := [(0, .ref (mr ρ r0)), (1, .int p1), (2, .ref (mr ρ p2)), (3, .int p3)]) (by decide) rfl (fun _ => rfl) (Nat.le_of_ble_eq_true rfl) rfl (fun _ => ?_)
  show X ρ K_X9_init_c7 0 [(0, .ref (mr ρ r0)), (1, .int p1), (2, .ref (mr ρ p2)), (3, .int p3)] [] h 0 0 (phV h post) psN
  refine x_aload_n 0 dX9_init_0 rfl ?_
  refine x_iload_n 1 dX9_init_1 rfl ?_
  refine x_callI [.int p1] 1 dX9_init_2 (k_X7_init_c7 G g fr0 hw) q694 q476 q114 q477 rfl (by decide) rfl rfl ⟨(Nat.le_of_ble_eq_true rfl), (Nat.le_of_ble_eq_true rfl)⟩ (Nat.le_of_ble_eq_true rfl) ⟨(Nat.le_of_ble_eq_true rfl), (Nat.le_of_ble_eq_true rfl)⟩ (fun v9 h_1 hv9 => ?_) (fun _ _ _ _ _ z _ _ => False.elim z)
  obtain ⟨rfl, g_2, e_3, hw⟩ := hv9
  have hw := hw g_2 e_3
  show X ρ K_X9_init_c7 5 [(0, .ref (mr ρ r0)), (1, .int p1), (2, .ref (mr ρ p2)), (3, .int p3)] [] h_1 0 0 (phV h post) psN
  refine x_aload_n 0 dX9_init_5 rfl ?_
  refine x_aload_n 2 dX9_init_6 rfl ?_
  refine x_putF (ci := 7) 1 dX9_init_7 (Ext.s e_3 fr0 (by decide)) rfl in_X9 tyX9 tyX9_ok nmX9 (by decide) q695 rfl rfl rfl rfl rfl rfl (isPut_rn rfl (isPl.nz (isPl.ext fp2 e_3) (GI.live g_2))) ?_
  refine x_aload_n 0 dX9_init_10 rfl ?_
  refine x_iload_n 3 dX9_init_11 rfl ?_
  obtain ⟨b_6, hw⟩ := hw
  refine x_putF (ci := 7) 2 dX9_init_12 (Ext.s e_3 fr0 (by decide)) rfl in_X9 tyX9 tyX9_ok nmX9 (by decide) q697 rfl rfl rfl rfl (isB.n b_6) (isB.f b_6) (isPut_i rfl) ?_
  exact x_vret dX9_init_15 rfl (Nat.le_of_ble_eq_true rfl) (Nat.le_of_ble_eq_true rfl) ⟨rfl, (GI.i (GI.r g_2 (Ext.s e_3 fr0 (by decide)) (by decide) (by decide) (by decide))), (Ext.i (Ext.r e_3 (Ext.s e_3 fr0 (by decide)) (by decide) (by decide))), hw⟩

/-! BeforeTheEnd$Reader.player(I)LBeforeTheEnd$Told; -/
def w_X5_player_151 (post : Nat → Hp → Prop) (px : Nat → Hp → Prop) (x1 : Int32) (x2 : Int32) (x3 : Int32) (x4 : Int32) (x5 : Int32) (x6 : Int32) (h : Hp) : Prop := (wp_X0_playerOf (fun r_4 h_1 => GI h_1 → Ext (al h (17, 0)) h_1 → (isPl h_1 r_4 ∧ (wp_X9_init_c7 (fun h_6 => GI h_6 → Ext h_1 h_6 → (post (sz h + 1) h_6)) h_1 (sz h + 1) x1 r_4 x6))) (al h (17, 0)) x2 x3 x4 x5)
def w_X5_player_71 (post : Nat → Hp → Prop) (px : Nat → Hp → Prop) : Nat → Nat → Int32 → Int32 → Int32 → Int32 → Int32 → Int32 → Int32 → Hp → Prop
  | 0 => fun _ _ _ _ _ _ _ _ _ => False
  | n + 1 => fun x0 x1 x2 x3 x4 x5 x6 x7 h => (wp_X5_here (fun r_4 h_1 => GI h_1 → Ext h h_1 → (wp_X0_in (fun r_9 h_6 => GI h_6 → Ext h_1 h_6 → (wp_X5_mustStand (fun h_11 => GI h_11 → Ext h_6 h_11 → (wp_X5_digit (fun r_19 h_16 => GI h_16 → Ext h_11 h_16 → (∀ z_22 : Int32, z_22 = ((if ((x5 >>> (r_19 &&& 31)) &&& 1) = 0 then 1 else 0) : Int32) → ((9 ≤ (x7 + 1) → (w_X5_player_151 post px x1 x2 x3 x4 (x5 ||| (1 <<< (r_19 &&& 31))) (x6 &&& z_22) h_16)) ∧ (¬ 9 ≤ (x7 + 1) → (wp_X5_here (fun r_27 h_24 => GI h_24 → Ext h_16 h_24 → (wp_X0_in (fun r_32 h_29 => GI h_29 → Ext h_24 h_29 → ((¬ r_32 = 0 → (w_X5_player_71 post px n x0 x1 x2 x3 x4 (x5 ||| (1 <<< (r_19 &&& 31))) (x6 &&& z_22) (x7 + 1) h_29)) ∧ (r_32 = 0 → (w_X5_player_151 post px x1 x2 x3 x4 (x5 ||| (1 <<< (r_19 &&& 31))) (x6 &&& z_22) h_29)))) h_24 (Int32.toInt64 r_27) 48 57)) h_16 x0))))) px h_11 x0)) px h_6 x0 r_9)) h_1 (Int32.toInt64 r_4) 49 57)) h x0)
def w_X5_player_20 (post : Nat → Hp → Prop) (px : Nat → Hp → Prop) (x0 : Nat) (x1 : Int32) (z0 : Int32) (h : Hp) : Prop := (∀ z_2 : Int32, z_2 = ((if z0 < 0 then 0 else 1) : Int32) → (wp_X5_mustStand (fun h_3 => GI h_3 → Ext h h_3 → (wp_X5_digit (fun r_11 h_8 => GI h_8 → Ext (si h_3 x0 1 ((gi h_3 x0 1) + 1)) h_8 → (wp_X5_number (fun r_16 h_13 => GI h_13 → Ext h_8 h_13 → (wp_X5_take (fun h_18 => GI h_18 → Ext h_13 h_18 → (w_X5_player_71 post px 9 x0 x1 z0 r_11 r_16 0 1 0 h_18)) px h_13 x0 58)) px h_8 x0 3)) px (si h_3 x0 1 ((gi h_3 x0 1) + 1)) x0)) px h x0 z_2))
def wp_X5_player (post : Nat → Hp → Prop) (px : Nat → Hp → Prop) (h : Hp) (r0 : Nat) (p1 : Int32) : Prop := (wp_X5_here (fun r_4 h_1 => GI h_1 → Ext h h_1 → ((0 ≤ r_4 → (wp_X5_here (fun r_10 h_7 => GI h_7 → Ext h_1 h_7 → (w_X5_player_20 post px r0 p1 (idxOf r_10) h_7)) h_1 r0)) ∧ (¬ 0 ≤ r_4 → (w_X5_player_20 post px r0 p1 (-1) h_1)))) h r0)
abbrev rm_X5_player : Room := ({ frames := 12, cells := 27, slots := 184, locals := 285 })
abbrev K_X5_player : Kx := ("BeforeTheEnd$Reader", cX5_player, 9, (Option.some (Jvm.ClassFile.FieldType.object "BeforeTheEnd$Told")), rm_X5_player, [], false)
set_option maxHeartbeats 4000000 in
theorem t_X5_player_151 {ρ : Rho} {h0 : Hp} {post : Nat → Hp → Prop} {px : Nat → Hp → Prop} (G : G0 ρ) :
    ∀ (x1 : Int32) (x2 : Int32) (x3 : Int32) (x4 : Int32) (x5 : Int32) (x6 : Int32) (h : Hp), GI h → Ext h0 h → w_X5_player_151 post px x1 x2 x3 x4 x5 x6 h → X ρ K_X5_player 151 [(1, .int x1), (2, .int x2), (3, .int x3), (4, .int x4), (5, .int x5), (6, .int x6)] [] h 25 175 (phR ρ h0 post) (psX h0 px) := by
  intro x1 x2 x3 x4 x5 x6 h g e hw
  refine x_new (ci := 7) (n := 3) dX5_player_151 rfl in_X9 tyX9_ok df_X9 q588 q589 q122 (Nat.le_of_ble_eq_true rfl) (Nat.le_of_ble_eq_true rfl) ?_
  refine x_dup dX5_player_154 rfl ?_
  refine x_iload_n 0 dX5_player_155 rfl ?_
  refine x_iload_n 1 dX5_player_156 rfl ?_
  refine x_iload_n 2 dX5_player_157 rfl ?_
  refine x_iload 3 dX5_player_158 rfl ?_
  refine x_iload 4 dX5_player_160 rfl ?_
  refine x_callSN [.int x2, .int x3, .int x4, .int x5] 4 dX5_player_162 (k_X0_playerOf G (GI.w g) hw) q590 q591 q104 q592 (by decide) rfl rfl ⟨(Nat.le_of_ble_eq_true rfl), (Nat.le_of_ble_eq_true rfl)⟩ (Nat.le_of_ble_eq_true rfl) ⟨(Nat.le_of_ble_eq_true rfl), (Nat.le_of_ble_eq_true rfl)⟩ (fun v9 h_1 hv9 => ?_) (fun _ _ _ _ _ z _ _ => False.elim z)
  obtain ⟨r_4, rfl, g_2, e_3, hw⟩ := hv9
  have hw := hw g_2 e_3
  show X ρ K_X5_player 165 [(1, .int x1), (2, .int x2), (3, .int x3), (4, .int x4), (5, .int x5), (6, .int x6)] [.ref (mr ρ r_4), .int x1, .ref (mr ρ (sz h + 1)), .ref (mr ρ (sz h + 1))] h_1 27 184 (phR ρ h0 post) (psX h0 px)
  obtain ⟨b_5, hw⟩ := hw
  refine x_iload 5 dX5_player_165 rfl ?_
  refine x_callI [.int x1, .ref (mr ρ r_4), .int x6] 3 dX5_player_167 (k_X9_init_c7 G g_2 (Ext.s e_3 sh_new (by decide)) b_5 hw) q691 q692 q122 q693 rfl (by decide) rfl rfl ⟨(Nat.le_of_ble_eq_true rfl), (Nat.le_of_ble_eq_true rfl)⟩ (Nat.le_of_ble_eq_true rfl) ⟨(Nat.le_of_ble_eq_true rfl), (Nat.le_of_ble_eq_true rfl)⟩ (fun v9 h_6 hv9 => ?_) (fun _ _ _ _ _ z _ _ => False.elim z)
  obtain ⟨rfl, g_7, e_8, hw⟩ := hv9
  have hw := hw g_7 e_8
  show X ρ K_X5_player 170 [(1, .int x1), (2, .int x2), (3, .int x3), (4, .int x4), (5, .int x5), (6, .int x6)] [.ref (mr ρ (sz h + 1))] h_6 27 184 (phR ρ h0 post) (psX h0 px)
  exact x_aret dX5_player_170 rfl (Nat.le_of_ble_eq_true rfl) (Nat.le_of_ble_eq_true rfl) ⟨_, rfl, g_7, (Ext.tr (Ext.tr (Ext.w e (GI.live g)) e_3) e_8), hw⟩
set_option maxHeartbeats 4000000 in
theorem t_X5_player_71 {ρ : Rho} {h0 : Hp} {post : Nat → Hp → Prop} {px : Nat → Hp → Prop} (G : G0 ρ) :
    ∀ (n : Nat), n ≤ 9 → ∀ (x0 : Nat) (x1 : Int32) (x2 : Int32) (x3 : Int32) (x4 : Int32) (x5 : Int32) (x6 : Int32) (x7 : Int32) (h : Hp), GI h → Ext h0 h → isRd h x0 → w_X5_player_71 post px n x0 x1 x2 x3 x4 x5 x6 x7 h → X ρ K_X5_player 71 [(0, .ref (mr ρ x0)), (1, .int x1), (2, .int x2), (3, .int x3), (4, .int x4), (5, .int x5), (6, .int x6), (7, .int x7)] [] h (7 + (9 - n) * 2) (49 + (9 - n) * 14) (phR ρ h0 post) (psX h0 px) := by
  intro n
  induction n with
  | zero => intro hn x0 x1 x2 x3 x4 x5 x6 x7 h g e fx0 hw; exact False.elim hw
  | succ n ih =>
    intro hn x0 x1 x2 x3 x4 x5 x6 x7 h g e fx0 hw
    rw [w_X5_player_71] at hw
    refine x_aload_n 0 dX5_player_71 rfl ?_
    refine x_aload_n 0 dX5_player_72 rfl ?_
    refine x_callV (ci := 4) [] 0 dX5_player_73 (k_X5_here G g fx0 hw) fx0.1 rfl q423 q425 qs7 q112 q426 (by decide) rfl rfl ⟨(Nat.le_of_ble_eq_true rfl), (Nat.le_of_ble_eq_true rfl)⟩ (Nat.le_of_ble_eq_true rfl) ⟨(show 7 + (9 - (n + 1)) * 2 + 0 ≤ 27 by omega), (show 49 + (9 - (n + 1)) * 14 + 0 ≤ 184 by omega)⟩ (fun v9 h_1 hv9 => ?_) (fun _ _ _ _ _ z _ _ => False.elim z)
    obtain ⟨r_4, rfl, g_2, e_3, hw⟩ := hv9
    have hw := hw g_2 e_3
    show X ρ K_X5_player 76 [(0, .ref (mr ρ x0)), (1, .int x1), (2, .int x2), (3, .int x3), (4, .int x4), (5, .int x5), (6, .int x6), (7, .int x7)] [.int r_4, .ref (mr ρ x0)] h_1 (7 + (9 - (n + 1)) * 2) (49 + (9 - (n + 1)) * 14) (phR ρ h0 post) (psX h0 px)
    refine x_i2l dX5_player_76 ?_
    refine x_ldc2 dX5_player_77 q587 ?_
    refine x_ldc2 dX5_player_80 q462 ?_
    refine x_callSN [.long (Int32.toInt64 r_4), .long 49, .long 57] 3 dX5_player_83 (k_X0_in G g_2 hw) q463 q464 q104 q465 (by decide) rfl rfl ⟨(Nat.le_of_ble_eq_true rfl), (Nat.le_of_ble_eq_true rfl)⟩ (Nat.le_of_ble_eq_true rfl) ⟨(show 7 + (9 - (n + 1)) * 2 + 0 ≤ 27 by omega), (show 49 + (9 - (n + 1)) * 14 + 0 ≤ 184 by omega)⟩ (fun v9 h_6 hv9 => ?_) (fun _ _ _ _ _ z _ _ => False.elim z)
    obtain ⟨r_9, rfl, g_7, e_8, b_10, hw⟩ := hv9
    have hw := hw g_7 e_8
    show X ρ K_X5_player 86 [(0, .ref (mr ρ x0)), (1, .int x1), (2, .int x2), (3, .int x3), (4, .int x4), (5, .int x5), (6, .int x6), (7, .int x7)] [.int r_9, .ref (mr ρ x0)] h_6 (7 + (9 - (n + 1)) * 2) (49 + (9 - (n + 1)) * 14) (phR ρ h0 post) (psX h0 px)
    refine x_callV (ci := 4) [.int r_9] 1 dX5_player_86 (k_X5_mustStand G g_7 (isRd.ext (isRd.ext fx0 e_3) e_8) hw) (isRd.ext (isRd.ext fx0 e_3) e_8).1 rfl q427 q429 qs8 q112 q430 (by decide) rfl rfl ⟨(Nat.le_of_ble_eq_true rfl), (Nat.le_of_ble_eq_true rfl)⟩ (Nat.le_of_ble_eq_true rfl) ⟨(show 7 + (9 - (n + 1)) * 2 + 1 ≤ 27 by omega), (show 49 + (9 - (n + 1)) * 14 + 7 ≤ 184 by omega)⟩ (fun v9 h_11 hv9 => ?_) (fun q9 h9 ci9 n9 x9 hx9 hs9 hc9 => xt_out hs9 hc9 (fun z hz => by cases hz) (show 7 + (9 - (n + 1)) * 2 + 1 ≤ 27 by omega) (show 49 + (9 - (n + 1)) * 14 + 7 ≤ 184 by omega) ⟨hx9.1, Ext.tr (Ext.tr (Ext.tr e e_3) e_8) hx9.2.1, hx9.2.2⟩)
    obtain ⟨rfl, g_12, e_13, hw⟩ := hv9
    have hw := hw g_12 e_13
    show X ρ K_X5_player 89 [(0, .ref (mr ρ x0)), (1, .int x1), (2, .int x2), (3, .int x3), (4, .int x4), (5, .int x5), (6, .int x6), (7, .int x7)] [] h_11 (7 + (9 - (n + 1)) * 2 + 1) (49 + (9 - (n + 1)) * 14 + 7) (phR ρ h0 post) (psX h0 px)
    refine x_aload_n 0 dX5_player_89 rfl ?_
    refine x_callV (ci := 4) [] 0 dX5_player_90 (k_X5_digit G g_12 (isRd.ext (isRd.ext (isRd.ext fx0 e_3) e_8) e_13) hw) (isRd.ext (isRd.ext (isRd.ext fx0 e_3) e_8) e_13).1 rfl q457 q459 qs11 q112 q460 (by decide) rfl rfl ⟨(Nat.le_of_ble_eq_true rfl), (Nat.le_of_ble_eq_true rfl)⟩ (Nat.le_of_ble_eq_true rfl) ⟨(show 7 + (9 - (n + 1)) * 2 + 1 + 1 ≤ 27 by omega), (show 49 + (9 - (n + 1)) * 14 + 7 + 7 ≤ 184 by omega)⟩ (fun v9 h_16 hv9 => ?_) (fun q9 h9 ci9 n9 x9 hx9 hs9 hc9 => xt_out hs9 hc9 (fun z hz => by cases hz) (show 7 + (9 - (n + 1)) * 2 + 1 + 1 ≤ 27 by omega) (show 49 + (9 - (n + 1)) * 14 + 7 + 7 ≤ 184 by omega) ⟨hx9.1, Ext.tr (Ext.tr (Ext.tr (Ext.tr e e_3) e_8) e_13) hx9.2.1, hx9.2.2⟩)
    obtain ⟨r_19, rfl, g_17, e_18, hw⟩ := hv9
    have hw := hw g_17 e_18
    show X ρ K_X5_player 93 [(0, .ref (mr ρ x0)), (1, .int x1), (2, .int x2), (3, .int x3), (4, .int x4), (5, .int x5), (6, .int x6), (7, .int x7)] [.int r_19] h_16 (7 + (9 - (n + 1)) * 2 + 1 + 1) (49 + (9 - (n + 1)) * 14 + 7 + 7) (phR ρ h0 post) (psX h0 px)
    refine x_istore (lv' := [(8, .int r_19), (0, .ref (mr ρ x0)), (1, .int x1), (2, .int x2), (3, .int x3), (4, .int x4), (5, .int x5), (6, .int x6), (7, .int x7)]) dX5_player_93 (Nat.le_of_ble_eq_true rfl) rfl ?_
    refine x_iload 7 dX5_player_95 rfl ?_
    refine x_iload 6 dX5_player_97 rfl ?_
    refine x_iload 0 dX5_player_99 rfl ?_
    refine x_ishr dX5_player_101 ?_
    refine x_iconst 1 dX5_player_102 (by decide) ?_
    refine x_iand dX5_player_103 ?_
    have kJ_39 : ∀ z_22 : Int32, z_22 = ((if ((x5 >>> (r_19 &&& 31)) &&& 1) = 0 then 1 else 0) : Int32) → X ρ K_X5_player 112 [(8, .int r_19), (0, .ref (mr ρ x0)), (1, .int x1), (2, .int x2), (3, .int x3), (4, .int x4), (5, .int x5), (6, .int x6), (7, .int x7)] [.int z_22, .int x6] h_16 (7 + (9 - (n + 1)) * 2 + 1 + 1) (49 + (9 - (n + 1)) * 14 + 7 + 7) (phR ρ h0 post) (psX h0 px) := fun z_22 ez_22 => by
      have hw := hw z_22 ez_22
      refine x_iand dX5_player_112 ?_
      refine x_istore (lv' := [(6, .int (x6 &&& z_22)), (8, .int r_19), (0, .ref (mr ρ x0)), (1, .int x1), (2, .int x2), (3, .int x3), (4, .int x4), (5, .int x5), (7, .int x7)]) dX5_player_113 (Nat.le_of_ble_eq_true rfl) rfl ?_
      refine x_iload 7 dX5_player_115 rfl ?_
      refine x_iconst 1 dX5_player_117 (by decide) ?_
      refine x_iload 1 dX5_player_118 rfl ?_
      refine x_ishl dX5_player_120 ?_
      refine x_ior dX5_player_121 ?_
      refine x_istore (lv' := [(5, .int (x5 ||| (1 <<< (r_19 &&& 31)))), (6, .int (x6 &&& z_22)), (8, .int r_19), (0, .ref (mr ρ x0)), (1, .int x1), (2, .int x2), (3, .int x3), (4, .int x4), (7, .int x7)]) dX5_player_122 (Nat.le_of_ble_eq_true rfl) rfl ?_
      refine x_iinc (v := (x7 + 1)) (lv' := [(7, .int (x7 + 1)), (5, .int (x5 ||| (1 <<< (r_19 &&& 31)))), (6, .int (x6 &&& z_22)), (8, .int r_19), (0, .ref (mr ρ x0)), (1, .int x1), (2, .int x2), (3, .int x3), (4, .int x4)]) 8 dX5_player_124 rfl (by rfl) (Nat.le_of_ble_eq_true rfl) rfl ?_
      refine x_iload 0 dX5_player_127 rfl ?_
      refine x_bipush 9 dX5_player_129 (by decide) ?_
      obtain ⟨wt_37, wf_38⟩ := hw
      refine x_icmp_ge 151 dX5_player_131 (by decide) (fun c_23 => ?_) (fun c_23 => ?_)
      · have hw := wt_37 c_23
        refine X.widen (k := 25) (n := 175) (show 7 + (9 - (n + 1)) * 2 + 1 + 1 ≤ 25 by omega) (show 49 + (9 - (n + 1)) * 14 + 7 + 7 ≤ 175 by omega) ?_
        refine X.sub [5, 6, 7, 8, 1, 2] rfl ?_
        exact t_X5_player_151 G  x1 x2 x3 x4 (x5 ||| (1 <<< (r_19 &&& 31))) (x6 &&& z_22) h_16 g_17 (Ext.tr (Ext.tr (Ext.tr (Ext.tr e e_3) e_8) e_13) e_18) hw
      · have hw := wf_38 c_23
        refine x_aload_n 4 dX5_player_134 rfl ?_
        refine x_callV (ci := 4) [] 0 dX5_player_135 (k_X5_here G g_17 (isRd.ext (isRd.ext (isRd.ext (isRd.ext fx0 e_3) e_8) e_13) e_18) hw) (isRd.ext (isRd.ext (isRd.ext (isRd.ext fx0 e_3) e_8) e_13) e_18).1 rfl q423 q425 qs7 q112 q426 (by decide) rfl rfl ⟨(Nat.le_of_ble_eq_true rfl), (Nat.le_of_ble_eq_true rfl)⟩ (Nat.le_of_ble_eq_true rfl) ⟨(show 7 + (9 - (n + 1)) * 2 + 1 + 1 + 0 ≤ 27 by omega), (show 49 + (9 - (n + 1)) * 14 + 7 + 7 + 0 ≤ 184 by omega)⟩ (fun v9 h_24 hv9 => ?_) (fun _ _ _ _ _ z _ _ => False.elim z)
        obtain ⟨r_27, rfl, g_25, e_26, hw⟩ := hv9
        have hw := hw g_25 e_26
        show X ρ K_X5_player 138 [(7, .int (x7 + 1)), (5, .int (x5 ||| (1 <<< (r_19 &&& 31)))), (6, .int (x6 &&& z_22)), (8, .int r_19), (0, .ref (mr ρ x0)), (1, .int x1), (2, .int x2), (3, .int x3), (4, .int x4)] [.int r_27] h_24 (7 + (9 - (n + 1)) * 2 + 1 + 1) (49 + (9 - (n + 1)) * 14 + 7 + 7) (phR ρ h0 post) (psX h0 px)
        refine x_i2l dX5_player_138 ?_
        refine x_ldc2 dX5_player_139 q461 ?_
        refine x_ldc2 dX5_player_142 q462 ?_
        refine x_callSN [.long (Int32.toInt64 r_27), .long 48, .long 57] 3 dX5_player_145 (k_X0_in G g_25 hw) q463 q464 q104 q465 (by decide) rfl rfl ⟨(Nat.le_of_ble_eq_true rfl), (Nat.le_of_ble_eq_true rfl)⟩ (Nat.le_of_ble_eq_true rfl) ⟨(show 7 + (9 - (n + 1)) * 2 + 1 + 1 + 0 ≤ 27 by omega), (show 49 + (9 - (n + 1)) * 14 + 7 + 7 + 0 ≤ 184 by omega)⟩ (fun v9 h_29 hv9 => ?_) (fun _ _ _ _ _ z _ _ => False.elim z)
        obtain ⟨r_32, rfl, g_30, e_31, b_33, hw⟩ := hv9
        have hw := hw g_30 e_31
        show X ρ K_X5_player 148 [(7, .int (x7 + 1)), (5, .int (x5 ||| (1 <<< (r_19 &&& 31)))), (6, .int (x6 &&& z_22)), (8, .int r_19), (0, .ref (mr ρ x0)), (1, .int x1), (2, .int x2), (3, .int x3), (4, .int x4)] [.int r_32] h_29 (7 + (9 - (n + 1)) * 2 + 1 + 1) (49 + (9 - (n + 1)) * 14 + 7 + 7) (phR ρ h0 post) (psX h0 px)
        obtain ⟨wt_35, wf_36⟩ := hw
        refine x_if_ne 71 dX5_player_148 (by decide) (fun c_34 => ?_) (fun c_34 => ?_)
        · have hw := wt_35 c_34
          refine X.widen (k := 7 + (9 - n) * 2) (n := 49 + (9 - n) * 14) (show 7 + (9 - (n + 1)) * 2 + 1 + 1 ≤ 7 + (9 - n) * 2 by omega) (show 49 + (9 - (n + 1)) * 14 + 7 + 7 ≤ 49 + (9 - n) * 14 by omega) ?_
          refine X.sub [4, 5, 6, 7, 8, 1, 2, 0] rfl ?_
          exact ih (by omega) x0 x1 x2 x3 x4 (x5 ||| (1 <<< (r_19 &&& 31))) (x6 &&& z_22) (x7 + 1) h_29 g_30 (Ext.tr (Ext.tr (Ext.tr (Ext.tr (Ext.tr (Ext.tr e e_3) e_8) e_13) e_18) e_26) e_31) (isRd.ext (isRd.ext (isRd.ext (isRd.ext (isRd.ext (isRd.ext fx0 e_3) e_8) e_13) e_18) e_26) e_31) hw
        · have hw := wf_36 c_34
          refine X.widen (k := 25) (n := 175) (show 7 + (9 - (n + 1)) * 2 + 1 + 1 ≤ 25 by omega) (show 49 + (9 - (n + 1)) * 14 + 7 + 7 ≤ 175 by omega) ?_
          refine X.sub [5, 6, 7, 8, 1, 2] rfl ?_
          exact t_X5_player_151 G  x1 x2 x3 x4 (x5 ||| (1 <<< (r_19 &&& 31))) (x6 &&& z_22) h_29 g_30 (Ext.tr (Ext.tr (Ext.tr (Ext.tr (Ext.tr (Ext.tr e e_3) e_8) e_13) e_18) e_26) e_31) hw
    refine x_if_ne 111 dX5_player_104 (by decide) (fun c_21 => ?_) (fun c_21 => ?_)
    · refine x_iconst 0 dX5_player_111 (by decide) ?_
      exact kJ_39 _ ((if_neg c_21)).symm
    · refine x_iconst 1 dX5_player_107 (by decide) ?_
      refine x_goto 112 dX5_player_108 (by decide) ?_
      exact kJ_39 _ ((if_pos c_21)).symm
set_option maxHeartbeats 4000000 in
theorem t_X5_player_20 {ρ : Rho} {h0 : Hp} {post : Nat → Hp → Prop} {px : Nat → Hp → Prop} (G : G0 ρ) :
    ∀ (x0 : Nat) (x1 : Int32) (z0 : Int32) (h : Hp), GI h → Ext h0 h → isRd h x0 → w_X5_player_20 post px x0 x1 z0 h → X ρ K_X5_player 20 [(0, .ref (mr ρ x0)), (1, .int x1)] [.int z0] h 0 0 (phR ρ h0 post) (psX h0 px) := by
  intro x0 x1 z0 h g e fx0 hw
  refine x_istore_n (lv' := [(2, .int z0), (0, .ref (mr ρ x0)), (1, .int x1)]) dX5_player_20 (Nat.le_of_ble_eq_true rfl) rfl ?_
  refine x_aload_n 1 dX5_player_21 rfl ?_
  refine x_iload_n 0 dX5_player_22 rfl ?_
  have kJ_23 : ∀ z_2 : Int32, z_2 = ((if z0 < 0 then 0 else 1) : Int32) → X ρ K_X5_player 31 [(2, .int z0), (0, .ref (mr ρ x0)), (1, .int x1)] [.int z_2, .ref (mr ρ x0)] h 0 0 (phR ρ h0 post) (psX h0 px) := fun z_2 ez_2 => by
    have hw := hw z_2 ez_2
    refine x_callV (ci := 4) [.int z_2] 1 dX5_player_31 (k_X5_mustStand G g fx0 hw) fx0.1 rfl q427 q429 qs8 q112 q430 (by decide) rfl rfl ⟨(Nat.le_of_ble_eq_true rfl), (Nat.le_of_ble_eq_true rfl)⟩ (Nat.le_of_ble_eq_true rfl) ⟨(Nat.le_of_ble_eq_true rfl), (Nat.le_of_ble_eq_true rfl)⟩ (fun v9 h_3 hv9 => ?_) (fun q9 h9 ci9 n9 x9 hx9 hs9 hc9 => xt_out hs9 hc9 (fun z hz => by cases hz) (Nat.le_of_ble_eq_true rfl) (Nat.le_of_ble_eq_true rfl) ⟨hx9.1, Ext.tr e hx9.2.1, hx9.2.2⟩)
    obtain ⟨rfl, g_4, e_5, hw⟩ := hv9
    have hw := hw g_4 e_5
    show X ρ K_X5_player 34 [(2, .int z0), (0, .ref (mr ρ x0)), (1, .int x1)] [] h_3 1 7 (phR ρ h0 post) (psX h0 px)
    refine x_aload_n 1 dX5_player_34 rfl ?_
    refine x_dup dX5_player_35 rfl ?_
    refine x_get (ci := 4) (v := .int (gi h_3 x0 1)) 1 dX5_player_36 (isRd.ext fx0 e_5).1 rfl in_X5 (by decide) q407 (Or.inl rfl) (fv_i rfl) ?_
    refine x_iconst 1 dX5_player_39 (by decide) ?_
    refine x_iadd dX5_player_40 ?_
    refine x_put (ci := 4) 1 dX5_player_41 (isRd.ext fx0 e_5).1 rfl in_X5 tyX5 tyX5_ok nmX5 (by decide) q407 (Or.inl rfl) rfl rfl rfl (isPut_i rfl) ?_
    refine x_aload_n 1 dX5_player_44 rfl ?_
    refine x_callV (ci := 4) [] 0 dX5_player_45 (k_X5_digit G (GI.i g_4) (isRd.i (isRd.ext fx0 e_5)) hw) (isRd.i (isRd.ext fx0 e_5)).1 rfl q457 q459 qs11 q112 q460 (by decide) rfl rfl ⟨(Nat.le_of_ble_eq_true rfl), (Nat.le_of_ble_eq_true rfl)⟩ (Nat.le_of_ble_eq_true rfl) ⟨(Nat.le_of_ble_eq_true rfl), (Nat.le_of_ble_eq_true rfl)⟩ (fun v9 h_8 hv9 => ?_) (fun q9 h9 ci9 n9 x9 hx9 hs9 hc9 => xt_out hs9 hc9 (fun z hz => by cases hz) (Nat.le_of_ble_eq_true rfl) (Nat.le_of_ble_eq_true rfl) ⟨hx9.1, Ext.tr (Ext.i (Ext.tr e e_5)) hx9.2.1, hx9.2.2⟩)
    obtain ⟨r_11, rfl, g_9, e_10, hw⟩ := hv9
    have hw := hw g_9 e_10
    show X ρ K_X5_player 48 [(2, .int z0), (0, .ref (mr ρ x0)), (1, .int x1)] [.int r_11] h_8 2 14 (phR ρ h0 post) (psX h0 px)
    refine x_istore_n (lv' := [(3, .int r_11), (2, .int z0), (0, .ref (mr ρ x0)), (1, .int x1)]) dX5_player_48 (Nat.le_of_ble_eq_true rfl) rfl ?_
    refine x_aload_n 2 dX5_player_49 rfl ?_
    refine x_iconst 3 dX5_player_50 (by decide) ?_
    refine x_callV (ci := 4) [.int 3] 1 dX5_player_51 (k_X5_number G g_9 (isRd.ext (isRd.i (isRd.ext fx0 e_5)) e_10) hw) (isRd.ext (isRd.i (isRd.ext fx0 e_5)) e_10).1 rfl q453 q455 qs10 q112 q456 (by decide) rfl rfl ⟨(Nat.le_of_ble_eq_true rfl), (Nat.le_of_ble_eq_true rfl)⟩ (Nat.le_of_ble_eq_true rfl) ⟨(Nat.le_of_ble_eq_true rfl), (Nat.le_of_ble_eq_true rfl)⟩ (fun v9 h_13 hv9 => ?_) (fun q9 h9 ci9 n9 x9 hx9 hs9 hc9 => xt_out hs9 hc9 (fun z hz => by cases hz) (Nat.le_of_ble_eq_true rfl) (Nat.le_of_ble_eq_true rfl) ⟨hx9.1, Ext.tr (Ext.tr (Ext.i (Ext.tr e e_5)) e_10) hx9.2.1, hx9.2.2⟩)
    obtain ⟨r_16, rfl, g_14, e_15, hw⟩ := hv9
    have hw := hw g_14 e_15
    show X ρ K_X5_player 54 [(3, .int r_11), (2, .int z0), (0, .ref (mr ρ x0)), (1, .int x1)] [.int r_16] h_13 6 42 (phR ρ h0 post) (psX h0 px)
    refine x_istore (lv' := [(4, .int r_16), (3, .int r_11), (2, .int z0), (0, .ref (mr ρ x0)), (1, .int x1)]) dX5_player_54 (Nat.le_of_ble_eq_true rfl) rfl ?_
    refine x_aload_n 3 dX5_player_56 rfl ?_
    refine x_bipush 58 dX5_player_57 (by decide) ?_
    refine x_callV (ci := 4) [.int 58] 1 dX5_player_59 (k_X5_take G g_14 (isRd.ext (isRd.ext (isRd.i (isRd.ext fx0 e_5)) e_10) e_15) hw) (isRd.ext (isRd.ext (isRd.i (isRd.ext fx0 e_5)) e_10) e_15).1 rfl q466 q468 qs12 q112 q469 (by decide) rfl rfl ⟨(Nat.le_of_ble_eq_true rfl), (Nat.le_of_ble_eq_true rfl)⟩ (Nat.le_of_ble_eq_true rfl) ⟨(Nat.le_of_ble_eq_true rfl), (Nat.le_of_ble_eq_true rfl)⟩ (fun v9 h_18 hv9 => ?_) (fun q9 h9 ci9 n9 x9 hx9 hs9 hc9 => xt_out hs9 hc9 (fun z hz => by cases hz) (Nat.le_of_ble_eq_true rfl) (Nat.le_of_ble_eq_true rfl) ⟨hx9.1, Ext.tr (Ext.tr (Ext.tr (Ext.i (Ext.tr e e_5)) e_10) e_15) hx9.2.1, hx9.2.2⟩)
    obtain ⟨rfl, g_19, e_20, hw⟩ := hv9
    have hw := hw g_19 e_20
    show X ρ K_X5_player 62 [(4, .int r_16), (3, .int r_11), (2, .int z0), (0, .ref (mr ρ x0)), (1, .int x1)] [] h_18 7 49 (phR ρ h0 post) (psX h0 px)
    refine x_iconst 0 dX5_player_62 (by decide) ?_
    refine x_istore (lv' := [(5, .int 0), (4, .int r_16), (3, .int r_11), (2, .int z0), (0, .ref (mr ρ x0)), (1, .int x1)]) dX5_player_63 (Nat.le_of_ble_eq_true rfl) rfl ?_
    refine x_iconst 1 dX5_player_65 (by decide) ?_
    refine x_istore (lv' := [(6, .int 1), (5, .int 0), (4, .int r_16), (3, .int r_11), (2, .int z0), (0, .ref (mr ρ x0)), (1, .int x1)]) dX5_player_66 (Nat.le_of_ble_eq_true rfl) rfl ?_
    refine x_iconst 0 dX5_player_68 (by decide) ?_
    refine x_istore (lv' := [(7, .int 0), (6, .int 1), (5, .int 0), (4, .int r_16), (3, .int r_11), (2, .int z0), (0, .ref (mr ρ x0)), (1, .int x1)]) dX5_player_69 (Nat.le_of_ble_eq_true rfl) rfl ?_
    refine X.widen (k := 7 + (9 - 9) * 2) (n := 49 + (9 - 9) * 14) (show 7 ≤ 7 + (9 - 9) * 2 by omega) (show 49 ≤ 49 + (9 - 9) * 14 by omega) ?_
    refine X.sub [6, 7, 5, 4, 3, 2, 1, 0] rfl ?_
    exact t_X5_player_71 G  9 (Nat.le_refl _) x0 x1 z0 r_11 r_16 0 1 0 h_18 g_19 (Ext.tr (Ext.tr (Ext.tr (Ext.i (Ext.tr e e_5)) e_10) e_15) e_20) (isRd.ext (isRd.ext (isRd.ext (isRd.i (isRd.ext fx0 e_5)) e_10) e_15) e_20) hw
  refine x_if_lt 30 dX5_player_23 (by decide) (fun c_1 => ?_) (fun c_1 => ?_)
  · refine x_iconst 0 dX5_player_30 (by decide) ?_
    exact kJ_23 _ ((if_pos c_1)).symm
  · refine x_iconst 1 dX5_player_26 (by decide) ?_
    refine x_goto 31 dX5_player_27 (by decide) ?_
    exact kJ_23 _ ((if_neg c_1)).symm
set_option maxHeartbeats 4000000 in
theorem k_X5_player {ρ : Rho} {h : Hp} {post : Nat → Hp → Prop} {px : Nat → Hp → Prop} {r0 : Nat} {p1 : Int32} (G : G0 ρ) (g : GI h) (fr0 : isRd h r0) (hw : wp_X5_player post px h r0 p1) : Con ρ yX5_player (ws_ yX5_player cX5_player 9 (Option.some (Jvm.ClassFile.FieldType.object "BeforeTheEnd$Told"))) rm_X5_player [.ref (mr ρ r0), .int p1] h (phR ρ h post) (psX h px) := by
  refine con_of (own := "BeforeTheEnd$Reader") (isI := false) (l0 := [(0, .ref (mr ρ r0)), (1, .int p1)]) (by decide) rfl (fun z => by cases z) (Nat.le_of_ble_eq_true rfl) rfl (fun _ => ?_)
  show X ρ K_X5_player 0 [(0, .ref (mr ρ r0)), (1, .int p1)] [] h 0 0 (phR ρ h post) (psX h px)
  refine x_aload_n 0 dX5_player_0 rfl ?_
  refine x_callV (ci := 4) [] 0 dX5_player_1 (k_X5_here G g fr0 hw) fr0.1 rfl q423 q425 qs7 q112 q426 (by decide) rfl rfl ⟨(Nat.le_of_ble_eq_true rfl), (Nat.le_of_ble_eq_true rfl)⟩ (Nat.le_of_ble_eq_true rfl) ⟨(Nat.le_of_ble_eq_true rfl), (Nat.le_of_ble_eq_true rfl)⟩ (fun v9 h_1 hv9 => ?_) (fun _ _ _ _ _ z _ _ => False.elim z)
  obtain ⟨r_4, rfl, g_2, e_3, hw⟩ := hv9
  have hw := hw g_2 e_3
  show X ρ K_X5_player 4 [(0, .ref (mr ρ r0)), (1, .int p1)] [.int r_4] h_1 0 0 (phR ρ h post) (psX h px)
  obtain ⟨wt_12, wf_13⟩ := hw
  refine x_if_ge 11 dX5_player_4 (by decide) (fun c_6 => ?_) (fun c_6 => ?_)
  · have hw := wt_12 c_6
    refine x_ldcS dX5_player_11 ?_
    refine x_aload_n 0 dX5_player_13 rfl ?_
    refine x_callV (ci := 4) [] 0 dX5_player_14 (k_X5_here G g_2 (isRd.ext fr0 e_3) hw) (isRd.ext fr0 e_3).1 rfl q423 q425 qs7 q112 q426 (by decide) rfl rfl ⟨(Nat.le_of_ble_eq_true rfl), (Nat.le_of_ble_eq_true rfl)⟩ (Nat.le_of_ble_eq_true rfl) ⟨(Nat.le_of_ble_eq_true rfl), (Nat.le_of_ble_eq_true rfl)⟩ (fun v9 h_7 hv9 => ?_) (fun _ _ _ _ _ z _ _ => False.elim z)
    obtain ⟨r_10, rfl, g_8, e_9, hw⟩ := hv9
    have hw := hw g_8 e_9
    show X ρ K_X5_player 17 [(0, .ref (mr ρ r0)), (1, .int p1)] [.int r_10, .ref (rO ρ 1)] h_7 0 0 (phR ρ h post) (psX h px)
    refine x_indexOf dX5_player_17 q501 (Nat.le_of_ble_eq_true rfl) (Nat.le_of_ble_eq_true rfl) (Nat.le_of_ble_eq_true rfl) (Nat.le_of_ble_eq_true rfl) ?_
    exact t_X5_player_20 G  r0 p1 (idxOf r_10) h_7 g_8 (Ext.tr e_3 e_9) (isRd.ext (isRd.ext fr0 e_3) e_9) hw
  · have hw := wf_13 c_6
    refine x_iconst (-1) dX5_player_7 (by decide) ?_
    refine x_goto 20 dX5_player_8 (by decide) ?_
    exact t_X5_player_20 G  r0 p1 (-1) h_1 g_2 e_3 (isRd.ext fr0 e_3) hw

/-! BeforeTheEnd$Reader.statement()LBeforeTheEnd$Told; -/
def wp_X5_statement (post : Nat → Hp → Prop) (px : Nat → Hp → Prop) (h : Hp) (r0 : Nat) : Prop := (wp_X5_here (fun r_4 h_1 => GI h_1 → Ext h h_1 → (∀ z_8 : Int32, z_8 = ((if r_4 = 119 then 1 else (if r_4 = 112 then 1 else 0)) : Int32) → (wp_X5_mustStand (fun h_9 => GI h_9 → Ext h_1 h_9 → ((¬ r_4 = 119 → (wp_X5_player (fun r_18 h_15 => GI h_15 → Ext (si h_9 r0 1 ((gi h_9 r0 1) + 1)) h_15 → (isTo h_15 r_18 ∧ (wp_X5_take (fun h_20 => GI h_20 → Ext h_15 h_20 → (post r_18 h_20)) px h_15 r0 59))) px (si h_9 r0 1 ((gi h_9 r0 1) + 1)) r0 (gi h r0 1))) ∧ (r_4 = 119 → (wp_X5_word (fun r_28 h_25 => GI h_25 → Ext (si h_9 r0 1 ((gi h_9 r0 1) + 1)) h_25 → (isTo h_25 r_28 ∧ (wp_X5_take (fun h_30 => GI h_30 → Ext h_25 h_30 → (post r_28 h_30)) px h_25 r0 59))) px (si h_9 r0 1 ((gi h_9 r0 1) + 1)) r0 (gi h r0 1))))) px h_1 r0 z_8))) h r0)
abbrev rm_X5_statement : Room := ({ frames := 13, cells := 29, slots := 198, locals := 313 })
abbrev K_X5_statement : Kx := ("BeforeTheEnd$Reader", cX5_statement, 4, (Option.some (Jvm.ClassFile.FieldType.object "BeforeTheEnd$Told")), rm_X5_statement, [], false)
set_option maxHeartbeats 4000000 in
theorem k_X5_statement {ρ : Rho} {h : Hp} {post : Nat → Hp → Prop} {px : Nat → Hp → Prop} {r0 : Nat} (G : G0 ρ) (g : GI h) (fr0 : isRd h r0) (hw : wp_X5_statement post px h r0) : Con ρ yX5_statement (ws_ yX5_statement cX5_statement 4 (Option.some (Jvm.ClassFile.FieldType.object "BeforeTheEnd$Told"))) rm_X5_statement [.ref (mr ρ r0)] h (phR ρ h post) (psX h px) := by
  refine con_of (own := "BeforeTheEnd$Reader") (isI := false) (l0 := [(0, .ref (mr ρ r0))]) (by decide) rfl (fun z => by cases z) (Nat.le_of_ble_eq_true rfl) rfl (fun _ => ?_)
  show X ρ K_X5_statement 0 [(0, .ref (mr ρ r0))] [] h 0 0 (phR ρ h post) (psX h px)
  refine x_aload_n 0 dX5_statement_0 rfl ?_
  refine x_get (ci := 4) (v := .int (gi h r0 1)) 1 dX5_statement_1 fr0.1 rfl in_X5 (by decide) q407 (Or.inl rfl) (fv_i rfl) ?_
  refine x_istore_n (lv' := [(1, .int (gi h r0 1)), (0, .ref (mr ρ r0))]) dX5_statement_4 (Nat.le_of_ble_eq_true rfl) rfl ?_
  refine x_aload_n 1 dX5_statement_5 rfl ?_
  refine x_callV (ci := 4) [] 0 dX5_statement_6 (k_X5_here G g fr0 hw) fr0.1 rfl q423 q425 qs7 q112 q426 (by decide) rfl rfl ⟨(Nat.le_of_ble_eq_true rfl), (Nat.le_of_ble_eq_true rfl)⟩ (Nat.le_of_ble_eq_true rfl) ⟨(Nat.le_of_ble_eq_true rfl), (Nat.le_of_ble_eq_true rfl)⟩ (fun v9 h_1 hv9 => ?_) (fun _ _ _ _ _ z _ _ => False.elim z)
  obtain ⟨r_4, rfl, g_2, e_3, hw⟩ := hv9
  have hw := hw g_2 e_3
  show X ρ K_X5_statement 9 [(1, .int (gi h r0 1)), (0, .ref (mr ρ r0))] [.int r_4] h_1 0 0 (phR ρ h post) (psX h px)
  refine x_istore_n (lv' := [(2, .int r_4), (1, .int (gi h r0 1)), (0, .ref (mr ρ r0))]) dX5_statement_9 (Nat.le_of_ble_eq_true rfl) rfl ?_
  refine x_aload_n 2 dX5_statement_10 rfl ?_
  refine x_iload_n 0 dX5_statement_11 rfl ?_
  refine x_bipush 119 dX5_statement_12 (by decide) ?_
  have kJ_37 : ∀ z_8 : Int32, z_8 = ((if r_4 = 119 then 1 else (if r_4 = 112 then 1 else 0)) : Int32) → X ρ K_X5_statement 28 [(2, .int r_4), (1, .int (gi h r0 1)), (0, .ref (mr ρ r0))] [.int z_8, .ref (mr ρ r0)] h_1 0 0 (phR ρ h post) (psX h px) := fun z_8 ez_8 => by
    have hw := hw z_8 ez_8
    refine x_callV (ci := 4) [.int z_8] 1 dX5_statement_28 (k_X5_mustStand G g_2 (isRd.ext fr0 e_3) hw) (isRd.ext fr0 e_3).1 rfl q427 q429 qs8 q112 q430 (by decide) rfl rfl ⟨(Nat.le_of_ble_eq_true rfl), (Nat.le_of_ble_eq_true rfl)⟩ (Nat.le_of_ble_eq_true rfl) ⟨(Nat.le_of_ble_eq_true rfl), (Nat.le_of_ble_eq_true rfl)⟩ (fun v9 h_9 hv9 => ?_) (fun q9 h9 ci9 n9 x9 hx9 hs9 hc9 => xt_out hs9 hc9 (fun z hz => by cases hz) (Nat.le_of_ble_eq_true rfl) (Nat.le_of_ble_eq_true rfl) ⟨hx9.1, Ext.tr e_3 hx9.2.1, hx9.2.2⟩)
    obtain ⟨rfl, g_10, e_11, hw⟩ := hv9
    have hw := hw g_10 e_11
    show X ρ K_X5_statement 31 [(2, .int r_4), (1, .int (gi h r0 1)), (0, .ref (mr ρ r0))] [] h_9 1 7 (phR ρ h post) (psX h px)
    refine x_aload_n 2 dX5_statement_31 rfl ?_
    refine x_dup dX5_statement_32 rfl ?_
    refine x_get (ci := 4) (v := .int (gi h_9 r0 1)) 1 dX5_statement_33 (isRd.ext (isRd.ext fr0 e_3) e_11).1 rfl in_X5 (by decide) q407 (Or.inl rfl) (fv_i rfl) ?_
    refine x_iconst 1 dX5_statement_36 (by decide) ?_
    refine x_iadd dX5_statement_37 ?_
    refine x_put (ci := 4) 1 dX5_statement_38 (isRd.ext (isRd.ext fr0 e_3) e_11).1 rfl in_X5 tyX5 tyX5_ok nmX5 (by decide) q407 (Or.inl rfl) rfl rfl rfl (isPut_i rfl) ?_
    refine x_iload_n 0 dX5_statement_41 rfl ?_
    refine x_bipush 119 dX5_statement_42 (by decide) ?_
    obtain ⟨wt_35, wf_36⟩ := hw
    refine x_icmp_ne 55 dX5_statement_44 (by decide) (fun c_14 => ?_) (fun c_14 => ?_)
    · have hw := wt_35 c_14
      refine x_aload_n 2 dX5_statement_55 rfl ?_
      refine x_iload_n 1 dX5_statement_56 rfl ?_
      refine x_callV (ci := 4) [.int (gi h r0 1)] 1 dX5_statement_57 (k_X5_player G (GI.i g_10) (isRd.i (isRd.ext (isRd.ext fr0 e_3) e_11)) hw) (isRd.i (isRd.ext (isRd.ext fr0 e_3) e_11)).1 rfl q496 q498 qs13 q112 q499 (by decide) rfl rfl ⟨(Nat.le_of_ble_eq_true rfl), (Nat.le_of_ble_eq_true rfl)⟩ (Nat.le_of_ble_eq_true rfl) ⟨(Nat.le_of_ble_eq_true rfl), (Nat.le_of_ble_eq_true rfl)⟩ (fun v9 h_15 hv9 => ?_) (fun q9 h9 ci9 n9 x9 hx9 hs9 hc9 => xt_out hs9 hc9 (fun z hz => by cases hz) (Nat.le_of_ble_eq_true rfl) (Nat.le_of_ble_eq_true rfl) ⟨hx9.1, Ext.tr (Ext.i (Ext.tr e_3 e_11)) hx9.2.1, hx9.2.2⟩)
      obtain ⟨r_18, rfl, g_16, e_17, hw⟩ := hv9
      have hw := hw g_16 e_17
      show X ρ K_X5_statement 60 [(2, .int r_4), (1, .int (gi h r0 1)), (0, .ref (mr ρ r0))] [.ref (mr ρ r_18)] h_15 28 191 (phR ρ h post) (psX h px)
      obtain ⟨b_19, hw⟩ := hw
      refine x_astore_n (lv' := [(3, .ref (mr ρ r_18)), (2, .int r_4), (1, .int (gi h r0 1)), (0, .ref (mr ρ r0))]) dX5_statement_60 (Nat.le_of_ble_eq_true rfl) rfl ?_
      refine x_aload_n 3 dX5_statement_61 rfl ?_
      refine x_bipush 59 dX5_statement_62 (by decide) ?_
      refine x_callV (ci := 4) [.int 59] 1 dX5_statement_64 (k_X5_take G g_16 (isRd.ext (isRd.i (isRd.ext (isRd.ext fr0 e_3) e_11)) e_17) hw) (isRd.ext (isRd.i (isRd.ext (isRd.ext fr0 e_3) e_11)) e_17).1 rfl q466 q468 qs12 q112 q469 (by decide) rfl rfl ⟨(Nat.le_of_ble_eq_true rfl), (Nat.le_of_ble_eq_true rfl)⟩ (Nat.le_of_ble_eq_true rfl) ⟨(Nat.le_of_ble_eq_true rfl), (Nat.le_of_ble_eq_true rfl)⟩ (fun v9 h_20 hv9 => ?_) (fun q9 h9 ci9 n9 x9 hx9 hs9 hc9 => xt_out hs9 hc9 (fun z hz => by cases hz) (Nat.le_of_ble_eq_true rfl) (Nat.le_of_ble_eq_true rfl) ⟨hx9.1, Ext.tr (Ext.tr (Ext.i (Ext.tr e_3 e_11)) e_17) hx9.2.1, hx9.2.2⟩)
      obtain ⟨rfl, g_21, e_22, hw⟩ := hv9
      have hw := hw g_21 e_22
      show X ρ K_X5_statement 67 [(3, .ref (mr ρ r_18)), (2, .int r_4), (1, .int (gi h r0 1)), (0, .ref (mr ρ r0))] [] h_20 29 198 (phR ρ h post) (psX h px)
      refine x_aload_n 0 dX5_statement_67 rfl ?_
      exact x_aret dX5_statement_68 rfl (Nat.le_of_ble_eq_true rfl) (Nat.le_of_ble_eq_true rfl) ⟨_, rfl, g_21, (Ext.tr (Ext.tr (Ext.i (Ext.tr e_3 e_11)) e_17) e_22), hw⟩
    · have hw := wf_36 c_14
      refine x_aload_n 2 dX5_statement_47 rfl ?_
      refine x_iload_n 1 dX5_statement_48 rfl ?_
      refine x_callV (ci := 4) [.int (gi h r0 1)] 1 dX5_statement_49 (k_X5_word G (GI.i g_10) (isRd.i (isRd.ext (isRd.ext fr0 e_3) e_11)) hw) (isRd.i (isRd.ext (isRd.ext fr0 e_3) e_11)).1 rfl q449 q451 qs9 q112 q452 (by decide) rfl rfl ⟨(Nat.le_of_ble_eq_true rfl), (Nat.le_of_ble_eq_true rfl)⟩ (Nat.le_of_ble_eq_true rfl) ⟨(Nat.le_of_ble_eq_true rfl), (Nat.le_of_ble_eq_true rfl)⟩ (fun v9 h_25 hv9 => ?_) (fun q9 h9 ci9 n9 x9 hx9 hs9 hc9 => xt_out hs9 hc9 (fun z hz => by cases hz) (Nat.le_of_ble_eq_true rfl) (Nat.le_of_ble_eq_true rfl) ⟨hx9.1, Ext.tr (Ext.i (Ext.tr e_3 e_11)) hx9.2.1, hx9.2.2⟩)
      obtain ⟨r_28, rfl, g_26, e_27, hw⟩ := hv9
      have hw := hw g_26 e_27
      show X ρ K_X5_statement 52 [(2, .int r_4), (1, .int (gi h r0 1)), (0, .ref (mr ρ r0))] [.ref (mr ρ r_28)] h_25 10 67 (phR ρ h post) (psX h px)
      obtain ⟨b_29, hw⟩ := hw
      refine x_goto 60 dX5_statement_52 (by decide) ?_
      refine x_astore_n (lv' := [(3, .ref (mr ρ r_28)), (2, .int r_4), (1, .int (gi h r0 1)), (0, .ref (mr ρ r0))]) dX5_statement_60 (Nat.le_of_ble_eq_true rfl) rfl ?_
      refine x_aload_n 3 dX5_statement_61 rfl ?_
      refine x_bipush 59 dX5_statement_62 (by decide) ?_
      refine x_callV (ci := 4) [.int 59] 1 dX5_statement_64 (k_X5_take G g_26 (isRd.ext (isRd.i (isRd.ext (isRd.ext fr0 e_3) e_11)) e_27) hw) (isRd.ext (isRd.i (isRd.ext (isRd.ext fr0 e_3) e_11)) e_27).1 rfl q466 q468 qs12 q112 q469 (by decide) rfl rfl ⟨(Nat.le_of_ble_eq_true rfl), (Nat.le_of_ble_eq_true rfl)⟩ (Nat.le_of_ble_eq_true rfl) ⟨(Nat.le_of_ble_eq_true rfl), (Nat.le_of_ble_eq_true rfl)⟩ (fun v9 h_30 hv9 => ?_) (fun q9 h9 ci9 n9 x9 hx9 hs9 hc9 => xt_out hs9 hc9 (fun z hz => by cases hz) (Nat.le_of_ble_eq_true rfl) (Nat.le_of_ble_eq_true rfl) ⟨hx9.1, Ext.tr (Ext.tr (Ext.i (Ext.tr e_3 e_11)) e_27) hx9.2.1, hx9.2.2⟩)
      obtain ⟨rfl, g_31, e_32, hw⟩ := hv9
      have hw := hw g_31 e_32
      show X ρ K_X5_statement 67 [(3, .ref (mr ρ r_28)), (2, .int r_4), (1, .int (gi h r0 1)), (0, .ref (mr ρ r0))] [] h_30 11 74 (phR ρ h post) (psX h px)
      refine x_aload_n 0 dX5_statement_67 rfl ?_
      exact x_aret dX5_statement_68 rfl (Nat.le_of_ble_eq_true rfl) (Nat.le_of_ble_eq_true rfl) ⟨_, rfl, g_31, (Ext.tr (Ext.tr (Ext.i (Ext.tr e_3 e_11)) e_27) e_32), hw⟩
  refine x_icmp_eq 23 dX5_statement_14 (by decide) (fun c_6 => ?_) (fun c_6 => ?_)
  · refine x_iconst 1 dX5_statement_23 (by decide) ?_
    refine x_goto 28 dX5_statement_24 (by decide) ?_
    exact kJ_37 _ ((if_pos c_6)).symm
  · refine x_iload_n 0 dX5_statement_17 rfl ?_
    refine x_bipush 112 dX5_statement_18 (by decide) ?_
    refine x_icmp_ne 27 dX5_statement_20 (by decide) (fun c_7 => ?_) (fun c_7 => ?_)
    · refine x_iconst 0 dX5_statement_27 (by decide) ?_
      exact kJ_37 _ (((if_neg c_6).trans (if_neg c_7))).symm
    · refine x_iconst 1 dX5_statement_23 (by decide) ?_
      refine x_goto 28 dX5_statement_24 (by decide) ?_
      exact kJ_37 _ (((if_neg c_6).trans (if_pos c_7))).symm

/-! BeforeTheEnd$Tree.copied()LBeforeTheEnd$Tree; -/
def wp_X1_copied (post : Nat → Hp → Prop) (h : Hp) (r0 : Nat) : Prop := (wp_X1_init (fun h_1 => (GI h_1 ∧ Ext (al h (11, 0)) h_1 ∧ isTree h_1 (sz h + 1) ∧ (∀ h_7 : Hp, h_7 = (cpi (cpi (cpi (cpi (si h_1 (sz h + 1) 0 (gi h_1 r0 0)) (r0 + 1) 0 ((sz h + 1) + 1) 0 24) (r0 + 2) 0 ((sz h + 1) + 2) 0 24) (r0 + 3) 0 ((sz h + 1) + 3) 0 24) (r0 + 4) 0 ((sz h + 1) + 4) 0 24) → (post (sz h + 1) (cpi h_7 (r0 + 5) 0 ((sz h + 1) + 5) 0 24))))) (al h (11, 0)) (sz h + 1))
abbrev rm_X1_copied : Room := ({ frames := 2, cells := 8, slots := 393, locals := 80 })
abbrev K_X1_copied : Kx := ("BeforeTheEnd$Tree", cX1_copied, 2, (Option.some (Jvm.ClassFile.FieldType.object "BeforeTheEnd$Tree")), rm_X1_copied, [], false)
set_option maxHeartbeats 4000000 in
theorem k_X1_copied {ρ : Rho} {h : Hp} {post : Nat → Hp → Prop} {r0 : Nat} (G : G0 ρ) (g : GI h) (fr0 : isTree h r0) (hw : wp_X1_copied post h r0) : Con ρ yX1_copied (ws_ yX1_copied cX1_copied 2 (Option.some (Jvm.ClassFile.FieldType.object "BeforeTheEnd$Tree"))) rm_X1_copied [.ref (mr ρ r0)] h (phR ρ h post) psN := by
  refine con_of (own := "BeforeTheEnd$Tree") (isI := false) (l0 := [(0, .ref (mr ρ r0))]) (by decide) rfl (fun z => by cases z) (Nat.le_of_ble_eq_true rfl) rfl (fun _ => ?_)
  show X ρ K_X1_copied 0 [(0, .ref (mr ρ r0))] [] h 0 0 (phR ρ h post) psN
  refine x_new (ci := 1) (n := 9) dX1_copied_0 rfl in_X1 tyX1_ok df_X1 q708 q140 q105 (Nat.le_of_ble_eq_true rfl) (Nat.le_of_ble_eq_true rfl) ?_
  refine x_dup dX1_copied_3 rfl ?_
  refine x_callI [] 0 dX1_copied_4 (k_X1_init G (Live.w (GI.live g)) sh_new hw) q709 q142 q105 q143 rfl (by decide) rfl rfl ⟨(Nat.le_of_ble_eq_true rfl), (Nat.le_of_ble_eq_true rfl)⟩ (Nat.le_of_ble_eq_true rfl) ⟨(Nat.le_of_ble_eq_true rfl), (Nat.le_of_ble_eq_true rfl)⟩ (fun v9 h_1 hv9 => ?_) (fun _ _ _ _ _ z _ _ => False.elim z)
  obtain ⟨rfl, hw⟩ := hv9
  show X ρ K_X1_copied 7 [(0, .ref (mr ρ r0))] [.ref (mr ρ (sz h + 1))] h_1 8 393 (phR ρ h post) psN
  obtain ⟨g_2, e_3, f_6, hw⟩ := hw
  refine x_astore_n (lv' := [(1, .ref (mr ρ (sz h + 1))), (0, .ref (mr ρ r0))]) dX1_copied_7 (Nat.le_of_ble_eq_true rfl) rfl ?_
  refine x_aload_n 0 dX1_copied_8 rfl ?_
  refine x_aload_n 1 dX1_copied_9 rfl ?_
  refine x_get (ci := 1) (v := .int (gi h_1 r0 0)) 0 dX1_copied_10 (isTree.s (isTree.ext (isTree.w fr0 (GI.live g)) e_3)) rfl in_X1 (by decide) q145 (Or.inl rfl) (fv_i rfl) ?_
  refine x_put (ci := 1) 0 dX1_copied_13 (isTree.s f_6) rfl in_X1 tyX1 tyX1_ok nmX1 (by decide) q145 (Or.inl rfl) rfl rfl rfl (isPut_i rfl) ?_
  refine x_aload_n 1 dX1_copied_16 rfl ?_
  refine x_get (ci := 1) (v := .ref (mr ρ (r0 + 1))) 1 dX1_copied_17 (isTree.s (isTree.i (isTree.ext (isTree.w fr0 (GI.live g)) e_3))) rfl in_X1 (by decide) q148 (Or.inl rfl) (fv_rc rfl (isTree.p (isTree.i (isTree.ext (isTree.w fr0 (GI.live g)) e_3)) 1 (by decide) (by decide)) (Nat.succ_ne_zero _)) ?_
  refine x_iconst 0 dX1_copied_20 (by decide) ?_
  refine x_aload_n 0 dX1_copied_21 rfl ?_
  refine x_get (ci := 1) (v := .ref (mr ρ ((sz h + 1) + 1))) 1 dX1_copied_22 (isTree.s (isTree.i f_6)) rfl in_X1 (by decide) q148 (Or.inl rfl) (fv_rc rfl (isTree.p (isTree.i f_6) 1 (by decide) (by decide)) (Nat.succ_ne_zero _)) ?_
  refine x_iconst 0 dX1_copied_25 (by decide) ?_
  refine x_bipush 24 dX1_copied_26 (by decide) ?_
  refine x_copy dX1_copied_28 (isTree.a (isTree.i (isTree.ext (isTree.w fr0 (GI.live g)) e_3)) 1 (by decide) (by decide)) (isTree.a (isTree.i f_6) 1 (by decide) (by decide)) q710 q712 q711 q130 (by decide) (by decide) (by decide) (by decide) (by decide) (Nat.le_of_ble_eq_true rfl) (Nat.le_of_ble_eq_true rfl) ?_
  show X ρ K_X1_copied 31 [(1, .ref (mr ρ (sz h + 1))), (0, .ref (mr ρ r0))] [] (cpi (si h_1 (sz h + 1) 0 (gi h_1 r0 0)) (r0 + 1) 0 ((sz h + 1) + 1) 0 24) 8 393 (phR ρ h post) psN
  refine x_aload_n 1 dX1_copied_31 rfl ?_
  refine x_get (ci := 1) (v := .ref (mr ρ (r0 + 2))) 2 dX1_copied_32 (isTree.s (isTree.c (isTree.i (isTree.ext (isTree.w fr0 (GI.live g)) e_3)))) rfl in_X1 (by decide) q150 (Or.inl rfl) (fv_rc rfl (isTree.p (isTree.c (isTree.i (isTree.ext (isTree.w fr0 (GI.live g)) e_3))) 2 (by decide) (by decide)) (Nat.succ_ne_zero _)) ?_
  refine x_iconst 0 dX1_copied_35 (by decide) ?_
  refine x_aload_n 0 dX1_copied_36 rfl ?_
  refine x_get (ci := 1) (v := .ref (mr ρ ((sz h + 1) + 2))) 2 dX1_copied_37 (isTree.s (isTree.c (isTree.i f_6))) rfl in_X1 (by decide) q150 (Or.inl rfl) (fv_rc rfl (isTree.p (isTree.c (isTree.i f_6)) 2 (by decide) (by decide)) (Nat.succ_ne_zero _)) ?_
  refine x_iconst 0 dX1_copied_40 (by decide) ?_
  refine x_bipush 24 dX1_copied_41 (by decide) ?_
  refine x_copy dX1_copied_43 (isTree.a (isTree.c (isTree.i (isTree.ext (isTree.w fr0 (GI.live g)) e_3))) 2 (by decide) (by decide)) (isTree.a (isTree.c (isTree.i f_6)) 2 (by decide) (by decide)) q710 q712 q711 q130 (by decide) (by decide) (by decide) (by decide) (by decide) (Nat.le_of_ble_eq_true rfl) (Nat.le_of_ble_eq_true rfl) ?_
  show X ρ K_X1_copied 46 [(1, .ref (mr ρ (sz h + 1))), (0, .ref (mr ρ r0))] [] (cpi (cpi (si h_1 (sz h + 1) 0 (gi h_1 r0 0)) (r0 + 1) 0 ((sz h + 1) + 1) 0 24) (r0 + 2) 0 ((sz h + 1) + 2) 0 24) 8 393 (phR ρ h post) psN
  refine x_aload_n 1 dX1_copied_46 rfl ?_
  refine x_get (ci := 1) (v := .ref (mr ρ (r0 + 3))) 3 dX1_copied_47 (isTree.s (isTree.c (isTree.c (isTree.i (isTree.ext (isTree.w fr0 (GI.live g)) e_3))))) rfl in_X1 (by decide) q152 (Or.inl rfl) (fv_rc rfl (isTree.p (isTree.c (isTree.c (isTree.i (isTree.ext (isTree.w fr0 (GI.live g)) e_3)))) 3 (by decide) (by decide)) (Nat.succ_ne_zero _)) ?_
  refine x_iconst 0 dX1_copied_50 (by decide) ?_
  refine x_aload_n 0 dX1_copied_51 rfl ?_
  refine x_get (ci := 1) (v := .ref (mr ρ ((sz h + 1) + 3))) 3 dX1_copied_52 (isTree.s (isTree.c (isTree.c (isTree.i f_6)))) rfl in_X1 (by decide) q152 (Or.inl rfl) (fv_rc rfl (isTree.p (isTree.c (isTree.c (isTree.i f_6))) 3 (by decide) (by decide)) (Nat.succ_ne_zero _)) ?_
  refine x_iconst 0 dX1_copied_55 (by decide) ?_
  refine x_bipush 24 dX1_copied_56 (by decide) ?_
  refine x_copy dX1_copied_58 (isTree.a (isTree.c (isTree.c (isTree.i (isTree.ext (isTree.w fr0 (GI.live g)) e_3)))) 3 (by decide) (by decide)) (isTree.a (isTree.c (isTree.c (isTree.i f_6))) 3 (by decide) (by decide)) q710 q712 q711 q130 (by decide) (by decide) (by decide) (by decide) (by decide) (Nat.le_of_ble_eq_true rfl) (Nat.le_of_ble_eq_true rfl) ?_
  show X ρ K_X1_copied 61 [(1, .ref (mr ρ (sz h + 1))), (0, .ref (mr ρ r0))] [] (cpi (cpi (cpi (si h_1 (sz h + 1) 0 (gi h_1 r0 0)) (r0 + 1) 0 ((sz h + 1) + 1) 0 24) (r0 + 2) 0 ((sz h + 1) + 2) 0 24) (r0 + 3) 0 ((sz h + 1) + 3) 0 24) 8 393 (phR ρ h post) psN
  refine x_aload_n 1 dX1_copied_61 rfl ?_
  refine x_get (ci := 1) (v := .ref (mr ρ (r0 + 4))) 4 dX1_copied_62 (isTree.s (isTree.c (isTree.c (isTree.c (isTree.i (isTree.ext (isTree.w fr0 (GI.live g)) e_3)))))) rfl in_X1 (by decide) q154 (Or.inl rfl) (fv_rc rfl (isTree.p (isTree.c (isTree.c (isTree.c (isTree.i (isTree.ext (isTree.w fr0 (GI.live g)) e_3))))) 4 (by decide) (by decide)) (Nat.succ_ne_zero _)) ?_
  refine x_iconst 0 dX1_copied_65 (by decide) ?_
  refine x_aload_n 0 dX1_copied_66 rfl ?_
  refine x_get (ci := 1) (v := .ref (mr ρ ((sz h + 1) + 4))) 4 dX1_copied_67 (isTree.s (isTree.c (isTree.c (isTree.c (isTree.i f_6))))) rfl in_X1 (by decide) q154 (Or.inl rfl) (fv_rc rfl (isTree.p (isTree.c (isTree.c (isTree.c (isTree.i f_6)))) 4 (by decide) (by decide)) (Nat.succ_ne_zero _)) ?_
  refine x_iconst 0 dX1_copied_70 (by decide) ?_
  refine x_bipush 24 dX1_copied_71 (by decide) ?_
  refine x_copy dX1_copied_73 (isTree.a (isTree.c (isTree.c (isTree.c (isTree.i (isTree.ext (isTree.w fr0 (GI.live g)) e_3))))) 4 (by decide) (by decide)) (isTree.a (isTree.c (isTree.c (isTree.c (isTree.i f_6)))) 4 (by decide) (by decide)) q710 q712 q711 q130 (by decide) (by decide) (by decide) (by decide) (by decide) (Nat.le_of_ble_eq_true rfl) (Nat.le_of_ble_eq_true rfl) ?_
  show X ρ K_X1_copied 76 [(1, .ref (mr ρ (sz h + 1))), (0, .ref (mr ρ r0))] [] (cpi (cpi (cpi (cpi (si h_1 (sz h + 1) 0 (gi h_1 r0 0)) (r0 + 1) 0 ((sz h + 1) + 1) 0 24) (r0 + 2) 0 ((sz h + 1) + 2) 0 24) (r0 + 3) 0 ((sz h + 1) + 3) 0 24) (r0 + 4) 0 ((sz h + 1) + 4) 0 24) 8 393 (phR ρ h post) psN
  refine x_nmh (fun h_7 eh_7 => ?_)
  have hw := hw h_7 eh_7
  have g_8 : GI h_7 := eh_7 ▸ (GI.c (GI.c (GI.c (GI.c (GI.i g_2)))))
  have e_9 : Ext h h_7 := eh_7 ▸ (Ext.c (Ext.c (Ext.c (Ext.c (Ext.i (Ext.tr (Ext.w Ext.rf (GI.live g)) e_3))))))
  have f_10 : isTree h_7 (sz h + 1) := eh_7 ▸ (isTree.c (isTree.c (isTree.c (isTree.c (isTree.i f_6)))))
  have f_11 : isTree h_7 r0 := eh_7 ▸ (isTree.c (isTree.c (isTree.c (isTree.c (isTree.i (isTree.ext (isTree.w fr0 (GI.live g)) e_3))))))
  refine x_aload_n 1 dX1_copied_76 rfl ?_
  refine x_get (ci := 1) (v := .ref (mr ρ (r0 + 5))) 5 dX1_copied_77 (isTree.s f_11) rfl in_X1 (by decide) q156 (Or.inl rfl) (fv_rc rfl (isTree.p f_11 5 (by decide) (by decide)) (Nat.succ_ne_zero _)) ?_
  refine x_iconst 0 dX1_copied_80 (by decide) ?_
  refine x_aload_n 0 dX1_copied_81 rfl ?_
  refine x_get (ci := 1) (v := .ref (mr ρ ((sz h + 1) + 5))) 5 dX1_copied_82 (isTree.s f_10) rfl in_X1 (by decide) q156 (Or.inl rfl) (fv_rc rfl (isTree.p f_10 5 (by decide) (by decide)) (Nat.succ_ne_zero _)) ?_
  refine x_iconst 0 dX1_copied_85 (by decide) ?_
  refine x_bipush 24 dX1_copied_86 (by decide) ?_
  refine x_copy dX1_copied_88 (isTree.a f_11 5 (by decide) (by decide)) (isTree.a f_10 5 (by decide) (by decide)) q710 q712 q711 q130 (by decide) (by decide) (by decide) (by decide) (by decide) (Nat.le_of_ble_eq_true rfl) (Nat.le_of_ble_eq_true rfl) ?_
  show X ρ K_X1_copied 91 [(1, .ref (mr ρ (sz h + 1))), (0, .ref (mr ρ r0))] [] (cpi h_7 (r0 + 5) 0 ((sz h + 1) + 5) 0 24) 8 393 (phR ρ h post) psN
  refine x_aload_n 0 dX1_copied_91 rfl ?_
  exact x_aret dX1_copied_92 rfl (Nat.le_of_ble_eq_true rfl) (Nat.le_of_ble_eq_true rfl) ⟨_, rfl, (GI.c g_8), (Ext.c e_9), hw⟩

/-! BeforeTheEnd$Tree.isEnd(I)Z -/
def wp_X1_isEnd (post : Int32 → Hp → Prop) (h : Hp) (r0 : Nat) (p1 : Int32) : Prop := (vp_in p1 24 ∧ (∀ z_3 : Int32, z_3 = ((if (gi h (r0 + 3) (Int32.toNatClampNeg p1)) ≤ 0 then 0 else 1) : Int32) → (post z_3 h)))
abbrev rm_X1_isEnd : Room := ({ frames := 1, cells := 0, slots := 0, locals := 60 })
abbrev K_X1_isEnd : Kx := ("BeforeTheEnd$Tree", cX1_isEnd, 2, (Option.some Jvm.ClassFile.FieldType.boolean), rm_X1_isEnd, [], false)
set_option maxHeartbeats 4000000 in
theorem k_X1_isEnd {ρ : Rho} {h : Hp} {post : Int32 → Hp → Prop} {r0 : Nat} {p1 : Int32} (G : G0 ρ) (g : GI h) (fr0 : isTree h r0) (hw : wp_X1_isEnd post h r0 p1) : Con ρ yX1_isEnd (ws_ yX1_isEnd cX1_isEnd 2 (Option.some Jvm.ClassFile.FieldType.boolean)) rm_X1_isEnd [.ref (mr ρ r0), .int p1] h (phB h post) psN := by
  refine con_of (own := "BeforeTheEnd$Tree") (isI := false) (l0 := [(0, .ref (mr ρ r0)), (1, .int p1)]) (by decide) rfl (fun z => by cases z) (Nat.le_of_ble_eq_true rfl) rfl (fun _ => ?_)
  show X ρ K_X1_isEnd 0 [(0, .ref (mr ρ r0)), (1, .int p1)] [] h 0 0 (phB h post) psN
  refine x_aload_n 0 dX1_isEnd_0 rfl ?_
  refine x_get (ci := 1) (v := .ref (mr ρ (r0 + 3))) 3 dX1_isEnd_1 (isTree.s fr0) rfl in_X1 (by decide) q152 (Or.inl rfl) (fv_rc rfl (isTree.p fr0 3 (by decide) (by decide)) (Nat.succ_ne_zero _)) ?_
  refine x_iload_n 1 dX1_isEnd_4 rfl ?_
  obtain ⟨b_1, hw⟩ := hw
  refine x_iald (n := 24) (j := (Int32.toNatClampNeg p1)) dX1_isEnd_5 rfl (isTree.a fr0 3 (by decide) (by decide)) b_1 ?_
  have kJ_4 : ∀ z_3 : Int32, z_3 = ((if (gi h (r0 + 3) (Int32.toNatClampNeg p1)) ≤ 0 then 0 else 1) : Int32) → X ρ K_X1_isEnd 14 [(0, .ref (mr ρ r0)), (1, .int p1)] [.int z_3] h 0 0 (phB h post) psN := fun z_3 ez_3 => by
    have hw := hw z_3 ez_3
    exact x_zret dX1_isEnd_14 rfl (isB.n (Eq.mpr (congrArg isB ez_3) (isB_ite isB_0 isB_1))) (Nat.le_of_ble_eq_true rfl) (Nat.le_of_ble_eq_true rfl) ⟨_, rfl, g, Ext.rf, (Eq.mpr (congrArg isB ez_3) (isB_ite isB_0 isB_1)), hw⟩
  refine x_if_le 13 dX1_isEnd_6 (by decide) (fun c_2 => ?_) (fun c_2 => ?_)
  · refine x_iconst 0 dX1_isEnd_13 (by decide) ?_
    exact kJ_4 _ ((if_pos c_2)).symm
  · refine x_iconst 1 dX1_isEnd_9 (by decide) ?_
    refine x_goto 14 dX1_isEnd_10 (by decide) ?_
    exact kJ_4 _ ((if_neg c_2)).symm

/-! BeforeTheEnd$WordTold.isRight(LBeforeTheEnd$Tree;I)Z on an object of class 6 -/
def wp_X8_isRight_c6 (post : Int32 → Hp → Prop) (h : Hp) (r0 : Nat) (p1 : Nat) (p2 : Int32) : Prop := ((24 ≤ (gi h p1 0) → (post 0 h)) ∧ (¬ 24 ≤ (gi h p1 0) → (((gi h p1 0) ≤ (gi h r0 1) → (post 0 h)) ∧ (¬ (gi h p1 0) ≤ (gi h r0 1) → (wp_X1_isEnd (fun r_6 h_3 => GI h_3 → Ext h h_3 → (∀ z_10 : Int32, z_10 = ((if r_6 = 0 then (if (gi h_3 r0 2) ≤ 0 then 0 else 1) else 0) : Int32) → (post z_10 h_3))) h p1 (gi h r0 1))))))
abbrev rm_X8_isRight_c6 : Room := ({ frames := 2, cells := 0, slots := 0, locals := 81 })
abbrev K_X8_isRight_c6 : Kx := ("BeforeTheEnd$WordTold", cX8_isRight, 3, (Option.some Jvm.ClassFile.FieldType.boolean), rm_X8_isRight_c6, [], false)
set_option maxHeartbeats 4000000 in
theorem k_X8_isRight_c6 {ρ : Rho} {h : Hp} {post : Int32 → Hp → Prop} {r0 : Nat} {p1 : Nat} {p2 : Int32} (G : G0 ρ) (g : GI h) (fr0 : sh h r0 = (16, 0)) (fp1 : isTree h p1) (hw : wp_X8_isRight_c6 post h r0 p1 p2) : Con ρ yX8_isRight (ws_ yX8_isRight cX8_isRight 3 (Option.some Jvm.ClassFile.FieldType.boolean)) rm_X8_isRight_c6 [.ref (mr ρ r0), .ref (mr ρ p1), .int p2] h (phB h post) psN := by
  refine con_of (own := "BeforeTheEnd$WordTold") (isI := false) (l0 := [(0, .ref (mr ρ r0)), (1, .ref (mr ρ p1)), (2, .int p2)]) (by decide) rfl (fun z => by cases z) (Nat.le_of_ble_eq_true rfl) rfl (fun _ => ?_)
  show X ρ K_X8_isRight_c6 0 [(0, .ref (mr ρ r0)), (1, .ref (mr ρ p1)), (2, .int p2)] [] h 0 0 (phB h post) psN
  refine x_aload_n 1 dX8_isRight_0 rfl ?_
  refine x_getN (ci := 1) (v := .int (gi h p1 0)) 0 dX8_isRight_1 (isTree.s fp1) rfl in_X1 (by decide) q146 (Or.inl rfl) (fv_i rfl) ?_
  refine x_bipush 24 dX8_isRight_4 (by decide) ?_
  obtain ⟨wt_14, wf_15⟩ := hw
  refine x_icmp_ge 42 dX8_isRight_6 (by decide) (fun c_1 => ?_) (fun c_1 => ?_)
  · have hw := wt_14 c_1
    refine x_iconst 0 dX8_isRight_42 (by decide) ?_
    exact x_zret dX8_isRight_43 rfl (isB.n isB_0) (Nat.le_of_ble_eq_true rfl) (Nat.le_of_ble_eq_true rfl) ⟨_, rfl, g, Ext.rf, isB_0, hw⟩
  · have hw := wf_15 c_1
    refine x_aload_n 0 dX8_isRight_9 rfl ?_
    refine x_get (ci := 6) (v := .int (gi h r0 1)) 1 dX8_isRight_10 fr0 rfl in_X8 (by decide) q479 (Or.inl rfl) (fv_i rfl) ?_
    refine x_aload_n 1 dX8_isRight_13 rfl ?_
    refine x_getN (ci := 1) (v := .int (gi h p1 0)) 0 dX8_isRight_14 (isTree.s fp1) rfl in_X1 (by decide) q146 (Or.inl rfl) (fv_i rfl) ?_
    obtain ⟨wt_12, wf_13⟩ := hw
    refine x_icmp_ge 42 dX8_isRight_17 (by decide) (fun c_2 => ?_) (fun c_2 => ?_)
    · have hw := wt_12 c_2
      refine x_iconst 0 dX8_isRight_42 (by decide) ?_
      exact x_zret dX8_isRight_43 rfl (isB.n isB_0) (Nat.le_of_ble_eq_true rfl) (Nat.le_of_ble_eq_true rfl) ⟨_, rfl, g, Ext.rf, isB_0, hw⟩
    · have hw := wf_13 c_2
      refine x_aload_n 1 dX8_isRight_20 rfl ?_
      refine x_aload_n 0 dX8_isRight_21 rfl ?_
      refine x_get (ci := 6) (v := .int (gi h r0 1)) 1 dX8_isRight_22 fr0 rfl in_X8 (by decide) q479 (Or.inl rfl) (fv_i rfl) ?_
      refine x_callV (ci := 1) [.int (gi h r0 1)] 1 dX8_isRight_25 (k_X1_isEnd G g fp1 hw) (isTree.s fp1) rfl q722 q723 q724 q105 q725 (by decide) rfl rfl ⟨(Nat.le_of_ble_eq_true rfl), (Nat.le_of_ble_eq_true rfl)⟩ (Nat.le_of_ble_eq_true rfl) ⟨(Nat.le_of_ble_eq_true rfl), (Nat.le_of_ble_eq_true rfl)⟩ (fun v9 h_3 hv9 => ?_) (fun _ _ _ _ _ z _ _ => False.elim z)
      obtain ⟨r_6, rfl, g_4, e_5, b_7, hw⟩ := hv9
      have hw := hw g_4 e_5
      show X ρ K_X8_isRight_c6 28 [(0, .ref (mr ρ r0)), (1, .ref (mr ρ p1)), (2, .int p2)] [.int r_6] h_3 0 0 (phB h post) psN
      have kJ_11 : ∀ z_10 : Int32, z_10 = ((if r_6 = 0 then (if (gi h_3 r0 2) ≤ 0 then 0 else 1) else 0) : Int32) → X ρ K_X8_isRight_c6 43 [(0, .ref (mr ρ r0)), (1, .ref (mr ρ p1)), (2, .int p2)] [.int z_10] h_3 0 0 (phB h post) psN := fun z_10 ez_10 => by
        have hw := hw z_10 ez_10
        exact x_zret dX8_isRight_43 rfl (isB.n (Eq.mpr (congrArg isB ez_10) (isB_ite (isB_ite isB_0 isB_1) isB_0))) (Nat.le_of_ble_eq_true rfl) (Nat.le_of_ble_eq_true rfl) ⟨_, rfl, g_4, e_5, (Eq.mpr (congrArg isB ez_10) (isB_ite (isB_ite isB_0 isB_1) isB_0)), hw⟩
      refine x_if_ne 42 dX8_isRight_28 (by decide) (fun c_8 => ?_) (fun c_8 => ?_)
      · refine x_iconst 0 dX8_isRight_42 (by decide) ?_
        exact kJ_11 _ ((if_neg c_8)).symm
      · refine x_aload_n 0 dX8_isRight_31 rfl ?_
        refine x_get (ci := 6) (v := .int (gi h_3 r0 2)) 2 dX8_isRight_32 (Ext.s e_5 fr0 (by decide)) rfl in_X8 (by decide) q481 (Or.inl rfl) (fv_i rfl) ?_
        refine x_if_le 42 dX8_isRight_35 (by decide) (fun c_9 => ?_) (fun c_9 => ?_)
        · refine x_iconst 0 dX8_isRight_42 (by decide) ?_
          exact kJ_11 _ (((if_pos c_8).trans (if_pos c_9))).symm
        · refine x_iconst 1 dX8_isRight_38 (by decide) ?_
          refine x_goto 43 dX8_isRight_39 (by decide) ?_
          exact kJ_11 _ (((if_pos c_8).trans (if_neg c_9))).symm

/-! BeforeTheEnd$PlayerTold.isRight(LBeforeTheEnd$Tree;I)Z on an object of class 7 -/
def wp_X9_isRight_c7 (post : Int32 → Hp → Prop) (h : Hp) (r0 : Nat) (p1 : Nat) (p2 : Int32) : Prop := (((¬ (gi h r0 2) = 0 → (isPl h (gr h r0 1)))) ∧ (∀ z_5 : Int32, z_5 = ((if (gi h r0 2) = 0 then 0 else (if 100 < (gi h (gr h r0 1) 1) then 0 else (if 4 ≤ p2 then 0 else 1))) : Int32) → (post z_5 h)))
abbrev rm_X9_isRight_c7 : Room := ({ frames := 1, cells := 0, slots := 0, locals := 60 })
abbrev K_X9_isRight_c7 : Kx := ("BeforeTheEnd$PlayerTold", cX9_isRight, 3, (Option.some Jvm.ClassFile.FieldType.boolean), rm_X9_isRight_c7, [], false)
set_option maxHeartbeats 4000000 in
theorem k_X9_isRight_c7 {ρ : Rho} {h : Hp} {post : Int32 → Hp → Prop} {r0 : Nat} {p1 : Nat} {p2 : Int32} (G : G0 ρ) (g : GI h) (fr0 : sh h r0 = (17, 0)) (fp1 : isTree h p1) (hw : wp_X9_isRight_c7 post h r0 p1 p2) : Con ρ yX9_isRight (ws_ yX9_isRight cX9_isRight 3 (Option.some Jvm.ClassFile.FieldType.boolean)) rm_X9_isRight_c7 [.ref (mr ρ r0), .ref (mr ρ p1), .int p2] h (phB h post) psN := by
  refine con_of (own := "BeforeTheEnd$PlayerTold") (isI := false) (l0 := [(0, .ref (mr ρ r0)), (1, .ref (mr ρ p1)), (2, .int p2)]) (by decide) rfl (fun z => by cases z) (Nat.le_of_ble_eq_true rfl) rfl (fun _ => ?_)
  show X ρ K_X9_isRight_c7 0 [(0, .ref (mr ρ r0)), (1, .ref (mr ρ p1)), (2, .int p2)] [] h 0 0 (phB h post) psN
  refine x_aload_n 0 dX9_isRight_0 rfl ?_
  refine x_get (ci := 7) (v := .int (gi h r0 2)) 2 dX9_isRight_1 fr0 rfl in_X9 (by decide) q697 (Or.inl rfl) (fv_i rfl) ?_
  obtain ⟨hO_7, hw⟩ := hw
  have kJ_6 : ∀ z_5 : Int32, z_5 = ((if (gi h r0 2) = 0 then 0 else (if 100 < (gi h (gr h r0 1) 1) then 0 else (if 4 ≤ p2 then 0 else 1))) : Int32) → X ρ K_X9_isRight_c7 29 [(0, .ref (mr ρ r0)), (1, .ref (mr ρ p1)), (2, .int p2)] [.int z_5] h 0 0 (phB h post) psN := fun z_5 ez_5 => by
    have hw := hw z_5 ez_5
    exact x_zret dX9_isRight_29 rfl (isB.n (Eq.mpr (congrArg isB ez_5) (isB_ite isB_0 (isB_ite isB_0 (isB_ite isB_0 isB_1))))) (Nat.le_of_ble_eq_true rfl) (Nat.le_of_ble_eq_true rfl) ⟨_, rfl, g, Ext.rf, (Eq.mpr (congrArg isB ez_5) (isB_ite isB_0 (isB_ite isB_0 (isB_ite isB_0 isB_1)))), hw⟩
  have hO_70 := hO_7
  refine x_if_eq 28 dX9_isRight_4 (by decide) (fun c_1 => ?_) (fun c_1 => ?_)
  · refine x_iconst 0 dX9_isRight_28 (by decide) ?_
    exact kJ_6 _ ((if_pos c_1)).symm
  · have hO_7_ := hO_70 c_1
    have b_2 := hO_7_
    refine x_aload_n 0 dX9_isRight_7 rfl ?_
    refine x_get (ci := 7) (v := rv ρ (gr h r0 1)) 1 dX9_isRight_8 fr0 rfl in_X9 (by decide) q695 (Or.inl rfl) (fv_r rfl) ?_
    refine x_nn (isPl.nz b_2 (GI.live g)) ?_
    refine x_getP 1 (by decide) dX9_isRight_11 b_2 q609 ?_
    refine x_bipush 100 dX9_isRight_14 (by decide) ?_
    refine x_icmp_gt 28 dX9_isRight_16 (by decide) (fun c_3 => ?_) (fun c_3 => ?_)
    · refine x_iconst 0 dX9_isRight_28 (by decide) ?_
      exact kJ_6 _ (((if_neg c_1).trans (if_pos c_3))).symm
    · refine x_iload_n 2 dX9_isRight_19 rfl ?_
      refine x_iconst 4 dX9_isRight_20 (by decide) ?_
      refine x_icmp_ge 28 dX9_isRight_21 (by decide) (fun c_4 => ?_) (fun c_4 => ?_)
      · refine x_iconst 0 dX9_isRight_28 (by decide) ?_
        exact kJ_6 _ (((if_neg c_1).trans ((if_neg c_3).trans (if_pos c_4)))).symm
      · refine x_iconst 1 dX9_isRight_24 (by decide) ?_
        refine x_goto 29 dX9_isRight_25 (by decide) ?_
        exact kJ_6 _ (((if_neg c_1).trans ((if_neg c_3).trans (if_neg c_4)))).symm

/-! BeforeTheEnd$Told.isRight by the class of the object -/
def wv_X7_isRight_isTo (post : Int32 → Hp → Prop) (h : Hp) (r0 : Nat) (p1 : Nat) (p2 : Int32) : Prop := (sh h r0 = (16, 0) → wp_X8_isRight_c6 post h r0 p1 p2) ∧ (sh h r0 = (17, 0) → wp_X9_isRight_c7 post h r0 p1 p2)
