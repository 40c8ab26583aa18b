/-! THE WALK, printed by wip/D-93865w/gen/main.py -/
set_option maxRecDepth 100000
/-! BeforeTheEnd.ofRest(IIII)I -/
def wp_X0_ofRest (post : Int32 → Hp → Prop) (px : Nat → Hp → Prop) (h : Hp) (p1 : Int32) (p2 : Int32) (p3 : Int32) (p4 : Int32) : Prop := (((p1.toInt < 17 ∨ 24 < p1.toInt) → (wp_X0_goOn (fun r_16 h_13 => GI h_13 → Ext h h_13 → (post r_16 h_13)) px h)) ∧ (p1 = 17 → (wp_X0_factIt (fun r_21 h_18 => GI h_18 → Ext h h_18 → (post r_21 h_18)) px h p2)) ∧ (p1 = 18 → (wp_X0_hadTold (fun r_26 h_23 => GI h_23 → Ext h h_23 → (post r_26 h_23)) px h p2 p3)) ∧ (p1 = 19 → (wp_X0_orderTold (fun r_31 h_28 => GI h_28 → Ext h h_28 → (post r_31 h_28)) px h p2 1)) ∧ (p1 = 20 → (wp_X0_orderTold (fun r_36 h_33 => GI h_33 → Ext h h_33 → (post r_36 h_33)) px h p2 0)) ∧ (p1 = 21 → (wp_X0_eveningTold (fun r_41 h_38 => GI h_38 → Ext h h_38 → (post r_41 h_38)) px h p2 p3 p4)) ∧ (p1 = 22 → (wp_X0_within (fun h_43 => GI h_43 → Ext h h_43 → (∀ z_49 : Int32, z_49 = ((if 20 ≤ (gi h_43 1 12) then 0 else 1) : Int32) → (wp_X0_must (fun h_50 => GI h_50 → Ext h_43 h_50 → (vp_in (gi h_50 1 12) 20 ∧ (∀ h_56 : Hp, h_56 = (si (si h_50 15 (Int32.toNatClampNeg (gi h_50 1 12)) (Int8.toInt32 (Int32.toInt8 (Int8.toInt32 (Int32.toInt8 p2))))) 1 12 ((gi (si h_50 15 (Int32.toNatClampNeg (gi h_50 1 12)) (Int8.toInt32 (Int32.toInt8 (Int8.toInt32 (Int32.toInt8 p2))))) 1 12) + 1)) → (post (gi h_56 1 12) h_56)))) px h_43 z_49 (-6)))) px h (Int32.toInt64 p2) 0 9)) ∧ (p1 = 23 → (wp_X0_mustBeWhole (fun h_60 => GI h_60 → Ext h h_60 → (wp_X0_judgeRow (fun r_68 h_65 => GI h_65 → Ext h_60 h_65 → (post r_68 h_65)) h_60 p2)) px h)) ∧ (p1 = 24 → (wp_X0_takeImage (fun r_73 h_70 => GI h_70 → Ext h h_70 → (post r_73 h_70)) h)))
abbrev rm_X0_ofRest : Room := ({ frames := 14, cells := 14, slots := 430, locals := 526 })
abbrev K_X0_ofRest : Kx := ("BeforeTheEnd", cX0_ofRest, 5, (Option.some Jvm.ClassFile.FieldType.int), rm_X0_ofRest, [], false)
set_option maxHeartbeats 4000000 in
theorem k_X0_ofRest {ρ : Rho} {h : Hp} {post : Int32 → Hp → Prop} {px : Nat → Hp → Prop} {p1 : Int32} {p2 : Int32} {p3 : Int32} {p4 : Int32} (G : G0 ρ) (g : GI h) (hw : wp_X0_ofRest post px h p1 p2 p3 p4) : Con ρ yX0_ofRest (ws_ yX0_ofRest cX0_ofRest 5 (Option.some Jvm.ClassFile.FieldType.int)) rm_X0_ofRest [.ref (mr ρ 1), .int p1, .int p2, .int p3, .int p4] h (phI h post) (psX h px) := by
  refine con_of (own := "BeforeTheEnd") (isI := false) (l0 := [(0, .ref (mr ρ 1)), (1, .int p1), (2, .int p2), (3, .int p3), (4, .int p4)]) (by decide) rfl (fun z => by cases z) (Nat.le_of_ble_eq_true rfl) rfl (fun _ => ?_)
  show X ρ K_X0_ofRest 0 [(0, .ref (mr ρ 1)), (1, .int p1), (2, .int p2), (3, .int p3), (4, .int p4)] [] h 0 0 (phI h post) (psX h px)
  refine x_iload_n 1 dX0_ofRest_0 rfl ?_
  obtain ⟨wd_1, ws_2, ws_3, ws_4, ws_5, ws_6, ws_7, ws_8, ws_9⟩ := hw
  rcases tab_or p1 17 8 (by decide) with c_12 | ⟨i_11, c_12i, c_12⟩
  · have c_12o : p1.toInt < 17 ∨ 24 < p1.toInt := by omega
    have hw := wd_1 c_12o
    refine x_tableOut 153 dX0_ofRest_1 c_12o (by decide) ?_
    refine x_aload_n 0 dX0_ofRest_153 rfl ?_
    refine x_callV (ci := 0) [] 0 dX0_ofRest_154 (k_X0_goOn G g hw) (GI.s g (t := (10, 0)) rfl (by decide)) rfl q1055 q1057 qs54 q104 q1058 (by decide) rfl rfl ⟨(Nat.le_of_ble_eq_true rfl), (Nat.le_of_ble_eq_true rfl)⟩ (Nat.le_of_ble_eq_true rfl) ⟨(Nat.le_of_ble_eq_true rfl), (Nat.le_of_ble_eq_true rfl)⟩ (fun v9 h_13 hv9 => ?_) (fun q9 h9 ci9 n9 x9 hx9 hs9 hc9 => xt_out hs9 hc9 (fun z hz => by cases hz) (Nat.le_of_ble_eq_true rfl) (Nat.le_of_ble_eq_true rfl) ⟨hx9.1, Ext.tr Ext.rf hx9.2.1, hx9.2.2⟩)
    obtain ⟨r_16, rfl, g_14, e_15, hw⟩ := hv9
    have hw := hw g_14 e_15
    show X ρ K_X0_ofRest 157 [(0, .ref (mr ρ 1)), (1, .int p1), (2, .int p2), (3, .int p3), (4, .int p4)] [.int r_16] h_13 14 430 (phI h post) (psX h px)
    exact x_iret dX0_ofRest_157 rfl (Nat.le_of_ble_eq_true rfl) (Nat.le_of_ble_eq_true rfl) ⟨_, rfl, g_14, e_15, hw⟩
  · match i_11, c_12i, c_12 with
    | 0, _, c_12 =>
      have c_12 : p1 = 17 := c_12
      have hw := ws_2 c_12
      refine x_tableIn (off := 47) 48 dX0_ofRest_1 (by rw [c_12]; decide) (by rw [c_12]; decide) (by rw [c_12]; rfl) (by decide) ?_
      refine x_aload_n 0 dX0_ofRest_48 rfl ?_
      refine x_iload_n 2 dX0_ofRest_49 rfl ?_
      refine x_callV (ci := 0) [.int p2] 1 dX0_ofRest_50 (k_X0_factIt G g hw) (GI.s g (t := (10, 0)) rfl (by decide)) rfl q984 q986 qs43 q104 q987 (by decide) rfl rfl ⟨(Nat.le_of_ble_eq_true rfl), (Nat.le_of_ble_eq_true rfl)⟩ (Nat.le_of_ble_eq_true rfl) ⟨(Nat.le_of_ble_eq_true rfl), (Nat.le_of_ble_eq_true rfl)⟩ (fun v9 h_18 hv9 => ?_) (fun q9 h9 ci9 n9 x9 hx9 hs9 hc9 => xt_out hs9 hc9 (fun z hz => by cases hz) (Nat.le_of_ble_eq_true rfl) (Nat.le_of_ble_eq_true rfl) ⟨hx9.1, Ext.tr Ext.rf hx9.2.1, hx9.2.2⟩)
      obtain ⟨r_21, rfl, g_19, e_20, hw⟩ := hv9
      have hw := hw g_19 e_20
      show X ρ K_X0_ofRest 53 [(0, .ref (mr ρ 1)), (1, .int p1), (2, .int p2), (3, .int p3), (4, .int p4)] [.int r_21] h_18 2 14 (phI h post) (psX h px)
      exact x_iret dX0_ofRest_53 rfl (Nat.le_of_ble_eq_true rfl) (Nat.le_of_ble_eq_true rfl) ⟨_, rfl, g_19, e_20, hw⟩
    | 1, _, c_12 =>
      have c_12 : p1 = 18 := c_12
      have hw := ws_3 c_12
      refine x_tableIn (off := 53) 54 dX0_ofRest_1 (by rw [c_12]; decide) (by rw [c_12]; decide) (by rw [c_12]; rfl) (by decide) ?_
      refine x_aload_n 0 dX0_ofRest_54 rfl ?_
      refine x_iload_n 2 dX0_ofRest_55 rfl ?_
      refine x_iload_n 3 dX0_ofRest_56 rfl ?_
      refine x_callV (ci := 0) [.int p2, .int p3] 2 dX0_ofRest_57 (k_X0_hadTold G g hw) (GI.s g (t := (10, 0)) rfl (by decide)) rfl q989 q991 qs44 q104 q992 (by decide) rfl rfl ⟨(Nat.le_of_ble_eq_true rfl), (Nat.le_of_ble_eq_true rfl)⟩ (Nat.le_of_ble_eq_true rfl) ⟨(Nat.le_of_ble_eq_true rfl), (Nat.le_of_ble_eq_true rfl)⟩ (fun v9 h_23 hv9 => ?_) (fun q9 h9 ci9 n9 x9 hx9 hs9 hc9 => xt_out hs9 hc9 (fun z hz => by cases hz) (Nat.le_of_ble_eq_true rfl) (Nat.le_of_ble_eq_true rfl) ⟨hx9.1, Ext.tr Ext.rf hx9.2.1, hx9.2.2⟩)
      obtain ⟨r_26, rfl, g_24, e_25, hw⟩ := hv9
      have hw := hw g_24 e_25
      show X ρ K_X0_ofRest 60 [(0, .ref (mr ρ 1)), (1, .int p1), (2, .int p2), (3, .int p3), (4, .int p4)] [.int r_26] h_23 10 68 (phI h post) (psX h px)
      exact x_iret dX0_ofRest_60 rfl (Nat.le_of_ble_eq_true rfl) (Nat.le_of_ble_eq_true rfl) ⟨_, rfl, g_24, e_25, hw⟩
    | 2, _, c_12 =>
      have c_12 : p1 = 19 := c_12
      have hw := ws_4 c_12
      refine x_tableIn (off := 60) 61 dX0_ofRest_1 (by rw [c_12]; decide) (by rw [c_12]; decide) (by rw [c_12]; rfl) (by decide) ?_
      refine x_aload_n 0 dX0_ofRest_61 rfl ?_
      refine x_iload_n 2 dX0_ofRest_62 rfl ?_
      refine x_iconst 1 dX0_ofRest_63 (by decide) ?_
      refine x_callV (ci := 0) [.int p2, .int 1] 2 dX0_ofRest_64 (k_X0_orderTold G g hw) (GI.s g (t := (10, 0)) rfl (by decide)) rfl q998 q1000 qs46 q104 q1001 (by decide) rfl rfl ⟨(Nat.le_of_ble_eq_true rfl), (Nat.le_of_ble_eq_true rfl)⟩ (Nat.le_of_ble_eq_true rfl) ⟨(Nat.le_of_ble_eq_true rfl), (Nat.le_of_ble_eq_true rfl)⟩ (fun v9 h_28 hv9 => ?_) (fun q9 h9 ci9 n9 x9 hx9 hs9 hc9 => xt_out hs9 hc9 (fun z hz => by cases hz) (Nat.le_of_ble_eq_true rfl) (Nat.le_of_ble_eq_true rfl) ⟨hx9.1, Ext.tr Ext.rf hx9.2.1, hx9.2.2⟩)
      obtain ⟨r_31, rfl, g_29, e_30, hw⟩ := hv9
      have hw := hw g_29 e_30
      show X ρ K_X0_ofRest 67 [(0, .ref (mr ρ 1)), (1, .int p1), (2, .int p2), (3, .int p3), (4, .int p4)] [.int r_31] h_28 1 7 (phI h post) (psX h px)
      exact x_iret dX0_ofRest_67 rfl (Nat.le_of_ble_eq_true rfl) (Nat.le_of_ble_eq_true rfl) ⟨_, rfl, g_29, e_30, hw⟩
    | 3, _, c_12 =>
      have c_12 : p1 = 20 := c_12
      have hw := ws_5 c_12
      refine x_tableIn (off := 67) 68 dX0_ofRest_1 (by rw [c_12]; decide) (by rw [c_12]; decide) (by rw [c_12]; rfl) (by decide) ?_
      refine x_aload_n 0 dX0_ofRest_68 rfl ?_
      refine x_iload_n 2 dX0_ofRest_69 rfl ?_
      refine x_iconst 0 dX0_ofRest_70 (by decide) ?_
      refine x_callV (ci := 0) [.int p2, .int 0] 2 dX0_ofRest_71 (k_X0_orderTold G g hw) (GI.s g (t := (10, 0)) rfl (by decide)) rfl q998 q1000 qs46 q104 q1001 (by decide) rfl rfl ⟨(Nat.le_of_ble_eq_true rfl), (Nat.le_of_ble_eq_true rfl)⟩ (Nat.le_of_ble_eq_true rfl) ⟨(Nat.le_of_ble_eq_true rfl), (Nat.le_of_ble_eq_true rfl)⟩ (fun v9 h_33 hv9 => ?_) (fun q9 h9 ci9 n9 x9 hx9 hs9 hc9 => xt_out hs9 hc9 (fun z hz => by cases hz) (Nat.le_of_ble_eq_true rfl) (Nat.le_of_ble_eq_true rfl) ⟨hx9.1, Ext.tr Ext.rf hx9.2.1, hx9.2.2⟩)
      obtain ⟨r_36, rfl, g_34, e_35, hw⟩ := hv9
      have hw := hw g_34 e_35
      show X ρ K_X0_ofRest 74 [(0, .ref (mr ρ 1)), (1, .int p1), (2, .int p2), (3, .int p3), (4, .int p4)] [.int r_36] h_33 1 7 (phI h post) (psX h px)
      exact x_iret dX0_ofRest_74 rfl (Nat.le_of_ble_eq_true rfl) (Nat.le_of_ble_eq_true rfl) ⟨_, rfl, g_34, e_35, hw⟩
    | 4, _, c_12 =>
      have c_12 : p1 = 21 := c_12
      have hw := ws_6 c_12
      refine x_tableIn (off := 74) 75 dX0_ofRest_1 (by rw [c_12]; decide) (by rw [c_12]; decide) (by rw [c_12]; rfl) (by decide) ?_
      refine x_aload_n 0 dX0_ofRest_75 rfl ?_
      refine x_iload_n 2 dX0_ofRest_76 rfl ?_
      refine x_iload_n 3 dX0_ofRest_77 rfl ?_
      refine x_iload 4 dX0_ofRest_78 rfl ?_
      refine x_callV (ci := 0) [.int p2, .int p3, .int p4] 3 dX0_ofRest_80 (k_X0_eveningTold G g hw) (GI.s g (t := (10, 0)) rfl (by decide)) rfl q1007 q1009 qs48 q104 q1010 (by decide) rfl rfl ⟨(Nat.le_of_ble_eq_true rfl), (Nat.le_of_ble_eq_true rfl)⟩ (Nat.le_of_ble_eq_true rfl) ⟨(Nat.le_of_ble_eq_true rfl), (Nat.le_of_ble_eq_true rfl)⟩ (fun v9 h_38 hv9 => ?_) (fun q9 h9 ci9 n9 x9 hx9 hs9 hc9 => xt_out hs9 hc9 (fun z hz => by cases hz) (Nat.le_of_ble_eq_true rfl) (Nat.le_of_ble_eq_true rfl) ⟨hx9.1, Ext.tr Ext.rf hx9.2.1, hx9.2.2⟩)
      obtain ⟨r_41, rfl, g_39, e_40, hw⟩ := hv9
      have hw := hw g_39 e_40
      show X ρ K_X0_ofRest 83 [(0, .ref (mr ρ 1)), (1, .int p1), (2, .int p2), (3, .int p3), (4, .int p4)] [.int r_41] h_38 4 28 (phI h post) (psX h px)
      exact x_iret dX0_ofRest_83 rfl (Nat.le_of_ble_eq_true rfl) (Nat.le_of_ble_eq_true rfl) ⟨_, rfl, g_39, e_40, hw⟩
    | 5, _, c_12 =>
      have c_12 : p1 = 22 := c_12
      have hw := ws_7 c_12
      refine x_tableIn (off := 83) 84 dX0_ofRest_1 (by rw [c_12]; decide) (by rw [c_12]; decide) (by rw [c_12]; rfl) (by decide) ?_
      refine x_iload_n 2 dX0_ofRest_84 rfl ?_
      refine x_i2l dX0_ofRest_85 ?_
      refine x_lconst 0 dX0_ofRest_86 (by decide) ?_
      refine x_ldc2 dX0_ofRest_87 q1028 ?_
      refine x_callS [.long (Int32.toInt64 p2), .long 0, .long 9] 3 dX0_ofRest_90 (k_X0_within G g hw) q834 q835 q104 q836 (by decide) rfl rfl ⟨(Nat.le_of_ble_eq_true rfl), (Nat.le_of_ble_eq_true rfl)⟩ (Nat.le_of_ble_eq_true rfl) ⟨(Nat.le_of_ble_eq_true rfl), (Nat.le_of_ble_eq_true rfl)⟩ (fun v9 h_43 hv9 => ?_) (fun q9 h9 ci9 n9 x9 hx9 hs9 hc9 => xt_out hs9 hc9 (fun z hz => by cases hz) (Nat.le_of_ble_eq_true rfl) (Nat.le_of_ble_eq_true rfl) ⟨hx9.1, Ext.tr Ext.rf hx9.2.1, hx9.2.2⟩)
      obtain ⟨rfl, g_44, e_45, hw⟩ := hv9
      have hw := hw g_44 e_45
      show X ρ K_X0_ofRest 93 [(0, .ref (mr ρ 1)), (1, .int p1), (2, .int p2), (3, .int p3), (4, .int p4)] [] h_43 2 14 (phI h post) (psX h px)
      refine x_aload_n 0 dX0_ofRest_93 rfl ?_
      refine x_get (ci := 0) (v := .int (gi h_43 1 12)) 12 dX0_ofRest_94 (GI.s g_44 (t := (10, 0)) rfl (by decide)) rfl in_X0 (by decide) q199 (Or.inl rfl) (fv_i rfl) ?_
      refine x_bipush 20 dX0_ofRest_97 (by decide) ?_
      have kJ_59 : ∀ z_49 : Int32, z_49 = ((if 20 ≤ (gi h_43 1 12) then 0 else 1) : Int32) → X ρ K_X0_ofRest 107 [(0, .ref (mr ρ 1)), (1, .int p1), (2, .int p2), (3, .int p3), (4, .int p4)] [.int z_49] h_43 2 14 (phI h post) (psX h px) := fun z_49 ez_49 => by
        have hw := hw z_49 ez_49
        refine x_bipush (-6) dX0_ofRest_107 (by decide) ?_
        refine x_callS [.int z_49, .int (-6)] 2 dX0_ofRest_109 (k_X0_must G g_44 hw) q294 q295 q104 q296 (by decide) rfl rfl ⟨(Nat.le_of_ble_eq_true rfl), (Nat.le_of_ble_eq_true rfl)⟩ (Nat.le_of_ble_eq_true rfl) ⟨(Nat.le_of_ble_eq_true rfl), (Nat.le_of_ble_eq_true rfl)⟩ (fun v9 h_50 hv9 => ?_) (fun q9 h9 ci9 n9 x9 hx9 hs9 hc9 => xt_out hs9 hc9 (fun z hz => by cases hz) (Nat.le_of_ble_eq_true rfl) (Nat.le_of_ble_eq_true rfl) ⟨hx9.1, Ext.tr e_45 hx9.2.1, hx9.2.2⟩)
        obtain ⟨rfl, g_51, e_52, hw⟩ := hv9
        have hw := hw g_51 e_52
        show X ρ K_X0_ofRest 112 [(0, .ref (mr ρ 1)), (1, .int p1), (2, .int p2), (3, .int p3), (4, .int p4)] [] h_50 3 21 (phI h post) (psX h px)
        refine x_aload_n 0 dX0_ofRest_112 rfl ?_
        refine x_get (ci := 0) (v := .ref (mr ρ 15)) 11 dX0_ofRest_113 (GI.s g_51 (t := (10, 0)) rfl (by decide)) rfl in_X0 (by decide) q198 (Or.inl rfl) (fv_rc rfl (GI.x g_51 (n := 15) rfl (by decide)) (by decide)) ?_
        refine x_aload_n 0 dX0_ofRest_116 rfl ?_
        refine x_get (ci := 0) (v := .int (gi h_50 1 12)) 12 dX0_ofRest_117 (GI.s g_51 (t := (10, 0)) rfl (by decide)) rfl in_X0 (by decide) q199 (Or.inl rfl) (fv_i rfl) ?_
        refine x_iload_n 2 dX0_ofRest_120 rfl ?_
        refine x_i2b dX0_ofRest_121 ?_
        obtain ⟨b_55, hw⟩ := hw
        refine x_bast (n := 20) (j := (Int32.toNatClampNeg (gi h_50 1 12))) dX0_ofRest_122 rfl (GI.s g_51 (t := (3, 20)) rfl (by decide)) b_55 ?_
        refine x_aload_n 0 dX0_ofRest_123 rfl ?_
        refine x_dup dX0_ofRest_124 rfl ?_
        refine x_get (ci := 0) (v := .int (gi (si h_50 15 (Int32.toNatClampNeg (gi h_50 1 12)) (Int8.toInt32 (Int32.toInt8 (Int8.toInt32 (Int32.toInt8 p2))))) 1 12)) 12 dX0_ofRest_125 (GI.s (GI.i g_51) (t := (10, 0)) rfl (by decide)) rfl in_X0 (by decide) q199 (Or.inl rfl) (fv_i rfl) ?_
        refine x_iconst 1 dX0_ofRest_128 (by decide) ?_
        refine x_iadd dX0_ofRest_129 ?_
        refine x_put (ci := 0) 12 dX0_ofRest_130 (GI.s (GI.i g_51) (t := (10, 0)) rfl (by decide)) rfl in_X0 tyX0 tyX0_ok nmX0 (by decide) q199 (Or.inl rfl) rfl rfl rfl (isPut_i rfl) ?_
        refine x_nmh (fun h_56 eh_56 => ?_)
        have hw := hw h_56 eh_56
        have g_57 : GI h_56 := eh_56 ▸ (GI.i (GI.i g_51))
        have e_58 : Ext h h_56 := eh_56 ▸ (Ext.i (Ext.i (Ext.tr e_45 e_52)))
        refine x_aload_n 0 dX0_ofRest_133 rfl ?_
        refine x_get (ci := 0) (v := .int (gi h_56 1 12)) 12 dX0_ofRest_134 (GI.s g_57 (t := (10, 0)) rfl (by decide)) rfl in_X0 (by decide) q199 (Or.inl rfl) (fv_i rfl) ?_
        exact x_iret dX0_ofRest_137 rfl (Nat.le_of_ble_eq_true rfl) (Nat.le_of_ble_eq_true rfl) ⟨_, rfl, g_57, e_58, hw⟩
      refine x_icmp_ge 106 dX0_ofRest_99 (by decide) (fun c_48 => ?_) (fun c_48 => ?_)
      · refine x_iconst 0 dX0_ofRest_106 (by decide) ?_
        exact kJ_59 _ ((if_pos c_48)).symm
      · refine x_iconst 1 dX0_ofRest_102 (by decide) ?_
        refine x_goto 107 dX0_ofRest_103 (by decide) ?_
        exact kJ_59 _ ((if_neg c_48)).symm
    | 6, _, c_12 =>
      have c_12 : p1 = 23 := c_12
      have hw := ws_8 c_12
      refine x_tableIn (off := 137) 138 dX0_ofRest_1 (by rw [c_12]; decide) (by rw [c_12]; decide) (by rw [c_12]; rfl) (by decide) ?_
      refine x_aload_n 0 dX0_ofRest_138 rfl ?_
      refine x_callV (ci := 0) [] 0 dX0_ofRest_139 (k_X0_mustBeWhole G g hw) (GI.s g (t := (10, 0)) rfl (by decide)) rfl q801 q803 qs18 q104 q804 (by decide) rfl rfl ⟨(Nat.le_of_ble_eq_true rfl), (Nat.le_of_ble_eq_true rfl)⟩ (Nat.le_of_ble_eq_true rfl) ⟨(Nat.le_of_ble_eq_true rfl), (Nat.le_of_ble_eq_true rfl)⟩ (fun v9 h_60 hv9 => ?_) (fun q9 h9 ci9 n9 x9 hx9 hs9 hc9 => xt_out hs9 hc9 (fun z hz => by cases hz) (Nat.le_of_ble_eq_true rfl) (Nat.le_of_ble_eq_true rfl) ⟨hx9.1, Ext.tr Ext.rf hx9.2.1, hx9.2.2⟩)
      obtain ⟨rfl, g_61, e_62, hw⟩ := hv9
      have hw := hw g_61 e_62
      show X ρ K_X0_ofRest 142 [(0, .ref (mr ρ 1)), (1, .int p1), (2, .int p2), (3, .int p3), (4, .int p4)] [] h_60 1 7 (phI h post) (psX h px)
      refine x_aload_n 0 dX0_ofRest_142 rfl ?_
      refine x_iload_n 2 dX0_ofRest_143 rfl ?_
      refine x_callV (ci := 0) [.int p2] 1 dX0_ofRest_144 (k_X0_judgeRow G g_61 hw) (GI.s g_61 (t := (10, 0)) rfl (by decide)) rfl q1029 q1031 qs52 q104 q1032 (by decide) rfl rfl ⟨(Nat.le_of_ble_eq_true rfl), (Nat.le_of_ble_eq_true rfl)⟩ (Nat.le_of_ble_eq_true rfl) ⟨(Nat.le_of_ble_eq_true rfl), (Nat.le_of_ble_eq_true rfl)⟩ (fun v9 h_65 hv9 => ?_) (fun _ _ _ _ _ z _ _ => False.elim z)
      obtain ⟨r_68, rfl, g_66, e_67, hw⟩ := hv9
      have hw := hw g_66 e_67
      show X ρ K_X0_ofRest 147 [(0, .ref (mr ρ 1)), (1, .int p1), (2, .int p2), (3, .int p3), (4, .int p4)] [.int r_68] h_65 1 7 (phI h post) (psX h px)
      exact x_iret dX0_ofRest_147 rfl (Nat.le_of_ble_eq_true rfl) (Nat.le_of_ble_eq_true rfl) ⟨_, rfl, g_66, (Ext.tr e_62 e_67), hw⟩
    | 7, _, c_12 =>
      have c_12 : p1 = 24 := c_12
      have hw := ws_9 c_12
      refine x_tableIn (off := 147) 148 dX0_ofRest_1 (by rw [c_12]; decide) (by rw [c_12]; decide) (by rw [c_12]; rfl) (by decide) ?_
      refine x_aload_n 0 dX0_ofRest_148 rfl ?_
      refine x_callV (ci := 0) [] 0 dX0_ofRest_149 (k_X0_takeImage G g hw) (GI.s g (t := (10, 0)) rfl (by decide)) rfl q1033 q1035 qs53 q104 q1036 (by decide) rfl rfl ⟨(Nat.le_of_ble_eq_true rfl), (Nat.le_of_ble_eq_true rfl)⟩ (Nat.le_of_ble_eq_true rfl) ⟨(Nat.le_of_ble_eq_true rfl), (Nat.le_of_ble_eq_true rfl)⟩ (fun v9 h_70 hv9 => ?_) (fun _ _ _ _ _ z _ _ => False.elim z)
      obtain ⟨r_73, rfl, g_71, e_72, hw⟩ := hv9
      have hw := hw g_71 e_72
      show X ρ K_X0_ofRest 152 [(0, .ref (mr ρ 1)), (1, .int p1), (2, .int p2), (3, .int p3), (4, .int p4)] [.int r_73] h_70 13 423 (phI h post) (psX h px)
      exact x_iret dX0_ofRest_152 rfl (Nat.le_of_ble_eq_true rfl) (Nat.le_of_ble_eq_true rfl) ⟨_, rfl, g_71, e_72, hw⟩
    | i9 + 8, h9, _ => exact absurd h9 (by omega)

/-! BeforeTheEnd.doIt(IIII)I -/
def wp_X0_doIt (post : Int32 → Hp → Prop) (px : Nat → Hp → Prop) (h : Hp) (p1 : Int32) (p2 : Int32) (p3 : Int32) (p4 : Int32) : Prop := ((9 ≤ p1 → ((17 ≤ p1 → (wp_X0_ofRest (fun r_6 h_3 => GI h_3 → Ext h h_3 → (post r_6 h_3)) px h p1 p2 p3 p4)) ∧ (¬ 17 ≤ p1 → (wp_X0_ofGames (fun r_11 h_8 => GI h_8 → Ext h h_8 → (post r_11 h_8)) px h p1 p2 p3 p4)))) ∧ (¬ 9 ≤ p1 → (wp_X0_ofQuiz (fun r_18 h_15 => GI h_15 → Ext h h_15 → (post r_18 h_15)) px h p1 p2 p3)))
abbrev rm_X0_doIt : Room := ({ frames := 17, cells := 1868, slots := 13143, locals := 550 })
abbrev K_X0_doIt : Kx := ("BeforeTheEnd", cX0_doIt, 5, (Option.some Jvm.ClassFile.FieldType.int), rm_X0_doIt, [], false)
set_option maxHeartbeats 4000000 in
theorem k_X0_doIt {ρ : Rho} {h : Hp} {post : Int32 → Hp → Prop} {px : Nat → Hp → Prop} {p1 : Int32} {p2 : Int32} {p3 : Int32} {p4 : Int32} (G : G0 ρ) (g : GI h) (hw : wp_X0_doIt post px h p1 p2 p3 p4) : Con ρ yX0_doIt (ws_ yX0_doIt cX0_doIt 5 (Option.some Jvm.ClassFile.FieldType.int)) rm_X0_doIt [.ref (mr ρ 1), .int p1, .int p2, .int p3, .int p4] h (phI h post) (psX h px) := by
  refine con_of (own := "BeforeTheEnd") (isI := false) (l0 := [(0, .ref (mr ρ 1)), (1, .int p1), (2, .int p2), (3, .int p3), (4, .int p4)]) (by decide) rfl (fun z => by cases z) (Nat.le_of_ble_eq_true rfl) rfl (fun _ => ?_)
  show X ρ K_X0_doIt 0 [(0, .ref (mr ρ 1)), (1, .int p1), (2, .int p2), (3, .int p3), (4, .int p4)] [] h 0 0 (phI h post) (psX h px)
  refine x_iload_n 1 dX0_doIt_0 rfl ?_
  refine x_bipush 9 dX0_doIt_1 (by decide) ?_
  obtain ⟨wt_20, wf_21⟩ := hw
  refine x_icmp_ge 16 dX0_doIt_3 (by decide) (fun c_1 => ?_) (fun c_1 => ?_)
  · have hw := wt_20 c_1
    refine x_iload_n 1 dX0_doIt_16 rfl ?_
    refine x_bipush 17 dX0_doIt_17 (by decide) ?_
    obtain ⟨wt_13, wf_14⟩ := hw
    refine x_icmp_ge 34 dX0_doIt_19 (by decide) (fun c_2 => ?_) (fun c_2 => ?_)
    · have hw := wt_13 c_2
      refine x_aload_n 0 dX0_doIt_34 rfl ?_
      refine x_iload_n 1 dX0_doIt_35 rfl ?_
      refine x_iload_n 2 dX0_doIt_36 rfl ?_
      refine x_iload_n 3 dX0_doIt_37 rfl ?_
      refine x_iload 4 dX0_doIt_38 rfl ?_
      refine x_callV (ci := 0) [.int p1, .int p2, .int p3, .int p4] 4 dX0_doIt_40 (k_X0_ofRest G g hw) (GI.s g (t := (10, 0)) rfl (by decide)) rfl q980 q982 qs42 q104 q983 (by decide) rfl rfl ⟨(Nat.le_of_ble_eq_true rfl), (Nat.le_of_ble_eq_true rfl)⟩ (Nat.le_of_ble_eq_true rfl) ⟨(Nat.le_of_ble_eq_true rfl), (Nat.le_of_ble_eq_true rfl)⟩ (fun v9 h_3 hv9 => ?_) (fun q9 h9 ci9 n9 x9 hx9 hs9 hc9 => xt_out hs9 hc9 (fun z hz => by cases hz) (Nat.le_of_ble_eq_true rfl) (Nat.le_of_ble_eq_true rfl) ⟨hx9.1, Ext.tr Ext.rf hx9.2.1, hx9.2.2⟩)
      obtain ⟨r_6, rfl, g_4, e_5, hw⟩ := hv9
      have hw := hw g_4 e_5
      show X ρ K_X0_doIt 43 [(0, .ref (mr ρ 1)), (1, .int p1), (2, .int p2), (3, .int p3), (4, .int p4)] [.int r_6] h_3 14 430 (phI h post) (psX h px)
      exact x_iret dX0_doIt_43 rfl (Nat.le_of_ble_eq_true rfl) (Nat.le_of_ble_eq_true rfl) ⟨_, rfl, g_4, e_5, hw⟩
    · have hw := wf_14 c_2
      refine x_aload_n 0 dX0_doIt_22 rfl ?_
      refine x_iload_n 1 dX0_doIt_23 rfl ?_
      refine x_iload_n 2 dX0_doIt_24 rfl ?_
      refine x_iload_n 3 dX0_doIt_25 rfl ?_
      refine x_iload 4 dX0_doIt_26 rfl ?_
      refine x_callV (ci := 0) [.int p1, .int p2, .int p3, .int p4] 4 dX0_doIt_28 (k_X0_ofGames G g hw) (GI.s g (t := (10, 0)) rfl (by decide)) rfl q912 q914 qs28 q104 q915 (by decide) rfl rfl ⟨(Nat.le_of_ble_eq_true rfl), (Nat.le_of_ble_eq_true rfl)⟩ (Nat.le_of_ble_eq_true rfl) ⟨(Nat.le_of_ble_eq_true rfl), (Nat.le_of_ble_eq_true rfl)⟩ (fun v9 h_8 hv9 => ?_) (fun q9 h9 ci9 n9 x9 hx9 hs9 hc9 => xt_out hs9 hc9 (fun z hz => by cases hz) (Nat.le_of_ble_eq_true rfl) (Nat.le_of_ble_eq_true rfl) ⟨hx9.1, Ext.tr Ext.rf hx9.2.1, hx9.2.2⟩)
      obtain ⟨r_11, rfl, g_9, e_10, hw⟩ := hv9
      have hw := hw g_9 e_10
      show X ρ K_X0_doIt 31 [(0, .ref (mr ρ 1)), (1, .int p1), (2, .int p2), (3, .int p3), (4, .int p4)] [.int r_11] h_8 27 123 (phI h post) (psX h px)
      refine x_goto 43 dX0_doIt_31 (by decide) ?_
      exact x_iret dX0_doIt_43 rfl (Nat.le_of_ble_eq_true rfl) (Nat.le_of_ble_eq_true rfl) ⟨_, rfl, g_9, e_10, hw⟩
  · have hw := wf_21 c_1
    refine x_aload_n 0 dX0_doIt_6 rfl ?_
    refine x_iload_n 1 dX0_doIt_7 rfl ?_
    refine x_iload_n 2 dX0_doIt_8 rfl ?_
    refine x_iload_n 3 dX0_doIt_9 rfl ?_
    refine x_callV (ci := 0) [.int p1, .int p2, .int p3] 3 dX0_doIt_10 (k_X0_ofQuiz G g hw) (GI.s g (t := (10, 0)) rfl (by decide)) rfl q391 q393 qs5 q104 q394 (by decide) rfl rfl ⟨(Nat.le_of_ble_eq_true rfl), (Nat.le_of_ble_eq_true rfl)⟩ (Nat.le_of_ble_eq_true rfl) ⟨(Nat.le_of_ble_eq_true rfl), (Nat.le_of_ble_eq_true rfl)⟩ (fun v9 h_15 hv9 => ?_) (fun q9 h9 ci9 n9 x9 hx9 hs9 hc9 => xt_out hs9 hc9 (fun z hz => by cases hz) (Nat.le_of_ble_eq_true rfl) (Nat.le_of_ble_eq_true rfl) ⟨hx9.1, Ext.tr Ext.rf hx9.2.1, hx9.2.2⟩)
    obtain ⟨r_18, rfl, g_16, e_17, hw⟩ := hv9
    have hw := hw g_16 e_17
    show X ρ K_X0_doIt 13 [(0, .ref (mr ρ 1)), (1, .int p1), (2, .int p2), (3, .int p3), (4, .int p4)] [.int r_18] h_15 1868 13143 (phI h post) (psX h px)
    refine x_goto 43 dX0_doIt_13 (by decide) ?_
    exact x_iret dX0_doIt_43 rfl (Nat.le_of_ble_eq_true rfl) (Nat.le_of_ble_eq_true rfl) ⟨_, rfl, g_16, e_17, hw⟩

/-! BeforeTheEnd.act(IIII)I -/
def w_X0_act_18 (post : Int32 → Hp → Prop) (z0 : Int32) (h : Hp) : Prop := (wp_X0_refuse (fun r_4 h_1 => GI h_1 → Ext h h_1 → (post r_4 h_1)) h z0)
def w_X0_act_10 (post : Int32 → Hp → Prop) (z0 : Nat) (h : Hp) : Prop := (wv_X3_number_isEx (fun r_4 h_1 => GI h_1 → Ext h h_1 → (w_X0_act_18 post r_4 h_1)) h z0)
def wp_X0_act (post : Int32 → Hp → Prop) (h : Hp) (p1 : Int32) (p2 : Int32) (p3 : Int32) (p4 : Int32) : Prop := (wp_X0_doIt (fun r_4 h_1 => GI h_1 → Ext h h_1 → (post r_4 h_1)) (fun q_6 h_1x => GI h_1x → Ext h h_1x → (isEx h_1x q_6 ∧ (w_X0_act_10 post q_6 h_1x))) h p1 p2 p3 p4)
abbrev rm_X0_act : Room := ({ frames := 18, cells := 1868, slots := 13143, locals := 574 })
abbrev K_X0_act : Kx := ("BeforeTheEnd", cX0_act, 6, (Option.some Jvm.ClassFile.FieldType.int), rm_X0_act, [(0, 9, 10, 343)], false)
set_option maxHeartbeats 4000000 in
theorem t_X0_act_18 {ρ : Rho} {h0 : Hp} {post : Int32 → Hp → Prop} (G : G0 ρ) :
    ∀ (z0 : Int32) (h : Hp), GI h → Ext h0 h → w_X0_act_18 post z0 h → X ρ K_X0_act 18 [] [.int z0, .ref (mr ρ 1)] h 1868 13143 (phI h0 post) psN := by
  intro z0 h g e hw
  refine x_callV (ci := 0) [.int z0] 1 dX0_act_18 (k_X0_refuse G g hw) (GI.s g (t := (10, 0)) rfl (by decide)) rfl q375 q377 qs2 q104 q378 (by decide) rfl rfl ⟨(Nat.le_of_ble_eq_true rfl), (Nat.le_of_ble_eq_true rfl)⟩ (Nat.le_of_ble_eq_true rfl) ⟨(Nat.le_of_ble_eq_true rfl), (Nat.le_of_ble_eq_true rfl)⟩ (fun v9 h_1 hv9 => ?_) (fun _ _ _ _ _ z _ _ => False.elim z)
  obtain ⟨r_4, rfl, g_2, e_3, hw⟩ := hv9
  have hw := hw g_2 e_3
  show X ρ K_X0_act 21 [] [.int r_4] h_1 1868 13143 (phI h0 post) psN
  exact x_iret dX0_act_21 rfl (Nat.le_of_ble_eq_true rfl) (Nat.le_of_ble_eq_true rfl) ⟨_, rfl, g_2, (Ext.tr e e_3), hw⟩
set_option maxHeartbeats 4000000 in
theorem t_X0_act_10 {ρ : Rho} {h0 : Hp} {post : Int32 → Hp → Prop} (G : G0 ρ) :
    ∀ (z0 : Nat) (h : Hp), GI h → Ext h0 h → isEx h z0 → w_X0_act_10 post z0 h → X ρ K_X0_act 10 [(0, .ref (mr ρ 1))] [.ref (mr ρ z0)] h 1868 13143 (phI h0 post) psN := by
  intro z0 h g e fz0 hw
  refine x_astore (lv' := [(5, .ref (mr ρ z0)), (0, .ref (mr ρ 1))]) dX0_act_10 (Nat.le_of_ble_eq_true rfl) rfl ?_
  refine x_aload_n 1 dX0_act_12 rfl ?_
  refine x_aload 0 dX0_act_13 rfl ?_
  have kk_8 : ∀ (v9 : Option Value) (h_1 : Hp), (phI h (fun r_4 h_1 => GI h_1 → Ext h h_1 → (w_X0_act_18 post r_4 h_1))) v9 h_1 → X ρ K_X0_act 18 [(5, .ref (mr ρ z0)), (0, .ref (mr ρ 1))] (v9.toList ++ [.ref (mr ρ 1)]) h_1 1868 13143 (phI h0 post) psN := by
    intro v9 h_1 hv9
    obtain ⟨r_4, rfl, g_2, e_3, hw⟩ := hv9
    have hw := hw g_2 e_3
    show X ρ K_X0_act 18 [(5, .ref (mr ρ z0)), (0, .ref (mr ρ 1))] [.int r_4, .ref (mr ρ 1)] h_1 1868 13143 (phI h0 post) psN
    refine X.sub [] rfl ?_
    exact t_X0_act_18 G  r_4 h_1 g_2 (Ext.tr e e_3) hw
  obtain ⟨wc_6, wc_7⟩ := hw
  rcases fz0 with fc9 | fc9
  · exact x_callA (ci := 3) (x0 := ⟨"BeforeTheEnd$Refusal", "number", "()I"⟩) (owner := "BeforeTheEnd$Refusal") [] 0 dX0_act_15 (k_X4_number_c3 G g fc9 (wc_6 fc9)) fc9 rfl (lw_U q366 q368 q372 q373 q111 q374) q367 (by decide) rfl rfl ⟨(Nat.le_of_ble_eq_true rfl), (Nat.le_of_ble_eq_true rfl)⟩ (Nat.le_of_ble_eq_true rfl) ⟨(Nat.le_of_ble_eq_true rfl), (Nat.le_of_ble_eq_true rfl)⟩ kk_8 (fun _ _ _ _ _ z _ _ => False.elim z)
  · exact x_callA (ci := 5) (x0 := ⟨"BeforeTheEnd$Refusal", "number", "()I"⟩) (owner := "BeforeTheEnd$Refusal") [] 0 dX0_act_15 (k_X6_number_c5 G g fc9 (wc_7 fc9)) fc9 rfl (lw_U q366 q368 q369 q370 q113 q371) q367 (by decide) rfl rfl ⟨(Nat.le_of_ble_eq_true rfl), (Nat.le_of_ble_eq_true rfl)⟩ (Nat.le_of_ble_eq_true rfl) ⟨(Nat.le_of_ble_eq_true rfl), (Nat.le_of_ble_eq_true rfl)⟩ kk_8 (fun _ _ _ _ _ z _ _ => False.elim z)
set_option maxHeartbeats 4000000 in
theorem k_X0_act {ρ : Rho} {h : Hp} {post : Int32 → Hp → Prop} {p1 : Int32} {p2 : Int32} {p3 : Int32} {p4 : Int32} (G : G0 ρ) (g : GI h) (hw : wp_X0_act post h p1 p2 p3 p4) : Con ρ yX0_act (wsW_ yX0_act cX0_act 6 (Option.some Jvm.ClassFile.FieldType.int) [(0, 9, 10, 343)]) rm_X0_act [.ref (mr ρ 1), .int p1, .int p2, .int p3, .int p4] h (phI h post) psN := by
  refine con_ofH (own := "BeforeTheEnd") (l0 := [(0, .ref (mr ρ 1)), (1, .int p1), (2, .int p2), (3, .int p3), (4, .int p4)]) (by decide) rfl q386 (Nat.le_of_ble_eq_true rfl) rfl (fun _ => ?_)
  show X ρ K_X0_act 0 [(0, .ref (mr ρ 1)), (1, .int p1), (2, .int p2), (3, .int p3), (4, .int p4)] [] h 0 0 (phI h post) psN
  refine x_aload_n 0 dX0_act_0 rfl ?_
  refine x_iload_n 1 dX0_act_1 rfl ?_
  refine x_iload_n 2 dX0_act_2 rfl ?_
  refine x_iload_n 3 dX0_act_3 rfl ?_
  refine x_iload 4 dX0_act_4 rfl ?_
  refine x_callV (ci := 0) [.int p1, .int p2, .int p3, .int p4] 4 dX0_act_6 (k_X0_doIt G g hw) (GI.s g (t := (10, 0)) rfl (by decide)) rfl q387 q389 qs4 q104 q390 (by decide) rfl rfl ⟨(Nat.le_of_ble_eq_true rfl), (Nat.le_of_ble_eq_true rfl)⟩ (Nat.le_of_ble_eq_true rfl) ⟨(Nat.le_of_ble_eq_true rfl), (Nat.le_of_ble_eq_true rfl)⟩ (fun v9 h_1 hv9 => ?_) (fun q_6 h_1x ci9 n9 x9 hx9 hs9 hc9 => ?_)
  · obtain ⟨r_4, rfl, g_2, e_3, hw⟩ := hv9
    have hw := hw g_2 e_3
    show X ρ K_X0_act 9 [(0, .ref (mr ρ 1)), (1, .int p1), (2, .int p2), (3, .int p3), (4, .int p4)] [.int r_4] h_1 1868 13143 (phI h post) psN
    exact x_iret dX0_act_9 rfl (Nat.le_of_ble_eq_true rfl) (Nat.le_of_ble_eq_true rfl) ⟨_, rfl, g_2, e_3, hw⟩
  · obtain ⟨g_7, e_8, hw⟩ := hx9
    have hw := hw g_7 e_8
    obtain ⟨hE8, hw⟩ := hw
    have kH9 : X ρ K_X0_act 10 [(0, .ref (mr ρ 1)), (1, .int p1), (2, .int p2), (3, .int p3), (4, .int p4)] [.ref (mr ρ q_6)] h_1x 1868 13143 (phI h post) psN := by
      have hE9 := hE8
      refine X.sub [0] rfl ?_
      exact t_X0_act_10 G  q_6 h_1x g_7 e_8 hE9 hw
    rcases hE8 with hE9 | hE9
    · refine xt_catch 0 9 10 343 hE9 (ci := 3) (x := (RX4, T3n, 2)) rfl rfl (by decide) (by decide) q289 q1726 ?_
      exact kH9
    · refine xt_catch 0 9 10 343 hE9 (ci := 5) (x := (RX6, T5n, 2)) rfl rfl (by decide) (by decide) q289 q1725 ?_
      exact kH9

/-! BeforeTheEnd.quiz()I -/
def wp_X0_quiz (post : Int32 → Hp → Prop) (h : Hp) : Prop := (wp_X0_act (fun r_4 h_1 => GI h_1 → Ext h h_1 → (post r_4 h_1)) h 0 0 0 0)
abbrev rm_X0_quiz : Room := ({ frames := 19, cells := 1868, slots := 13143, locals := 599 })
abbrev K_X0_quiz : Kx := ("BeforeTheEnd", cX0_quiz, 1, (Option.some Jvm.ClassFile.FieldType.int), rm_X0_quiz, [], false)
set_option maxHeartbeats 4000000 in
theorem k_X0_quiz {ρ : Rho} {h : Hp} {post : Int32 → Hp → Prop} (G : G0 ρ) (g : GI h) (hw : wp_X0_quiz post h) : Con ρ yX0_quiz (ws_ yX0_quiz cX0_quiz 1 (Option.some Jvm.ClassFile.FieldType.int)) rm_X0_quiz [.ref (mr ρ 1)] h (phI h post) psN := by
  refine con_of (own := "BeforeTheEnd") (isI := false) (l0 := [(0, .ref (mr ρ 1))]) (by decide) rfl (fun z => by cases z) (Nat.le_of_ble_eq_true rfl) rfl (fun _ => ?_)
  show X ρ K_X0_quiz 0 [(0, .ref (mr ρ 1))] [] h 0 0 (phI h post) psN
  refine x_aload_n 0 dX0_quiz_0 rfl ?_
  refine x_iconst 0 dX0_quiz_1 (by decide) ?_
  refine x_iconst 0 dX0_quiz_2 (by decide) ?_
  refine x_iconst 0 dX0_quiz_3 (by decide) ?_
  refine x_iconst 0 dX0_quiz_4 (by decide) ?_
  refine x_callH (ci := 0) [.int 0, .int 0, .int 0, .int 0] 4 dX0_quiz_5 (k_X0_act G g hw) (GI.s g (t := (10, 0)) rfl (by decide)) rfl q383 q385 qs3 q104 q386 (by decide) rfl rfl ⟨(Nat.le_of_ble_eq_true rfl), (Nat.le_of_ble_eq_true rfl)⟩ (Nat.le_of_ble_eq_true rfl) ⟨(Nat.le_of_ble_eq_true rfl), (Nat.le_of_ble_eq_true rfl)⟩ (fun v9 h_1 hv9 => ?_) (fun _ _ _ _ _ z _ _ => False.elim z)
  obtain ⟨r_4, rfl, g_2, e_3, hw⟩ := hv9
  have hw := hw g_2 e_3
  show X ρ K_X0_quiz 8 [(0, .ref (mr ρ 1))] [.int r_4] h_1 1868 13143 (phI h post) psN
  exact x_iret dX0_quiz_8 rfl (Nat.le_of_ble_eq_true rfl) (Nat.le_of_ble_eq_true rfl) ⟨_, rfl, g_2, e_3, hw⟩

/-! BeforeTheEndModel.sign()I -/
def wp_X2_sign (post : Int32 → Hp → Prop) (h : Hp) : Prop := (((¬ (gi h 25 21) ≤ (gi h 25 22) → (vp_in (gi h 25 22) 64))) ∧ (∀ z_3 : Int32, z_3 = ((if (gi h 25 21) ≤ (gi h 25 22) then (-1) else (gi h 38 (Int32.toNatClampNeg (gi h 25 22)))) : Int32) → (post z_3 h)))
abbrev rm_X2_sign : Room := ({ frames := 1, cells := 0, slots := 0, locals := 60 })
abbrev K_X2_sign : Kx := ("BeforeTheEndModel", cX2_sign, 1, (Option.some Jvm.ClassFile.FieldType.int), rm_X2_sign, [], false)
set_option maxHeartbeats 4000000 in
theorem k_X2_sign {ρ : Rho} {h : Hp} {post : Int32 → Hp → Prop} (G : G0 ρ) (g : GI h) (hw : wp_X2_sign post h) : Con ρ yX2_sign (ws_ yX2_sign cX2_sign 1 (Option.some Jvm.ClassFile.FieldType.int)) rm_X2_sign [.ref (mr ρ 25)] h (phI h post) psN := by
  refine con_of (own := "BeforeTheEndModel") (isI := false) (l0 := [(0, .ref (mr ρ 25))]) (by decide) rfl (fun z => by cases z) (Nat.le_of_ble_eq_true rfl) rfl (fun _ => ?_)
  show X ρ K_X2_sign 0 [(0, .ref (mr ρ 25))] [] h 0 0 (phI h post) psN
  refine x_aload_n 0 dX2_sign_0 rfl ?_
  refine x_get (ci := 2) (v := .int (gi h 25 22)) 22 dX2_sign_1 (GI.s g (t := (12, 0)) rfl (by decide)) rfl in_X2 (by decide) q1245 (Or.inl rfl) (fv_i rfl) ?_
  refine x_aload_n 0 dX2_sign_4 rfl ?_
  refine x_get (ci := 2) (v := .int (gi h 25 21)) 21 dX2_sign_5 (GI.s g (t := (12, 0)) rfl (by decide)) rfl in_X2 (by decide) q1244 (Or.inl rfl) (fv_i rfl) ?_
  obtain ⟨hO_5, hw⟩ := hw
  have kJ_4 : ∀ z_3 : Int32, z_3 = ((if (gi h 25 21) ≤ (gi h 25 22) then (-1) else (gi h 38 (Int32.toNatClampNeg (gi h 25 22)))) : Int32) → X ρ K_X2_sign 24 [(0, .ref (mr ρ 25))] [.int z_3] h 0 0 (phI h post) psN := fun z_3 ez_3 => by
    have hw := hw z_3 ez_3
    exact x_iret dX2_sign_24 rfl (Nat.le_of_ble_eq_true rfl) (Nat.le_of_ble_eq_true rfl) ⟨_, rfl, g, Ext.rf, hw⟩
  have hO_50 := hO_5
  refine x_icmp_ge 23 dX2_sign_8 (by decide) (fun c_1 => ?_) (fun c_1 => ?_)
  · refine x_iconst (-1) dX2_sign_23 (by decide) ?_
    exact kJ_4 _ ((if_pos c_1)).symm
  · have hO_5_ := hO_50 c_1
    have b_2 := hO_5_
    refine x_aload_n 0 dX2_sign_11 rfl ?_
    refine x_get (ci := 2) (v := .ref (mr ρ 38)) 14 dX2_sign_12 (GI.s g (t := (12, 0)) rfl (by decide)) rfl in_X2 (by decide) q1237 (Or.inl rfl) (fv_rc rfl (GI.m g (n := 38) rfl (by decide)) (by decide)) ?_
    refine x_aload_n 0 dX2_sign_15 rfl ?_
    refine x_get (ci := 2) (v := .int (gi h 25 22)) 22 dX2_sign_16 (GI.s g (t := (12, 0)) rfl (by decide)) rfl in_X2 (by decide) q1245 (Or.inl rfl) (fv_i rfl) ?_
    refine x_iald (n := 64) (j := (Int32.toNatClampNeg (gi h 25 22))) dX2_sign_19 rfl (GI.s g (t := (1, 64)) rfl (by decide)) b_2 ?_
    refine x_goto 24 dX2_sign_20 (by decide) ?_
    exact kJ_4 _ ((if_neg c_1)).symm

/-! BeforeTheEndModel.isIn(III)Z -/
def wp_X2_isIn (post : Int32 → Hp → Prop) (h : Hp) (p1 : Int32) (p2 : Int32) (p3 : Int32) : Prop := (∀ z_3 : Int32, z_3 = ((if p1 < p2 then 0 else (if p3 < p1 then 0 else 1)) : Int32) → (post z_3 h))
abbrev rm_X2_isIn : Room := ({ frames := 1, cells := 0, slots := 0, locals := 60 })
abbrev K_X2_isIn : Kx := ("BeforeTheEndModel", cX2_isIn, 3, (Option.some Jvm.ClassFile.FieldType.boolean), rm_X2_isIn, [], false)
set_option maxHeartbeats 4000000 in
theorem k_X2_isIn {ρ : Rho} {h : Hp} {post : Int32 → Hp → Prop} {p1 : Int32} {p2 : Int32} {p3 : Int32} (G : G0 ρ) (g : GI h) (hw : wp_X2_isIn post h p1 p2 p3) : Con ρ yX2_isIn (ws_ yX2_isIn cX2_isIn 3 (Option.some Jvm.ClassFile.FieldType.boolean)) rm_X2_isIn [.int p1, .int p2, .int p3] h (phB h post) psN := by
  refine con_of (own := "BeforeTheEndModel") (isI := false) (l0 := [(0, .int p1), (1, .int p2), (2, .int p3)]) (by decide) rfl (fun z => by cases z) (Nat.le_of_ble_eq_true rfl) rfl (fun _ => ?_)
  show X ρ K_X2_isIn 0 [(0, .int p1), (1, .int p2), (2, .int p3)] [] h 0 0 (phB h post) psN
  refine x_iload_n 0 dX2_isIn_0 rfl ?_
  refine x_iload_n 1 dX2_isIn_1 rfl ?_
  have kJ_4 : ∀ z_3 : Int32, z_3 = ((if p1 < p2 then 0 else (if p3 < p1 then 0 else 1)) : Int32) → X ρ K_X2_isIn 15 [(0, .int p1), (1, .int p2), (2, .int p3)] [.int z_3] h 0 0 (phB h post) psN := fun z_3 ez_3 => by
    have hw := hw z_3 ez_3
    exact x_zret dX2_isIn_15 rfl (isB.n (Eq.mpr (congrArg isB ez_3) (isB_ite isB_0 (isB_ite isB_0 isB_1)))) (Nat.le_of_ble_eq_true rfl) (Nat.le_of_ble_eq_true rfl) ⟨_, rfl, g, Ext.rf, (Eq.mpr (congrArg isB ez_3) (isB_ite isB_0 (isB_ite isB_0 isB_1))), hw⟩
  refine x_icmp_lt 14 dX2_isIn_2 (by decide) (fun c_1 => ?_) (fun c_1 => ?_)
  · refine x_iconst 0 dX2_isIn_14 (by decide) ?_
    exact kJ_4 _ ((if_pos c_1)).symm
  · refine x_iload_n 0 dX2_isIn_5 rfl ?_
    refine x_iload_n 2 dX2_isIn_6 rfl ?_
    refine x_icmp_gt 14 dX2_isIn_7 (by decide) (fun c_2 => ?_) (fun c_2 => ?_)
    · refine x_iconst 0 dX2_isIn_14 (by decide) ?_
      exact kJ_4 _ (((if_neg c_1).trans (if_pos c_2))).symm
    · refine x_iconst 1 dX2_isIn_10 (by decide) ?_
      refine x_goto 15 dX2_isIn_11 (by decide) ?_
      exact kJ_4 _ (((if_neg c_1).trans (if_neg c_2))).symm

/-! BeforeTheEndModel.number(I)I -/
def w_X2_number_20 (post : Int32 → Hp → Prop) : Nat → Int32 → Int32 → Int32 → Hp → Prop
  | 0 => fun _ _ _ _ => False
  | n + 1 => fun x1 x2 x3 h => ((x1 ≤ x3 → (post x2 h)) ∧ (¬ x1 ≤ x3 → (wp_X2_sign (fun r_5 h_2 => GI h_2 → Ext h h_2 → (wp_X2_isIn (fun r_10 h_7 => GI h_7 → Ext h_2 h_7 → ((r_10 = 0 → (post x2 h_7)) ∧ (¬ r_10 = 0 → (wp_X2_sign (fun r_16 h_13 => GI h_13 → Ext h_7 h_13 → (w_X2_number_20 post n x1 (((10 * x2) + r_16) - 48) (x3 + 1) (si h_13 25 22 ((gi h_13 25 22) + 1)))) h_7)))) h_2 r_5 48 57)) h)))
def wp_X2_number (post : Int32 → Hp → Prop) (h : Hp) (p1 : Int32) : Prop := (wp_X2_sign (fun r_4 h_1 => GI h_1 → Ext h h_1 → (wp_X2_isIn (fun r_9 h_6 => GI h_6 → Ext h_1 h_6 → ((¬ r_9 = 0 → (∃ fu : Nat, w_X2_number_20 post fu p1 0 0 h_6)) ∧ (r_9 = 0 → (post (-1) h_6)))) h_1 r_4 48 57)) h)
abbrev rm_X2_number : Room := ({ frames := 2, cells := 0, slots := 0, locals := 82 })
abbrev K_X2_number : Kx := ("BeforeTheEndModel", cX2_number, 4, (Option.some Jvm.ClassFile.FieldType.int), rm_X2_number, [], false)
set_option maxHeartbeats 4000000 in
theorem t_X2_number_20 {ρ : Rho} {h0 : Hp} {post : Int32 → Hp → Prop} (G : G0 ρ) :
    ∀ (n : Nat), ∀ (x1 : Int32) (x2 : Int32) (x3 : Int32) (h : Hp), GI h → Ext h0 h → w_X2_number_20 post n x1 x2 x3 h → X ρ K_X2_number 20 [(0, .ref (mr ρ 25)), (1, .int x1), (2, .int x2), (3, .int x3)] [] h 0 0 (phI h0 post) psN := by
  intro n
  induction n with
  | zero => intro x1 x2 x3 h g e hw; exact False.elim hw
  | succ n ih =>
    intro x1 x2 x3 h g e hw
    refine x_iload_n 3 dX2_number_20 rfl ?_
    refine x_iload_n 1 dX2_number_21 rfl ?_
    obtain ⟨wt_20, wf_21⟩ := hw
    refine x_icmp_ge 68 dX2_number_22 (by decide) (fun c_1 => ?_) (fun c_1 => ?_)
    · have hw := wt_20 c_1
      refine x_iload_n 2 dX2_number_68 rfl ?_
      exact x_iret dX2_number_69 rfl (Nat.le_of_ble_eq_true rfl) (Nat.le_of_ble_eq_true rfl) ⟨_, rfl, g, e, hw⟩
    · have hw := wf_21 c_1
      refine x_aload_n 0 dX2_number_25 rfl ?_
      refine x_callV (ci := 2) [] 0 dX2_number_26 (k_X2_sign G g hw) (GI.s g (t := (12, 0)) rfl (by decide)) rfl q1400 q1402 qs61 q106 q1403 (by decide) rfl rfl ⟨(Nat.le_of_ble_eq_true rfl), (Nat.le_of_ble_eq_true rfl)⟩ (Nat.le_of_ble_eq_true rfl) ⟨(Nat.le_of_ble_eq_true rfl), (Nat.le_of_ble_eq_true rfl)⟩ (fun v9 h_2 hv9 => ?_) (fun _ _ _ _ _ z _ _ => False.elim z)
      obtain ⟨r_5, rfl, g_3, e_4, hw⟩ := hv9
      have hw := hw g_3 e_4
      show X ρ K_X2_number 29 [(0, .ref (mr ρ 25)), (1, .int x1), (2, .int x2), (3, .int x3)] [.int r_5] h_2 0 0 (phI h0 post) psN
      refine x_bipush 48 dX2_number_29 (by decide) ?_
      refine x_bipush 57 dX2_number_31 (by decide) ?_
      refine x_callS [.int r_5, .int 48, .int 57] 3 dX2_number_33 (k_X2_isIn G g_3 hw) q1412 q1413 q106 q1414 (by decide) rfl rfl ⟨(Nat.le_of_ble_eq_true rfl), (Nat.le_of_ble_eq_true rfl)⟩ (Nat.le_of_ble_eq_true rfl) ⟨(Nat.le_of_ble_eq_true rfl), (Nat.le_of_ble_eq_true rfl)⟩ (fun v9 h_7 hv9 => ?_) (fun _ _ _ _ _ z _ _ => False.elim z)
      obtain ⟨r_10, rfl, g_8, e_9, b_11, hw⟩ := hv9
      have hw := hw g_8 e_9
      show X ρ K_X2_number 36 [(0, .ref (mr ρ 25)), (1, .int x1), (2, .int x2), (3, .int x3)] [.int r_10] h_7 0 0 (phI h0 post) psN
      obtain ⟨wt_18, wf_19⟩ := hw
      refine x_if_eq 68 dX2_number_36 (by decide) (fun c_12 => ?_) (fun c_12 => ?_)
      · have hw := wt_18 c_12
        refine x_iload_n 2 dX2_number_68 rfl ?_
        exact x_iret dX2_number_69 rfl (Nat.le_of_ble_eq_true rfl) (Nat.le_of_ble_eq_true rfl) ⟨_, rfl, g_8, (Ext.tr (Ext.tr e e_4) e_9), hw⟩
      · have hw := wf_19 c_12
        refine x_bipush 10 dX2_number_39 (by decide) ?_
        refine x_iload_n 2 dX2_number_41 rfl ?_
        refine x_imul dX2_number_42 ?_
        refine x_aload_n 0 dX2_number_43 rfl ?_
        refine x_callV (ci := 2) [] 0 dX2_number_44 (k_X2_sign G g_8 hw) (GI.s g_8 (t := (12, 0)) rfl (by decide)) rfl q1400 q1402 qs61 q106 q1403 (by decide) rfl rfl ⟨(Nat.le_of_ble_eq_true rfl), (Nat.le_of_ble_eq_true rfl)⟩ (Nat.le_of_ble_eq_true rfl) ⟨(Nat.le_of_ble_eq_true rfl), (Nat.le_of_ble_eq_true rfl)⟩ (fun v9 h_13 hv9 => ?_) (fun _ _ _ _ _ z _ _ => False.elim z)
        obtain ⟨r_16, rfl, g_14, e_15, hw⟩ := hv9
        have hw := hw g_14 e_15
        show X ρ K_X2_number 47 [(0, .ref (mr ρ 25)), (1, .int x1), (2, .int x2), (3, .int x3)] [.int r_16, .int (10 * x2)] h_13 0 0 (phI h0 post) psN
        refine x_iadd dX2_number_47 ?_
        refine x_bipush 48 dX2_number_48 (by decide) ?_
        refine x_isub dX2_number_50 ?_
        refine x_istore_n (lv' := [(2, .int (((10 * x2) + r_16) - 48)), (0, .ref (mr ρ 25)), (1, .int x1), (3, .int x3)]) dX2_number_51 (Nat.le_of_ble_eq_true rfl) rfl ?_
        refine x_aload_n 1 dX2_number_52 rfl ?_
        refine x_dup dX2_number_53 rfl ?_
        refine x_get (ci := 2) (v := .int (gi h_13 25 22)) 22 dX2_number_54 (GI.s g_14 (t := (12, 0)) rfl (by decide)) rfl in_X2 (by decide) q1245 (Or.inl rfl) (fv_i rfl) ?_
        refine x_iconst 1 dX2_number_57 (by decide) ?_
        refine x_iadd dX2_number_58 ?_
        refine x_put (ci := 2) 22 dX2_number_59 (GI.s g_14 (t := (12, 0)) rfl (by decide)) rfl in_X2 tyX2 tyX2_ok nmX2 (by decide) q1245 (Or.inl rfl) rfl rfl rfl (isPut_i rfl) ?_
        refine x_iinc (v := (x3 + 1)) (lv' := [(3, .int (x3 + 1)), (2, .int (((10 * x2) + r_16) - 48)), (0, .ref (mr ρ 25)), (1, .int x1)]) 3 dX2_number_62 rfl (by rfl) (Nat.le_of_ble_eq_true rfl) rfl ?_
        refine x_goto 20 dX2_number_65 (by decide) ?_
        refine X.sub [2, 3, 1, 0] rfl ?_
        exact ih x1 (((10 * x2) + r_16) - 48) (x3 + 1) (si h_13 25 22 ((gi h_13 25 22) + 1)) (GI.i g_14) (Ext.i (Ext.tr (Ext.tr (Ext.tr e e_4) e_9) e_15)) hw
set_option maxHeartbeats 4000000 in
theorem k_X2_number {ρ : Rho} {h : Hp} {post : Int32 → Hp → Prop} {p1 : Int32} (G : G0 ρ) (g : GI h) (hw : wp_X2_number post h p1) : Con ρ yX2_number (ws_ yX2_number cX2_number 4 (Option.some Jvm.ClassFile.FieldType.int)) rm_X2_number [.ref (mr ρ 25), .int p1] h (phI h post) psN := by
  refine con_of (own := "BeforeTheEndModel") (isI := false) (l0 := [(0, .ref (mr ρ 25)), (1, .int p1)]) (by decide) rfl (fun z => by cases z) (Nat.le_of_ble_eq_true rfl) rfl (fun _ => ?_)
  show X ρ K_X2_number 0 [(0, .ref (mr ρ 25)), (1, .int p1)] [] h 0 0 (phI h post) psN
  refine x_aload_n 0 dX2_number_0 rfl ?_
  refine x_callV (ci := 2) [] 0 dX2_number_1 (k_X2_sign G g hw) (GI.s g (t := (12, 0)) rfl (by decide)) rfl q1400 q1402 qs61 q106 q1403 (by decide) rfl rfl ⟨(Nat.le_of_ble_eq_true rfl), (Nat.le_of_ble_eq_true rfl)⟩ (Nat.le_of_ble_eq_true rfl) ⟨(Nat.le_of_ble_eq_true rfl), (Nat.le_of_ble_eq_true rfl)⟩ (fun v9 h_1 hv9 => ?_) (fun _ _ _ _ _ z _ _ => False.elim z)
  obtain ⟨r_4, rfl, g_2, e_3, hw⟩ := hv9
  have hw := hw g_2 e_3
  show X ρ K_X2_number 4 [(0, .ref (mr ρ 25)), (1, .int p1)] [.int r_4] h_1 0 0 (phI h post) psN
  refine x_bipush 48 dX2_number_4 (by decide) ?_
  refine x_bipush 57 dX2_number_6 (by decide) ?_
  refine x_callS [.int r_4, .int 48, .int 57] 3 dX2_number_8 (k_X2_isIn G g_2 hw) q1412 q1413 q106 q1414 (by decide) rfl rfl ⟨(Nat.le_of_ble_eq_true rfl), (Nat.le_of_ble_eq_true rfl)⟩ (Nat.le_of_ble_eq_true rfl) ⟨(Nat.le_of_ble_eq_true rfl), (Nat.le_of_ble_eq_true rfl)⟩ (fun v9 h_6 hv9 => ?_) (fun _ _ _ _ _ z _ _ => False.elim z)
  obtain ⟨r_9, rfl, g_7, e_8, b_10, hw⟩ := hv9
  have hw := hw g_7 e_8
  show X ρ K_X2_number 11 [(0, .ref (mr ρ 25)), (1, .int p1)] [.int r_9] h_6 0 0 (phI h post) psN
  obtain ⟨wt_12, wf_13⟩ := hw
  refine x_if_ne 16 dX2_number_11 (by decide) (fun c_11 => ?_) (fun c_11 => ?_)
  · have hw := wt_12 c_11
    refine x_iconst 0 dX2_number_16 (by decide) ?_
    refine x_istore_n (lv' := [(2, .int 0), (0, .ref (mr ρ 25)), (1, .int p1)]) dX2_number_17 (Nat.le_of_ble_eq_true rfl) rfl ?_
    refine x_iconst 0 dX2_number_18 (by decide) ?_
    refine x_istore_n (lv' := [(3, .int 0), (2, .int 0), (0, .ref (mr ρ 25)), (1, .int p1)]) dX2_number_19 (Nat.le_of_ble_eq_true rfl) rfl ?_
    refine X.sub [2, 3, 1, 0] rfl ?_
    obtain ⟨fu, hw⟩ := hw
    exact t_X2_number_20 G  fu p1 0 0 h_6 g_7 (Ext.tr e_3 e_8) hw
  · have hw := wf_13 c_11
    refine x_iconst (-1) dX2_number_14 (by decide) ?_
    exact x_iret dX2_number_15 rfl (Nat.le_of_ble_eq_true rfl) (Nat.le_of_ble_eq_true rfl) ⟨_, rfl, g_7, (Ext.tr e_3 e_8), hw⟩

/-! BeforeTheEndModel.takes(I)Z -/
def wp_X2_takes (post : Int32 → Hp → Prop) (h : Hp) (p1 : Int32) : Prop := (wp_X2_sign (fun r_4 h_1 => GI h_1 → Ext h h_1 → ((r_4 = p1 → (post 1 (si h_1 25 22 ((gi h_1 25 22) + 1)))) ∧ (¬ r_4 = p1 → (post 0 h_1)))) h)
abbrev rm_X2_takes : Room := ({ frames := 2, cells := 0, slots := 0, locals := 80 })
abbrev K_X2_takes : Kx := ("BeforeTheEndModel", cX2_takes, 2, (Option.some Jvm.ClassFile.FieldType.boolean), rm_X2_takes, [], false)
set_option maxHeartbeats 4000000 in
theorem k_X2_takes {ρ : Rho} {h : Hp} {post : Int32 → Hp → Prop} {p1 : Int32} (G : G0 ρ) (g : GI h) (hw : wp_X2_takes post h p1) : Con ρ yX2_takes (ws_ yX2_takes cX2_takes 2 (Option.some Jvm.ClassFile.FieldType.boolean)) rm_X2_takes [.ref (mr ρ 25), .int p1] h (phB h post) psN := by
  refine con_of (own := "BeforeTheEndModel") (isI := false) (l0 := [(0, .ref (mr ρ 25)), (1, .int p1)]) (by decide) rfl (fun z => by cases z) (Nat.le_of_ble_eq_true rfl) rfl (fun _ => ?_)
  show X ρ K_X2_takes 0 [(0, .ref (mr ρ 25)), (1, .int p1)] [] h 0 0 (phB h post) psN
  refine x_aload_n 0 dX2_takes_0 rfl ?_
  refine x_callV (ci := 2) [] 0 dX2_takes_1 (k_X2_sign G g hw) (GI.s g (t := (12, 0)) rfl (by decide)) rfl q1400 q1402 qs61 q106 q1403 (by decide) rfl rfl ⟨(Nat.le_of_ble_eq_true rfl), (Nat.le_of_ble_eq_true rfl)⟩ (Nat.le_of_ble_eq_true rfl) ⟨(Nat.le_of_ble_eq_true rfl), (Nat.le_of_ble_eq_true rfl)⟩ (fun v9 h_1 hv9 => ?_) (fun _ _ _ _ _ z _ _ => False.elim z)
  obtain ⟨r_4, rfl, g_2, e_3, hw⟩ := hv9
  have hw := hw g_2 e_3
  show X ρ K_X2_takes 4 [(0, .ref (mr ρ 25)), (1, .int p1)] [.int r_4] h_1 0 0 (phB h post) psN
  refine x_iload_n 1 dX2_takes_4 rfl ?_
  obtain ⟨wt_7, wf_8⟩ := hw
  refine x_icmp_eq 10 dX2_takes_5 (by decide) (fun c_6 => ?_) (fun c_6 => ?_)
  · have hw := wt_7 c_6
    refine x_aload_n 0 dX2_takes_10 rfl ?_
    refine x_dup dX2_takes_11 rfl ?_
    refine x_get (ci := 2) (v := .int (gi h_1 25 22)) 22 dX2_takes_12 (GI.s g_2 (t := (12, 0)) rfl (by decide)) rfl in_X2 (by decide) q1245 (Or.inl rfl) (fv_i rfl) ?_
    refine x_iconst 1 dX2_takes_15 (by decide) ?_
    refine x_iadd dX2_takes_16 ?_
    refine x_put (ci := 2) 22 dX2_takes_17 (GI.s g_2 (t := (12, 0)) rfl (by decide)) rfl in_X2 tyX2 tyX2_ok nmX2 (by decide) q1245 (Or.inl rfl) rfl rfl rfl (isPut_i rfl) ?_
    refine x_iconst 1 dX2_takes_20 (by decide) ?_
    exact x_zret dX2_takes_21 rfl (isB.n isB_1) (Nat.le_of_ble_eq_true rfl) (Nat.le_of_ble_eq_true rfl) ⟨_, rfl, (GI.i g_2), (Ext.i e_3), isB_1, hw⟩
  · have hw := wf_8 c_6
    refine x_iconst 0 dX2_takes_8 (by decide) ?_
    exact x_zret dX2_takes_9 rfl (isB.n isB_0) (Nat.le_of_ble_eq_true rfl) (Nat.le_of_ble_eq_true rfl) ⟨_, rfl, g_2, e_3, isB_0, hw⟩

/-! BeforeTheEndModel.readsWord(I)Z -/
def wp_X2_readsWord (post : Int32 → Hp → Prop) (h : Hp) (p1 : Int32) : Prop := (wp_X2_number (fun r_4 h_1 => GI h_1 → Ext h h_1 → (vp_in p1 32 ∧ (vp_in p1 32 ∧ (((gi (si h_1 39 (Int32.toNatClampNeg p1) r_4) 39 (Int32.toNatClampNeg p1)) < 0 → (post 0 (si h_1 39 (Int32.toNatClampNeg p1) r_4))) ∧ (¬ (gi (si h_1 39 (Int32.toNatClampNeg p1) r_4) 39 (Int32.toNatClampNeg p1)) < 0 → (wp_X2_takes (fun r_12 h_9 => GI h_9 → Ext (si h_1 39 (Int32.toNatClampNeg p1) r_4) h_9 → ((¬ r_12 = 0 → (wp_X2_number (fun r_18 h_15 => GI h_15 → Ext h_9 h_15 → (vp_in p1 32 ∧ (vp_in p1 32 ∧ (((gi (si h_15 40 (Int32.toNatClampNeg p1) r_18) 40 (Int32.toNatClampNeg p1)) < 0 → (post 0 (si h_15 40 (Int32.toNatClampNeg p1) r_18))) ∧ (¬ (gi (si h_15 40 (Int32.toNatClampNeg p1) r_18) 40 (Int32.toNatClampNeg p1)) < 0 → (wp_X2_takes (fun r_26 h_23 => GI h_23 → Ext (si h_15 40 (Int32.toNatClampNeg p1) r_18) h_23 → ((¬ r_26 = 0 → (wp_X2_number (fun r_32 h_29 => GI h_29 → Ext h_23 h_29 → (vp_in p1 32 ∧ (vp_in p1 32 ∧ (((gi (si h_29 41 (Int32.toNatClampNeg p1) r_32) 41 (Int32.toNatClampNeg p1)) < 0 → (post 0 (si h_29 41 (Int32.toNatClampNeg p1) r_32))) ∧ (¬ (gi (si h_29 41 (Int32.toNatClampNeg p1) r_32) 41 (Int32.toNatClampNeg p1)) < 0 → (wp_X2_takes (fun r_40 h_37 => GI h_37 → Ext (si h_29 41 (Int32.toNatClampNeg p1) r_32) h_37 → (∀ z_43 : Int32, z_43 = ((if r_40 = 0 then 0 else 1) : Int32) → (post z_43 h_37))) (si h_29 41 (Int32.toNatClampNeg p1) r_32) 59)))))) h_23 1)) ∧ (r_26 = 0 → (post 0 h_23)))) (si h_15 40 (Int32.toNatClampNeg p1) r_18) 44)))))) h_9 1)) ∧ (r_12 = 0 → (post 0 h_9)))) (si h_1 39 (Int32.toNatClampNeg p1) r_4) 44)))))) h 2)
abbrev rm_X2_readsWord : Room := ({ frames := 3, cells := 0, slots := 0, locals := 105 })
abbrev K_X2_readsWord : Kx := ("BeforeTheEndModel", cX2_readsWord, 2, (Option.some Jvm.ClassFile.FieldType.boolean), rm_X2_readsWord, [], false)
set_option maxHeartbeats 4000000 in
theorem k_X2_readsWord {ρ : Rho} {h : Hp} {post : Int32 → Hp → Prop} {p1 : Int32} (G : G0 ρ) (g : GI h) (hw : wp_X2_readsWord post h p1) : Con ρ yX2_readsWord (ws_ yX2_readsWord cX2_readsWord 2 (Option.some Jvm.ClassFile.FieldType.boolean)) rm_X2_readsWord [.ref (mr ρ 25), .int p1] h (phB h post) psN := by
  refine con_of (own := "BeforeTheEndModel") (isI := false) (l0 := [(0, .ref (mr ρ 25)), (1, .int p1)]) (by decide) rfl (fun z => by cases z) (Nat.le_of_ble_eq_true rfl) rfl (fun _ => ?_)
  show X ρ K_X2_readsWord 0 [(0, .ref (mr ρ 25)), (1, .int p1)] [] h 0 0 (phB h post) psN
  refine x_aload_n 0 dX2_readsWord_0 rfl ?_
  refine x_get (ci := 2) (v := .ref (mr ρ 39)) 15 dX2_readsWord_1 (GI.s g (t := (12, 0)) rfl (by decide)) rfl in_X2 (by decide) q1238 (Or.inl rfl) (fv_rc rfl (GI.m g (n := 39) rfl (by decide)) (by decide)) ?_
  refine x_iload_n 1 dX2_readsWord_4 rfl ?_
  refine x_aload_n 0 dX2_readsWord_5 rfl ?_
  refine x_iconst 2 dX2_readsWord_6 (by decide) ?_
  refine x_callV (ci := 2) [.int 2] 1 dX2_readsWord_7 (k_X2_number G g hw) (GI.s g (t := (12, 0)) rfl (by decide)) rfl q1408 q1410 qs63 q106 q1411 (by decide) rfl rfl ⟨(Nat.le_of_ble_eq_true rfl), (Nat.le_of_ble_eq_true rfl)⟩ (Nat.le_of_ble_eq_true rfl) ⟨(Nat.le_of_ble_eq_true rfl), (Nat.le_of_ble_eq_true rfl)⟩ (fun v9 h_1 hv9 => ?_) (fun _ _ _ _ _ z _ _ => False.elim z)
  obtain ⟨r_4, rfl, g_2, e_3, hw⟩ := hv9
  have hw := hw g_2 e_3
  show X ρ K_X2_readsWord 10 [(0, .ref (mr ρ 25)), (1, .int p1)] [.int r_4, .int p1, .ref (mr ρ 39)] h_1 0 0 (phB h post) psN
  obtain ⟨b_6, hw⟩ := hw
  refine x_iast (n := 32) (j := (Int32.toNatClampNeg p1)) dX2_readsWord_10 rfl (GI.s g_2 (t := (1, 32)) rfl (by decide)) b_6 ?_
  refine x_aload_n 0 dX2_readsWord_11 rfl ?_
  refine x_get (ci := 2) (v := .ref (mr ρ 39)) 15 dX2_readsWord_12 (GI.s (GI.i g_2) (t := (12, 0)) rfl (by decide)) rfl in_X2 (by decide) q1238 (Or.inl rfl) (fv_rc rfl (GI.m (GI.i g_2) (n := 39) rfl (by decide)) (by decide)) ?_
  refine x_iload_n 1 dX2_readsWord_15 rfl ?_
  obtain ⟨b_7, hw⟩ := hw
  refine x_iald (n := 32) (j := (Int32.toNatClampNeg p1)) dX2_readsWord_16 rfl (GI.s (GI.i g_2) (t := (1, 32)) rfl (by decide)) b_7 ?_
  obtain ⟨wt_53, wf_54⟩ := hw
  refine x_if_lt 29 dX2_readsWord_17 (by decide) (fun c_8 => ?_) (fun c_8 => ?_)
  · have hw := wt_53 c_8
    refine x_iconst 0 dX2_readsWord_29 (by decide) ?_
    exact x_zret dX2_readsWord_30 rfl (isB.n isB_0) (Nat.le_of_ble_eq_true rfl) (Nat.le_of_ble_eq_true rfl) ⟨_, rfl, (GI.i g_2), (Ext.i e_3), isB_0, hw⟩
  · have hw := wf_54 c_8
    refine x_aload_n 0 dX2_readsWord_20 rfl ?_
    refine x_bipush 44 dX2_readsWord_21 (by decide) ?_
    refine x_callV (ci := 2) [.int 44] 1 dX2_readsWord_23 (k_X2_takes G (GI.i g_2) hw) (GI.s (GI.i g_2) (t := (12, 0)) rfl (by decide)) rfl q1415 q1417 qs64 q106 q1418 (by decide) rfl rfl ⟨(Nat.le_of_ble_eq_true rfl), (Nat.le_of_ble_eq_true rfl)⟩ (Nat.le_of_ble_eq_true rfl) ⟨(Nat.le_of_ble_eq_true rfl), (Nat.le_of_ble_eq_true rfl)⟩ (fun v9 h_9 hv9 => ?_) (fun _ _ _ _ _ z _ _ => False.elim z)
    obtain ⟨r_12, rfl, g_10, e_11, b_13, hw⟩ := hv9
    have hw := hw g_10 e_11
    show X ρ K_X2_readsWord 26 [(0, .ref (mr ρ 25)), (1, .int p1)] [.int r_12] h_9 0 0 (phB h post) psN
    obtain ⟨wt_51, wf_52⟩ := hw
    refine x_if_ne 31 dX2_readsWord_26 (by decide) (fun c_14 => ?_) (fun c_14 => ?_)
    · have hw := wt_51 c_14
      refine x_aload_n 0 dX2_readsWord_31 rfl ?_
      refine x_get (ci := 2) (v := .ref (mr ρ 40)) 16 dX2_readsWord_32 (GI.s g_10 (t := (12, 0)) rfl (by decide)) rfl in_X2 (by decide) q1239 (Or.inl rfl) (fv_rc rfl (GI.m g_10 (n := 40) rfl (by decide)) (by decide)) ?_
      refine x_iload_n 1 dX2_readsWord_35 rfl ?_
      refine x_aload_n 0 dX2_readsWord_36 rfl ?_
      refine x_iconst 1 dX2_readsWord_37 (by decide) ?_
      refine x_callV (ci := 2) [.int 1] 1 dX2_readsWord_38 (k_X2_number G g_10 hw) (GI.s g_10 (t := (12, 0)) rfl (by decide)) rfl q1408 q1410 qs63 q106 q1411 (by decide) rfl rfl ⟨(Nat.le_of_ble_eq_true rfl), (Nat.le_of_ble_eq_true rfl)⟩ (Nat.le_of_ble_eq_true rfl) ⟨(Nat.le_of_ble_eq_true rfl), (Nat.le_of_ble_eq_true rfl)⟩ (fun v9 h_15 hv9 => ?_) (fun _ _ _ _ _ z _ _ => False.elim z)
      obtain ⟨r_18, rfl, g_16, e_17, hw⟩ := hv9
      have hw := hw g_16 e_17
      show X ρ K_X2_readsWord 41 [(0, .ref (mr ρ 25)), (1, .int p1)] [.int r_18, .int p1, .ref (mr ρ 40)] h_15 0 0 (phB h post) psN
      obtain ⟨b_20, hw⟩ := hw
      refine x_iast (n := 32) (j := (Int32.toNatClampNeg p1)) dX2_readsWord_41 rfl (GI.s g_16 (t := (1, 32)) rfl (by decide)) b_20 ?_
      refine x_aload_n 0 dX2_readsWord_42 rfl ?_
      refine x_get (ci := 2) (v := .ref (mr ρ 40)) 16 dX2_readsWord_43 (GI.s (GI.i g_16) (t := (12, 0)) rfl (by decide)) rfl in_X2 (by decide) q1239 (Or.inl rfl) (fv_rc rfl (GI.m (GI.i g_16) (n := 40) rfl (by decide)) (by decide)) ?_
      refine x_iload_n 1 dX2_readsWord_46 rfl ?_
      obtain ⟨b_21, hw⟩ := hw
      refine x_iald (n := 32) (j := (Int32.toNatClampNeg p1)) dX2_readsWord_47 rfl (GI.s (GI.i g_16) (t := (1, 32)) rfl (by decide)) b_21 ?_
      obtain ⟨wt_49, wf_50⟩ := hw
      refine x_if_lt 60 dX2_readsWord_48 (by decide) (fun c_22 => ?_) (fun c_22 => ?_)
      · have hw := wt_49 c_22
        refine x_iconst 0 dX2_readsWord_60 (by decide) ?_
        exact x_zret dX2_readsWord_61 rfl (isB.n isB_0) (Nat.le_of_ble_eq_true rfl) (Nat.le_of_ble_eq_true rfl) ⟨_, rfl, (GI.i g_16), (Ext.i (Ext.tr (Ext.tr (Ext.i e_3) e_11) e_17)), isB_0, hw⟩
      · have hw := wf_50 c_22
        refine x_aload_n 0 dX2_readsWord_51 rfl ?_
        refine x_bipush 44 dX2_readsWord_52 (by decide) ?_
        refine x_callV (ci := 2) [.int 44] 1 dX2_readsWord_54 (k_X2_takes G (GI.i g_16) hw) (GI.s (GI.i g_16) (t := (12, 0)) rfl (by decide)) rfl q1415 q1417 qs64 q106 q1418 (by decide) rfl rfl ⟨(Nat.le_of_ble_eq_true rfl), (Nat.le_of_ble_eq_true rfl)⟩ (Nat.le_of_ble_eq_true rfl) ⟨(Nat.le_of_ble_eq_true rfl), (Nat.le_of_ble_eq_true rfl)⟩ (fun v9 h_23 hv9 => ?_) (fun _ _ _ _ _ z _ _ => False.elim z)
        obtain ⟨r_26, rfl, g_24, e_25, b_27, hw⟩ := hv9
        have hw := hw g_24 e_25
        show X ρ K_X2_readsWord 57 [(0, .ref (mr ρ 25)), (1, .int p1)] [.int r_26] h_23 0 0 (phB h post) psN
        obtain ⟨wt_47, wf_48⟩ := hw
        refine x_if_ne 62 dX2_readsWord_57 (by decide) (fun c_28 => ?_) (fun c_28 => ?_)
        · have hw := wt_47 c_28
          refine x_aload_n 0 dX2_readsWord_62 rfl ?_
          refine x_get (ci := 2) (v := .ref (mr ρ 41)) 17 dX2_readsWord_63 (GI.s g_24 (t := (12, 0)) rfl (by decide)) rfl in_X2 (by decide) q1240 (Or.inl rfl) (fv_rc rfl (GI.m g_24 (n := 41) rfl (by decide)) (by decide)) ?_
          refine x_iload_n 1 dX2_readsWord_66 rfl ?_
          refine x_aload_n 0 dX2_readsWord_67 rfl ?_
          refine x_iconst 1 dX2_readsWord_68 (by decide) ?_
          refine x_callV (ci := 2) [.int 1] 1 dX2_readsWord_69 (k_X2_number G g_24 hw) (GI.s g_24 (t := (12, 0)) rfl (by decide)) rfl q1408 q1410 qs63 q106 q1411 (by decide) rfl rfl ⟨(Nat.le_of_ble_eq_true rfl), (Nat.le_of_ble_eq_true rfl)⟩ (Nat.le_of_ble_eq_true rfl) ⟨(Nat.le_of_ble_eq_true rfl), (Nat.le_of_ble_eq_true rfl)⟩ (fun v9 h_29 hv9 => ?_) (fun _ _ _ _ _ z _ _ => False.elim z)
          obtain ⟨r_32, rfl, g_30, e_31, hw⟩ := hv9
          have hw := hw g_30 e_31
          show X ρ K_X2_readsWord 72 [(0, .ref (mr ρ 25)), (1, .int p1)] [.int r_32, .int p1, .ref (mr ρ 41)] h_29 0 0 (phB h post) psN
          obtain ⟨b_34, hw⟩ := hw
          refine x_iast (n := 32) (j := (Int32.toNatClampNeg p1)) dX2_readsWord_72 rfl (GI.s g_30 (t := (1, 32)) rfl (by decide)) b_34 ?_
          refine x_aload_n 0 dX2_readsWord_73 rfl ?_
          refine x_get (ci := 2) (v := .ref (mr ρ 41)) 17 dX2_readsWord_74 (GI.s (GI.i g_30) (t := (12, 0)) rfl (by decide)) rfl in_X2 (by decide) q1240 (Or.inl rfl) (fv_rc rfl (GI.m (GI.i g_30) (n := 41) rfl (by decide)) (by decide)) ?_
          refine x_iload_n 1 dX2_readsWord_77 rfl ?_
          obtain ⟨b_35, hw⟩ := hw
          refine x_iald (n := 32) (j := (Int32.toNatClampNeg p1)) dX2_readsWord_78 rfl (GI.s (GI.i g_30) (t := (1, 32)) rfl (by decide)) b_35 ?_
          obtain ⟨wt_45, wf_46⟩ := hw
          refine x_if_lt 95 dX2_readsWord_79 (by decide) (fun c_36 => ?_) (fun c_36 => ?_)
          · have hw := wt_45 c_36
            refine x_iconst 0 dX2_readsWord_95 (by decide) ?_
            exact x_zret dX2_readsWord_96 rfl (isB.n isB_0) (Nat.le_of_ble_eq_true rfl) (Nat.le_of_ble_eq_true rfl) ⟨_, rfl, (GI.i g_30), (Ext.i (Ext.tr (Ext.tr (Ext.i (Ext.tr (Ext.tr (Ext.i e_3) e_11) e_17)) e_25) e_31)), isB_0, hw⟩
          · have hw := wf_46 c_36
            refine x_aload_n 0 dX2_readsWord_82 rfl ?_
            refine x_bipush 59 dX2_readsWord_83 (by decide) ?_
            refine x_callV (ci := 2) [.int 59] 1 dX2_readsWord_85 (k_X2_takes G (GI.i g_30) hw) (GI.s (GI.i g_30) (t := (12, 0)) rfl (by decide)) rfl q1415 q1417 qs64 q106 q1418 (by decide) rfl rfl ⟨(Nat.le_of_ble_eq_true rfl), (Nat.le_of_ble_eq_true rfl)⟩ (Nat.le_of_ble_eq_true rfl) ⟨(Nat.le_of_ble_eq_true rfl), (Nat.le_of_ble_eq_true rfl)⟩ (fun v9 h_37 hv9 => ?_) (fun _ _ _ _ _ z _ _ => False.elim z)
            obtain ⟨r_40, rfl, g_38, e_39, b_41, hw⟩ := hv9
            have hw := hw g_38 e_39
            show X ρ K_X2_readsWord 88 [(0, .ref (mr ρ 25)), (1, .int p1)] [.int r_40] h_37 0 0 (phB h post) psN
            have kJ_44 : ∀ z_43 : Int32, z_43 = ((if r_40 = 0 then 0 else 1) : Int32) → X ρ K_X2_readsWord 96 [(0, .ref (mr ρ 25)), (1, .int p1)] [.int z_43] h_37 0 0 (phB h post) psN := fun z_43 ez_43 => by
              have hw := hw z_43 ez_43
              exact x_zret dX2_readsWord_96 rfl (isB.n (Eq.mpr (congrArg isB ez_43) (isB_ite isB_0 isB_1))) (Nat.le_of_ble_eq_true rfl) (Nat.le_of_ble_eq_true rfl) ⟨_, rfl, g_38, (Ext.tr (Ext.i (Ext.tr (Ext.tr (Ext.i (Ext.tr (Ext.tr (Ext.i e_3) e_11) e_17)) e_25) e_31)) e_39), (Eq.mpr (congrArg isB ez_43) (isB_ite isB_0 isB_1)), hw⟩
            refine x_if_eq 95 dX2_readsWord_88 (by decide) (fun c_42 => ?_) (fun c_42 => ?_)
            · refine x_iconst 0 dX2_readsWord_95 (by decide) ?_
              exact kJ_44 _ ((if_pos c_42)).symm
            · refine x_iconst 1 dX2_readsWord_91 (by decide) ?_
              refine x_goto 96 dX2_readsWord_92 (by decide) ?_
              exact kJ_44 _ ((if_neg c_42)).symm
        · have hw := wf_48 c_28
          refine x_iconst 0 dX2_readsWord_60 (by decide) ?_
          exact x_zret dX2_readsWord_61 rfl (isB.n isB_0) (Nat.le_of_ble_eq_true rfl) (Nat.le_of_ble_eq_true rfl) ⟨_, rfl, g_24, (Ext.tr (Ext.i (Ext.tr (Ext.tr (Ext.i e_3) e_11) e_17)) e_25), isB_0, hw⟩
    · have hw := wf_52 c_14
      refine x_iconst 0 dX2_readsWord_29 (by decide) ?_
      exact x_zret dX2_readsWord_30 rfl (isB.n isB_0) (Nat.le_of_ble_eq_true rfl) (Nat.le_of_ble_eq_true rfl) ⟨_, rfl, g_10, (Ext.tr (Ext.i e_3) e_11), isB_0, hw⟩

/-! BeforeTheEndModel.kindOf(I)I -/
def wp_X2_kindOf (post : Int32 → Hp → Prop) (h : Hp) (p1 : Int32) : Prop := (((p1.toInt < 97 ∨ 116 < p1.toInt) → (post (-1) h)) ∧ (p1 = 97 → (post 5 h)) ∧ (p1 = 98 → (post 2 h)) ∧ (p1 = 99 → (post (-1) h)) ∧ (p1 = 100 → (post (-1) h)) ∧ (p1 = 101 → (post 0 h)) ∧ (p1 = 102 → (post (-1) h)) ∧ (p1 = 103 → (post (-1) h)) ∧ (p1 = 104 → (post (-1) h)) ∧ (p1 = 105 → (post (-1) h)) ∧ (p1 = 106 → (post (-1) h)) ∧ (p1 = 107 → (post (-1) h)) ∧ (p1 = 108 → (post 3 h)) ∧ (p1 = 109 → (post (-1) h)) ∧ (p1 = 110 → (post (-1) h)) ∧ (p1 = 111 → (post (-1) h)) ∧ (p1 = 112 → (post (-1) h)) ∧ (p1 = 113 → (post (-1) h)) ∧ (p1 = 114 → (post (-1) h)) ∧ (p1 = 115 → (post 1 h)) ∧ (p1 = 116 → (post 4 h)))
abbrev rm_X2_kindOf : Room := ({ frames := 1, cells := 0, slots := 0, locals := 60 })
abbrev K_X2_kindOf : Kx := ("BeforeTheEndModel", cX2_kindOf, 1, (Option.some Jvm.ClassFile.FieldType.int), rm_X2_kindOf, [], false)
set_option maxHeartbeats 4000000 in
theorem k_X2_kindOf {ρ : Rho} {h : Hp} {post : Int32 → Hp → Prop} {p1 : Int32} (G : G0 ρ) (g : GI h) (hw : wp_X2_kindOf post h p1) : Con ρ yX2_kindOf (ws_ yX2_kindOf cX2_kindOf 1 (Option.some Jvm.ClassFile.FieldType.int)) rm_X2_kindOf [.int p1] h (phI h post) psN := by
  refine con_of (own := "BeforeTheEndModel") (isI := false) (l0 := [(0, .int p1)]) (by decide) rfl (fun z => by cases z) (Nat.le_of_ble_eq_true rfl) rfl (fun _ => ?_)
  show X ρ K_X2_kindOf 0 [(0, .int p1)] [] h 0 0 (phI h post) psN
  refine x_iload_n 0 dX2_kindOf_0 rfl ?_
  obtain ⟨wd_1, ws_2, ws_3, ws_4, ws_5, ws_6, ws_7, ws_8, ws_9, ws_10, ws_11, ws_12, ws_13, ws_14, ws_15, ws_16, ws_17, ws_18, ws_19, ws_20, ws_21⟩ := hw
  rcases tab_or p1 97 20 (by decide) with c_24 | ⟨i_23, c_24i, c_24⟩
  · have c_24o : p1.toInt < 97 ∨ 116 < p1.toInt := by omega
    have hw := wd_1 c_24o
    refine x_tableOut 108 dX2_kindOf_1 c_24o (by decide) ?_
    refine x_iconst (-1) dX2_kindOf_108 (by decide) ?_
    exact x_iret dX2_kindOf_109 rfl (Nat.le_of_ble_eq_true rfl) (Nat.le_of_ble_eq_true rfl) ⟨_, rfl, g, Ext.rf, hw⟩
  · match i_23, c_24i, c_24 with
    | 0, _, c_24 =>
      have c_24 : p1 = 97 := c_24
      have hw := ws_2 c_24
      refine x_tableIn (off := 105) 106 dX2_kindOf_1 (by rw [c_24]; decide) (by rw [c_24]; decide) (by rw [c_24]; rfl) (by decide) ?_
      refine x_iconst 5 dX2_kindOf_106 (by decide) ?_
      exact x_iret dX2_kindOf_107 rfl (Nat.le_of_ble_eq_true rfl) (Nat.le_of_ble_eq_true rfl) ⟨_, rfl, g, Ext.rf, hw⟩
    | 1, _, c_24 =>
      have c_24 : p1 = 98 := c_24
      have hw := ws_3 c_24
      refine x_tableIn (off := 99) 100 dX2_kindOf_1 (by rw [c_24]; decide) (by rw [c_24]; decide) (by rw [c_24]; rfl) (by decide) ?_
      refine x_iconst 2 dX2_kindOf_100 (by decide) ?_
      exact x_iret dX2_kindOf_101 rfl (Nat.le_of_ble_eq_true rfl) (Nat.le_of_ble_eq_true rfl) ⟨_, rfl, g, Ext.rf, hw⟩
    | 2, _, c_24 =>
      have c_24 : p1 = 99 := c_24
      have hw := ws_4 c_24
      refine x_tableIn (off := 107) 108 dX2_kindOf_1 (by rw [c_24]; decide) (by rw [c_24]; decide) (by rw [c_24]; rfl) (by decide) ?_
      refine x_iconst (-1) dX2_kindOf_108 (by decide) ?_
      exact x_iret dX2_kindOf_109 rfl (Nat.le_of_ble_eq_true rfl) (Nat.le_of_ble_eq_true rfl) ⟨_, rfl, g, Ext.rf, hw⟩
    | 3, _, c_24 =>
      have c_24 : p1 = 100 := c_24
      have hw := ws_5 c_24
      refine x_tableIn (off := 107) 108 dX2_kindOf_1 (by rw [c_24]; decide) (by rw [c_24]; decide) (by rw [c_24]; rfl) (by decide) ?_
      refine x_iconst (-1) dX2_kindOf_108 (by decide) ?_
      exact x_iret dX2_kindOf_109 rfl (Nat.le_of_ble_eq_true rfl) (Nat.le_of_ble_eq_true rfl) ⟨_, rfl, g, Ext.rf, hw⟩
    | 4, _, c_24 =>
      have c_24 : p1 = 101 := c_24
      have hw := ws_6 c_24
      refine x_tableIn (off := 95) 96 dX2_kindOf_1 (by rw [c_24]; decide) (by rw [c_24]; decide) (by rw [c_24]; rfl) (by decide) ?_
      refine x_iconst 0 dX2_kindOf_96 (by decide) ?_
      exact x_iret dX2_kindOf_97 rfl (Nat.le_of_ble_eq_true rfl) (Nat.le_of_ble_eq_true rfl) ⟨_, rfl, g, Ext.rf, hw⟩
    | 5, _, c_24 =>
      have c_24 : p1 = 102 := c_24
      have hw := ws_7 c_24
      refine x_tableIn (off := 107) 108 dX2_kindOf_1 (by rw [c_24]; decide) (by rw [c_24]; decide) (by rw [c_24]; rfl) (by decide) ?_
      refine x_iconst (-1) dX2_kindOf_108 (by decide) ?_
      exact x_iret dX2_kindOf_109 rfl (Nat.le_of_ble_eq_true rfl) (Nat.le_of_ble_eq_true rfl) ⟨_, rfl, g, Ext.rf, hw⟩
    | 6, _, c_24 =>
      have c_24 : p1 = 103 := c_24
      have hw := ws_8 c_24
      refine x_tableIn (off := 107) 108 dX2_kindOf_1 (by rw [c_24]; decide) (by rw [c_24]; decide) (by rw [c_24]; rfl) (by decide) ?_
      refine x_iconst (-1) dX2_kindOf_108 (by decide) ?_
      exact x_iret dX2_kindOf_109 rfl (Nat.le_of_ble_eq_true rfl) (Nat.le_of_ble_eq_true rfl) ⟨_, rfl, g, Ext.rf, hw⟩
    | 7, _, c_24 =>
      have c_24 : p1 = 104 := c_24
      have hw := ws_9 c_24
      refine x_tableIn (off := 107) 108 dX2_kindOf_1 (by rw [c_24]; decide) (by rw [c_24]; decide) (by rw [c_24]; rfl) (by decide) ?_
      refine x_iconst (-1) dX2_kindOf_108 (by decide) ?_
      exact x_iret dX2_kindOf_109 rfl (Nat.le_of_ble_eq_true rfl) (Nat.le_of_ble_eq_true rfl) ⟨_, rfl, g, Ext.rf, hw⟩
    | 8, _, c_24 =>
      have c_24 : p1 = 105 := c_24
      have hw := ws_10 c_24
      refine x_tableIn (off := 107) 108 dX2_kindOf_1 (by rw [c_24]; decide) (by rw [c_24]; decide) (by rw [c_24]; rfl) (by decide) ?_
      refine x_iconst (-1) dX2_kindOf_108 (by decide) ?_
      exact x_iret dX2_kindOf_109 rfl (Nat.le_of_ble_eq_true rfl) (Nat.le_of_ble_eq_true rfl) ⟨_, rfl, g, Ext.rf, hw⟩
    | 9, _, c_24 =>
      have c_24 : p1 = 106 := c_24
      have hw := ws_11 c_24
      refine x_tableIn (off := 107) 108 dX2_kindOf_1 (by rw [c_24]; decide) (by rw [c_24]; decide) (by rw [c_24]; rfl) (by decide) ?_
      refine x_iconst (-1) dX2_kindOf_108 (by decide) ?_
      exact x_iret dX2_kindOf_109 rfl (Nat.le_of_ble_eq_true rfl) (Nat.le_of_ble_eq_true rfl) ⟨_, rfl, g, Ext.rf, hw⟩
    | 10, _, c_24 =>
      have c_24 : p1 = 107 := c_24
      have hw := ws_12 c_24
      refine x_tableIn (off := 107) 108 dX2_kindOf_1 (by rw [c_24]; decide) (by rw [c_24]; decide) (by rw [c_24]; rfl) (by decide) ?_
      refine x_iconst (-1) dX2_kindOf_108 (by decide) ?_
      exact x_iret dX2_kindOf_109 rfl (Nat.le_of_ble_eq_true rfl) (Nat.le_of_ble_eq_true rfl) ⟨_, rfl, g, Ext.rf, hw⟩
    | 11, _, c_24 =>
      have c_24 : p1 = 108 := c_24
      have hw := ws_13 c_24
      refine x_tableIn (off := 101) 102 dX2_kindOf_1 (by rw [c_24]; decide) (by rw [c_24]; decide) (by rw [c_24]; rfl) (by decide) ?_
      refine x_iconst 3 dX2_kindOf_102 (by decide) ?_
      exact x_iret dX2_kindOf_103 rfl (Nat.le_of_ble_eq_true rfl) (Nat.le_of_ble_eq_true rfl) ⟨_, rfl, g, Ext.rf, hw⟩
    | 12, _, c_24 =>
      have c_24 : p1 = 109 := c_24
      have hw := ws_14 c_24
      refine x_tableIn (off := 107) 108 dX2_kindOf_1 (by rw [c_24]; decide) (by rw [c_24]; decide) (by rw [c_24]; rfl) (by decide) ?_
      refine x_iconst (-1) dX2_kindOf_108 (by decide) ?_
      exact x_iret dX2_kindOf_109 rfl (Nat.le_of_ble_eq_true rfl) (Nat.le_of_ble_eq_true rfl) ⟨_, rfl, g, Ext.rf, hw⟩
    | 13, _, c_24 =>
      have c_24 : p1 = 110 := c_24
      have hw := ws_15 c_24
      refine x_tableIn (off := 107) 108 dX2_kindOf_1 (by rw [c_24]; decide) (by rw [c_24]; decide) (by rw [c_24]; rfl) (by decide) ?_
      refine x_iconst (-1) dX2_kindOf_108 (by decide) ?_
      exact x_iret dX2_kindOf_109 rfl (Nat.le_of_ble_eq_true rfl) (Nat.le_of_ble_eq_true rfl) ⟨_, rfl, g, Ext.rf, hw⟩
    | 14, _, c_24 =>
      have c_24 : p1 = 111 := c_24
      have hw := ws_16 c_24
      refine x_tableIn (off := 107) 108 dX2_kindOf_1 (by rw [c_24]; decide) (by rw [c_24]; decide) (by rw [c_24]; rfl) (by decide) ?_
      refine x_iconst (-1) dX2_kindOf_108 (by decide) ?_
      exact x_iret dX2_kindOf_109 rfl (Nat.le_of_ble_eq_true rfl) (Nat.le_of_ble_eq_true rfl) ⟨_, rfl, g, Ext.rf, hw⟩
    | 15, _, c_24 =>
      have c_24 : p1 = 112 := c_24
      have hw := ws_17 c_24
      refine x_tableIn (off := 107) 108 dX2_kindOf_1 (by rw [c_24]; decide) (by rw [c_24]; decide) (by rw [c_24]; rfl) (by decide) ?_
      refine x_iconst (-1) dX2_kindOf_108 (by decide) ?_
      exact x_iret dX2_kindOf_109 rfl (Nat.le_of_ble_eq_true rfl) (Nat.le_of_ble_eq_true rfl) ⟨_, rfl, g, Ext.rf, hw⟩
    | 16, _, c_24 =>
      have c_24 : p1 = 113 := c_24
      have hw := ws_18 c_24
      refine x_tableIn (off := 107) 108 dX2_kindOf_1 (by rw [c_24]; decide) (by rw [c_24]; decide) (by rw [c_24]; rfl) (by decide) ?_
      refine x_iconst (-1) dX2_kindOf_108 (by decide) ?_
      exact x_iret dX2_kindOf_109 rfl (Nat.le_of_ble_eq_true rfl) (Nat.le_of_ble_eq_true rfl) ⟨_, rfl, g, Ext.rf, hw⟩
    | 17, _, c_24 =>
      have c_24 : p1 = 114 := c_24
      have hw := ws_19 c_24
      refine x_tableIn (off := 107) 108 dX2_kindOf_1 (by rw [c_24]; decide) (by rw [c_24]; decide) (by rw [c_24]; rfl) (by decide) ?_
      refine x_iconst (-1) dX2_kindOf_108 (by decide) ?_
      exact x_iret dX2_kindOf_109 rfl (Nat.le_of_ble_eq_true rfl) (Nat.le_of_ble_eq_true rfl) ⟨_, rfl, g, Ext.rf, hw⟩
    | 18, _, c_24 =>
      have c_24 : p1 = 115 := c_24
      have hw := ws_20 c_24
      refine x_tableIn (off := 97) 98 dX2_kindOf_1 (by rw [c_24]; decide) (by rw [c_24]; decide) (by rw [c_24]; rfl) (by decide) ?_
      refine x_iconst 1 dX2_kindOf_98 (by decide) ?_
      exact x_iret dX2_kindOf_99 rfl (Nat.le_of_ble_eq_true rfl) (Nat.le_of_ble_eq_true rfl) ⟨_, rfl, g, Ext.rf, hw⟩
    | 19, _, c_24 =>
      have c_24 : p1 = 116 := c_24
      have hw := ws_21 c_24
      refine x_tableIn (off := 103) 104 dX2_kindOf_1 (by rw [c_24]; decide) (by rw [c_24]; decide) (by rw [c_24]; rfl) (by decide) ?_
      refine x_iconst 4 dX2_kindOf_104 (by decide) ?_
      exact x_iret dX2_kindOf_105 rfl (Nat.le_of_ble_eq_true rfl) (Nat.le_of_ble_eq_true rfl) ⟨_, rfl, g, Ext.rf, hw⟩
    | i9 + 20, h9, _ => exact absurd h9 (by omega)

/-! BeforeTheEndModel.readsKnown(I)Z -/
def w_X2_readsKnown_82 (post : Int32 → Hp → Prop) (x2 : Int32) (h : Hp) : Prop := ((x2 ≤ 0 → (post 0 h)) ∧ (¬ x2 ≤ 0 → (wp_X2_takes (fun r_5 h_2 => GI h_2 → Ext h h_2 → (∀ z_8 : Int32, z_8 = ((if r_5 = 0 then 0 else 1) : Int32) → (post z_8 h_2))) h 59)))
def w_X2_readsKnown_9 (post : Int32 → Hp → Prop) : Nat → Int32 → Int32 → Hp → Prop
  | 0 => fun _ _ _ => False
  | n + 1 => fun x1 x2 h => ((9 ≤ x2 → (w_X2_readsKnown_82 post x2 h)) ∧ (¬ 9 ≤ x2 → (wp_X2_sign (fun r_5 h_2 => GI h_2 → Ext h h_2 → (wp_X2_isIn (fun r_10 h_7 => GI h_7 → Ext h_2 h_7 → ((r_10 = 0 → (w_X2_readsKnown_82 post x2 h_7)) ∧ (¬ r_10 = 0 → (wp_X2_sign (fun r_16 h_13 => GI h_13 → Ext h_7 h_13 → (vp_in x1 32 ∧ (vp_in x1 32 ∧ (∀ z_21 : Int32, z_21 = ((if ((gi h_13 42 (Int32.toNatClampNeg x1)) &&& (1 <<< ((r_16 - 48) &&& 31))) = 0 then (1 <<< ((r_16 - 48) &&& 31)) else 1024) : Int32) → (vp_in x1 32 ∧ (∀ h_23 : Hp, h_23 = (si (si h_13 42 (Int32.toNatClampNeg x1) ((gi h_13 42 (Int32.toNatClampNeg x1)) ||| z_21)) 25 22 ((gi (si h_13 42 (Int32.toNatClampNeg x1) ((gi h_13 42 (Int32.toNatClampNeg x1)) ||| z_21)) 25 22) + 1)) → (w_X2_readsKnown_9 post n x1 (x2 + 1) h_23))))))) h_7)))) h_2 r_5 49 57)) h)))
def wp_X2_readsKnown (post : Int32 → Hp → Prop) (h : Hp) (p1 : Int32) : Prop := (vp_in p1 32 ∧ (∃ fu : Nat, w_X2_readsKnown_9 post fu p1 0 (si h 42 (Int32.toNatClampNeg p1) 0)))
abbrev rm_X2_readsKnown : Room := ({ frames := 3, cells := 0, slots := 0, locals := 101 })
abbrev K_X2_readsKnown : Kx := ("BeforeTheEndModel", cX2_readsKnown, 4, (Option.some Jvm.ClassFile.FieldType.boolean), rm_X2_readsKnown, [], false)
set_option maxHeartbeats 4000000 in
theorem t_X2_readsKnown_82 {ρ : Rho} {h0 : Hp} {post : Int32 → Hp → Prop} (G : G0 ρ) :
    ∀ (x2 : Int32) (h : Hp), GI h → Ext h0 h → w_X2_readsKnown_82 post x2 h → X ρ K_X2_readsKnown 82 [(0, .ref (mr ρ 25)), (2, .int x2)] [] h 0 0 (phB h0 post) psN := by
  intro x2 h g e hw
  refine x_iload_n 1 dX2_readsKnown_82 rfl ?_
  obtain ⟨wt_10, wf_11⟩ := hw
  refine x_if_le 99 dX2_readsKnown_83 (by decide) (fun c_1 => ?_) (fun c_1 => ?_)
  · have hw := wt_10 c_1
    refine x_iconst 0 dX2_readsKnown_99 (by decide) ?_
    exact x_zret dX2_readsKnown_100 rfl (isB.n isB_0) (Nat.le_of_ble_eq_true rfl) (Nat.le_of_ble_eq_true rfl) ⟨_, rfl, g, e, isB_0, hw⟩
  · have hw := wf_11 c_1
    refine x_aload_n 0 dX2_readsKnown_86 rfl ?_
    refine x_bipush 59 dX2_readsKnown_87 (by decide) ?_
    refine x_callV (ci := 2) [.int 59] 1 dX2_readsKnown_89 (k_X2_takes G g hw) (GI.s g (t := (12, 0)) rfl (by decide)) rfl q1415 q1417 qs64 q106 q1418 (by decide) rfl rfl ⟨(Nat.le_of_ble_eq_true rfl), (Nat.le_of_ble_eq_true rfl)⟩ (Nat.le_of_ble_eq_true rfl) ⟨(Nat.le_of_ble_eq_true rfl), (Nat.le_of_ble_eq_true rfl)⟩ (fun v9 h_2 hv9 => ?_) (fun _ _ _ _ _ z _ _ => False.elim z)
    obtain ⟨r_5, rfl, g_3, e_4, b_6, hw⟩ := hv9
    have hw := hw g_3 e_4
    show X ρ K_X2_readsKnown 92 [(0, .ref (mr ρ 25)), (2, .int x2)] [.int r_5] h_2 0 0 (phB h0 post) psN
    have kJ_9 : ∀ z_8 : Int32, z_8 = ((if r_5 = 0 then 0 else 1) : Int32) → X ρ K_X2_readsKnown 100 [(0, .ref (mr ρ 25)), (2, .int x2)] [.int z_8] h_2 0 0 (phB h0 post) psN := fun z_8 ez_8 => by
      have hw := hw z_8 ez_8
      exact x_zret dX2_readsKnown_100 rfl (isB.n (Eq.mpr (congrArg isB ez_8) (isB_ite isB_0 isB_1))) (Nat.le_of_ble_eq_true rfl) (Nat.le_of_ble_eq_true rfl) ⟨_, rfl, g_3, (Ext.tr e e_4), (Eq.mpr (congrArg isB ez_8) (isB_ite isB_0 isB_1)), hw⟩
    refine x_if_eq 99 dX2_readsKnown_92 (by decide) (fun c_7 => ?_) (fun c_7 => ?_)
    · refine x_iconst 0 dX2_readsKnown_99 (by decide) ?_
      exact kJ_9 _ ((if_pos c_7)).symm
    · refine x_iconst 1 dX2_readsKnown_95 (by decide) ?_
      refine x_goto 100 dX2_readsKnown_96 (by decide) ?_
      exact kJ_9 _ ((if_neg c_7)).symm
set_option maxHeartbeats 4000000 in
theorem t_X2_readsKnown_9 {ρ : Rho} {h0 : Hp} {post : Int32 → Hp → Prop} (G : G0 ρ) :
    ∀ (n : Nat), ∀ (x1 : Int32) (x2 : Int32) (h : Hp), GI h → Ext h0 h → w_X2_readsKnown_9 post n x1 x2 h → X ρ K_X2_readsKnown 9 [(0, .ref (mr ρ 25)), (1, .int x1), (2, .int x2)] [] h 0 0 (phB h0 post) psN := by
  intro n
  induction n with
  | zero => intro x1 x2 h g e hw; exact False.elim hw
  | succ n ih =>
    intro x1 x2 h g e hw
    refine x_iload_n 2 dX2_readsKnown_9 rfl ?_
    refine x_bipush 9 dX2_readsKnown_10 (by decide) ?_
    obtain ⟨wt_29, wf_30⟩ := hw
    refine x_icmp_ge 82 dX2_readsKnown_12 (by decide) (fun c_1 => ?_) (fun c_1 => ?_)
    · have hw := wt_29 c_1
      refine X.sub [0, 2] rfl ?_
      exact t_X2_readsKnown_82 G  x2 h g e hw
    · have hw := wf_30 c_1
      refine x_aload_n 0 dX2_readsKnown_15 rfl ?_
      refine x_callV (ci := 2) [] 0 dX2_readsKnown_16 (k_X2_sign G g hw) (GI.s g (t := (12, 0)) rfl (by decide)) rfl q1400 q1402 qs61 q106 q1403 (by decide) rfl rfl ⟨(Nat.le_of_ble_eq_true rfl), (Nat.le_of_ble_eq_true rfl)⟩ (Nat.le_of_ble_eq_true rfl) ⟨(Nat.le_of_ble_eq_true rfl), (Nat.le_of_ble_eq_true rfl)⟩ (fun v9 h_2 hv9 => ?_) (fun _ _ _ _ _ z _ _ => False.elim z)
      obtain ⟨r_5, rfl, g_3, e_4, hw⟩ := hv9
      have hw := hw g_3 e_4
      show X ρ K_X2_readsKnown 19 [(0, .ref (mr ρ 25)), (1, .int x1), (2, .int x2)] [.int r_5] h_2 0 0 (phB h0 post) psN
      refine x_bipush 49 dX2_readsKnown_19 (by decide) ?_
      refine x_bipush 57 dX2_readsKnown_21 (by decide) ?_
      refine x_callS [.int r_5, .int 49, .int 57] 3 dX2_readsKnown_23 (k_X2_isIn G g_3 hw) q1412 q1413 q106 q1414 (by decide) rfl rfl ⟨(Nat.le_of_ble_eq_true rfl), (Nat.le_of_ble_eq_true rfl)⟩ (Nat.le_of_ble_eq_true rfl) ⟨(Nat.le_of_ble_eq_true rfl), (Nat.le_of_ble_eq_true rfl)⟩ (fun v9 h_7 hv9 => ?_) (fun _ _ _ _ _ z _ _ => False.elim z)
      obtain ⟨r_10, rfl, g_8, e_9, b_11, hw⟩ := hv9
      have hw := hw g_8 e_9
      show X ρ K_X2_readsKnown 26 [(0, .ref (mr ρ 25)), (1, .int x1), (2, .int x2)] [.int r_10] h_7 0 0 (phB h0 post) psN
      obtain ⟨wt_27, wf_28⟩ := hw
      refine x_if_eq 82 dX2_readsKnown_26 (by decide) (fun c_12 => ?_) (fun c_12 => ?_)
      · have hw := wt_27 c_12
        refine X.sub [0, 2] rfl ?_
        exact t_X2_readsKnown_82 G  x2 h_7 g_8 (Ext.tr (Ext.tr e e_4) e_9) hw
      · have hw := wf_28 c_12
        refine x_iconst 1 dX2_readsKnown_29 (by decide) ?_
        refine x_aload_n 0 dX2_readsKnown_30 rfl ?_
        refine x_callV (ci := 2) [] 0 dX2_readsKnown_31 (k_X2_sign G g_8 hw) (GI.s g_8 (t := (12, 0)) rfl (by decide)) rfl q1400 q1402 qs61 q106 q1403 (by decide) rfl rfl ⟨(Nat.le_of_ble_eq_true rfl), (Nat.le_of_ble_eq_true rfl)⟩ (Nat.le_of_ble_eq_true rfl) ⟨(Nat.le_of_ble_eq_true rfl), (Nat.le_of_ble_eq_true rfl)⟩ (fun v9 h_13 hv9 => ?_) (fun _ _ _ _ _ z _ _ => False.elim z)
        obtain ⟨r_16, rfl, g_14, e_15, hw⟩ := hv9
        have hw := hw g_14 e_15
        show X ρ K_X2_readsKnown 34 [(0, .ref (mr ρ 25)), (1, .int x1), (2, .int x2)] [.int r_16, .int 1] h_13 0 0 (phB h0 post) psN
        refine x_bipush 48 dX2_readsKnown_34 (by decide) ?_
        refine x_isub dX2_readsKnown_36 ?_
        refine x_ishl dX2_readsKnown_37 ?_
        refine x_istore_n (lv' := [(3, .int (1 <<< ((r_16 - 48) &&& 31))), (0, .ref (mr ρ 25)), (1, .int x1), (2, .int x2)]) dX2_readsKnown_38 (Nat.le_of_ble_eq_true rfl) rfl ?_
        refine x_aload_n 1 dX2_readsKnown_39 rfl ?_
        refine x_get (ci := 2) (v := .ref (mr ρ 42)) 18 dX2_readsKnown_40 (GI.s g_14 (t := (12, 0)) rfl (by decide)) rfl in_X2 (by decide) q1241 (Or.inl rfl) (fv_rc rfl (GI.m g_14 (n := 42) rfl (by decide)) (by decide)) ?_
        refine x_iload_n 2 dX2_readsKnown_43 rfl ?_
        refine x_dup2 dX2_readsKnown_44 rfl rfl ?_
        obtain ⟨b_18, hw⟩ := hw
        refine x_iald (n := 32) (j := (Int32.toNatClampNeg x1)) dX2_readsKnown_45 rfl (GI.s g_14 (t := (1, 32)) rfl (by decide)) b_18 ?_
        refine x_aload_n 1 dX2_readsKnown_46 rfl ?_
        refine x_get (ci := 2) (v := .ref (mr ρ 42)) 18 dX2_readsKnown_47 (GI.s g_14 (t := (12, 0)) rfl (by decide)) rfl in_X2 (by decide) q1241 (Or.inl rfl) (fv_rc rfl (GI.m g_14 (n := 42) rfl (by decide)) (by decide)) ?_
        refine x_iload_n 2 dX2_readsKnown_50 rfl ?_
        obtain ⟨b_19, hw⟩ := hw
        refine x_iald (n := 32) (j := (Int32.toNatClampNeg x1)) dX2_readsKnown_51 rfl (GI.s g_14 (t := (1, 32)) rfl (by decide)) b_19 ?_
        refine x_iload_n 0 dX2_readsKnown_52 rfl ?_
        refine x_iand dX2_readsKnown_53 ?_
        have kJ_26 : ∀ z_21 : Int32, z_21 = ((if ((gi h_13 42 (Int32.toNatClampNeg x1)) &&& (1 <<< ((r_16 - 48) &&& 31))) = 0 then (1 <<< ((r_16 - 48) &&& 31)) else 1024) : Int32) → X ρ K_X2_readsKnown 64 [(3, .int (1 <<< ((r_16 - 48) &&& 31))), (0, .ref (mr ρ 25)), (1, .int x1), (2, .int x2)] [.int z_21, .int (gi h_13 42 (Int32.toNatClampNeg x1)), .int x1, .ref (mr ρ 42)] h_13 0 0 (phB h0 post) psN := fun z_21 ez_21 => by
          have hw := hw z_21 ez_21
          refine x_ior dX2_readsKnown_64 ?_
          obtain ⟨b_22, hw⟩ := hw
          refine x_iast (n := 32) (j := (Int32.toNatClampNeg x1)) dX2_readsKnown_65 rfl (GI.s g_14 (t := (1, 32)) rfl (by decide)) b_22 ?_
          refine x_aload_n 1 dX2_readsKnown_66 rfl ?_
          refine x_dup dX2_readsKnown_67 rfl ?_
          refine x_get (ci := 2) (v := .int (gi (si h_13 42 (Int32.toNatClampNeg x1) ((gi h_13 42 (Int32.toNatClampNeg x1)) ||| z_21)) 25 22)) 22 dX2_readsKnown_68 (GI.s (GI.i g_14) (t := (12, 0)) rfl (by decide)) rfl in_X2 (by decide) q1245 (Or.inl rfl) (fv_i rfl) ?_
          refine x_iconst 1 dX2_readsKnown_71 (by decide) ?_
          refine x_iadd dX2_readsKnown_72 ?_
          refine x_put (ci := 2) 22 dX2_readsKnown_73 (GI.s (GI.i g_14) (t := (12, 0)) rfl (by decide)) rfl in_X2 tyX2 tyX2_ok nmX2 (by decide) q1245 (Or.inl rfl) rfl rfl rfl (isPut_i rfl) ?_
          refine x_nmh (fun h_23 eh_23 => ?_)
          have hw := hw h_23 eh_23
          have g_24 : GI h_23 := eh_23 ▸ (GI.i (GI.i g_14))
          have e_25 : Ext h0 h_23 := eh_23 ▸ (Ext.i (Ext.i (Ext.tr (Ext.tr (Ext.tr e e_4) e_9) e_15)))
          refine x_iinc (v := (x2 + 1)) (lv' := [(2, .int (x2 + 1)), (3, .int (1 <<< ((r_16 - 48) &&& 31))), (0, .ref (mr ρ 25)), (1, .int x1)]) 3 dX2_readsKnown_76 rfl (by rfl) (Nat.le_of_ble_eq_true rfl) rfl ?_
          refine x_goto 9 dX2_readsKnown_79 (by decide) ?_
          refine X.sub [2, 3, 0] rfl ?_
          exact ih x1 (x2 + 1) h_23 g_24 e_25 hw
        refine x_if_eq 63 dX2_readsKnown_54 (by decide) (fun c_20 => ?_) (fun c_20 => ?_)
        · refine x_iload_n 0 dX2_readsKnown_63 rfl ?_
          exact kJ_26 _ ((if_pos c_20)).symm
        · refine x_sipush 1024 dX2_readsKnown_57 (by decide) ?_
          refine x_goto 64 dX2_readsKnown_60 (by decide) ?_
          exact kJ_26 _ ((if_neg c_20)).symm
set_option maxHeartbeats 4000000 in
theorem k_X2_readsKnown {ρ : Rho} {h : Hp} {post : Int32 → Hp → Prop} {p1 : Int32} (G : G0 ρ) (g : GI h) (hw : wp_X2_readsKnown post h p1) : Con ρ yX2_readsKnown (ws_ yX2_readsKnown cX2_readsKnown 4 (Option.some Jvm.ClassFile.FieldType.boolean)) rm_X2_readsKnown [.ref (mr ρ 25), .int p1] h (phB h post) psN := by
  refine con_of (own := "BeforeTheEndModel") (isI := false) (l0 := [(0, .ref (mr ρ 25)), (1, .int p1)]) (by decide) rfl (fun z => by cases z) (Nat.le_of_ble_eq_true rfl) rfl (fun _ => ?_)
  show X ρ K_X2_readsKnown 0 [(0, .ref (mr ρ 25)), (1, .int p1)] [] h 0 0 (phB h post) psN
  refine x_aload_n 0 dX2_readsKnown_0 rfl ?_
  refine x_get (ci := 2) (v := .ref (mr ρ 42)) 18 dX2_readsKnown_1 (GI.s g (t := (12, 0)) rfl (by decide)) rfl in_X2 (by decide) q1241 (Or.inl rfl) (fv_rc rfl (GI.m g (n := 42) rfl (by decide)) (by decide)) ?_
  refine x_iload_n 1 dX2_readsKnown_4 rfl ?_
  refine x_iconst 0 dX2_readsKnown_5 (by decide) ?_
  obtain ⟨b_1, hw⟩ := hw
  refine x_iast (n := 32) (j := (Int32.toNatClampNeg p1)) dX2_readsKnown_6 rfl (GI.s g (t := (1, 32)) rfl (by decide)) b_1 ?_
  refine x_iconst 0 dX2_readsKnown_7 (by decide) ?_
  refine x_istore_n (lv' := [(2, .int 0), (0, .ref (mr ρ 25)), (1, .int p1)]) dX2_readsKnown_8 (Nat.le_of_ble_eq_true rfl) rfl ?_
  refine X.sub [1, 2, 0] rfl ?_
  obtain ⟨fu, hw⟩ := hw
  exact t_X2_readsKnown_9 G  fu p1 0 (si h 42 (Int32.toNatClampNeg p1) 0) (GI.i g) (Ext.i Ext.rf) hw

/-! BeforeTheEndModel.readsPlayer(I)Z -/
def wp_X2_readsPlayer (post : Int32 → Hp → Prop) (h : Hp) (p1 : Int32) : Prop := (wp_X2_sign (fun r_4 h_1 => GI h_1 → Ext h h_1 → (wp_X2_kindOf (fun r_9 h_6 => GI h_6 → Ext h_1 h_6 → (vp_in p1 32 ∧ (vp_in p1 32 ∧ ((0 ≤ (gi (si h_6 41 (Int32.toNatClampNeg p1) r_9) 41 (Int32.toNatClampNeg p1)) → (wp_X2_number (fun r_17 h_14 => GI h_14 → Ext (si (si h_6 41 (Int32.toNatClampNeg p1) r_9) 25 22 ((gi (si h_6 41 (Int32.toNatClampNeg p1) r_9) 25 22) + 1)) h_14 → (vp_in p1 32 ∧ (vp_in p1 32 ∧ ((0 ≤ (gi (si h_14 39 (Int32.toNatClampNeg p1) r_17) 39 (Int32.toNatClampNeg p1)) → (wp_X2_number (fun r_25 h_22 => GI h_22 → Ext (si h_14 39 (Int32.toNatClampNeg p1) r_17) h_22 → (vp_in p1 32 ∧ (vp_in p1 32 ∧ (((gi (si h_22 40 (Int32.toNatClampNeg p1) r_25) 40 (Int32.toNatClampNeg p1)) < 0 → (post 0 (si h_22 40 (Int32.toNatClampNeg p1) r_25))) ∧ (¬ (gi (si h_22 40 (Int32.toNatClampNeg p1) r_25) 40 (Int32.toNatClampNeg p1)) < 0 → (wp_X2_takes (fun r_33 h_30 => GI h_30 → Ext (si h_22 40 (Int32.toNatClampNeg p1) r_25) h_30 → ((r_33 = 0 → (post 0 h_30)) ∧ (¬ r_33 = 0 → (wp_X2_readsKnown (fun r_39 h_36 => GI h_36 → Ext h_30 h_36 → (∀ z_42 : Int32, z_42 = ((if r_39 = 0 then 0 else 1) : Int32) → (post z_42 h_36))) h_30 p1)))) (si h_22 40 (Int32.toNatClampNeg p1) r_25) 58)))))) (si h_14 39 (Int32.toNatClampNeg p1) r_17) 3)) ∧ (¬ 0 ≤ (gi (si h_14 39 (Int32.toNatClampNeg p1) r_17) 39 (Int32.toNatClampNeg p1)) → (post 0 (si h_14 39 (Int32.toNatClampNeg p1) r_17))))))) (si (si h_6 41 (Int32.toNatClampNeg p1) r_9) 25 22 ((gi (si h_6 41 (Int32.toNatClampNeg p1) r_9) 25 22) + 1)) 1)) ∧ (¬ 0 ≤ (gi (si h_6 41 (Int32.toNatClampNeg p1) r_9) 41 (Int32.toNatClampNeg p1)) → (post 0 (si h_6 41 (Int32.toNatClampNeg p1) r_9))))))) h_1 r_4)) h)
abbrev rm_X2_readsPlayer : Room := ({ frames := 4, cells := 0, slots := 0, locals := 124 })
abbrev K_X2_readsPlayer : Kx := ("BeforeTheEndModel", cX2_readsPlayer, 2, (Option.some Jvm.ClassFile.FieldType.boolean), rm_X2_readsPlayer, [], false)
set_option maxHeartbeats 4000000 in
theorem k_X2_readsPlayer {ρ : Rho} {h : Hp} {post : Int32 → Hp → Prop} {p1 : Int32} (G : G0 ρ) (g : GI h) (hw : wp_X2_readsPlayer post h p1) : Con ρ yX2_readsPlayer (ws_ yX2_readsPlayer cX2_readsPlayer 2 (Option.some Jvm.ClassFile.FieldType.boolean)) rm_X2_readsPlayer [.ref (mr ρ 25), .int p1] h (phB h post) psN := by
  refine con_of (own := "BeforeTheEndModel") (isI := false) (l0 := [(0, .ref (mr ρ 25)), (1, .int p1)]) (by decide) rfl (fun z => by cases z) (Nat.le_of_ble_eq_true rfl) rfl (fun _ => ?_)
  show X ρ K_X2_readsPlayer 0 [(0, .ref (mr ρ 25)), (1, .int p1)] [] h 0 0 (phB h post) psN
  refine x_aload_n 0 dX2_readsPlayer_0 rfl ?_
  refine x_get (ci := 2) (v := .ref (mr ρ 41)) 17 dX2_readsPlayer_1 (GI.s g (t := (12, 0)) rfl (by decide)) rfl in_X2 (by decide) q1240 (Or.inl rfl) (fv_rc rfl (GI.m g (n := 41) rfl (by decide)) (by decide)) ?_
  refine x_iload_n 1 dX2_readsPlayer_4 rfl ?_
  refine x_aload_n 0 dX2_readsPlayer_5 rfl ?_
  refine x_callV (ci := 2) [] 0 dX2_readsPlayer_6 (k_X2_sign G g hw) (GI.s g (t := (12, 0)) rfl (by decide)) rfl q1400 q1402 qs61 q106 q1403 (by decide) rfl rfl ⟨(Nat.le_of_ble_eq_true rfl), (Nat.le_of_ble_eq_true rfl)⟩ (Nat.le_of_ble_eq_true rfl) ⟨(Nat.le_of_ble_eq_true rfl), (Nat.le_of_ble_eq_true rfl)⟩ (fun v9 h_1 hv9 => ?_) (fun _ _ _ _ _ z _ _ => False.elim z)
  obtain ⟨r_4, rfl, g_2, e_3, hw⟩ := hv9
  have hw := hw g_2 e_3
  show X ρ K_X2_readsPlayer 9 [(0, .ref (mr ρ 25)), (1, .int p1)] [.int r_4, .int p1, .ref (mr ρ 41)] h_1 0 0 (phB h post) psN
  refine x_callS [.int r_4] 1 dX2_readsPlayer_9 (k_X2_kindOf G g_2 hw) q1423 q1424 q106 q1425 (by decide) rfl rfl ⟨(Nat.le_of_ble_eq_true rfl), (Nat.le_of_ble_eq_true rfl)⟩ (Nat.le_of_ble_eq_true rfl) ⟨(Nat.le_of_ble_eq_true rfl), (Nat.le_of_ble_eq_true rfl)⟩ (fun v9 h_6 hv9 => ?_) (fun _ _ _ _ _ z _ _ => False.elim z)
  obtain ⟨r_9, rfl, g_7, e_8, hw⟩ := hv9
  have hw := hw g_7 e_8
  show X ρ K_X2_readsPlayer 12 [(0, .ref (mr ρ 25)), (1, .int p1)] [.int r_9, .int p1, .ref (mr ρ 41)] h_6 0 0 (phB h post) psN
  obtain ⟨b_11, hw⟩ := hw
  refine x_iast (n := 32) (j := (Int32.toNatClampNeg p1)) dX2_readsPlayer_12 rfl (GI.s g_7 (t := (1, 32)) rfl (by decide)) b_11 ?_
  refine x_aload_n 0 dX2_readsPlayer_13 rfl ?_
  refine x_get (ci := 2) (v := .ref (mr ρ 41)) 17 dX2_readsPlayer_14 (GI.s (GI.i g_7) (t := (12, 0)) rfl (by decide)) rfl in_X2 (by decide) q1240 (Or.inl rfl) (fv_rc rfl (GI.m (GI.i g_7) (n := 41) rfl (by decide)) (by decide)) ?_
  refine x_iload_n 1 dX2_readsPlayer_17 rfl ?_
  obtain ⟨b_12, hw⟩ := hw
  refine x_iald (n := 32) (j := (Int32.toNatClampNeg p1)) dX2_readsPlayer_18 rfl (GI.s (GI.i g_7) (t := (1, 32)) rfl (by decide)) b_12 ?_
  obtain ⟨wt_50, wf_51⟩ := hw
  refine x_if_ge 24 dX2_readsPlayer_19 (by decide) (fun c_13 => ?_) (fun c_13 => ?_)
  · have hw := wt_50 c_13
    refine x_aload_n 0 dX2_readsPlayer_24 rfl ?_
    refine x_dup dX2_readsPlayer_25 rfl ?_
    refine x_get (ci := 2) (v := .int (gi (si h_6 41 (Int32.toNatClampNeg p1) r_9) 25 22)) 22 dX2_readsPlayer_26 (GI.s (GI.i g_7) (t := (12, 0)) rfl (by decide)) rfl in_X2 (by decide) q1245 (Or.inl rfl) (fv_i rfl) ?_
    refine x_iconst 1 dX2_readsPlayer_29 (by decide) ?_
    refine x_iadd dX2_readsPlayer_30 ?_
    refine x_put (ci := 2) 22 dX2_readsPlayer_31 (GI.s (GI.i g_7) (t := (12, 0)) rfl (by decide)) rfl in_X2 tyX2 tyX2_ok nmX2 (by decide) q1245 (Or.inl rfl) rfl rfl rfl (isPut_i rfl) ?_
    refine x_aload_n 0 dX2_readsPlayer_34 rfl ?_
    refine x_get (ci := 2) (v := .ref (mr ρ 39)) 15 dX2_readsPlayer_35 (GI.s (GI.i (GI.i g_7)) (t := (12, 0)) rfl (by decide)) rfl in_X2 (by decide) q1238 (Or.inl rfl) (fv_rc rfl (GI.m (GI.i (GI.i g_7)) (n := 39) rfl (by decide)) (by decide)) ?_
    refine x_iload_n 1 dX2_readsPlayer_38 rfl ?_
    refine x_aload_n 0 dX2_readsPlayer_39 rfl ?_
    refine x_iconst 1 dX2_readsPlayer_40 (by decide) ?_
    refine x_callV (ci := 2) [.int 1] 1 dX2_readsPlayer_41 (k_X2_number G (GI.i (GI.i g_7)) hw) (GI.s (GI.i (GI.i g_7)) (t := (12, 0)) rfl (by decide)) rfl q1408 q1410 qs63 q106 q1411 (by decide) rfl rfl ⟨(Nat.le_of_ble_eq_true rfl), (Nat.le_of_ble_eq_true rfl)⟩ (Nat.le_of_ble_eq_true rfl) ⟨(Nat.le_of_ble_eq_true rfl), (Nat.le_of_ble_eq_true rfl)⟩ (fun v9 h_14 hv9 => ?_) (fun _ _ _ _ _ z _ _ => False.elim z)
    obtain ⟨r_17, rfl, g_15, e_16, hw⟩ := hv9
    have hw := hw g_15 e_16
    show X ρ K_X2_readsPlayer 44 [(0, .ref (mr ρ 25)), (1, .int p1)] [.int r_17, .int p1, .ref (mr ρ 39)] h_14 0 0 (phB h post) psN
    obtain ⟨b_19, hw⟩ := hw
    refine x_iast (n := 32) (j := (Int32.toNatClampNeg p1)) dX2_readsPlayer_44 rfl (GI.s g_15 (t := (1, 32)) rfl (by decide)) b_19 ?_
    refine x_aload_n 0 dX2_readsPlayer_45 rfl ?_
    refine x_get (ci := 2) (v := .ref (mr ρ 39)) 15 dX2_readsPlayer_46 (GI.s (GI.i g_15) (t := (12, 0)) rfl (by decide)) rfl in_X2 (by decide) q1238 (Or.inl rfl) (fv_rc rfl (GI.m (GI.i g_15) (n := 39) rfl (by decide)) (by decide)) ?_
    refine x_iload_n 1 dX2_readsPlayer_49 rfl ?_
    obtain ⟨b_20, hw⟩ := hw
    refine x_iald (n := 32) (j := (Int32.toNatClampNeg p1)) dX2_readsPlayer_50 rfl (GI.s (GI.i g_15) (t := (1, 32)) rfl (by decide)) b_20 ?_
    obtain ⟨wt_48, wf_49⟩ := hw
    refine x_if_ge 56 dX2_readsPlayer_51 (by decide) (fun c_21 => ?_) (fun c_21 => ?_)
    · have hw := wt_48 c_21
      refine x_aload_n 0 dX2_readsPlayer_56 rfl ?_
      refine x_get (ci := 2) (v := .ref (mr ρ 40)) 16 dX2_readsPlayer_57 (GI.s (GI.i g_15) (t := (12, 0)) rfl (by decide)) rfl in_X2 (by decide) q1239 (Or.inl rfl) (fv_rc rfl (GI.m (GI.i g_15) (n := 40) rfl (by decide)) (by decide)) ?_
      refine x_iload_n 1 dX2_readsPlayer_60 rfl ?_
      refine x_aload_n 0 dX2_readsPlayer_61 rfl ?_
      refine x_iconst 3 dX2_readsPlayer_62 (by decide) ?_
      refine x_callV (ci := 2) [.int 3] 1 dX2_readsPlayer_63 (k_X2_number G (GI.i g_15) hw) (GI.s (GI.i g_15) (t := (12, 0)) rfl (by decide)) rfl q1408 q1410 qs63 q106 q1411 (by decide) rfl rfl ⟨(Nat.le_of_ble_eq_true rfl), (Nat.le_of_ble_eq_true rfl)⟩ (Nat.le_of_ble_eq_true rfl) ⟨(Nat.le_of_ble_eq_true rfl), (Nat.le_of_ble_eq_true rfl)⟩ (fun v9 h_22 hv9 => ?_) (fun _ _ _ _ _ z _ _ => False.elim z)
      obtain ⟨r_25, rfl, g_23, e_24, hw⟩ := hv9
      have hw := hw g_23 e_24
      show X ρ K_X2_readsPlayer 66 [(0, .ref (mr ρ 25)), (1, .int p1)] [.int r_25, .int p1, .ref (mr ρ 40)] h_22 0 0 (phB h post) psN
      obtain ⟨b_27, hw⟩ := hw
      refine x_iast (n := 32) (j := (Int32.toNatClampNeg p1)) dX2_readsPlayer_66 rfl (GI.s g_23 (t := (1, 32)) rfl (by decide)) b_27 ?_
      refine x_aload_n 0 dX2_readsPlayer_67 rfl ?_
      refine x_get (ci := 2) (v := .ref (mr ρ 40)) 16 dX2_readsPlayer_68 (GI.s (GI.i g_23) (t := (12, 0)) rfl (by decide)) rfl in_X2 (by decide) q1239 (Or.inl rfl) (fv_rc rfl (GI.m (GI.i g_23) (n := 40) rfl (by decide)) (by decide)) ?_
      refine x_iload_n 1 dX2_readsPlayer_71 rfl ?_
      obtain ⟨b_28, hw⟩ := hw
      refine x_iald (n := 32) (j := (Int32.toNatClampNeg p1)) dX2_readsPlayer_72 rfl (GI.s (GI.i g_23) (t := (1, 32)) rfl (by decide)) b_28 ?_
      obtain ⟨wt_46, wf_47⟩ := hw
      refine x_if_lt 97 dX2_readsPlayer_73 (by decide) (fun c_29 => ?_) (fun c_29 => ?_)
      · have hw := wt_46 c_29
        refine x_iconst 0 dX2_readsPlayer_97 (by decide) ?_
        exact x_zret dX2_readsPlayer_98 rfl (isB.n isB_0) (Nat.le_of_ble_eq_true rfl) (Nat.le_of_ble_eq_true rfl) ⟨_, rfl, (GI.i g_23), (Ext.i (Ext.tr (Ext.i (Ext.tr (Ext.i (Ext.i (Ext.tr e_3 e_8))) e_16)) e_24)), isB_0, hw⟩
      · have hw := wf_47 c_29
        refine x_aload_n 0 dX2_readsPlayer_76 rfl ?_
        refine x_bipush 58 dX2_readsPlayer_77 (by decide) ?_
        refine x_callV (ci := 2) [.int 58] 1 dX2_readsPlayer_79 (k_X2_takes G (GI.i g_23) hw) (GI.s (GI.i g_23) (t := (12, 0)) rfl (by decide)) rfl q1415 q1417 qs64 q106 q1418 (by decide) rfl rfl ⟨(Nat.le_of_ble_eq_true rfl), (Nat.le_of_ble_eq_true rfl)⟩ (Nat.le_of_ble_eq_true rfl) ⟨(Nat.le_of_ble_eq_true rfl), (Nat.le_of_ble_eq_true rfl)⟩ (fun v9 h_30 hv9 => ?_) (fun _ _ _ _ _ z _ _ => False.elim z)
        obtain ⟨r_33, rfl, g_31, e_32, b_34, hw⟩ := hv9
        have hw := hw g_31 e_32
        show X ρ K_X2_readsPlayer 82 [(0, .ref (mr ρ 25)), (1, .int p1)] [.int r_33] h_30 0 0 (phB h post) psN
        obtain ⟨wt_44, wf_45⟩ := hw
        refine x_if_eq 97 dX2_readsPlayer_82 (by decide) (fun c_35 => ?_) (fun c_35 => ?_)
        · have hw := wt_44 c_35
          refine x_iconst 0 dX2_readsPlayer_97 (by decide) ?_
          exact x_zret dX2_readsPlayer_98 rfl (isB.n isB_0) (Nat.le_of_ble_eq_true rfl) (Nat.le_of_ble_eq_true rfl) ⟨_, rfl, g_31, (Ext.tr (Ext.i (Ext.tr (Ext.i (Ext.tr (Ext.i (Ext.i (Ext.tr e_3 e_8))) e_16)) e_24)) e_32), isB_0, hw⟩
        · have hw := wf_45 c_35
          refine x_aload_n 0 dX2_readsPlayer_85 rfl ?_
          refine x_iload_n 1 dX2_readsPlayer_86 rfl ?_
          refine x_callV (ci := 2) [.int p1] 1 dX2_readsPlayer_87 (k_X2_readsKnown G g_31 hw) (GI.s g_31 (t := (12, 0)) rfl (by decide)) rfl q1426 q1428 qs66 q106 q1429 (by decide) rfl rfl ⟨(Nat.le_of_ble_eq_true rfl), (Nat.le_of_ble_eq_true rfl)⟩ (Nat.le_of_ble_eq_true rfl) ⟨(Nat.le_of_ble_eq_true rfl), (Nat.le_of_ble_eq_true rfl)⟩ (fun v9 h_36 hv9 => ?_) (fun _ _ _ _ _ z _ _ => False.elim z)
          obtain ⟨r_39, rfl, g_37, e_38, b_40, hw⟩ := hv9
          have hw := hw g_37 e_38
          show X ρ K_X2_readsPlayer 90 [(0, .ref (mr ρ 25)), (1, .int p1)] [.int r_39] h_36 0 0 (phB h post) psN
          have kJ_43 : ∀ z_42 : Int32, z_42 = ((if r_39 = 0 then 0 else 1) : Int32) → X ρ K_X2_readsPlayer 98 [(0, .ref (mr ρ 25)), (1, .int p1)] [.int z_42] h_36 0 0 (phB h post) psN := fun z_42 ez_42 => by
            have hw := hw z_42 ez_42
            exact x_zret dX2_readsPlayer_98 rfl (isB.n (Eq.mpr (congrArg isB ez_42) (isB_ite isB_0 isB_1))) (Nat.le_of_ble_eq_true rfl) (Nat.le_of_ble_eq_true rfl) ⟨_, rfl, g_37, (Ext.tr (Ext.tr (Ext.i (Ext.tr (Ext.i (Ext.tr (Ext.i (Ext.i (Ext.tr e_3 e_8))) e_16)) e_24)) e_32) e_38), (Eq.mpr (congrArg isB ez_42) (isB_ite isB_0 isB_1)), hw⟩
          refine x_if_eq 97 dX2_readsPlayer_90 (by decide) (fun c_41 => ?_) (fun c_41 => ?_)
          · refine x_iconst 0 dX2_readsPlayer_97 (by decide) ?_
            exact kJ_43 _ ((if_pos c_41)).symm
          · refine x_iconst 1 dX2_readsPlayer_93 (by decide) ?_
            refine x_goto 98 dX2_readsPlayer_94 (by decide) ?_
            exact kJ_43 _ ((if_neg c_41)).symm
    · have hw := wf_49 c_21
      refine x_iconst 0 dX2_readsPlayer_54 (by decide) ?_
      exact x_zret dX2_readsPlayer_55 rfl (isB.n isB_0) (Nat.le_of_ble_eq_true rfl) (Nat.le_of_ble_eq_true rfl) ⟨_, rfl, (GI.i g_15), (Ext.i (Ext.tr (Ext.i (Ext.i (Ext.tr e_3 e_8))) e_16)), isB_0, hw⟩
  · have hw := wf_51 c_13
    refine x_iconst 0 dX2_readsPlayer_22 (by decide) ?_
    exact x_zret dX2_readsPlayer_23 rfl (isB.n isB_0) (Nat.le_of_ble_eq_true rfl) (Nat.le_of_ble_eq_true rfl) ⟨_, rfl, (GI.i g_7), (Ext.i (Ext.tr e_3 e_8)), isB_0, hw⟩

/-! BeforeTheEndModel.statement()Z -/
def w_X2_statement_41 (post : Int32 → Hp → Prop) (x1 : Int32) (x2 : Int32) (h : Hp) : Prop := ((¬ x2 = 119 → (wp_X2_readsPlayer (fun r_5 h_2 => GI h_2 → Ext (si h 25 22 ((gi h 25 22) + 1)) h_2 → (post r_5 h_2)) (si h 25 22 ((gi h 25 22) + 1)) x1)) ∧ (x2 = 119 → (wp_X2_readsWord (fun r_10 h_7 => GI h_7 → Ext (si h 25 22 ((gi h 25 22) + 1)) h_7 → (post r_10 h_7)) (si h 25 22 ((gi h 25 22) + 1)) x1)))
def wp_X2_statement (post : Int32 → Hp → Prop) (h : Hp) : Prop := (wp_X2_sign (fun r_4 h_1 => GI h_1 → Ext h h_1 → (vp_in (gi h 25 23) 32 ∧ (vp_in (gi h 25 23) 32 ∧ ((r_4 = 119 → (w_X2_statement_41 post (gi h 25 23) r_4 (si (si h_1 43 (Int32.toNatClampNeg (gi h 25 23)) r_4) 44 (Int32.toNatClampNeg (gi h 25 23)) (gi (si h_1 43 (Int32.toNatClampNeg (gi h 25 23)) r_4) 25 22)))) ∧ (¬ r_4 = 119 → ((r_4 = 112 → (w_X2_statement_41 post (gi h 25 23) r_4 (si (si h_1 43 (Int32.toNatClampNeg (gi h 25 23)) r_4) 44 (Int32.toNatClampNeg (gi h 25 23)) (gi (si h_1 43 (Int32.toNatClampNeg (gi h 25 23)) r_4) 25 22)))) ∧ (¬ r_4 = 112 → (post 0 (si (si h_1 43 (Int32.toNatClampNeg (gi h 25 23)) r_4) 44 (Int32.toNatClampNeg (gi h 25 23)) (gi (si h_1 43 (Int32.toNatClampNeg (gi h 25 23)) r_4) 25 22)))))))))) h)
abbrev rm_X2_statement : Room := ({ frames := 5, cells := 0, slots := 0, locals := 145 })
abbrev K_X2_statement : Kx := ("BeforeTheEndModel", cX2_statement, 3, (Option.some Jvm.ClassFile.FieldType.boolean), rm_X2_statement, [], false)
set_option maxHeartbeats 4000000 in
theorem t_X2_statement_41 {ρ : Rho} {h0 : Hp} {post : Int32 → Hp → Prop} (G : G0 ρ) :
    ∀ (x1 : Int32) (x2 : Int32) (h : Hp), GI h → Ext h0 h → w_X2_statement_41 post x1 x2 h → X ρ K_X2_statement 41 [(0, .ref (mr ρ 25)), (1, .int x1), (2, .int x2)] [] h 0 0 (phB h0 post) psN := by
  intro x1 x2 h g e hw
  refine x_aload_n 0 dX2_statement_41 rfl ?_
  refine x_dup dX2_statement_42 rfl ?_
  refine x_get (ci := 2) (v := .int (gi h 25 22)) 22 dX2_statement_43 (GI.s g (t := (12, 0)) rfl (by decide)) rfl in_X2 (by decide) q1245 (Or.inl rfl) (fv_i rfl) ?_
  refine x_iconst 1 dX2_statement_46 (by decide) ?_
  refine x_iadd dX2_statement_47 ?_
  refine x_put (ci := 2) 22 dX2_statement_48 (GI.s g (t := (12, 0)) rfl (by decide)) rfl in_X2 tyX2 tyX2_ok nmX2 (by decide) q1245 (Or.inl rfl) rfl rfl rfl (isPut_i rfl) ?_
  refine x_iload_n 2 dX2_statement_51 rfl ?_
  refine x_bipush 119 dX2_statement_52 (by decide) ?_
  obtain ⟨wt_12, wf_13⟩ := hw
  refine x_icmp_ne 65 dX2_statement_54 (by decide) (fun c_1 => ?_) (fun c_1 => ?_)
  · have hw := wt_12 c_1
    refine x_aload_n 0 dX2_statement_65 rfl ?_
    refine x_iload_n 1 dX2_statement_66 rfl ?_
    refine x_callV (ci := 2) [.int x1] 1 dX2_statement_67 (k_X2_readsPlayer G (GI.i g) hw) (GI.s (GI.i g) (t := (12, 0)) rfl (by decide)) rfl q1419 q1421 qs65 q106 q1422 (by decide) rfl rfl ⟨(Nat.le_of_ble_eq_true rfl), (Nat.le_of_ble_eq_true rfl)⟩ (Nat.le_of_ble_eq_true rfl) ⟨(Nat.le_of_ble_eq_true rfl), (Nat.le_of_ble_eq_true rfl)⟩ (fun v9 h_2 hv9 => ?_) (fun _ _ _ _ _ z _ _ => False.elim z)
    obtain ⟨r_5, rfl, g_3, e_4, b_6, hw⟩ := hv9
    have hw := hw g_3 e_4
    show X ρ K_X2_statement 70 [(0, .ref (mr ρ 25)), (1, .int x1), (2, .int x2)] [.int r_5] h_2 0 0 (phB h0 post) psN
    exact x_zret dX2_statement_70 rfl (isB.n b_6) (Nat.le_of_ble_eq_true rfl) (Nat.le_of_ble_eq_true rfl) ⟨_, rfl, g_3, (Ext.tr (Ext.i e) e_4), b_6, hw⟩
  · have hw := wf_13 c_1
    refine x_aload_n 0 dX2_statement_57 rfl ?_
    refine x_iload_n 1 dX2_statement_58 rfl ?_
    refine x_callV (ci := 2) [.int x1] 1 dX2_statement_59 (k_X2_readsWord G (GI.i g) hw) (GI.s (GI.i g) (t := (12, 0)) rfl (by decide)) rfl q1404 q1406 qs62 q106 q1407 (by decide) rfl rfl ⟨(Nat.le_of_ble_eq_true rfl), (Nat.le_of_ble_eq_true rfl)⟩ (Nat.le_of_ble_eq_true rfl) ⟨(Nat.le_of_ble_eq_true rfl), (Nat.le_of_ble_eq_true rfl)⟩ (fun v9 h_7 hv9 => ?_) (fun _ _ _ _ _ z _ _ => False.elim z)
    obtain ⟨r_10, rfl, g_8, e_9, b_11, hw⟩ := hv9
    have hw := hw g_8 e_9
    show X ρ K_X2_statement 62 [(0, .ref (mr ρ 25)), (1, .int x1), (2, .int x2)] [.int r_10] h_7 0 0 (phB h0 post) psN
    refine x_goto 70 dX2_statement_62 (by decide) ?_
    exact x_zret dX2_statement_70 rfl (isB.n b_11) (Nat.le_of_ble_eq_true rfl) (Nat.le_of_ble_eq_true rfl) ⟨_, rfl, g_8, (Ext.tr (Ext.i e) e_9), b_11, hw⟩
set_option maxHeartbeats 4000000 in
theorem k_X2_statement {ρ : Rho} {h : Hp} {post : Int32 → Hp → Prop} (G : G0 ρ) (g : GI h) (hw : wp_X2_statement post h) : Con ρ yX2_statement (ws_ yX2_statement cX2_statement 3 (Option.some Jvm.ClassFile.FieldType.boolean)) rm_X2_statement [.ref (mr ρ 25)] h (phB h post) psN := by
  refine con_of (own := "BeforeTheEndModel") (isI := false) (l0 := [(0, .ref (mr ρ 25))]) (by decide) rfl (fun z => by cases z) (Nat.le_of_ble_eq_true rfl) rfl (fun _ => ?_)
  show X ρ K_X2_statement 0 [(0, .ref (mr ρ 25))] [] h 0 0 (phB h post) psN
  refine x_aload_n 0 dX2_statement_0 rfl ?_
  refine x_get (ci := 2) (v := .int (gi h 25 23)) 23 dX2_statement_1 (GI.s g (t := (12, 0)) rfl (by decide)) rfl in_X2 (by decide) q1246 (Or.inl rfl) (fv_i rfl) ?_
  refine x_istore_n (lv' := [(1, .int (gi h 25 23)), (0, .ref (mr ρ 25))]) dX2_statement_4 (Nat.le_of_ble_eq_true rfl) rfl ?_
  refine x_aload_n 1 dX2_statement_5 rfl ?_
  refine x_callV (ci := 2) [] 0 dX2_statement_6 (k_X2_sign G g hw) (GI.s g (t := (12, 0)) rfl (by decide)) rfl q1400 q1402 qs61 q106 q1403 (by decide) rfl rfl ⟨(Nat.le_of_ble_eq_true rfl), (Nat.le_of_ble_eq_true rfl)⟩ (Nat.le_of_ble_eq_true rfl) ⟨(Nat.le_of_ble_eq_true rfl), (Nat.le_of_ble_eq_true rfl)⟩ (fun v9 h_1 hv9 => ?_) (fun _ _ _ _ _ z _ _ => False.elim z)
  obtain ⟨r_4, rfl, g_2, e_3, hw⟩ := hv9
  have hw := hw g_2 e_3
  show X ρ K_X2_statement 9 [(1, .int (gi h 25 23)), (0, .ref (mr ρ 25))] [.int r_4] h_1 0 0 (phB h post) psN
  refine x_istore_n (lv' := [(2, .int r_4), (1, .int (gi h 25 23)), (0, .ref (mr ρ 25))]) dX2_statement_9 (Nat.le_of_ble_eq_true rfl) rfl ?_
  refine x_aload_n 2 dX2_statement_10 rfl ?_
  refine x_get (ci := 2) (v := .ref (mr ρ 43)) 19 dX2_statement_11 (GI.s g_2 (t := (12, 0)) rfl (by decide)) rfl in_X2 (by decide) q1242 (Or.inl rfl) (fv_rc rfl (GI.m g_2 (n := 43) rfl (by decide)) (by decide)) ?_
  refine x_iload_n 1 dX2_statement_14 rfl ?_
  refine x_iload_n 0 dX2_statement_15 rfl ?_
  obtain ⟨b_6, hw⟩ := hw
  refine x_iast (n := 32) (j := (Int32.toNatClampNeg (gi h 25 23))) dX2_statement_16 rfl (GI.s g_2 (t := (1, 32)) rfl (by decide)) b_6 ?_
  refine x_aload_n 2 dX2_statement_17 rfl ?_
  refine x_get (ci := 2) (v := .ref (mr ρ 44)) 20 dX2_statement_18 (GI.s (GI.i g_2) (t := (12, 0)) rfl (by decide)) rfl in_X2 (by decide) q1243 (Or.inl rfl) (fv_rc rfl (GI.m (GI.i g_2) (n := 44) rfl (by decide)) (by decide)) ?_
  refine x_iload_n 1 dX2_statement_21 rfl ?_
  refine x_aload_n 2 dX2_statement_22 rfl ?_
  refine x_get (ci := 2) (v := .int (gi (si h_1 43 (Int32.toNatClampNeg (gi h 25 23)) r_4) 25 22)) 22 dX2_statement_23 (GI.s (GI.i g_2) (t := (12, 0)) rfl (by decide)) rfl in_X2 (by decide) q1245 (Or.inl rfl) (fv_i rfl) ?_
  obtain ⟨b_7, hw⟩ := hw
  refine x_iast (n := 32) (j := (Int32.toNatClampNeg (gi h 25 23))) dX2_statement_26 rfl (GI.s (GI.i g_2) (t := (1, 32)) rfl (by decide)) b_7 ?_
  refine x_iload_n 0 dX2_statement_27 rfl ?_
  refine x_bipush 119 dX2_statement_28 (by decide) ?_
  obtain ⟨wt_12, wf_13⟩ := hw
  refine x_icmp_eq 41 dX2_statement_30 (by decide) (fun c_8 => ?_) (fun c_8 => ?_)
  · have hw := wt_12 c_8
    refine X.sub [2, 1, 0] rfl ?_
    exact t_X2_statement_41 G  (gi h 25 23) r_4 (si (si h_1 43 (Int32.toNatClampNeg (gi h 25 23)) r_4) 44 (Int32.toNatClampNeg (gi h 25 23)) (gi (si h_1 43 (Int32.toNatClampNeg (gi h 25 23)) r_4) 25 22)) (GI.i (GI.i g_2)) (Ext.i (Ext.i e_3)) hw
  · have hw := wf_13 c_8
    refine x_iload_n 0 dX2_statement_33 rfl ?_
    refine x_bipush 112 dX2_statement_34 (by decide) ?_
    obtain ⟨wt_10, wf_11⟩ := hw
    refine x_icmp_eq 41 dX2_statement_36 (by decide) (fun c_9 => ?_) (fun c_9 => ?_)
    · have hw := wt_10 c_9
      refine X.sub [2, 1, 0] rfl ?_
      exact t_X2_statement_41 G  (gi h 25 23) r_4 (si (si h_1 43 (Int32.toNatClampNeg (gi h 25 23)) r_4) 44 (Int32.toNatClampNeg (gi h 25 23)) (gi (si h_1 43 (Int32.toNatClampNeg (gi h 25 23)) r_4) 25 22)) (GI.i (GI.i g_2)) (Ext.i (Ext.i e_3)) hw
    · have hw := wf_11 c_9
      refine x_iconst 0 dX2_statement_39 (by decide) ?_
      exact x_zret dX2_statement_40 rfl (isB.n isB_0) (Nat.le_of_ble_eq_true rfl) (Nat.le_of_ble_eq_true rfl) ⟨_, rfl, (GI.i (GI.i g_2)), (Ext.i (Ext.i e_3)), isB_0, hw⟩

/-! BeforeTheEndModel.isWord(I)Z -/
def wp_X2_isWord (post : Int32 → Hp → Prop) (h : Hp) (p1 : Int32) : Prop := (∀ z_3 : Int32, z_3 = ((if p1 < 0 then 0 else (if (gi h 25 12) ≤ p1 then 0 else 1)) : Int32) → (post z_3 h))
abbrev rm_X2_isWord : Room := ({ frames := 1, cells := 0, slots := 0, locals := 60 })
abbrev K_X2_isWord : Kx := ("BeforeTheEndModel", cX2_isWord, 2, (Option.some Jvm.ClassFile.FieldType.boolean), rm_X2_isWord, [], false)
set_option maxHeartbeats 4000000 in
theorem k_X2_isWord {ρ : Rho} {h : Hp} {post : Int32 → Hp → Prop} {p1 : Int32} (G : G0 ρ) (g : GI h) (hw : wp_X2_isWord post h p1) : Con ρ yX2_isWord (ws_ yX2_isWord cX2_isWord 2 (Option.some Jvm.ClassFile.FieldType.boolean)) rm_X2_isWord [.ref (mr ρ 25), .int p1] h (phB h post) psN := by
  refine con_of (own := "BeforeTheEndModel") (isI := false) (l0 := [(0, .ref (mr ρ 25)), (1, .int p1)]) (by decide) rfl (fun z => by cases z) (Nat.le_of_ble_eq_true rfl) rfl (fun _ => ?_)
  show X ρ K_X2_isWord 0 [(0, .ref (mr ρ 25)), (1, .int p1)] [] h 0 0 (phB h post) psN
  refine x_iload_n 1 dX2_isWord_0 rfl ?_
  have kJ_4 : ∀ z_3 : Int32, z_3 = ((if p1 < 0 then 0 else (if (gi h 25 12) ≤ p1 then 0 else 1)) : Int32) → X ρ K_X2_isWord 17 [(0, .ref (mr ρ 25)), (1, .int p1)] [.int z_3] h 0 0 (phB h post) psN := fun z_3 ez_3 => by
    have hw := hw z_3 ez_3
    exact x_zret dX2_isWord_17 rfl (isB.n (Eq.mpr (congrArg isB ez_3) (isB_ite isB_0 (isB_ite isB_0 isB_1)))) (Nat.le_of_ble_eq_true rfl) (Nat.le_of_ble_eq_true rfl) ⟨_, rfl, g, Ext.rf, (Eq.mpr (congrArg isB ez_3) (isB_ite isB_0 (isB_ite isB_0 isB_1))), hw⟩
  refine x_if_lt 16 dX2_isWord_1 (by decide) (fun c_1 => ?_) (fun c_1 => ?_)
  · refine x_iconst 0 dX2_isWord_16 (by decide) ?_
    exact kJ_4 _ ((if_pos c_1)).symm
  · refine x_iload_n 1 dX2_isWord_4 rfl ?_
    refine x_aload_n 0 dX2_isWord_5 rfl ?_
    refine x_get (ci := 2) (v := .int (gi h 25 12)) 12 dX2_isWord_6 (GI.s g (t := (12, 0)) rfl (by decide)) rfl in_X2 (by decide) q1235 (Or.inl rfl) (fv_i rfl) ?_
    refine x_icmp_ge 16 dX2_isWord_9 (by decide) (fun c_2 => ?_) (fun c_2 => ?_)
    · refine x_iconst 0 dX2_isWord_16 (by decide) ?_
      exact kJ_4 _ (((if_neg c_1).trans (if_pos c_2))).symm
    · refine x_iconst 1 dX2_isWord_12 (by decide) ?_
      refine x_goto 17 dX2_isWord_13 (by decide) ?_
      exact kJ_4 _ (((if_neg c_1).trans (if_neg c_2))).symm

/-! BeforeTheEndModel.comesWord(III)V -/
def wp_X2_comesWord (post : Hp → Prop) (h : Hp) (p1 : Int32) (p2 : Int32) (p3 : Int32) : Prop := (vp_in (gi h 25 12) 24 ∧ (vp_in (gi (si h 27 (Int32.toNatClampNeg (gi h 25 12)) p1) 25 12) 24 ∧ (vp_in (gi (si (si h 27 (Int32.toNatClampNeg (gi h 25 12)) p1) 28 (Int32.toNatClampNeg (gi (si h 27 (Int32.toNatClampNeg (gi h 25 12)) p1) 25 12)) p2) 25 12) 24 ∧ (∀ h_4 : Hp, h_4 = (si (si (si h 27 (Int32.toNatClampNeg (gi h 25 12)) p1) 28 (Int32.toNatClampNeg (gi (si h 27 (Int32.toNatClampNeg (gi h 25 12)) p1) 25 12)) p2) 29 (Int32.toNatClampNeg (gi (si (si h 27 (Int32.toNatClampNeg (gi h 25 12)) p1) 28 (Int32.toNatClampNeg (gi (si h 27 (Int32.toNatClampNeg (gi h 25 12)) p1) 25 12)) p2) 25 12)) p3) → (vp_in p1 24 ∧ (vp_in (gi h_4 25 12) 24 ∧ (∀ h_9 : Hp, h_9 = (si (si h_4 30 (Int32.toNatClampNeg (gi h_4 25 12)) ((gi h_4 30 (Int32.toNatClampNeg p1)) + 1)) 25 12 ((gi (si h_4 30 (Int32.toNatClampNeg (gi h_4 25 12)) ((gi h_4 30 (Int32.toNatClampNeg p1)) + 1)) 25 12) + 1)) → (post h_9))))))))
abbrev rm_X2_comesWord : Room := ({ frames := 1, cells := 0, slots := 0, locals := 60 })
abbrev K_X2_comesWord : Kx := ("BeforeTheEndModel", cX2_comesWord, 4, (Option.none : Option Jvm.ClassFile.FieldType), rm_X2_comesWord, [], false)
set_option maxHeartbeats 4000000 in
theorem k_X2_comesWord {ρ : Rho} {h : Hp} {post : Hp → Prop} {p1 : Int32} {p2 : Int32} {p3 : Int32} (G : G0 ρ) (g : GI h) (hw : wp_X2_comesWord post h p1 p2 p3) : Con ρ yX2_comesWord (ws_ yX2_comesWord cX2_comesWord 4 (Option.none : Option Jvm.ClassFile.FieldType)) rm_X2_comesWord [.ref (mr ρ 25), .int p1, .int p2, .int p3] h (phV h post) psN := by
  refine con_of (own := "BeforeTheEndModel") (isI := false) (l0 := [(0, .ref (mr ρ 25)), (1, .int p1), (2, .int p2), (3, .int p3)]) (by decide) rfl (fun z => by cases z) (Nat.le_of_ble_eq_true rfl) rfl (fun _ => ?_)
  show X ρ K_X2_comesWord 0 [(0, .ref (mr ρ 25)), (1, .int p1), (2, .int p2), (3, .int p3)] [] h 0 0 (phV h post) psN
  refine x_aload_n 0 dX2_comesWord_0 rfl ?_
  refine x_get (ci := 2) (v := .ref (mr ρ 27)) 1 dX2_comesWord_1 (GI.s g (t := (12, 0)) rfl (by decide)) rfl in_X2 (by decide) q1224 (Or.inl rfl) (fv_rc rfl (GI.m g (n := 27) rfl (by decide)) (by decide)) ?_
  refine x_aload_n 0 dX2_comesWord_4 rfl ?_
  refine x_get (ci := 2) (v := .int (gi h 25 12)) 12 dX2_comesWord_5 (GI.s g (t := (12, 0)) rfl (by decide)) rfl in_X2 (by decide) q1235 (Or.inl rfl) (fv_i rfl) ?_
  refine x_iload_n 1 dX2_comesWord_8 rfl ?_
  obtain ⟨b_1, hw⟩ := hw
  refine x_iast (n := 24) (j := (Int32.toNatClampNeg (gi h 25 12))) dX2_comesWord_9 rfl (GI.s g (t := (1, 24)) rfl (by decide)) b_1 ?_
  refine x_aload_n 0 dX2_comesWord_10 rfl ?_
  refine x_get (ci := 2) (v := .ref (mr ρ 28)) 2 dX2_comesWord_11 (GI.s (GI.i g) (t := (12, 0)) rfl (by decide)) rfl in_X2 (by decide) q1225 (Or.inl rfl) (fv_rc rfl (GI.m (GI.i g) (n := 28) rfl (by decide)) (by decide)) ?_
  refine x_aload_n 0 dX2_comesWord_14 rfl ?_
  refine x_get (ci := 2) (v := .int (gi (si h 27 (Int32.toNatClampNeg (gi h 25 12)) p1) 25 12)) 12 dX2_comesWord_15 (GI.s (GI.i g) (t := (12, 0)) rfl (by decide)) rfl in_X2 (by decide) q1235 (Or.inl rfl) (fv_i rfl) ?_
  refine x_iload_n 2 dX2_comesWord_18 rfl ?_
  obtain ⟨b_2, hw⟩ := hw
  refine x_iast (n := 24) (j := (Int32.toNatClampNeg (gi (si h 27 (Int32.toNatClampNeg (gi h 25 12)) p1) 25 12))) dX2_comesWord_19 rfl (GI.s (GI.i g) (t := (1, 24)) rfl (by decide)) b_2 ?_
  refine x_aload_n 0 dX2_comesWord_20 rfl ?_
  refine x_get (ci := 2) (v := .ref (mr ρ 29)) 3 dX2_comesWord_21 (GI.s (GI.i (GI.i g)) (t := (12, 0)) rfl (by decide)) rfl in_X2 (by decide) q1226 (Or.inl rfl) (fv_rc rfl (GI.m (GI.i (GI.i g)) (n := 29) rfl (by decide)) (by decide)) ?_
  refine x_aload_n 0 dX2_comesWord_24 rfl ?_
  refine x_get (ci := 2) (v := .int (gi (si (si h 27 (Int32.toNatClampNeg (gi h 25 12)) p1) 28 (Int32.toNatClampNeg (gi (si h 27 (Int32.toNatClampNeg (gi h 25 12)) p1) 25 12)) p2) 25 12)) 12 dX2_comesWord_25 (GI.s (GI.i (GI.i g)) (t := (12, 0)) rfl (by decide)) rfl in_X2 (by decide) q1235 (Or.inl rfl) (fv_i rfl) ?_
  refine x_iload_n 3 dX2_comesWord_28 rfl ?_
  obtain ⟨b_3, hw⟩ := hw
  refine x_iast (n := 24) (j := (Int32.toNatClampNeg (gi (si (si h 27 (Int32.toNatClampNeg (gi h 25 12)) p1) 28 (Int32.toNatClampNeg (gi (si h 27 (Int32.toNatClampNeg (gi h 25 12)) p1) 25 12)) p2) 25 12))) dX2_comesWord_29 rfl (GI.s (GI.i (GI.i g)) (t := (1, 24)) rfl (by decide)) b_3 ?_
  refine x_nmh (fun h_4 eh_4 => ?_)
  have hw := hw h_4 eh_4
  have g_5 : GI h_4 := eh_4 ▸ (GI.i (GI.i (GI.i g)))
  have e_6 : Ext h h_4 := eh_4 ▸ (Ext.i (Ext.i (Ext.i Ext.rf)))
  refine x_aload_n 0 dX2_comesWord_30 rfl ?_
  refine x_get (ci := 2) (v := .ref (mr ρ 30)) 4 dX2_comesWord_31 (GI.s g_5 (t := (12, 0)) rfl (by decide)) rfl in_X2 (by decide) q1227 (Or.inl rfl) (fv_rc rfl (GI.m g_5 (n := 30) rfl (by decide)) (by decide)) ?_
  refine x_aload_n 0 dX2_comesWord_34 rfl ?_
  refine x_get (ci := 2) (v := .int (gi h_4 25 12)) 12 dX2_comesWord_35 (GI.s g_5 (t := (12, 0)) rfl (by decide)) rfl in_X2 (by decide) q1235 (Or.inl rfl) (fv_i rfl) ?_
  refine x_aload_n 0 dX2_comesWord_38 rfl ?_
  refine x_get (ci := 2) (v := .ref (mr ρ 30)) 4 dX2_comesWord_39 (GI.s g_5 (t := (12, 0)) rfl (by decide)) rfl in_X2 (by decide) q1227 (Or.inl rfl) (fv_rc rfl (GI.m g_5 (n := 30) rfl (by decide)) (by decide)) ?_
  refine x_iload_n 1 dX2_comesWord_42 rfl ?_
  obtain ⟨b_7, hw⟩ := hw
  refine x_iald (n := 24) (j := (Int32.toNatClampNeg p1)) dX2_comesWord_43 rfl (GI.s g_5 (t := (1, 24)) rfl (by decide)) b_7 ?_
  refine x_iconst 1 dX2_comesWord_44 (by decide) ?_
  refine x_iadd dX2_comesWord_45 ?_
  obtain ⟨b_8, hw⟩ := hw
  refine x_iast (n := 24) (j := (Int32.toNatClampNeg (gi h_4 25 12))) dX2_comesWord_46 rfl (GI.s g_5 (t := (1, 24)) rfl (by decide)) b_8 ?_
  refine x_aload_n 0 dX2_comesWord_47 rfl ?_
  refine x_dup dX2_comesWord_48 rfl ?_
  refine x_get (ci := 2) (v := .int (gi (si h_4 30 (Int32.toNatClampNeg (gi h_4 25 12)) ((gi h_4 30 (Int32.toNatClampNeg p1)) + 1)) 25 12)) 12 dX2_comesWord_49 (GI.s (GI.i g_5) (t := (12, 0)) rfl (by decide)) rfl in_X2 (by decide) q1235 (Or.inl rfl) (fv_i rfl) ?_
  refine x_iconst 1 dX2_comesWord_52 (by decide) ?_
  refine x_iadd dX2_comesWord_53 ?_
  refine x_put (ci := 2) 12 dX2_comesWord_54 (GI.s (GI.i g_5) (t := (12, 0)) rfl (by decide)) rfl in_X2 tyX2 tyX2_ok nmX2 (by decide) q1235 (Or.inl rfl) rfl rfl rfl (isPut_i rfl) ?_
  refine x_nmh (fun h_9 eh_9 => ?_)
  have hw := hw h_9 eh_9
  have g_10 : GI h_9 := eh_9 ▸ (GI.i (GI.i g_5))
  have e_11 : Ext h h_9 := eh_9 ▸ (Ext.i (Ext.i e_6))
  exact x_vret dX2_comesWord_57 rfl (Nat.le_of_ble_eq_true rfl) (Nat.le_of_ble_eq_true rfl) ⟨rfl, g_10, e_11, hw⟩
