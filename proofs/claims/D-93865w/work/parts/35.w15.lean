/-! THE WALK, printed by wip/D-93865w/gen/main.py -/
set_option maxRecDepth 100000
/-! BeforeTheEndModel.passOne(I)I -/
def w_X2_passOne_38 (post : Int32 → Hp → Prop) (x2 : Int32) (h : Hp) : Prop := (post x2 (si h 25 51 ((gi h 25 51) + 1)))
def wp_X2_passOne (post : Int32 → Hp → Prop) (h : Hp) (p1 : Int32) : Prop := ((((gi h 25 50) = 0 → (vp_in (gi h 25 51) 140))) ∧ (∀ z_3 : Int32, z_3 = ((if (gi h 25 50) = 0 then (gi h 57 (Int32.toNatClampNeg (gi h 25 51))) else p1) : Int32) → (((gi h 25 50) = 0 → (w_X2_passOne_38 post z_3 h)) ∧ (¬ (gi h 25 50) = 0 → (vp_in (gi h 25 51) 140 ∧ (w_X2_passOne_38 post z_3 (si h 57 (Int32.toNatClampNeg (gi h 25 51)) p1)))))))
abbrev rm_X2_passOne : Room := ({ frames := 1, cells := 0, slots := 0, locals := 60 })
abbrev K_X2_passOne : Kx := ("BeforeTheEndModel", cX2_passOne, 3, (Option.some Jvm.ClassFile.FieldType.int), rm_X2_passOne, [], false)
set_option maxHeartbeats 4000000 in
theorem t_X2_passOne_38 {ρ : Rho} {h0 : Hp} {post : Int32 → Hp → Prop} (G : G0 ρ) :
    ∀ (x2 : Int32) (h : Hp), GI h → Ext h0 h → w_X2_passOne_38 post x2 h → X ρ K_X2_passOne 38 [(0, .ref (mr ρ 25)), (2, .int x2)] [] h 0 0 (phI h0 post) psN := by
  intro x2 h g e hw
  refine x_aload_n 0 dX2_passOne_38 rfl ?_
  refine x_dup dX2_passOne_39 rfl ?_
  refine x_get (ci := 2) (v := .int (gi h 25 51)) 51 dX2_passOne_40 (GI.s g (t := (12, 0)) rfl (by decide)) rfl in_X2 (by decide) q1274 (Or.inl rfl) (fv_i rfl) ?_
  refine x_iconst 1 dX2_passOne_43 (by decide) ?_
  refine x_iadd dX2_passOne_44 ?_
  refine x_put (ci := 2) 51 dX2_passOne_45 (GI.s g (t := (12, 0)) rfl (by decide)) rfl in_X2 tyX2 tyX2_ok nmX2 (by decide) q1274 (Or.inl rfl) rfl rfl rfl (isPut_i rfl) ?_
  refine x_iload_n 1 dX2_passOne_48 rfl ?_
  exact x_iret dX2_passOne_49 rfl (Nat.le_of_ble_eq_true rfl) (Nat.le_of_ble_eq_true rfl) ⟨_, rfl, (GI.i g), (Ext.i e), hw⟩
set_option maxHeartbeats 4000000 in
theorem k_X2_passOne {ρ : Rho} {h : Hp} {post : Int32 → Hp → Prop} {p1 : Int32} (G : G0 ρ) (g : GI h) (hw : wp_X2_passOne post h p1) : Con ρ yX2_passOne (ws_ yX2_passOne cX2_passOne 3 (Option.some Jvm.ClassFile.FieldType.int)) rm_X2_passOne [.ref (mr ρ 25), .int p1] h (phI h post) psN := by
  refine con_of (own := "BeforeTheEndModel") (isI := false) (l0 := [(0, .ref (mr ρ 25)), (1, .int p1)]) (by decide) rfl (fun z => by cases z) (Nat.le_of_ble_eq_true rfl) rfl (fun _ => ?_)
  show X ρ K_X2_passOne 0 [(0, .ref (mr ρ 25)), (1, .int p1)] [] h 0 0 (phI h post) psN
  refine x_aload_n 0 dX2_passOne_0 rfl ?_
  refine x_get (ci := 2) (v := .int (gi h 25 50)) 50 dX2_passOne_1 (GI.s g (t := (12, 0)) rfl (by decide)) rfl in_X2 (by decide) q1273 (Or.inl rfl) (fv_i rfl) ?_
  obtain ⟨hO_9, hw⟩ := hw
  have kJ_8 : ∀ z_3 : Int32, z_3 = ((if (gi h 25 50) = 0 then (gi h 57 (Int32.toNatClampNeg (gi h 25 51))) else p1) : Int32) → X ρ K_X2_passOne 20 [(0, .ref (mr ρ 25)), (1, .int p1)] [.int z_3] h 0 0 (phI h post) psN := fun z_3 ez_3 => by
    have hw := hw z_3 ez_3
    refine x_istore_n (lv' := [(2, .int z_3), (0, .ref (mr ρ 25)), (1, .int p1)]) dX2_passOne_20 (Nat.le_of_ble_eq_true rfl) rfl ?_
    refine x_aload_n 1 dX2_passOne_21 rfl ?_
    refine x_get (ci := 2) (v := .int (gi h 25 50)) 50 dX2_passOne_22 (GI.s g (t := (12, 0)) rfl (by decide)) rfl in_X2 (by decide) q1273 (Or.inl rfl) (fv_i rfl) ?_
    obtain ⟨wt_6, wf_7⟩ := hw
    refine x_if_eq 38 dX2_passOne_25 (by decide) (fun c_4 => ?_) (fun c_4 => ?_)
    · have hw := wt_6 c_4
      refine X.sub [1, 0] rfl ?_
      exact t_X2_passOne_38 G  z_3 h g Ext.rf hw
    · have hw := wf_7 c_4
      refine x_aload_n 1 dX2_passOne_28 rfl ?_
      refine x_get (ci := 2) (v := .ref (mr ρ 57)) 48 dX2_passOne_29 (GI.s g (t := (12, 0)) rfl (by decide)) rfl in_X2 (by decide) q1271 (Or.inl rfl) (fv_rc rfl (GI.m g (n := 57) rfl (by decide)) (by decide)) ?_
      refine x_aload_n 1 dX2_passOne_32 rfl ?_
      refine x_get (ci := 2) (v := .int (gi h 25 51)) 51 dX2_passOne_33 (GI.s g (t := (12, 0)) rfl (by decide)) rfl in_X2 (by decide) q1274 (Or.inl rfl) (fv_i rfl) ?_
      refine x_iload_n 2 dX2_passOne_36 rfl ?_
      obtain ⟨b_5, hw⟩ := hw
      refine x_iast (n := 140) (j := (Int32.toNatClampNeg (gi h 25 51))) dX2_passOne_37 rfl (GI.s g (t := (1, 140)) rfl (by decide)) b_5 ?_
      refine X.sub [1, 0] rfl ?_
      exact t_X2_passOne_38 G  z_3 (si h 57 (Int32.toNatClampNeg (gi h 25 51)) p1) (GI.i g) (Ext.i Ext.rf) hw
  have hO_90 := hO_9
  refine x_if_eq 11 dX2_passOne_4 (by decide) (fun c_1 => ?_) (fun c_1 => ?_)
  · have hO_9_ := hO_90 c_1
    have b_2 := hO_9_
    refine x_aload_n 0 dX2_passOne_11 rfl ?_
    refine x_get (ci := 2) (v := .ref (mr ρ 57)) 48 dX2_passOne_12 (GI.s g (t := (12, 0)) rfl (by decide)) rfl in_X2 (by decide) q1271 (Or.inl rfl) (fv_rc rfl (GI.m g (n := 57) rfl (by decide)) (by decide)) ?_
    refine x_aload_n 0 dX2_passOne_15 rfl ?_
    refine x_get (ci := 2) (v := .int (gi h 25 51)) 51 dX2_passOne_16 (GI.s g (t := (12, 0)) rfl (by decide)) rfl in_X2 (by decide) q1274 (Or.inl rfl) (fv_i rfl) ?_
    refine x_iald (n := 140) (j := (Int32.toNatClampNeg (gi h 25 51))) dX2_passOne_19 rfl (GI.s g (t := (1, 140)) rfl (by decide)) b_2 ?_
    exact kJ_8 _ ((if_pos c_1)).symm
  · refine x_iload_n 1 dX2_passOne_7 rfl ?_
    refine x_goto 20 dX2_passOne_8 (by decide) ?_
    exact kJ_8 _ ((if_neg c_1)).symm

/-! BeforeTheEndModel.passesAll()V -/
def wp_X2_passesAll (post : Hp → Prop) (h : Hp) : Prop := (wp_X2_passes (fun h_1 => GI h_1 → Ext (si h 25 51 0) h_1 → (wp_X2_passes (fun h_6 => GI h_6 → Ext h_1 h_6 → (wp_X2_passes (fun h_11 => GI h_11 → Ext h_6 h_11 → (wp_X2_passes (fun h_16 => GI h_16 → Ext h_11 h_16 → (wp_X2_passes (fun h_21 => GI h_21 → Ext h_16 h_21 → (wp_X2_passes (fun h_26 => GI h_26 → Ext h_21 h_26 → (wp_X2_passes (fun h_31 => GI h_31 → Ext h_26 h_31 → (wp_X2_passes (fun h_36 => GI h_36 → Ext h_31 h_36 → (wp_X2_passes (fun h_41 => GI h_41 → Ext h_36 h_41 → (wp_X2_passes (fun h_46 => GI h_46 → Ext h_41 h_46 → (wp_X2_passes (fun h_51 => GI h_51 → Ext h_46 h_51 → (wp_X2_passOne (fun r_59 h_56 => GI h_56 → Ext h_51 h_56 → (wp_X2_passOne (fun r_64 h_61 => GI h_61 → Ext (si h_56 25 12 r_59) h_61 → (wp_X2_passOne (fun r_69 h_66 => GI h_66 → Ext (si h_61 25 13 r_64) h_66 → (post (si h_66 25 44 r_69))) (si h_61 25 13 r_64) (gi (si h_61 25 13 r_64) 25 44))) (si h_56 25 12 r_59) (gi (si h_56 25 12 r_59) 25 13))) h_51 (gi h_51 25 12))) h_46 53 5)) h_41 36 4)) h_36 35 4)) h_31 34 4)) h_26 33 4)) h_21 32 4)) h_16 31 4)) h_11 30 24)) h_6 29 24)) h_1 28 24)) (si h 25 51 0) 27 24)
abbrev rm_X2_passesAll : Room := ({ frames := 2, cells := 0, slots := 0, locals := 82 })
abbrev K_X2_passesAll : Kx := ("BeforeTheEndModel", cX2_passesAll, 1, (Option.none : Option Jvm.ClassFile.FieldType), rm_X2_passesAll, [], false)
set_option maxHeartbeats 4000000 in
theorem k_X2_passesAll {ρ : Rho} {h : Hp} {post : Hp → Prop} (G : G0 ρ) (g : GI h) (hw : wp_X2_passesAll post h) : Con ρ yX2_passesAll (ws_ yX2_passesAll cX2_passesAll 1 (Option.none : Option Jvm.ClassFile.FieldType)) rm_X2_passesAll [.ref (mr ρ 25)] h (phV h post) psN := by
  refine con_of (own := "BeforeTheEndModel") (isI := false) (l0 := [(0, .ref (mr ρ 25))]) (by decide) rfl (fun z => by cases z) (Nat.le_of_ble_eq_true rfl) rfl (fun _ => ?_)
  show X ρ K_X2_passesAll 0 [(0, .ref (mr ρ 25))] [] h 0 0 (phV h post) psN
  refine x_aload_n 0 dX2_passesAll_0 rfl ?_
  refine x_iconst 0 dX2_passesAll_1 (by decide) ?_
  refine x_put (ci := 2) 51 dX2_passesAll_2 (GI.s g (t := (12, 0)) rfl (by decide)) rfl in_X2 tyX2 tyX2_ok nmX2 (by decide) q1274 (Or.inl rfl) rfl rfl rfl (isPut_i rfl) ?_
  refine x_aload_n 0 dX2_passesAll_5 rfl ?_
  refine x_aload_n 0 dX2_passesAll_6 rfl ?_
  refine x_get (ci := 2) (v := .ref (mr ρ 27)) 1 dX2_passesAll_7 (GI.s (GI.i g) (t := (12, 0)) rfl (by decide)) rfl in_X2 (by decide) q1224 (Or.inl rfl) (fv_rc rfl (GI.m (GI.i g) (n := 27) rfl (by decide)) (by decide)) ?_
  refine x_callV (ci := 2) [.ref (mr ρ 27)] 1 dX2_passesAll_10 (k_X2_passes G (GI.i g) (GI.s (GI.i g) (t := (1, 24)) rfl (by decide)) hw) (GI.s (GI.i g) (t := (12, 0)) rfl (by decide)) rfl q1702 q1704 qs101 q106 q1705 (by decide) rfl rfl ⟨(Nat.le_of_ble_eq_true rfl), (Nat.le_of_ble_eq_true rfl)⟩ (Nat.le_of_ble_eq_true rfl) ⟨(Nat.le_of_ble_eq_true rfl), (Nat.le_of_ble_eq_true rfl)⟩ (fun v9 h_1 hv9 => ?_) (fun _ _ _ _ _ z _ _ => False.elim z)
  obtain ⟨rfl, g_2, e_3, hw⟩ := hv9
  have hw := hw g_2 e_3
  show X ρ K_X2_passesAll 13 [(0, .ref (mr ρ 25))] [] h_1 0 0 (phV h post) psN
  refine x_aload_n 0 dX2_passesAll_13 rfl ?_
  refine x_aload_n 0 dX2_passesAll_14 rfl ?_
  refine x_get (ci := 2) (v := .ref (mr ρ 28)) 2 dX2_passesAll_15 (GI.s g_2 (t := (12, 0)) rfl (by decide)) rfl in_X2 (by decide) q1225 (Or.inl rfl) (fv_rc rfl (GI.m g_2 (n := 28) rfl (by decide)) (by decide)) ?_
  refine x_callV (ci := 2) [.ref (mr ρ 28)] 1 dX2_passesAll_18 (k_X2_passes G g_2 (GI.s g_2 (t := (1, 24)) rfl (by decide)) hw) (GI.s g_2 (t := (12, 0)) rfl (by decide)) rfl q1702 q1704 qs101 q106 q1705 (by decide) rfl rfl ⟨(Nat.le_of_ble_eq_true rfl), (Nat.le_of_ble_eq_true rfl)⟩ (Nat.le_of_ble_eq_true rfl) ⟨(Nat.le_of_ble_eq_true rfl), (Nat.le_of_ble_eq_true rfl)⟩ (fun v9 h_6 hv9 => ?_) (fun _ _ _ _ _ z _ _ => False.elim z)
  obtain ⟨rfl, g_7, e_8, hw⟩ := hv9
  have hw := hw g_7 e_8
  show X ρ K_X2_passesAll 21 [(0, .ref (mr ρ 25))] [] h_6 0 0 (phV h post) psN
  refine x_aload_n 0 dX2_passesAll_21 rfl ?_
  refine x_aload_n 0 dX2_passesAll_22 rfl ?_
  refine x_get (ci := 2) (v := .ref (mr ρ 29)) 3 dX2_passesAll_23 (GI.s g_7 (t := (12, 0)) rfl (by decide)) rfl in_X2 (by decide) q1226 (Or.inl rfl) (fv_rc rfl (GI.m g_7 (n := 29) rfl (by decide)) (by decide)) ?_
  refine x_callV (ci := 2) [.ref (mr ρ 29)] 1 dX2_passesAll_26 (k_X2_passes G g_7 (GI.s g_7 (t := (1, 24)) rfl (by decide)) hw) (GI.s g_7 (t := (12, 0)) rfl (by decide)) rfl q1702 q1704 qs101 q106 q1705 (by decide) rfl rfl ⟨(Nat.le_of_ble_eq_true rfl), (Nat.le_of_ble_eq_true rfl)⟩ (Nat.le_of_ble_eq_true rfl) ⟨(Nat.le_of_ble_eq_true rfl), (Nat.le_of_ble_eq_true rfl)⟩ (fun v9 h_11 hv9 => ?_) (fun _ _ _ _ _ z _ _ => False.elim z)
  obtain ⟨rfl, g_12, e_13, hw⟩ := hv9
  have hw := hw g_12 e_13
  show X ρ K_X2_passesAll 29 [(0, .ref (mr ρ 25))] [] h_11 0 0 (phV h post) psN
  refine x_aload_n 0 dX2_passesAll_29 rfl ?_
  refine x_aload_n 0 dX2_passesAll_30 rfl ?_
  refine x_get (ci := 2) (v := .ref (mr ρ 30)) 4 dX2_passesAll_31 (GI.s g_12 (t := (12, 0)) rfl (by decide)) rfl in_X2 (by decide) q1227 (Or.inl rfl) (fv_rc rfl (GI.m g_12 (n := 30) rfl (by decide)) (by decide)) ?_
  refine x_callV (ci := 2) [.ref (mr ρ 30)] 1 dX2_passesAll_34 (k_X2_passes G g_12 (GI.s g_12 (t := (1, 24)) rfl (by decide)) hw) (GI.s g_12 (t := (12, 0)) rfl (by decide)) rfl q1702 q1704 qs101 q106 q1705 (by decide) rfl rfl ⟨(Nat.le_of_ble_eq_true rfl), (Nat.le_of_ble_eq_true rfl)⟩ (Nat.le_of_ble_eq_true rfl) ⟨(Nat.le_of_ble_eq_true rfl), (Nat.le_of_ble_eq_true rfl)⟩ (fun v9 h_16 hv9 => ?_) (fun _ _ _ _ _ z _ _ => False.elim z)
  obtain ⟨rfl, g_17, e_18, hw⟩ := hv9
  have hw := hw g_17 e_18
  show X ρ K_X2_passesAll 37 [(0, .ref (mr ρ 25))] [] h_16 0 0 (phV h post) psN
  refine x_aload_n 0 dX2_passesAll_37 rfl ?_
  refine x_aload_n 0 dX2_passesAll_38 rfl ?_
  refine x_get (ci := 2) (v := .ref (mr ρ 31)) 5 dX2_passesAll_39 (GI.s g_17 (t := (12, 0)) rfl (by decide)) rfl in_X2 (by decide) q1228 (Or.inl rfl) (fv_rc rfl (GI.m g_17 (n := 31) rfl (by decide)) (by decide)) ?_
  refine x_callV (ci := 2) [.ref (mr ρ 31)] 1 dX2_passesAll_42 (k_X2_passes G g_17 (GI.s g_17 (t := (1, 4)) rfl (by decide)) hw) (GI.s g_17 (t := (12, 0)) rfl (by decide)) rfl q1702 q1704 qs101 q106 q1705 (by decide) rfl rfl ⟨(Nat.le_of_ble_eq_true rfl), (Nat.le_of_ble_eq_true rfl)⟩ (Nat.le_of_ble_eq_true rfl) ⟨(Nat.le_of_ble_eq_true rfl), (Nat.le_of_ble_eq_true rfl)⟩ (fun v9 h_21 hv9 => ?_) (fun _ _ _ _ _ z _ _ => False.elim z)
  obtain ⟨rfl, g_22, e_23, hw⟩ := hv9
  have hw := hw g_22 e_23
  show X ρ K_X2_passesAll 45 [(0, .ref (mr ρ 25))] [] h_21 0 0 (phV h post) psN
  refine x_aload_n 0 dX2_passesAll_45 rfl ?_
  refine x_aload_n 0 dX2_passesAll_46 rfl ?_
  refine x_get (ci := 2) (v := .ref (mr ρ 32)) 6 dX2_passesAll_47 (GI.s g_22 (t := (12, 0)) rfl (by decide)) rfl in_X2 (by decide) q1229 (Or.inl rfl) (fv_rc rfl (GI.m g_22 (n := 32) rfl (by decide)) (by decide)) ?_
  refine x_callV (ci := 2) [.ref (mr ρ 32)] 1 dX2_passesAll_50 (k_X2_passes G g_22 (GI.s g_22 (t := (1, 4)) rfl (by decide)) hw) (GI.s g_22 (t := (12, 0)) rfl (by decide)) rfl q1702 q1704 qs101 q106 q1705 (by decide) rfl rfl ⟨(Nat.le_of_ble_eq_true rfl), (Nat.le_of_ble_eq_true rfl)⟩ (Nat.le_of_ble_eq_true rfl) ⟨(Nat.le_of_ble_eq_true rfl), (Nat.le_of_ble_eq_true rfl)⟩ (fun v9 h_26 hv9 => ?_) (fun _ _ _ _ _ z _ _ => False.elim z)
  obtain ⟨rfl, g_27, e_28, hw⟩ := hv9
  have hw := hw g_27 e_28
  show X ρ K_X2_passesAll 53 [(0, .ref (mr ρ 25))] [] h_26 0 0 (phV h post) psN
  refine x_aload_n 0 dX2_passesAll_53 rfl ?_
  refine x_aload_n 0 dX2_passesAll_54 rfl ?_
  refine x_get (ci := 2) (v := .ref (mr ρ 33)) 7 dX2_passesAll_55 (GI.s g_27 (t := (12, 0)) rfl (by decide)) rfl in_X2 (by decide) q1230 (Or.inl rfl) (fv_rc rfl (GI.m g_27 (n := 33) rfl (by decide)) (by decide)) ?_
  refine x_callV (ci := 2) [.ref (mr ρ 33)] 1 dX2_passesAll_58 (k_X2_passes G g_27 (GI.s g_27 (t := (1, 4)) rfl (by decide)) hw) (GI.s g_27 (t := (12, 0)) rfl (by decide)) rfl q1702 q1704 qs101 q106 q1705 (by decide) rfl rfl ⟨(Nat.le_of_ble_eq_true rfl), (Nat.le_of_ble_eq_true rfl)⟩ (Nat.le_of_ble_eq_true rfl) ⟨(Nat.le_of_ble_eq_true rfl), (Nat.le_of_ble_eq_true rfl)⟩ (fun v9 h_31 hv9 => ?_) (fun _ _ _ _ _ z _ _ => False.elim z)
  obtain ⟨rfl, g_32, e_33, hw⟩ := hv9
  have hw := hw g_32 e_33
  show X ρ K_X2_passesAll 61 [(0, .ref (mr ρ 25))] [] h_31 0 0 (phV h post) psN
  refine x_aload_n 0 dX2_passesAll_61 rfl ?_
  refine x_aload_n 0 dX2_passesAll_62 rfl ?_
  refine x_get (ci := 2) (v := .ref (mr ρ 34)) 8 dX2_passesAll_63 (GI.s g_32 (t := (12, 0)) rfl (by decide)) rfl in_X2 (by decide) q1231 (Or.inl rfl) (fv_rc rfl (GI.m g_32 (n := 34) rfl (by decide)) (by decide)) ?_
  refine x_callV (ci := 2) [.ref (mr ρ 34)] 1 dX2_passesAll_66 (k_X2_passes G g_32 (GI.s g_32 (t := (1, 4)) rfl (by decide)) hw) (GI.s g_32 (t := (12, 0)) rfl (by decide)) rfl q1702 q1704 qs101 q106 q1705 (by decide) rfl rfl ⟨(Nat.le_of_ble_eq_true rfl), (Nat.le_of_ble_eq_true rfl)⟩ (Nat.le_of_ble_eq_true rfl) ⟨(Nat.le_of_ble_eq_true rfl), (Nat.le_of_ble_eq_true rfl)⟩ (fun v9 h_36 hv9 => ?_) (fun _ _ _ _ _ z _ _ => False.elim z)
  obtain ⟨rfl, g_37, e_38, hw⟩ := hv9
  have hw := hw g_37 e_38
  show X ρ K_X2_passesAll 69 [(0, .ref (mr ρ 25))] [] h_36 0 0 (phV h post) psN
  refine x_aload_n 0 dX2_passesAll_69 rfl ?_
  refine x_aload_n 0 dX2_passesAll_70 rfl ?_
  refine x_get (ci := 2) (v := .ref (mr ρ 35)) 9 dX2_passesAll_71 (GI.s g_37 (t := (12, 0)) rfl (by decide)) rfl in_X2 (by decide) q1232 (Or.inl rfl) (fv_rc rfl (GI.m g_37 (n := 35) rfl (by decide)) (by decide)) ?_
  refine x_callV (ci := 2) [.ref (mr ρ 35)] 1 dX2_passesAll_74 (k_X2_passes G g_37 (GI.s g_37 (t := (1, 4)) rfl (by decide)) hw) (GI.s g_37 (t := (12, 0)) rfl (by decide)) rfl q1702 q1704 qs101 q106 q1705 (by decide) rfl rfl ⟨(Nat.le_of_ble_eq_true rfl), (Nat.le_of_ble_eq_true rfl)⟩ (Nat.le_of_ble_eq_true rfl) ⟨(Nat.le_of_ble_eq_true rfl), (Nat.le_of_ble_eq_true rfl)⟩ (fun v9 h_41 hv9 => ?_) (fun _ _ _ _ _ z _ _ => False.elim z)
  obtain ⟨rfl, g_42, e_43, hw⟩ := hv9
  have hw := hw g_42 e_43
  show X ρ K_X2_passesAll 77 [(0, .ref (mr ρ 25))] [] h_41 0 0 (phV h post) psN
  refine x_aload_n 0 dX2_passesAll_77 rfl ?_
  refine x_aload_n 0 dX2_passesAll_78 rfl ?_
  refine x_get (ci := 2) (v := .ref (mr ρ 36)) 10 dX2_passesAll_79 (GI.s g_42 (t := (12, 0)) rfl (by decide)) rfl in_X2 (by decide) q1233 (Or.inl rfl) (fv_rc rfl (GI.m g_42 (n := 36) rfl (by decide)) (by decide)) ?_
  refine x_callV (ci := 2) [.ref (mr ρ 36)] 1 dX2_passesAll_82 (k_X2_passes G g_42 (GI.s g_42 (t := (1, 4)) rfl (by decide)) hw) (GI.s g_42 (t := (12, 0)) rfl (by decide)) rfl q1702 q1704 qs101 q106 q1705 (by decide) rfl rfl ⟨(Nat.le_of_ble_eq_true rfl), (Nat.le_of_ble_eq_true rfl)⟩ (Nat.le_of_ble_eq_true rfl) ⟨(Nat.le_of_ble_eq_true rfl), (Nat.le_of_ble_eq_true rfl)⟩ (fun v9 h_46 hv9 => ?_) (fun _ _ _ _ _ z _ _ => False.elim z)
  obtain ⟨rfl, g_47, e_48, hw⟩ := hv9
  have hw := hw g_47 e_48
  show X ρ K_X2_passesAll 85 [(0, .ref (mr ρ 25))] [] h_46 0 0 (phV h post) psN
  refine x_aload_n 0 dX2_passesAll_85 rfl ?_
  refine x_aload_n 0 dX2_passesAll_86 rfl ?_
  refine x_get (ci := 2) (v := .ref (mr ρ 53)) 41 dX2_passesAll_87 (GI.s g_47 (t := (12, 0)) rfl (by decide)) rfl in_X2 (by decide) q1264 (Or.inl rfl) (fv_rc rfl (GI.m g_47 (n := 53) rfl (by decide)) (by decide)) ?_
  refine x_callV (ci := 2) [.ref (mr ρ 53)] 1 dX2_passesAll_90 (k_X2_passes G g_47 (GI.s g_47 (t := (1, 5)) rfl (by decide)) hw) (GI.s g_47 (t := (12, 0)) rfl (by decide)) rfl q1702 q1704 qs101 q106 q1705 (by decide) rfl rfl ⟨(Nat.le_of_ble_eq_true rfl), (Nat.le_of_ble_eq_true rfl)⟩ (Nat.le_of_ble_eq_true rfl) ⟨(Nat.le_of_ble_eq_true rfl), (Nat.le_of_ble_eq_true rfl)⟩ (fun v9 h_51 hv9 => ?_) (fun _ _ _ _ _ z _ _ => False.elim z)
  obtain ⟨rfl, g_52, e_53, hw⟩ := hv9
  have hw := hw g_52 e_53
  show X ρ K_X2_passesAll 93 [(0, .ref (mr ρ 25))] [] h_51 0 0 (phV h post) psN
  refine x_aload_n 0 dX2_passesAll_93 rfl ?_
  refine x_aload_n 0 dX2_passesAll_94 rfl ?_
  refine x_aload_n 0 dX2_passesAll_95 rfl ?_
  refine x_get (ci := 2) (v := .int (gi h_51 25 12)) 12 dX2_passesAll_96 (GI.s g_52 (t := (12, 0)) rfl (by decide)) rfl in_X2 (by decide) q1235 (Or.inl rfl) (fv_i rfl) ?_
  refine x_callV (ci := 2) [.int (gi h_51 25 12)] 1 dX2_passesAll_99 (k_X2_passOne G g_52 hw) (GI.s g_52 (t := (12, 0)) rfl (by decide)) rfl q1706 q1708 qs102 q106 q1709 (by decide) rfl rfl ⟨(Nat.le_of_ble_eq_true rfl), (Nat.le_of_ble_eq_true rfl)⟩ (Nat.le_of_ble_eq_true rfl) ⟨(Nat.le_of_ble_eq_true rfl), (Nat.le_of_ble_eq_true rfl)⟩ (fun v9 h_56 hv9 => ?_) (fun _ _ _ _ _ z _ _ => False.elim z)
  obtain ⟨r_59, rfl, g_57, e_58, hw⟩ := hv9
  have hw := hw g_57 e_58
  show X ρ K_X2_passesAll 102 [(0, .ref (mr ρ 25))] [.int r_59, .ref (mr ρ 25)] h_56 0 0 (phV h post) psN
  refine x_put (ci := 2) 12 dX2_passesAll_102 (GI.s g_57 (t := (12, 0)) rfl (by decide)) rfl in_X2 tyX2 tyX2_ok nmX2 (by decide) q1235 (Or.inl rfl) rfl rfl rfl (isPut_i rfl) ?_
  refine x_aload_n 0 dX2_passesAll_105 rfl ?_
  refine x_aload_n 0 dX2_passesAll_106 rfl ?_
  refine x_aload_n 0 dX2_passesAll_107 rfl ?_
  refine x_get (ci := 2) (v := .int (gi (si h_56 25 12 r_59) 25 13)) 13 dX2_passesAll_108 (GI.s (GI.i g_57) (t := (12, 0)) rfl (by decide)) rfl in_X2 (by decide) q1236 (Or.inl rfl) (fv_i rfl) ?_
  refine x_callV (ci := 2) [.int (gi (si h_56 25 12 r_59) 25 13)] 1 dX2_passesAll_111 (k_X2_passOne G (GI.i g_57) hw) (GI.s (GI.i g_57) (t := (12, 0)) rfl (by decide)) rfl q1706 q1708 qs102 q106 q1709 (by decide) rfl rfl ⟨(Nat.le_of_ble_eq_true rfl), (Nat.le_of_ble_eq_true rfl)⟩ (Nat.le_of_ble_eq_true rfl) ⟨(Nat.le_of_ble_eq_true rfl), (Nat.le_of_ble_eq_true rfl)⟩ (fun v9 h_61 hv9 => ?_) (fun _ _ _ _ _ z _ _ => False.elim z)
  obtain ⟨r_64, rfl, g_62, e_63, hw⟩ := hv9
  have hw := hw g_62 e_63
  show X ρ K_X2_passesAll 114 [(0, .ref (mr ρ 25))] [.int r_64, .ref (mr ρ 25)] h_61 0 0 (phV h post) psN
  refine x_put (ci := 2) 13 dX2_passesAll_114 (GI.s g_62 (t := (12, 0)) rfl (by decide)) rfl in_X2 tyX2 tyX2_ok nmX2 (by decide) q1236 (Or.inl rfl) rfl rfl rfl (isPut_i rfl) ?_
  refine x_aload_n 0 dX2_passesAll_117 rfl ?_
  refine x_aload_n 0 dX2_passesAll_118 rfl ?_
  refine x_aload_n 0 dX2_passesAll_119 rfl ?_
  refine x_get (ci := 2) (v := .int (gi (si h_61 25 13 r_64) 25 44)) 44 dX2_passesAll_120 (GI.s (GI.i g_62) (t := (12, 0)) rfl (by decide)) rfl in_X2 (by decide) q1267 (Or.inl rfl) (fv_i rfl) ?_
  refine x_callV (ci := 2) [.int (gi (si h_61 25 13 r_64) 25 44)] 1 dX2_passesAll_123 (k_X2_passOne G (GI.i g_62) hw) (GI.s (GI.i g_62) (t := (12, 0)) rfl (by decide)) rfl q1706 q1708 qs102 q106 q1709 (by decide) rfl rfl ⟨(Nat.le_of_ble_eq_true rfl), (Nat.le_of_ble_eq_true rfl)⟩ (Nat.le_of_ble_eq_true rfl) ⟨(Nat.le_of_ble_eq_true rfl), (Nat.le_of_ble_eq_true rfl)⟩ (fun v9 h_66 hv9 => ?_) (fun _ _ _ _ _ z _ _ => False.elim z)
  obtain ⟨r_69, rfl, g_67, e_68, hw⟩ := hv9
  have hw := hw g_67 e_68
  show X ρ K_X2_passesAll 126 [(0, .ref (mr ρ 25))] [.int r_69, .ref (mr ρ 25)] h_66 0 0 (phV h post) psN
  refine x_put (ci := 2) 44 dX2_passesAll_126 (GI.s g_67 (t := (12, 0)) rfl (by decide)) rfl in_X2 tyX2 tyX2_ok nmX2 (by decide) q1267 (Or.inl rfl) rfl rfl rfl (isPut_i rfl) ?_
  exact x_vret dX2_passesAll_129 rfl (Nat.le_of_ble_eq_true rfl) (Nat.le_of_ble_eq_true rfl) ⟨rfl, (GI.i g_67), (Ext.i (Ext.tr (Ext.i (Ext.tr (Ext.i (Ext.tr (Ext.tr (Ext.tr (Ext.tr (Ext.tr (Ext.tr (Ext.tr (Ext.tr (Ext.tr (Ext.tr (Ext.tr (Ext.tr (Ext.i Ext.rf) e_3) e_8) e_13) e_18) e_23) e_28) e_33) e_38) e_43) e_48) e_53) e_58)) e_63)) e_68)), hw⟩

/-! BeforeTheEndModel.image()I -/
def wp_X2_image (post : Int32 → Hp → Prop) (h : Hp) : Prop := (wp_X2_passesAll (fun h_1 => GI h_1 → Ext (si (si h 25 50 1) 25 49 1) h_1 → (post (gi h_1 25 12) h_1)) (si (si h 25 50 1) 25 49 1))
abbrev rm_X2_image : Room := ({ frames := 3, cells := 0, slots := 0, locals := 102 })
abbrev K_X2_image : Kx := ("BeforeTheEndModel", cX2_image, 1, (Option.some Jvm.ClassFile.FieldType.int), rm_X2_image, [], false)
set_option maxHeartbeats 4000000 in
theorem k_X2_image {ρ : Rho} {h : Hp} {post : Int32 → Hp → Prop} (G : G0 ρ) (g : GI h) (hw : wp_X2_image post h) : Con ρ yX2_image (ws_ yX2_image cX2_image 1 (Option.some Jvm.ClassFile.FieldType.int)) rm_X2_image [.ref (mr ρ 25)] h (phI h post) psN := by
  refine con_of (own := "BeforeTheEndModel") (isI := false) (l0 := [(0, .ref (mr ρ 25))]) (by decide) rfl (fun z => by cases z) (Nat.le_of_ble_eq_true rfl) rfl (fun _ => ?_)
  show X ρ K_X2_image 0 [(0, .ref (mr ρ 25))] [] h 0 0 (phI h post) psN
  refine x_aload_n 0 dX2_image_0 rfl ?_
  refine x_iconst 1 dX2_image_1 (by decide) ?_
  refine x_put (ci := 2) 50 dX2_image_2 (GI.s g (t := (12, 0)) rfl (by decide)) rfl in_X2 tyX2 tyX2_ok nmX2 (by decide) q1273 (Or.inl rfl) rfl (isB.n isB_1) (isB.f isB_1) (isPut_i rfl) ?_
  refine x_aload_n 0 dX2_image_5 rfl ?_
  refine x_iconst 1 dX2_image_6 (by decide) ?_
  refine x_put (ci := 2) 49 dX2_image_7 (GI.s (GI.i g) (t := (12, 0)) rfl (by decide)) rfl in_X2 tyX2 tyX2_ok nmX2 (by decide) q1272 (Or.inl rfl) rfl (isB.n isB_1) (isB.f isB_1) (isPut_i rfl) ?_
  refine x_aload_n 0 dX2_image_10 rfl ?_
  refine x_callV (ci := 2) [] 0 dX2_image_11 (k_X2_passesAll G (GI.i (GI.i g)) hw) (GI.s (GI.i (GI.i g)) (t := (12, 0)) rfl (by decide)) rfl q1698 q1700 qs100 q106 q1701 (by decide) rfl rfl ⟨(Nat.le_of_ble_eq_true rfl), (Nat.le_of_ble_eq_true rfl)⟩ (Nat.le_of_ble_eq_true rfl) ⟨(Nat.le_of_ble_eq_true rfl), (Nat.le_of_ble_eq_true rfl)⟩ (fun v9 h_1 hv9 => ?_) (fun _ _ _ _ _ z _ _ => False.elim z)
  obtain ⟨rfl, g_2, e_3, hw⟩ := hv9
  have hw := hw g_2 e_3
  show X ρ K_X2_image 14 [(0, .ref (mr ρ 25))] [] h_1 0 0 (phI h post) psN
  refine x_aload_n 0 dX2_image_14 rfl ?_
  refine x_get (ci := 2) (v := .int (gi h_1 25 12)) 12 dX2_image_15 (GI.s g_2 (t := (12, 0)) rfl (by decide)) rfl in_X2 (by decide) q1235 (Or.inl rfl) (fv_i rfl) ?_
  exact x_iret dX2_image_18 rfl (Nat.le_of_ble_eq_true rfl) (Nat.le_of_ble_eq_true rfl) ⟨_, rfl, g_2, (Ext.tr (Ext.i (Ext.i Ext.rf)) e_3), hw⟩

/-! BeforeTheEnd.on()I -/
def wp_X0_on (post : Int32 → Hp → Prop) (h : Hp) : Prop := (wp_X0_act (fun r_4 h_1 => GI h_1 → Ext h h_1 → (post r_4 h_1)) h 25 0 0 0)
abbrev rm_X0_on : Room := ({ frames := 19, cells := 1868, slots := 13143, locals := 599 })
abbrev K_X0_on : Kx := ("BeforeTheEnd", cX0_on, 1, (Option.some Jvm.ClassFile.FieldType.int), rm_X0_on, [], false)
set_option maxHeartbeats 4000000 in
theorem k_X0_on {ρ : Rho} {h : Hp} {post : Int32 → Hp → Prop} (G : G0 ρ) (g : GI h) (hw : wp_X0_on post h) : Con ρ yX0_on (ws_ yX0_on cX0_on 1 (Option.some Jvm.ClassFile.FieldType.int)) rm_X0_on [.ref (mr ρ 1)] h (phI h post) psN := by
  refine con_of (own := "BeforeTheEnd") (isI := false) (l0 := [(0, .ref (mr ρ 1))]) (by decide) rfl (fun z => by cases z) (Nat.le_of_ble_eq_true rfl) rfl (fun _ => ?_)
  show X ρ K_X0_on 0 [(0, .ref (mr ρ 1))] [] h 0 0 (phI h post) psN
  refine x_aload_n 0 dX0_on_0 rfl ?_
  refine x_bipush 25 dX0_on_1 (by decide) ?_
  refine x_iconst 0 dX0_on_3 (by decide) ?_
  refine x_iconst 0 dX0_on_4 (by decide) ?_
  refine x_iconst 0 dX0_on_5 (by decide) ?_
  refine x_callH (ci := 0) [.int 25, .int 0, .int 0, .int 0] 4 dX0_on_6 (k_X0_act G g hw) (GI.s g (t := (10, 0)) rfl (by decide)) rfl q383 q385 qs3 q104 q386 (by decide) rfl rfl ⟨(Nat.le_of_ble_eq_true rfl), (Nat.le_of_ble_eq_true rfl)⟩ (Nat.le_of_ble_eq_true rfl) ⟨(Nat.le_of_ble_eq_true rfl), (Nat.le_of_ble_eq_true rfl)⟩ (fun v9 h_1 hv9 => ?_) (fun _ _ _ _ _ z _ _ => False.elim z)
  obtain ⟨r_4, rfl, g_2, e_3, hw⟩ := hv9
  have hw := hw g_2 e_3
  show X ρ K_X0_on 9 [(0, .ref (mr ρ 1))] [.int r_4] h_1 1868 13143 (phI h post) psN
  exact x_iret dX0_on_9 rfl (Nat.le_of_ble_eq_true rfl) (Nat.le_of_ble_eq_true rfl) ⟨_, rfl, g_2, e_3, hw⟩

/-! BeforeTheEndModel.on()I -/
def wp_X2_on (post : Int32 → Hp → Prop) (h : Hp) : Prop := ((¬ (gi h 25 49) = 0 → (wp_X2_passesAll (fun h_2 => GI h_2 → Ext (si h 25 50 0) h_2 → (post (gi h_2 25 12) h_2)) (si h 25 50 0))) ∧ ((gi h 25 49) = 0 → (wp_X2_no (fun r_10 h_7 => GI h_7 → Ext h h_7 → (post r_10 h_7)) h (-3))))
abbrev rm_X2_on : Room := ({ frames := 3, cells := 0, slots := 0, locals := 102 })
abbrev K_X2_on : Kx := ("BeforeTheEndModel", cX2_on, 1, (Option.some Jvm.ClassFile.FieldType.int), rm_X2_on, [], false)
set_option maxHeartbeats 4000000 in
theorem k_X2_on {ρ : Rho} {h : Hp} {post : Int32 → Hp → Prop} (G : G0 ρ) (g : GI h) (hw : wp_X2_on post h) : Con ρ yX2_on (ws_ yX2_on cX2_on 1 (Option.some Jvm.ClassFile.FieldType.int)) rm_X2_on [.ref (mr ρ 25)] h (phI h post) psN := by
  refine con_of (own := "BeforeTheEndModel") (isI := false) (l0 := [(0, .ref (mr ρ 25))]) (by decide) rfl (fun z => by cases z) (Nat.le_of_ble_eq_true rfl) rfl (fun _ => ?_)
  show X ρ K_X2_on 0 [(0, .ref (mr ρ 25))] [] h 0 0 (phI h post) psN
  refine x_aload_n 0 dX2_on_0 rfl ?_
  refine x_get (ci := 2) (v := .int (gi h 25 49)) 49 dX2_on_1 (GI.s g (t := (12, 0)) rfl (by decide)) rfl in_X2 (by decide) q1272 (Or.inl rfl) (fv_i rfl) ?_
  obtain ⟨wt_12, wf_13⟩ := hw
  refine x_if_ne 14 dX2_on_4 (by decide) (fun c_1 => ?_) (fun c_1 => ?_)
  · have hw := wt_12 c_1
    refine x_aload_n 0 dX2_on_14 rfl ?_
    refine x_iconst 0 dX2_on_15 (by decide) ?_
    refine x_put (ci := 2) 50 dX2_on_16 (GI.s g (t := (12, 0)) rfl (by decide)) rfl in_X2 tyX2 tyX2_ok nmX2 (by decide) q1273 (Or.inl rfl) rfl (isB.n isB_0) (isB.f isB_0) (isPut_i rfl) ?_
    refine x_aload_n 0 dX2_on_19 rfl ?_
    refine x_callV (ci := 2) [] 0 dX2_on_20 (k_X2_passesAll G (GI.i g) hw) (GI.s (GI.i g) (t := (12, 0)) rfl (by decide)) rfl q1698 q1700 qs100 q106 q1701 (by decide) rfl rfl ⟨(Nat.le_of_ble_eq_true rfl), (Nat.le_of_ble_eq_true rfl)⟩ (Nat.le_of_ble_eq_true rfl) ⟨(Nat.le_of_ble_eq_true rfl), (Nat.le_of_ble_eq_true rfl)⟩ (fun v9 h_2 hv9 => ?_) (fun _ _ _ _ _ z _ _ => False.elim z)
    obtain ⟨rfl, g_3, e_4, hw⟩ := hv9
    have hw := hw g_3 e_4
    show X ρ K_X2_on 23 [(0, .ref (mr ρ 25))] [] h_2 0 0 (phI h post) psN
    refine x_aload_n 0 dX2_on_23 rfl ?_
    refine x_get (ci := 2) (v := .int (gi h_2 25 12)) 12 dX2_on_24 (GI.s g_3 (t := (12, 0)) rfl (by decide)) rfl in_X2 (by decide) q1235 (Or.inl rfl) (fv_i rfl) ?_
    exact x_iret dX2_on_27 rfl (Nat.le_of_ble_eq_true rfl) (Nat.le_of_ble_eq_true rfl) ⟨_, rfl, g_3, (Ext.tr (Ext.i Ext.rf) e_4), hw⟩
  · have hw := wf_13 c_1
    refine x_aload_n 0 dX2_on_7 rfl ?_
    refine x_bipush (-3) dX2_on_8 (by decide) ?_
    refine x_callV (ci := 2) [.int (-3)] 1 dX2_on_10 (k_X2_no G g hw) (GI.s g (t := (12, 0)) rfl (by decide)) rfl q1387 q1389 qs59 q106 q1390 (by decide) rfl rfl ⟨(Nat.le_of_ble_eq_true rfl), (Nat.le_of_ble_eq_true rfl)⟩ (Nat.le_of_ble_eq_true rfl) ⟨(Nat.le_of_ble_eq_true rfl), (Nat.le_of_ble_eq_true rfl)⟩ (fun v9 h_7 hv9 => ?_) (fun _ _ _ _ _ z _ _ => False.elim z)
    obtain ⟨r_10, rfl, g_8, e_9, hw⟩ := hv9
    have hw := hw g_8 e_9
    show X ρ K_X2_on 13 [(0, .ref (mr ρ 25))] [.int r_10] h_7 0 0 (phI h post) psN
    exact x_iret dX2_on_13 rfl (Nat.le_of_ble_eq_true rfl) (Nat.le_of_ble_eq_true rfl) ⟨_, rfl, g_8, e_9, hw⟩

/-! BeforeTheEnd.count(I)I -/
def w_X0_count_57 (post : Int32 → Hp → Prop) : Nat → Int32 → Int32 → Hp → Prop
  | 0 => fun _ _ _ => False
  | n + 1 => fun x2 x3 h => (((gi h (gr h 1 1) 0) ≤ x3 → (post x2 h)) ∧ (¬ (gi h (gr h 1 1) 0) ≤ x3 → (wp_X1_isEnd (fun r_5 h_2 => GI h_2 → Ext h h_2 → (∀ z_8 : Int32, z_8 = ((if r_5 = 0 then 0 else 1) : Int32) → (w_X0_count_57 post n (x2 + z_8) (x3 + 1) h_2))) h (gr h 1 1) x3)))
def wp_X0_count (post : Int32 → Hp → Prop) (h : Hp) (p1 : Int32) : Prop := (((p1.toInt < 0 ∨ 5 < p1.toInt) → (wp_X0_in (fun r_14 h_11 => GI h_11 → Ext h h_11 → (((¬ r_14 = 0 → (vp_in (p1 - 10) 7))) ∧ (∀ z_18 : Int32, z_18 = ((if r_14 = 0 then (-9) else (gi h_11 17 (Int32.toNatClampNeg (p1 - 10)))) : Int32) → (post z_18 h_11)))) h (Int32.toInt64 p1) 11 16)) ∧ (p1 = 0 → (post (gi h (gr h 1 1) 0) h)) ∧ (p1 = 1 → (post (gi h 1 3) h)) ∧ (p1 = 2 → (∃ fu : Nat, w_X0_count_57 post fu 0 0 h)) ∧ (p1 = 3 → (post (gi h 1 6) h)) ∧ (p1 = 4 → (post (gi h 1 12) h)) ∧ (p1 = 5 → (post (gi h 1 14) h)))
abbrev rm_X0_count : Room := ({ frames := 2, cells := 0, slots := 0, locals := 85 })
abbrev K_X0_count : Kx := ("BeforeTheEnd", cX0_count, 4, (Option.some Jvm.ClassFile.FieldType.int), rm_X0_count, [], false)
set_option maxHeartbeats 4000000 in
theorem t_X0_count_57 {ρ : Rho} {h0 : Hp} {post : Int32 → Hp → Prop} (G : G0 ρ) :
    ∀ (n : Nat), ∀ (x2 : Int32) (x3 : Int32) (h : Hp), GI h → Ext h0 h → w_X0_count_57 post n x2 x3 h → X ρ K_X0_count 57 [(0, .ref (mr ρ 1)), (2, .int x2), (3, .int x3)] [] h 0 0 (phI h0 post) psN := by
  intro n
  induction n with
  | zero => intro x2 x3 h g e hw; exact False.elim hw
  | succ n ih =>
    intro x2 x3 h g e hw
    refine x_iload_n 2 dX0_count_57 rfl ?_
    refine x_aload_n 0 dX0_count_58 rfl ?_
    refine x_get (ci := 0) (v := .ref (mr ρ (gr h 1 1))) 1 dX0_count_59 (GI.s g (t := (10, 0)) rfl (by decide)) rfl in_X0 (by decide) q188 (Or.inl rfl) (fv_rc rfl rfl (isTree.nz (GI.t g) (GI.live g))) ?_
    refine x_getN (ci := 1) (v := .int (gi h (gr h 1 1) 0)) 0 dX0_count_62 (isTree.s (GI.t g)) rfl in_X1 (by decide) q147 (Or.inl rfl) (fv_i rfl) ?_
    obtain ⟨wt_10, wf_11⟩ := hw
    refine x_icmp_ge 93 dX0_count_65 (by decide) (fun c_1 => ?_) (fun c_1 => ?_)
    · have hw := wt_10 c_1
      refine x_iload_n 1 dX0_count_93 rfl ?_
      exact x_iret dX0_count_94 rfl (Nat.le_of_ble_eq_true rfl) (Nat.le_of_ble_eq_true rfl) ⟨_, rfl, g, e, hw⟩
    · have hw := wf_11 c_1
      refine x_iload_n 1 dX0_count_68 rfl ?_
      refine x_aload_n 0 dX0_count_69 rfl ?_
      refine x_get (ci := 0) (v := .ref (mr ρ (gr h 1 1))) 1 dX0_count_70 (GI.s g (t := (10, 0)) rfl (by decide)) rfl in_X0 (by decide) q188 (Or.inl rfl) (fv_rc rfl rfl (isTree.nz (GI.t g) (GI.live g))) ?_
      refine x_iload_n 2 dX0_count_73 rfl ?_
      refine x_callV (ci := 1) [.int x3] 1 dX0_count_74 (k_X1_isEnd G g (GI.t g) hw) (isTree.s (GI.t g)) rfl q870 q723 q724 q105 q725 (by decide) rfl rfl ⟨(Nat.le_of_ble_eq_true rfl), (Nat.le_of_ble_eq_true rfl)⟩ (Nat.le_of_ble_eq_true rfl) ⟨(Nat.le_of_ble_eq_true rfl), (Nat.le_of_ble_eq_true rfl)⟩ (fun v9 h_2 hv9 => ?_) (fun _ _ _ _ _ z _ _ => False.elim z)
      obtain ⟨r_5, rfl, g_3, e_4, b_6, hw⟩ := hv9
      have hw := hw g_3 e_4
      show X ρ K_X0_count 77 [(0, .ref (mr ρ 1)), (2, .int x2), (3, .int x3)] [.int r_5, .int x2] h_2 0 0 (phI h0 post) psN
      have kJ_9 : ∀ z_8 : Int32, z_8 = ((if r_5 = 0 then 0 else 1) : Int32) → X ρ K_X0_count 85 [(0, .ref (mr ρ 1)), (2, .int x2), (3, .int x3)] [.int z_8, .int x2] h_2 0 0 (phI h0 post) psN := fun z_8 ez_8 => by
        have hw := hw z_8 ez_8
        refine x_iadd dX0_count_85 ?_
        refine x_istore_n (lv' := [(2, .int (x2 + z_8)), (0, .ref (mr ρ 1)), (3, .int x3)]) dX0_count_86 (Nat.le_of_ble_eq_true rfl) rfl ?_
        refine x_iinc (v := (x3 + 1)) (lv' := [(3, .int (x3 + 1)), (2, .int (x2 + z_8)), (0, .ref (mr ρ 1))]) 2 dX0_count_87 rfl (by rfl) (Nat.le_of_ble_eq_true rfl) rfl ?_
        refine x_goto 57 dX0_count_90 (by decide) ?_
        refine X.sub [2, 1, 0] rfl ?_
        exact ih (x2 + z_8) (x3 + 1) h_2 g_3 (Ext.tr e e_4) hw
      refine x_if_eq 84 dX0_count_77 (by decide) (fun c_7 => ?_) (fun c_7 => ?_)
      · refine x_iconst 0 dX0_count_84 (by decide) ?_
        exact kJ_9 _ ((if_pos c_7)).symm
      · refine x_iconst 1 dX0_count_80 (by decide) ?_
        refine x_goto 85 dX0_count_81 (by decide) ?_
        exact kJ_9 _ ((if_neg c_7)).symm
set_option maxHeartbeats 4000000 in
theorem k_X0_count {ρ : Rho} {h : Hp} {post : Int32 → Hp → Prop} {p1 : Int32} (G : G0 ρ) (g : GI h) (hw : wp_X0_count post h p1) : Con ρ yX0_count (ws_ yX0_count cX0_count 4 (Option.some Jvm.ClassFile.FieldType.int)) rm_X0_count [.ref (mr ρ 1), .int p1] h (phI h post) psN := by
  refine con_of (own := "BeforeTheEnd") (isI := false) (l0 := [(0, .ref (mr ρ 1)), (1, .int p1)]) (by decide) rfl (fun z => by cases z) (Nat.le_of_ble_eq_true rfl) rfl (fun _ => ?_)
  show X ρ K_X0_count 0 [(0, .ref (mr ρ 1)), (1, .int p1)] [] h 0 0 (phI h post) psN
  refine x_iload_n 1 dX0_count_0 rfl ?_
  obtain ⟨wd_1, ws_2, ws_3, ws_4, ws_5, ws_6, ws_7⟩ := hw
  rcases tab_or p1 0 6 (by decide) with c_10 | ⟨i_9, c_10i, c_10⟩
  · have c_10o : p1.toInt < 0 ∨ 5 < p1.toInt := by omega
    have hw := wd_1 c_10o
    refine x_tableOut 110 dX0_count_1 c_10o (by decide) ?_
    refine x_iload_n 1 dX0_count_110 rfl ?_
    refine x_i2l dX0_count_111 ?_
    refine x_ldc2 dX0_count_112 q1215 ?_
    refine x_ldc2 dX0_count_115 q1216 ?_
    refine x_callS [.long (Int32.toInt64 p1), .long 11, .long 16] 3 dX0_count_118 (k_X0_in G g hw) q745 q464 q104 q465 (by decide) rfl rfl ⟨(Nat.le_of_ble_eq_true rfl), (Nat.le_of_ble_eq_true rfl)⟩ (Nat.le_of_ble_eq_true rfl) ⟨(Nat.le_of_ble_eq_true rfl), (Nat.le_of_ble_eq_true rfl)⟩ (fun v9 h_11 hv9 => ?_) (fun _ _ _ _ _ z _ _ => False.elim z)
    obtain ⟨r_14, rfl, g_12, e_13, b_15, hw⟩ := hv9
    have hw := hw g_12 e_13
    show X ρ K_X0_count 121 [(0, .ref (mr ρ 1)), (1, .int p1)] [.int r_14] h_11 0 0 (phI h post) psN
    obtain ⟨hO_20, hw⟩ := hw
    have kJ_19 : ∀ z_18 : Int32, z_18 = ((if r_14 = 0 then (-9) else (gi h_11 17 (Int32.toNatClampNeg (p1 - 10)))) : Int32) → X ρ K_X0_count 138 [(0, .ref (mr ρ 1)), (1, .int p1)] [.int z_18] h_11 0 0 (phI h post) psN := fun z_18 ez_18 => by
      have hw := hw z_18 ez_18
      exact x_iret dX0_count_138 rfl (Nat.le_of_ble_eq_true rfl) (Nat.le_of_ble_eq_true rfl) ⟨_, rfl, g_12, e_13, hw⟩
    have hO_200 := hO_20
    refine x_if_eq 136 dX0_count_121 (by decide) (fun c_16 => ?_) (fun c_16 => ?_)
    · refine x_bipush (-9) dX0_count_136 (by decide) ?_
      exact kJ_19 _ ((if_pos c_16)).symm
    · have hO_20_ := hO_200 c_16
      have b_17 := hO_20_
      refine x_aload_n 0 dX0_count_124 rfl ?_
      refine x_get (ci := 0) (v := .ref (mr ρ 17)) 15 dX0_count_125 (GI.s g_12 (t := (10, 0)) rfl (by decide)) rfl in_X0 (by decide) q204 (Or.inl rfl) (fv_rc rfl (GI.x g_12 (n := 17) rfl (by decide)) (by decide)) ?_
      refine x_iload_n 1 dX0_count_128 rfl ?_
      refine x_bipush 10 dX0_count_129 (by decide) ?_
      refine x_isub dX0_count_131 ?_
      refine x_iald (n := 7) (j := (Int32.toNatClampNeg (p1 - 10))) dX0_count_132 rfl (GI.s g_12 (t := (1, 7)) rfl (by decide)) b_17 ?_
      refine x_goto 138 dX0_count_133 (by decide) ?_
      exact kJ_19 _ ((if_neg c_16)).symm
  · match i_9, c_10i, c_10 with
    | 0, _, c_10 =>
      have c_10 : p1 = 0 := c_10
      have hw := ws_2 c_10
      refine x_tableIn (off := 39) 40 dX0_count_1 (by rw [c_10]; decide) (by rw [c_10]; decide) (by rw [c_10]; rfl) (by decide) ?_
      refine x_aload_n 0 dX0_count_40 rfl ?_
      refine x_get (ci := 0) (v := .ref (mr ρ (gr h 1 1))) 1 dX0_count_41 (GI.s g (t := (10, 0)) rfl (by decide)) rfl in_X0 (by decide) q188 (Or.inl rfl) (fv_rc rfl rfl (isTree.nz (GI.t g) (GI.live g))) ?_
      refine x_getN (ci := 1) (v := .int (gi h (gr h 1 1) 0)) 0 dX0_count_44 (isTree.s (GI.t g)) rfl in_X1 (by decide) q147 (Or.inl rfl) (fv_i rfl) ?_
      exact x_iret dX0_count_47 rfl (Nat.le_of_ble_eq_true rfl) (Nat.le_of_ble_eq_true rfl) ⟨_, rfl, g, Ext.rf, hw⟩
    | 1, _, c_10 =>
      have c_10 : p1 = 1 := c_10
      have hw := ws_3 c_10
      refine x_tableIn (off := 47) 48 dX0_count_1 (by rw [c_10]; decide) (by rw [c_10]; decide) (by rw [c_10]; rfl) (by decide) ?_
      refine x_aload_n 0 dX0_count_48 rfl ?_
      refine x_get (ci := 0) (v := .int (gi h 1 3)) 3 dX0_count_49 (GI.s g (t := (10, 0)) rfl (by decide)) rfl in_X0 (by decide) q190 (Or.inl rfl) (fv_i rfl) ?_
      exact x_iret dX0_count_52 rfl (Nat.le_of_ble_eq_true rfl) (Nat.le_of_ble_eq_true rfl) ⟨_, rfl, g, Ext.rf, hw⟩
    | 2, _, c_10 =>
      have c_10 : p1 = 2 := c_10
      have hw := ws_4 c_10
      refine x_tableIn (off := 52) 53 dX0_count_1 (by rw [c_10]; decide) (by rw [c_10]; decide) (by rw [c_10]; rfl) (by decide) ?_
      refine x_iconst 0 dX0_count_53 (by decide) ?_
      refine x_istore_n (lv' := [(2, .int 0), (0, .ref (mr ρ 1)), (1, .int p1)]) dX0_count_54 (Nat.le_of_ble_eq_true rfl) rfl ?_
      refine x_iconst 0 dX0_count_55 (by decide) ?_
      refine x_istore_n (lv' := [(3, .int 0), (2, .int 0), (0, .ref (mr ρ 1)), (1, .int p1)]) dX0_count_56 (Nat.le_of_ble_eq_true rfl) rfl ?_
      refine X.sub [2, 1, 0] rfl ?_
      obtain ⟨fu, hw⟩ := hw
      exact t_X0_count_57 G  fu 0 0 h g Ext.rf hw
    | 3, _, c_10 =>
      have c_10 : p1 = 3 := c_10
      have hw := ws_5 c_10
      refine x_tableIn (off := 94) 95 dX0_count_1 (by rw [c_10]; decide) (by rw [c_10]; decide) (by rw [c_10]; rfl) (by decide) ?_
      refine x_aload_n 0 dX0_count_95 rfl ?_
      refine x_get (ci := 0) (v := .int (gi h 1 6)) 6 dX0_count_96 (GI.s g (t := (10, 0)) rfl (by decide)) rfl in_X0 (by decide) q193 (Or.inl rfl) (fv_i rfl) ?_
      exact x_iret dX0_count_99 rfl (Nat.le_of_ble_eq_true rfl) (Nat.le_of_ble_eq_true rfl) ⟨_, rfl, g, Ext.rf, hw⟩
    | 4, _, c_10 =>
      have c_10 : p1 = 4 := c_10
      have hw := ws_6 c_10
      refine x_tableIn (off := 99) 100 dX0_count_1 (by rw [c_10]; decide) (by rw [c_10]; decide) (by rw [c_10]; rfl) (by decide) ?_
      refine x_aload_n 0 dX0_count_100 rfl ?_
      refine x_get (ci := 0) (v := .int (gi h 1 12)) 12 dX0_count_101 (GI.s g (t := (10, 0)) rfl (by decide)) rfl in_X0 (by decide) q199 (Or.inl rfl) (fv_i rfl) ?_
      exact x_iret dX0_count_104 rfl (Nat.le_of_ble_eq_true rfl) (Nat.le_of_ble_eq_true rfl) ⟨_, rfl, g, Ext.rf, hw⟩
    | 5, _, c_10 =>
      have c_10 : p1 = 5 := c_10
      have hw := ws_7 c_10
      refine x_tableIn (off := 104) 105 dX0_count_1 (by rw [c_10]; decide) (by rw [c_10]; decide) (by rw [c_10]; rfl) (by decide) ?_
      refine x_aload_n 0 dX0_count_105 rfl ?_
      refine x_get (ci := 0) (v := .int (gi h 1 14)) 14 dX0_count_106 (GI.s g (t := (10, 0)) rfl (by decide)) rfl in_X0 (by decide) q203 (Or.inl rfl) (fv_i rfl) ?_
      exact x_iret dX0_count_109 rfl (Nat.le_of_ble_eq_true rfl) (Nat.le_of_ble_eq_true rfl) ⟨_, rfl, g, Ext.rf, hw⟩
    | i9 + 6, h9, _ => exact absurd h9 (by omega)

/-! BeforeTheEndModel.count(I)I -/
def w_X2_count_76 (post : Int32 → Hp → Prop) : Nat → Int32 → Int32 → Hp → Prop
  | 0 => fun _ _ _ => False
  | n + 1 => fun x2 x3 h => (((gi h 25 12) ≤ x3 → (post x2 h)) ∧ (¬ (gi h 25 12) ≤ x3 → (vp_in x3 24 ∧ (∀ z_4 : Int32, z_4 = ((if (gi h 29 (Int32.toNatClampNeg x3)) = 0 then 0 else 1) : Int32) → (w_X2_count_76 post n (x2 + z_4) (x3 + 1) h)))))
def wp_X2_count (post : Int32 → Hp → Prop) (h : Hp) (p1 : Int32) : Prop := (wp_X2_isIn (fun r_4 h_1 => GI h_1 → Ext h h_1 → ((r_4 = 0 → (((p1.toInt < 0 ∨ 5 < p1.toInt) → (post (-9) h_1)) ∧ (p1 = 0 → (post (gi h_1 25 12) h_1)) ∧ (p1 = 1 → (post (gi h_1 25 13) h_1)) ∧ (p1 = 2 → (∃ fu : Nat, w_X2_count_76 post fu 0 0 h_1)) ∧ (p1 = 3 → (post (gi h_1 25 44) h_1)) ∧ (p1 = 4 → (post (gi h_1 25 47) h_1)) ∧ (p1 = 5 → (post (gi h_1 25 21) h_1)))) ∧ (¬ r_4 = 0 → (vp_in (p1 - 10) 7 ∧ (post (gi h_1 26 (Int32.toNatClampNeg (p1 - 10))) h_1))))) h p1 11 16)
abbrev rm_X2_count : Room := ({ frames := 2, cells := 0, slots := 0, locals := 82 })
abbrev K_X2_count : Kx := ("BeforeTheEndModel", cX2_count, 4, (Option.some Jvm.ClassFile.FieldType.int), rm_X2_count, [], false)
set_option maxHeartbeats 4000000 in
theorem t_X2_count_76 {ρ : Rho} {h0 : Hp} {post : Int32 → Hp → Prop} (G : G0 ρ) :
    ∀ (n : Nat), ∀ (x2 : Int32) (x3 : Int32) (h : Hp), GI h → Ext h0 h → w_X2_count_76 post n x2 x3 h → X ρ K_X2_count 76 [(0, .ref (mr ρ 25)), (2, .int x2), (3, .int x3)] [] h 0 0 (phI h0 post) psN := by
  intro n
  induction n with
  | zero => intro x2 x3 h g e hw; exact False.elim hw
  | succ n ih =>
    intro x2 x3 h g e hw
    refine x_iload_n 2 dX2_count_76 rfl ?_
    refine x_aload_n 0 dX2_count_77 rfl ?_
    refine x_get (ci := 2) (v := .int (gi h 25 12)) 12 dX2_count_78 (GI.s g (t := (12, 0)) rfl (by decide)) rfl in_X2 (by decide) q1235 (Or.inl rfl) (fv_i rfl) ?_
    obtain ⟨wt_6, wf_7⟩ := hw
    refine x_icmp_ge 107 dX2_count_81 (by decide) (fun c_1 => ?_) (fun c_1 => ?_)
    · have hw := wt_6 c_1
      refine x_iload_n 1 dX2_count_107 rfl ?_
      exact x_iret dX2_count_108 rfl (Nat.le_of_ble_eq_true rfl) (Nat.le_of_ble_eq_true rfl) ⟨_, rfl, g, e, hw⟩
    · have hw := wf_7 c_1
      refine x_iload_n 1 dX2_count_84 rfl ?_
      refine x_aload_n 0 dX2_count_85 rfl ?_
      refine x_get (ci := 2) (v := .ref (mr ρ 29)) 3 dX2_count_86 (GI.s g (t := (12, 0)) rfl (by decide)) rfl in_X2 (by decide) q1226 (Or.inl rfl) (fv_rc rfl (GI.m g (n := 29) rfl (by decide)) (by decide)) ?_
      refine x_iload_n 2 dX2_count_89 rfl ?_
      obtain ⟨b_2, hw⟩ := hw
      refine x_iald (n := 24) (j := (Int32.toNatClampNeg x3)) dX2_count_90 rfl (GI.s g (t := (1, 24)) rfl (by decide)) b_2 ?_
      have kJ_5 : ∀ z_4 : Int32, z_4 = ((if (gi h 29 (Int32.toNatClampNeg x3)) = 0 then 0 else 1) : Int32) → X ρ K_X2_count 99 [(0, .ref (mr ρ 25)), (2, .int x2), (3, .int x3)] [.int z_4, .int x2] h 0 0 (phI h0 post) psN := fun z_4 ez_4 => by
        have hw := hw z_4 ez_4
        refine x_iadd dX2_count_99 ?_
        refine x_istore_n (lv' := [(2, .int (x2 + z_4)), (0, .ref (mr ρ 25)), (3, .int x3)]) dX2_count_100 (Nat.le_of_ble_eq_true rfl) rfl ?_
        refine x_iinc (v := (x3 + 1)) (lv' := [(3, .int (x3 + 1)), (2, .int (x2 + z_4)), (0, .ref (mr ρ 25))]) 2 dX2_count_101 rfl (by rfl) (Nat.le_of_ble_eq_true rfl) rfl ?_
        refine x_goto 76 dX2_count_104 (by decide) ?_
        refine X.sub [2, 1, 0] rfl ?_
        exact ih (x2 + z_4) (x3 + 1) h g e hw
      refine x_if_eq 98 dX2_count_91 (by decide) (fun c_3 => ?_) (fun c_3 => ?_)
      · refine x_iconst 0 dX2_count_98 (by decide) ?_
        exact kJ_5 _ ((if_pos c_3)).symm
      · refine x_iconst 1 dX2_count_94 (by decide) ?_
        refine x_goto 99 dX2_count_95 (by decide) ?_
        exact kJ_5 _ ((if_neg c_3)).symm
set_option maxHeartbeats 4000000 in
theorem k_X2_count {ρ : Rho} {h : Hp} {post : Int32 → Hp → Prop} {p1 : Int32} (G : G0 ρ) (g : GI h) (hw : wp_X2_count post h p1) : Con ρ yX2_count (ws_ yX2_count cX2_count 4 (Option.some Jvm.ClassFile.FieldType.int)) rm_X2_count [.ref (mr ρ 25), .int p1] h (phI h post) psN := by
  refine con_of (own := "BeforeTheEndModel") (isI := false) (l0 := [(0, .ref (mr ρ 25)), (1, .int p1)]) (by decide) rfl (fun z => by cases z) (Nat.le_of_ble_eq_true rfl) rfl (fun _ => ?_)
  show X ρ K_X2_count 0 [(0, .ref (mr ρ 25)), (1, .int p1)] [] h 0 0 (phI h post) psN
  refine x_iload_n 1 dX2_count_0 rfl ?_
  refine x_bipush 11 dX2_count_1 (by decide) ?_
  refine x_bipush 16 dX2_count_3 (by decide) ?_
  refine x_callS [.int p1, .int 11, .int 16] 3 dX2_count_5 (k_X2_isIn G g hw) q1412 q1413 q106 q1414 (by decide) rfl rfl ⟨(Nat.le_of_ble_eq_true rfl), (Nat.le_of_ble_eq_true rfl)⟩ (Nat.le_of_ble_eq_true rfl) ⟨(Nat.le_of_ble_eq_true rfl), (Nat.le_of_ble_eq_true rfl)⟩ (fun v9 h_1 hv9 => ?_) (fun _ _ _ _ _ z _ _ => False.elim z)
  obtain ⟨r_4, rfl, g_2, e_3, b_5, hw⟩ := hv9
  have hw := hw g_2 e_3
  show X ρ K_X2_count 8 [(0, .ref (mr ρ 25)), (1, .int p1)] [.int r_4] h_1 0 0 (phI h post) psN
  obtain ⟨wt_18, wf_19⟩ := hw
  refine x_if_eq 21 dX2_count_8 (by decide) (fun c_6 => ?_) (fun c_6 => ?_)
  · have hw := wt_18 c_6
    refine x_iconst 0 dX2_count_21 (by decide) ?_
    refine x_istore_n (lv' := [(2, .int 0), (0, .ref (mr ρ 25)), (1, .int p1)]) dX2_count_22 (Nat.le_of_ble_eq_true rfl) rfl ?_
    refine x_iload_n 2 dX2_count_23 rfl ?_
    obtain ⟨wd_7, ws_8, ws_9, ws_10, ws_11, ws_12, ws_13⟩ := hw
    rcases tab_or p1 0 6 (by decide) with c_16 | ⟨i_15, c_16i, c_16⟩
    · have c_16o : p1.toInt < 0 ∨ 5 < p1.toInt := by omega
      have hw := wd_7 c_16o
      refine x_tableOut 124 dX2_count_24 c_16o (by decide) ?_
      refine x_bipush (-9) dX2_count_124 (by decide) ?_
      exact x_iret dX2_count_126 rfl (Nat.le_of_ble_eq_true rfl) (Nat.le_of_ble_eq_true rfl) ⟨_, rfl, g_2, e_3, hw⟩
    · match i_15, c_16i, c_16 with
      | 0, _, c_16 =>
        have c_16 : p1 = 0 := c_16
        have hw := ws_8 c_16
        refine x_tableIn (off := 40) 64 dX2_count_24 (by rw [c_16]; decide) (by rw [c_16]; decide) (by rw [c_16]; rfl) (by decide) ?_
        refine x_aload_n 1 dX2_count_64 rfl ?_
        refine x_get (ci := 2) (v := .int (gi h_1 25 12)) 12 dX2_count_65 (GI.s g_2 (t := (12, 0)) rfl (by decide)) rfl in_X2 (by decide) q1235 (Or.inl rfl) (fv_i rfl) ?_
        exact x_iret dX2_count_68 rfl (Nat.le_of_ble_eq_true rfl) (Nat.le_of_ble_eq_true rfl) ⟨_, rfl, g_2, e_3, hw⟩
      | 1, _, c_16 =>
        have c_16 : p1 = 1 := c_16
        have hw := ws_9 c_16
        refine x_tableIn (off := 45) 69 dX2_count_24 (by rw [c_16]; decide) (by rw [c_16]; decide) (by rw [c_16]; rfl) (by decide) ?_
        refine x_aload_n 1 dX2_count_69 rfl ?_
        refine x_get (ci := 2) (v := .int (gi h_1 25 13)) 13 dX2_count_70 (GI.s g_2 (t := (12, 0)) rfl (by decide)) rfl in_X2 (by decide) q1236 (Or.inl rfl) (fv_i rfl) ?_
        exact x_iret dX2_count_73 rfl (Nat.le_of_ble_eq_true rfl) (Nat.le_of_ble_eq_true rfl) ⟨_, rfl, g_2, e_3, hw⟩
      | 2, _, c_16 =>
        have c_16 : p1 = 2 := c_16
        have hw := ws_10 c_16
        refine x_tableIn (off := 50) 74 dX2_count_24 (by rw [c_16]; decide) (by rw [c_16]; decide) (by rw [c_16]; rfl) (by decide) ?_
        refine x_iconst 0 dX2_count_74 (by decide) ?_
        refine x_istore_n (lv' := [(3, .int 0), (2, .int 0), (0, .ref (mr ρ 25)), (1, .int p1)]) dX2_count_75 (Nat.le_of_ble_eq_true rfl) rfl ?_
        refine X.sub [2, 1, 0] rfl ?_
        obtain ⟨fu, hw⟩ := hw
        exact t_X2_count_76 G  fu 0 0 h_1 g_2 e_3 hw
      | 3, _, c_16 =>
        have c_16 : p1 = 3 := c_16
        have hw := ws_11 c_16
        refine x_tableIn (off := 85) 109 dX2_count_24 (by rw [c_16]; decide) (by rw [c_16]; decide) (by rw [c_16]; rfl) (by decide) ?_
        refine x_aload_n 1 dX2_count_109 rfl ?_
        refine x_get (ci := 2) (v := .int (gi h_1 25 44)) 44 dX2_count_110 (GI.s g_2 (t := (12, 0)) rfl (by decide)) rfl in_X2 (by decide) q1267 (Or.inl rfl) (fv_i rfl) ?_
        exact x_iret dX2_count_113 rfl (Nat.le_of_ble_eq_true rfl) (Nat.le_of_ble_eq_true rfl) ⟨_, rfl, g_2, e_3, hw⟩
      | 4, _, c_16 =>
        have c_16 : p1 = 4 := c_16
        have hw := ws_12 c_16
        refine x_tableIn (off := 90) 114 dX2_count_24 (by rw [c_16]; decide) (by rw [c_16]; decide) (by rw [c_16]; rfl) (by decide) ?_
        refine x_aload_n 1 dX2_count_114 rfl ?_
        refine x_get (ci := 2) (v := .int (gi h_1 25 47)) 47 dX2_count_115 (GI.s g_2 (t := (12, 0)) rfl (by decide)) rfl in_X2 (by decide) q1270 (Or.inl rfl) (fv_i rfl) ?_
        exact x_iret dX2_count_118 rfl (Nat.le_of_ble_eq_true rfl) (Nat.le_of_ble_eq_true rfl) ⟨_, rfl, g_2, e_3, hw⟩
      | 5, _, c_16 =>
        have c_16 : p1 = 5 := c_16
        have hw := ws_13 c_16
        refine x_tableIn (off := 95) 119 dX2_count_24 (by rw [c_16]; decide) (by rw [c_16]; decide) (by rw [c_16]; rfl) (by decide) ?_
        refine x_aload_n 1 dX2_count_119 rfl ?_
        refine x_get (ci := 2) (v := .int (gi h_1 25 21)) 21 dX2_count_120 (GI.s g_2 (t := (12, 0)) rfl (by decide)) rfl in_X2 (by decide) q1244 (Or.inl rfl) (fv_i rfl) ?_
        exact x_iret dX2_count_123 rfl (Nat.le_of_ble_eq_true rfl) (Nat.le_of_ble_eq_true rfl) ⟨_, rfl, g_2, e_3, hw⟩
      | i9 + 6, h9, _ => exact absurd h9 (by omega)
  · have hw := wf_19 c_6
    refine x_aload_n 0 dX2_count_11 rfl ?_
    refine x_get (ci := 2) (v := .ref (mr ρ 26)) 0 dX2_count_12 (GI.s g_2 (t := (12, 0)) rfl (by decide)) rfl in_X2 (by decide) q1223 (Or.inl rfl) (fv_rc rfl (GI.m g_2 (n := 26) rfl (by decide)) (by decide)) ?_
    refine x_iload_n 1 dX2_count_15 rfl ?_
    refine x_bipush 10 dX2_count_16 (by decide) ?_
    refine x_isub dX2_count_18 ?_
    obtain ⟨b_17, hw⟩ := hw
    refine x_iald (n := 7) (j := (Int32.toNatClampNeg (p1 - 10))) dX2_count_19 rfl (GI.s g_2 (t := (1, 7)) rfl (by decide)) b_17 ?_
    exact x_iret dX2_count_20 rfl (Nat.le_of_ble_eq_true rfl) (Nat.le_of_ble_eq_true rfl) ⟨_, rfl, g_2, e_3, hw⟩
