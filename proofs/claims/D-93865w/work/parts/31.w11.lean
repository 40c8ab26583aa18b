/-! THE WALK, printed by wip/D-93865w/gen/main.py -/
set_option maxRecDepth 100000
/-! BeforeTheEndModel.sureOf(I)I -/
def wp_X2_sureOf (post : Int32 → Hp → Prop) (h : Hp) (p1 : Int32) : Prop := (vp_in p1 4 ∧ ((((gi h 31 (Int32.toNatClampNeg p1)) = 2 → (vp_in p1 4 ∧ (20 ≤ (gi h 34 (Int32.toNatClampNeg p1)) → (vp_in p1 4)))) ∧ (¬ (gi h 31 (Int32.toNatClampNeg p1)) = 2 → (vp_in p1 4))) ∧ (∀ z_7 : Int32, z_7 = ((if (gi h 31 (Int32.toNatClampNeg p1)) = 2 then (if 20 ≤ (gi h 34 (Int32.toNatClampNeg p1)) then ((gi h 34 (Int32.toNatClampNeg p1)) - 20) else 0) else (gi h 34 (Int32.toNatClampNeg p1))) : Int32) → (post z_7 h))))
abbrev rm_X2_sureOf : Room := ({ frames := 1, cells := 0, slots := 0, locals := 60 })
abbrev K_X2_sureOf : Kx := ("BeforeTheEndModel", cX2_sureOf, 2, (Option.some Jvm.ClassFile.FieldType.int), rm_X2_sureOf, [], false)
set_option maxHeartbeats 4000000 in
theorem k_X2_sureOf {ρ : Rho} {h : Hp} {post : Int32 → Hp → Prop} {p1 : Int32} (G : G0 ρ) (g : GI h) (hw : wp_X2_sureOf post h p1) : Con ρ yX2_sureOf (ws_ yX2_sureOf cX2_sureOf 2 (Option.some Jvm.ClassFile.FieldType.int)) rm_X2_sureOf [.ref (mr ρ 25), .int p1] h (phI h post) psN := by
  refine con_of (own := "BeforeTheEndModel") (isI := false) (l0 := [(0, .ref (mr ρ 25)), (1, .int p1)]) (by decide) rfl (fun z => by cases z) (Nat.le_of_ble_eq_true rfl) rfl (fun _ => ?_)
  show X ρ K_X2_sureOf 0 [(0, .ref (mr ρ 25)), (1, .int p1)] [] h 0 0 (phI h post) psN
  refine x_aload_n 0 dX2_sureOf_0 rfl ?_
  refine x_get (ci := 2) (v := .ref (mr ρ 31)) 5 dX2_sureOf_1 (GI.s g (t := (12, 0)) rfl (by decide)) rfl in_X2 (by decide) q1228 (Or.inl rfl) (fv_rc rfl (GI.m g (n := 31) rfl (by decide)) (by decide)) ?_
  refine x_iload_n 1 dX2_sureOf_4 rfl ?_
  obtain ⟨b_1, hw⟩ := hw
  refine x_iald (n := 4) (j := (Int32.toNatClampNeg p1)) dX2_sureOf_5 rfl (GI.s g (t := (1, 4)) rfl (by decide)) b_1 ?_
  refine x_iconst 2 dX2_sureOf_6 (by decide) ?_
  obtain ⟨hO_9, hw⟩ := hw
  have kJ_8 : ∀ z_7 : Int32, z_7 = ((if (gi h 31 (Int32.toNatClampNeg p1)) = 2 then (if 20 ≤ (gi h 34 (Int32.toNatClampNeg p1)) then ((gi h 34 (Int32.toNatClampNeg p1)) - 20) else 0) else (gi h 34 (Int32.toNatClampNeg p1))) : Int32) → X ρ K_X2_sureOf 43 [(0, .ref (mr ρ 25)), (1, .int p1)] [.int z_7] h 0 0 (phI h post) psN := fun z_7 ez_7 => by
    have hw := hw z_7 ez_7
    exact x_iret dX2_sureOf_43 rfl (Nat.le_of_ble_eq_true rfl) (Nat.le_of_ble_eq_true rfl) ⟨_, rfl, g, Ext.rf, hw⟩
  obtain ⟨hO_90, hO_91⟩ := hO_9
  refine x_icmp_eq 19 dX2_sureOf_7 (by decide) (fun c_2 => ?_) (fun c_2 => ?_)
  · have hO_9_ := hO_90 c_2
    obtain ⟨b_3, hO_9_1⟩ := hO_9_
    refine x_aload_n 0 dX2_sureOf_19 rfl ?_
    refine x_get (ci := 2) (v := .ref (mr ρ 34)) 8 dX2_sureOf_20 (GI.s g (t := (12, 0)) rfl (by decide)) rfl in_X2 (by decide) q1231 (Or.inl rfl) (fv_rc rfl (GI.m g (n := 34) rfl (by decide)) (by decide)) ?_
    refine x_iload_n 1 dX2_sureOf_23 rfl ?_
    refine x_iald (n := 4) (j := (Int32.toNatClampNeg p1)) dX2_sureOf_24 rfl (GI.s g (t := (1, 4)) rfl (by decide)) b_3 ?_
    refine x_bipush 20 dX2_sureOf_25 (by decide) ?_
    refine x_icmp_ge 34 dX2_sureOf_27 (by decide) (fun c_4 => ?_) (fun c_4 => ?_)
    · have hO_9__ := hO_9_1 c_4
      have b_5 := hO_9__
      refine x_aload_n 0 dX2_sureOf_34 rfl ?_
      refine x_get (ci := 2) (v := .ref (mr ρ 34)) 8 dX2_sureOf_35 (GI.s g (t := (12, 0)) rfl (by decide)) rfl in_X2 (by decide) q1231 (Or.inl rfl) (fv_rc rfl (GI.m g (n := 34) rfl (by decide)) (by decide)) ?_
      refine x_iload_n 1 dX2_sureOf_38 rfl ?_
      refine x_iald (n := 4) (j := (Int32.toNatClampNeg p1)) dX2_sureOf_39 rfl (GI.s g (t := (1, 4)) rfl (by decide)) b_5 ?_
      refine x_bipush 20 dX2_sureOf_40 (by decide) ?_
      refine x_isub dX2_sureOf_42 ?_
      exact kJ_8 _ (((if_pos c_2).trans (if_pos c_4))).symm
    · refine x_iconst 0 dX2_sureOf_30 (by decide) ?_
      refine x_goto 43 dX2_sureOf_31 (by decide) ?_
      exact kJ_8 _ (((if_pos c_2).trans (if_neg c_4))).symm
  · have hO_9_ := hO_91 c_2
    have b_6 := hO_9_
    refine x_aload_n 0 dX2_sureOf_10 rfl ?_
    refine x_get (ci := 2) (v := .ref (mr ρ 34)) 8 dX2_sureOf_11 (GI.s g (t := (12, 0)) rfl (by decide)) rfl in_X2 (by decide) q1231 (Or.inl rfl) (fv_rc rfl (GI.m g (n := 34) rfl (by decide)) (by decide)) ?_
    refine x_iload_n 1 dX2_sureOf_14 rfl ?_
    refine x_iald (n := 4) (j := (Int32.toNatClampNeg p1)) dX2_sureOf_15 rfl (GI.s g (t := (1, 4)) rfl (by decide)) b_6 ?_
    refine x_goto 43 dX2_sureOf_16 (by decide) ?_
    exact kJ_8 _ ((if_neg c_2)).symm

/-! BeforeTheEndModel.isSure(III)Z -/
def wp_X2_isSure (post : Int32 → Hp → Prop) (h : Hp) (p1 : Int32) (p2 : Int32) (p3 : Int32) : Prop := (vp_in p1 24 ∧ ((((gi h 29 (Int32.toNatClampNeg p1)) = 0 → (vp_in ((10 * p1) + p2) 240 ∧ vp_in p1 24))) ∧ (∀ z_6 : Int32, z_6 = ((if (gi h 29 (Int32.toNatClampNeg p1)) = 0 then (if (100 * (gl h 46 (Int32.toNatClampNeg ((10 * p1) + p2)))) < ((Int32.toInt64 p3) * (gl h 45 (Int32.toNatClampNeg p1))) then 0 else 1) else 1) : Int32) → (post z_6 h))))
abbrev rm_X2_isSure : Room := ({ frames := 1, cells := 0, slots := 0, locals := 60 })
abbrev K_X2_isSure : Kx := ("BeforeTheEndModel", cX2_isSure, 4, (Option.some Jvm.ClassFile.FieldType.boolean), rm_X2_isSure, [], false)
set_option maxHeartbeats 4000000 in
theorem k_X2_isSure {ρ : Rho} {h : Hp} {post : Int32 → Hp → Prop} {p1 : Int32} {p2 : Int32} {p3 : Int32} (G : G0 ρ) (g : GI h) (hw : wp_X2_isSure post h p1 p2 p3) : Con ρ yX2_isSure (ws_ yX2_isSure cX2_isSure 4 (Option.some Jvm.ClassFile.FieldType.boolean)) rm_X2_isSure [.ref (mr ρ 25), .int p1, .int p2, .int p3] h (phB h post) psN := by
  refine con_of (own := "BeforeTheEndModel") (isI := false) (l0 := [(0, .ref (mr ρ 25)), (1, .int p1), (2, .int p2), (3, .int p3)]) (by decide) rfl (fun z => by cases z) (Nat.le_of_ble_eq_true rfl) rfl (fun _ => ?_)
  show X ρ K_X2_isSure 0 [(0, .ref (mr ρ 25)), (1, .int p1), (2, .int p2), (3, .int p3)] [] h 0 0 (phB h post) psN
  refine x_aload_n 0 dX2_isSure_0 rfl ?_
  refine x_get (ci := 2) (v := .ref (mr ρ 29)) 3 dX2_isSure_1 (GI.s g (t := (12, 0)) rfl (by decide)) rfl in_X2 (by decide) q1226 (Or.inl rfl) (fv_rc rfl (GI.m g (n := 29) rfl (by decide)) (by decide)) ?_
  refine x_iload_n 1 dX2_isSure_4 rfl ?_
  obtain ⟨b_1, hw⟩ := hw
  refine x_iald (n := 24) (j := (Int32.toNatClampNeg p1)) dX2_isSure_5 rfl (GI.s g (t := (1, 24)) rfl (by decide)) b_1 ?_
  obtain ⟨hO_8, hw⟩ := hw
  have kJ_7 : ∀ z_6 : Int32, z_6 = ((if (gi h 29 (Int32.toNatClampNeg p1)) = 0 then (if (100 * (gl h 46 (Int32.toNatClampNeg ((10 * p1) + p2)))) < ((Int32.toInt64 p3) * (gl h 45 (Int32.toNatClampNeg p1))) then 0 else 1) else 1) : Int32) → X ρ K_X2_isSure 42 [(0, .ref (mr ρ 25)), (1, .int p1), (2, .int p2), (3, .int p3)] [.int z_6] h 0 0 (phB h post) psN := fun z_6 ez_6 => by
    have hw := hw z_6 ez_6
    exact x_zret dX2_isSure_42 rfl (isB.n (Eq.mpr (congrArg isB ez_6) (isB_ite (isB_ite isB_0 isB_1) isB_1))) (Nat.le_of_ble_eq_true rfl) (Nat.le_of_ble_eq_true rfl) ⟨_, rfl, g, Ext.rf, (Eq.mpr (congrArg isB ez_6) (isB_ite (isB_ite isB_0 isB_1) isB_1)), hw⟩
  have hO_80 := hO_8
  refine x_if_ne 37 dX2_isSure_6 (by decide) (fun c_2 => ?_) (fun c_2 => ?_)
  · refine x_iconst 1 dX2_isSure_37 (by decide) ?_
    refine x_goto 42 dX2_isSure_38 (by decide) ?_
    exact kJ_7 _ ((if_neg c_2)).symm
  · have hO_8_ := hO_80 c_2
    obtain ⟨b_3, b_4⟩ := hO_8_
    refine x_ldc2 dX2_isSure_9 q1553 ?_
    refine x_aload_n 0 dX2_isSure_12 rfl ?_
    refine x_get (ci := 2) (v := .ref (mr ρ 46)) 25 dX2_isSure_13 (GI.s g (t := (12, 0)) rfl (by decide)) rfl in_X2 (by decide) q1248 (Or.inl rfl) (fv_rc rfl (GI.m g (n := 46) rfl (by decide)) (by decide)) ?_
    refine x_bipush 10 dX2_isSure_16 (by decide) ?_
    refine x_iload_n 1 dX2_isSure_18 rfl ?_
    refine x_imul dX2_isSure_19 ?_
    refine x_iload_n 2 dX2_isSure_20 rfl ?_
    refine x_iadd dX2_isSure_21 ?_
    refine x_lald (n := 240) (j := (Int32.toNatClampNeg ((10 * p1) + p2))) dX2_isSure_22 rfl (GI.s g (t := (2, 240)) rfl (by decide)) b_3 ?_
    refine x_lmul dX2_isSure_23 ?_
    refine x_iload_n 3 dX2_isSure_24 rfl ?_
    refine x_i2l dX2_isSure_25 ?_
    refine x_aload_n 0 dX2_isSure_26 rfl ?_
    refine x_get (ci := 2) (v := .ref (mr ρ 45)) 24 dX2_isSure_27 (GI.s g (t := (12, 0)) rfl (by decide)) rfl in_X2 (by decide) q1247 (Or.inl rfl) (fv_rc rfl (GI.m g (n := 45) rfl (by decide)) (by decide)) ?_
    refine x_iload_n 1 dX2_isSure_30 rfl ?_
    refine x_lald (n := 24) (j := (Int32.toNatClampNeg p1)) dX2_isSure_31 rfl (GI.s g (t := (2, 24)) rfl (by decide)) b_4 ?_
    refine x_lmul dX2_isSure_32 ?_
    refine x_lif_lt 41 dX2_isSure_33 dX2_isSure_34 (by decide) (fun c_5 => ?_) (fun c_5 => ?_)
    · refine x_iconst 0 dX2_isSure_41 (by decide) ?_
      exact kJ_7 _ (((if_pos c_2).trans (if_pos c_5))).symm
    · refine x_iconst 1 dX2_isSure_37 (by decide) ?_
      refine x_goto 42 dX2_isSure_38 (by decide) ?_
      exact kJ_7 _ (((if_pos c_2).trans (if_neg c_5))).symm

/-! BeforeTheEndModel.mayPress(III)Z -/
def wp_X2_mayPress (post : Int32 → Hp → Prop) (h : Hp) (p1 : Int32) (p2 : Int32) (p3 : Int32) : Prop := (vp_in p1 4 ∧ (∀ x_2 : Int32, x_2 = (gi h 31 (Int32.toNatClampNeg p1)) → (((¬ x_2 = 0 ∧ ¬ x_2 = 4) → (vp_in ((24 * p1) + p2) 96 ∧ (wp_X2_isSure (fun r_10 h_7 => GI h_7 → Ext h h_7 → (post r_10 h_7)) h p2 (gi h 47 (Int32.toNatClampNeg ((24 * p1) + p2))) p3))) ∧ (x_2 = 0 → (vp_in p2 24 ∧ (∀ z_15 : Int32, z_15 = ((if (gi h 29 (Int32.toNatClampNeg p2)) = 0 then 0 else 1) : Int32) → (post z_15 h)))) ∧ (x_2 = 4 → (vp_in p1 4 ∧ (∀ z_20 : Int32, z_20 = ((if (((gi h 35 (Int32.toNatClampNeg p1)) >>> (p2 &&& 31)) &&& 1) = 1 then 1 else 0) : Int32) → (post z_20 h)))))))
abbrev rm_X2_mayPress : Room := ({ frames := 2, cells := 0, slots := 0, locals := 83 })
abbrev K_X2_mayPress : Kx := ("BeforeTheEndModel", cX2_mayPress, 4, (Option.some Jvm.ClassFile.FieldType.boolean), rm_X2_mayPress, [], false)
set_option maxHeartbeats 4000000 in
theorem k_X2_mayPress {ρ : Rho} {h : Hp} {post : Int32 → Hp → Prop} {p1 : Int32} {p2 : Int32} {p3 : Int32} (G : G0 ρ) (g : GI h) (hw : wp_X2_mayPress post h p1 p2 p3) : Con ρ yX2_mayPress (ws_ yX2_mayPress cX2_mayPress 4 (Option.some Jvm.ClassFile.FieldType.boolean)) rm_X2_mayPress [.ref (mr ρ 25), .int p1, .int p2, .int p3] h (phB h post) psN := by
  refine con_of (own := "BeforeTheEndModel") (isI := false) (l0 := [(0, .ref (mr ρ 25)), (1, .int p1), (2, .int p2), (3, .int p3)]) (by decide) rfl (fun z => by cases z) (Nat.le_of_ble_eq_true rfl) rfl (fun _ => ?_)
  show X ρ K_X2_mayPress 0 [(0, .ref (mr ρ 25)), (1, .int p1), (2, .int p2), (3, .int p3)] [] h 0 0 (phB h post) psN
  refine x_aload_n 0 dX2_mayPress_0 rfl ?_
  refine x_get (ci := 2) (v := .ref (mr ρ 31)) 5 dX2_mayPress_1 (GI.s g (t := (12, 0)) rfl (by decide)) rfl in_X2 (by decide) q1228 (Or.inl rfl) (fv_rc rfl (GI.m g (n := 31) rfl (by decide)) (by decide)) ?_
  refine x_iload_n 1 dX2_mayPress_4 rfl ?_
  obtain ⟨b_1, hw⟩ := hw
  refine x_iald (n := 4) (j := (Int32.toNatClampNeg p1)) dX2_mayPress_5 rfl (GI.s g (t := (1, 4)) rfl (by decide)) b_1 ?_
  refine x_nmi (fun x_2 ex_2 => ?_)
  have hw := hw x_2 ex_2
  obtain ⟨wd_3, ws_4, ws_5⟩ := hw
  by_cases c_12 : x_2 = 0
  · have hw := ws_4 c_12
    refine x_lookup (off := 26) 32 dX2_mayPress_6 (by decide) (by rw [c_12]; rfl) (by decide) ?_
    refine x_aload_n 0 dX2_mayPress_32 rfl ?_
    refine x_get (ci := 2) (v := .ref (mr ρ 29)) 3 dX2_mayPress_33 (GI.s g (t := (12, 0)) rfl (by decide)) rfl in_X2 (by decide) q1226 (Or.inl rfl) (fv_rc rfl (GI.m g (n := 29) rfl (by decide)) (by decide)) ?_
    refine x_iload_n 2 dX2_mayPress_36 rfl ?_
    obtain ⟨b_13, hw⟩ := hw
    refine x_iald (n := 24) (j := (Int32.toNatClampNeg p2)) dX2_mayPress_37 rfl (GI.s g (t := (1, 24)) rfl (by decide)) b_13 ?_
    have kJ_16 : ∀ z_15 : Int32, z_15 = ((if (gi h 29 (Int32.toNatClampNeg p2)) = 0 then 0 else 1) : Int32) → X ρ K_X2_mayPress 46 [(0, .ref (mr ρ 25)), (1, .int p1), (2, .int p2), (3, .int p3)] [.int z_15] h 0 0 (phB h post) psN := fun z_15 ez_15 => by
      have hw := hw z_15 ez_15
      exact x_zret dX2_mayPress_46 rfl (isB.n (Eq.mpr (congrArg isB ez_15) (isB_ite isB_0 isB_1))) (Nat.le_of_ble_eq_true rfl) (Nat.le_of_ble_eq_true rfl) ⟨_, rfl, g, Ext.rf, (Eq.mpr (congrArg isB ez_15) (isB_ite isB_0 isB_1)), hw⟩
    refine x_if_eq 45 dX2_mayPress_38 (by decide) (fun c_14 => ?_) (fun c_14 => ?_)
    · refine x_iconst 0 dX2_mayPress_45 (by decide) ?_
      exact kJ_16 _ ((if_pos c_14)).symm
    · refine x_iconst 1 dX2_mayPress_41 (by decide) ?_
      refine x_goto 46 dX2_mayPress_42 (by decide) ?_
      exact kJ_16 _ ((if_neg c_14)).symm
  · by_cases c_17 : x_2 = 4
    · have hw := ws_5 c_17
      refine x_lookup (off := 41) 47 dX2_mayPress_6 (by decide) (by rw [c_17]; rfl) (by decide) ?_
      refine x_aload_n 0 dX2_mayPress_47 rfl ?_
      refine x_get (ci := 2) (v := .ref (mr ρ 35)) 9 dX2_mayPress_48 (GI.s g (t := (12, 0)) rfl (by decide)) rfl in_X2 (by decide) q1232 (Or.inl rfl) (fv_rc rfl (GI.m g (n := 35) rfl (by decide)) (by decide)) ?_
      refine x_iload_n 1 dX2_mayPress_51 rfl ?_
      obtain ⟨b_18, hw⟩ := hw
      refine x_iald (n := 4) (j := (Int32.toNatClampNeg p1)) dX2_mayPress_52 rfl (GI.s g (t := (1, 4)) rfl (by decide)) b_18 ?_
      refine x_iload_n 2 dX2_mayPress_53 rfl ?_
      refine x_ishr dX2_mayPress_54 ?_
      refine x_iconst 1 dX2_mayPress_55 (by decide) ?_
      refine x_iand dX2_mayPress_56 ?_
      refine x_iconst 1 dX2_mayPress_57 (by decide) ?_
      have kJ_21 : ∀ z_20 : Int32, z_20 = ((if (((gi h 35 (Int32.toNatClampNeg p1)) >>> (p2 &&& 31)) &&& 1) = 1 then 1 else 0) : Int32) → X ρ K_X2_mayPress 66 [(0, .ref (mr ρ 25)), (1, .int p1), (2, .int p2), (3, .int p3)] [.int z_20] h 0 0 (phB h post) psN := fun z_20 ez_20 => by
        have hw := hw z_20 ez_20
        exact x_zret dX2_mayPress_66 rfl (isB.n (Eq.mpr (congrArg isB ez_20) (isB_ite isB_1 isB_0))) (Nat.le_of_ble_eq_true rfl) (Nat.le_of_ble_eq_true rfl) ⟨_, rfl, g, Ext.rf, (Eq.mpr (congrArg isB ez_20) (isB_ite isB_1 isB_0)), hw⟩
      refine x_icmp_ne 65 dX2_mayPress_58 (by decide) (fun c_19 => ?_) (fun c_19 => ?_)
      · refine x_iconst 0 dX2_mayPress_65 (by decide) ?_
        exact kJ_21 _ ((if_neg c_19)).symm
      · refine x_iconst 1 dX2_mayPress_61 (by decide) ?_
        refine x_goto 66 dX2_mayPress_62 (by decide) ?_
        exact kJ_21 _ ((if_pos c_19)).symm
    · have hw := wd_3 ⟨c_12, c_17⟩
      refine x_lookupN 67 dX2_mayPress_6 (by decide) (lk_2 c_12 c_17) (by decide) ?_
      refine x_aload_n 0 dX2_mayPress_67 rfl ?_
      refine x_iload_n 2 dX2_mayPress_68 rfl ?_
      refine x_aload_n 0 dX2_mayPress_69 rfl ?_
      refine x_get (ci := 2) (v := .ref (mr ρ 47)) 26 dX2_mayPress_70 (GI.s g (t := (12, 0)) rfl (by decide)) rfl in_X2 (by decide) q1249 (Or.inl rfl) (fv_rc rfl (GI.m g (n := 47) rfl (by decide)) (by decide)) ?_
      refine x_bipush 24 dX2_mayPress_73 (by decide) ?_
      refine x_iload_n 1 dX2_mayPress_75 rfl ?_
      refine x_imul dX2_mayPress_76 ?_
      refine x_iload_n 2 dX2_mayPress_77 rfl ?_
      refine x_iadd dX2_mayPress_78 ?_
      obtain ⟨b_6, hw⟩ := hw
      refine x_iald (n := 96) (j := (Int32.toNatClampNeg ((24 * p1) + p2))) dX2_mayPress_79 rfl (GI.s g (t := (1, 96)) rfl (by decide)) b_6 ?_
      refine x_iload_n 3 dX2_mayPress_80 rfl ?_
      refine x_callV (ci := 2) [.int p2, .int (gi h 47 (Int32.toNatClampNeg ((24 * p1) + p2))), .int p3] 3 dX2_mayPress_81 (k_X2_isSure G g hw) (GI.s g (t := (12, 0)) rfl (by decide)) rfl q1549 q1551 qs86 q106 q1552 (by decide) rfl rfl ⟨(Nat.le_of_ble_eq_true rfl), (Nat.le_of_ble_eq_true rfl)⟩ (Nat.le_of_ble_eq_true rfl) ⟨(Nat.le_of_ble_eq_true rfl), (Nat.le_of_ble_eq_true rfl)⟩ (fun v9 h_7 hv9 => ?_) (fun _ _ _ _ _ z _ _ => False.elim z)
      obtain ⟨r_10, rfl, g_8, e_9, b_11, hw⟩ := hv9
      have hw := hw g_8 e_9
      show X ρ K_X2_mayPress 84 [(0, .ref (mr ρ 25)), (1, .int p1), (2, .int p2), (3, .int p3)] [.int r_10] h_7 0 0 (phB h post) psN
      exact x_zret dX2_mayPress_84 rfl (isB.n b_11) (Nat.le_of_ble_eq_true rfl) (Nat.le_of_ble_eq_true rfl) ⟨_, rfl, g_8, e_9, b_11, hw⟩

/-! BeforeTheEndModel.pressing(II)I -/
def w_X2_pressing_5 (post : Int32 → Hp → Prop) : Nat → Int32 → Int32 → Int32 → Int32 → Hp → Prop
  | 0 => fun _ _ _ _ _ => False
  | n + 1 => fun x1 x2 x3 x4 h => (((gi h 25 12) ≤ x4 → (post x3 h)) ∧ (¬ (gi h 25 12) ≤ x4 → (vp_in ((24 * x1) + x4) 96 ∧ (((gi h 47 (Int32.toNatClampNeg ((24 * x1) + x4))) = 0 → (w_X2_pressing_5 post n x1 x2 (x3 ||| 0) (x4 + 1) h)) ∧ (¬ (gi h 47 (Int32.toNatClampNeg ((24 * x1) + x4))) = 0 → (wp_X2_mayPress (fun r_7 h_4 => GI h_4 → Ext h h_4 → (∀ z_10 : Int32, z_10 = ((if r_7 = 0 then 0 else (1 <<< (x4 &&& 31))) : Int32) → (w_X2_pressing_5 post n x1 x2 (x3 ||| z_10) (x4 + 1) h_4))) h x1 x4 x2))))))
def wp_X2_pressing (post : Int32 → Hp → Prop) (h : Hp) (p1 : Int32) (p2 : Int32) : Prop := (∃ fu : Nat, w_X2_pressing_5 post fu p1 p2 0 1 h)
abbrev rm_X2_pressing : Room := ({ frames := 3, cells := 0, slots := 0, locals := 106 })
abbrev K_X2_pressing : Kx := ("BeforeTheEndModel", cX2_pressing, 5, (Option.some Jvm.ClassFile.FieldType.int), rm_X2_pressing, [], false)
set_option maxHeartbeats 4000000 in
theorem t_X2_pressing_5 {ρ : Rho} {h0 : Hp} {post : Int32 → Hp → Prop} (G : G0 ρ) :
    ∀ (n : Nat), ∀ (x1 : Int32) (x2 : Int32) (x3 : Int32) (x4 : Int32) (h : Hp), GI h → Ext h0 h → w_X2_pressing_5 post n x1 x2 x3 x4 h → X ρ K_X2_pressing 5 [(0, .ref (mr ρ 25)), (1, .int x1), (2, .int x2), (3, .int x3), (4, .int x4)] [] h 0 0 (phI h0 post) psN := by
  intro n
  induction n with
  | zero => intro x1 x2 x3 x4 h g e hw; exact False.elim hw
  | succ n ih =>
    intro x1 x2 x3 x4 h g e hw
    refine x_iload 4 dX2_pressing_5 rfl ?_
    refine x_aload_n 0 dX2_pressing_7 rfl ?_
    refine x_get (ci := 2) (v := .int (gi h 25 12)) 12 dX2_pressing_8 (GI.s g (t := (12, 0)) rfl (by decide)) rfl in_X2 (by decide) q1235 (Or.inl rfl) (fv_i rfl) ?_
    obtain ⟨wt_14, wf_15⟩ := hw
    refine x_icmp_ge 57 dX2_pressing_11 (by decide) (fun c_1 => ?_) (fun c_1 => ?_)
    · have hw := wt_14 c_1
      refine x_iload_n 3 dX2_pressing_57 rfl ?_
      exact x_iret dX2_pressing_58 rfl (Nat.le_of_ble_eq_true rfl) (Nat.le_of_ble_eq_true rfl) ⟨_, rfl, g, e, hw⟩
    · have hw := wf_15 c_1
      refine x_iload_n 3 dX2_pressing_14 rfl ?_
      refine x_aload_n 0 dX2_pressing_15 rfl ?_
      refine x_get (ci := 2) (v := .ref (mr ρ 47)) 26 dX2_pressing_16 (GI.s g (t := (12, 0)) rfl (by decide)) rfl in_X2 (by decide) q1249 (Or.inl rfl) (fv_rc rfl (GI.m g (n := 47) rfl (by decide)) (by decide)) ?_
      refine x_bipush 24 dX2_pressing_19 (by decide) ?_
      refine x_iload_n 1 dX2_pressing_21 rfl ?_
      refine x_imul dX2_pressing_22 ?_
      refine x_iload 4 dX2_pressing_23 rfl ?_
      refine x_iadd dX2_pressing_25 ?_
      obtain ⟨b_2, hw⟩ := hw
      refine x_iald (n := 96) (j := (Int32.toNatClampNeg ((24 * x1) + x4))) dX2_pressing_26 rfl (GI.s g (t := (1, 96)) rfl (by decide)) b_2 ?_
      obtain ⟨wt_12, wf_13⟩ := hw
      refine x_if_eq 48 dX2_pressing_27 (by decide) (fun c_3 => ?_) (fun c_3 => ?_)
      · have hw := wt_12 c_3
        refine x_iconst 0 dX2_pressing_48 (by decide) ?_
        refine x_ior dX2_pressing_49 ?_
        refine x_istore_n (lv' := [(3, .int (x3 ||| 0)), (0, .ref (mr ρ 25)), (1, .int x1), (2, .int x2), (4, .int x4)]) dX2_pressing_50 (Nat.le_of_ble_eq_true rfl) rfl ?_
        refine x_iinc (v := (x4 + 1)) (lv' := [(4, .int (x4 + 1)), (3, .int (x3 ||| 0)), (0, .ref (mr ρ 25)), (1, .int x1), (2, .int x2)]) 4 dX2_pressing_51 rfl (by rfl) (Nat.le_of_ble_eq_true rfl) rfl ?_
        refine x_goto 5 dX2_pressing_54 (by decide) ?_
        refine X.sub [2, 3, 4, 1, 0] rfl ?_
        exact ih x1 x2 (x3 ||| 0) (x4 + 1) h g e hw
      · have hw := wf_13 c_3
        refine x_aload_n 0 dX2_pressing_30 rfl ?_
        refine x_iload_n 1 dX2_pressing_31 rfl ?_
        refine x_iload 4 dX2_pressing_32 rfl ?_
        refine x_iload_n 2 dX2_pressing_34 rfl ?_
        refine x_callV (ci := 2) [.int x1, .int x4, .int x2] 3 dX2_pressing_35 (k_X2_mayPress G g hw) (GI.s g (t := (12, 0)) rfl (by decide)) rfl q1545 q1547 qs85 q106 q1548 (by decide) rfl rfl ⟨(Nat.le_of_ble_eq_true rfl), (Nat.le_of_ble_eq_true rfl)⟩ (Nat.le_of_ble_eq_true rfl) ⟨(Nat.le_of_ble_eq_true rfl), (Nat.le_of_ble_eq_true rfl)⟩ (fun v9 h_4 hv9 => ?_) (fun _ _ _ _ _ z _ _ => False.elim z)
        obtain ⟨r_7, rfl, g_5, e_6, b_8, hw⟩ := hv9
        have hw := hw g_5 e_6
        show X ρ K_X2_pressing 38 [(0, .ref (mr ρ 25)), (1, .int x1), (2, .int x2), (3, .int x3), (4, .int x4)] [.int r_7, .int x3] h_4 0 0 (phI h0 post) psN
        have kJ_11 : ∀ z_10 : Int32, z_10 = ((if r_7 = 0 then 0 else (1 <<< (x4 &&& 31))) : Int32) → X ρ K_X2_pressing 49 [(0, .ref (mr ρ 25)), (1, .int x1), (2, .int x2), (3, .int x3), (4, .int x4)] [.int z_10, .int x3] h_4 0 0 (phI h0 post) psN := fun z_10 ez_10 => by
          have hw := hw z_10 ez_10
          refine x_ior dX2_pressing_49 ?_
          refine x_istore_n (lv' := [(3, .int (x3 ||| z_10)), (0, .ref (mr ρ 25)), (1, .int x1), (2, .int x2), (4, .int x4)]) dX2_pressing_50 (Nat.le_of_ble_eq_true rfl) rfl ?_
          refine x_iinc (v := (x4 + 1)) (lv' := [(4, .int (x4 + 1)), (3, .int (x3 ||| z_10)), (0, .ref (mr ρ 25)), (1, .int x1), (2, .int x2)]) 4 dX2_pressing_51 rfl (by rfl) (Nat.le_of_ble_eq_true rfl) rfl ?_
          refine x_goto 5 dX2_pressing_54 (by decide) ?_
          refine X.sub [2, 3, 4, 1, 0] rfl ?_
          exact ih x1 x2 (x3 ||| z_10) (x4 + 1) h_4 g_5 (Ext.tr e e_6) hw
        refine x_if_eq 48 dX2_pressing_38 (by decide) (fun c_9 => ?_) (fun c_9 => ?_)
        · refine x_iconst 0 dX2_pressing_48 (by decide) ?_
          exact kJ_11 _ ((if_pos c_9)).symm
        · refine x_iconst 1 dX2_pressing_41 (by decide) ?_
          refine x_iload 4 dX2_pressing_42 rfl ?_
          refine x_ishl dX2_pressing_44 ?_
          refine x_goto 49 dX2_pressing_45 (by decide) ?_
          exact kJ_11 _ ((if_neg c_9)).symm
set_option maxHeartbeats 4000000 in
theorem k_X2_pressing {ρ : Rho} {h : Hp} {post : Int32 → Hp → Prop} {p1 : Int32} {p2 : Int32} (G : G0 ρ) (g : GI h) (hw : wp_X2_pressing post h p1 p2) : Con ρ yX2_pressing (ws_ yX2_pressing cX2_pressing 5 (Option.some Jvm.ClassFile.FieldType.int)) rm_X2_pressing [.ref (mr ρ 25), .int p1, .int p2] h (phI h post) psN := by
  refine con_of (own := "BeforeTheEndModel") (isI := false) (l0 := [(0, .ref (mr ρ 25)), (1, .int p1), (2, .int p2)]) (by decide) rfl (fun z => by cases z) (Nat.le_of_ble_eq_true rfl) rfl (fun _ => ?_)
  show X ρ K_X2_pressing 0 [(0, .ref (mr ρ 25)), (1, .int p1), (2, .int p2)] [] h 0 0 (phI h post) psN
  refine x_iconst 0 dX2_pressing_0 (by decide) ?_
  refine x_istore_n (lv' := [(3, .int 0), (0, .ref (mr ρ 25)), (1, .int p1), (2, .int p2)]) dX2_pressing_1 (Nat.le_of_ble_eq_true rfl) rfl ?_
  refine x_iconst 1 dX2_pressing_2 (by decide) ?_
  refine x_istore (lv' := [(4, .int 1), (3, .int 0), (0, .ref (mr ρ 25)), (1, .int p1), (2, .int p2)]) dX2_pressing_3 (Nat.le_of_ble_eq_true rfl) rfl ?_
  refine X.sub [2, 3, 4, 1, 0] rfl ?_
  obtain ⟨fu, hw⟩ := hw
  exact t_X2_pressing_5 G  fu p1 p2 0 1 h g Ext.rf hw

/-! BeforeTheEndModel.findPresses()V -/
def w_X2_findPresses_92 (post : Hp → Prop) (K2 : Int32 → Hp → Prop) (x1 : Int32) (h : Hp) : Prop := (vp_in x1 4 ∧ ((¬ (gi h 31 (Int32.toNatClampNeg x1)) = 3 → (vp_in x1 4 ∧ (vp_in x1 4 ∧ (K2 (x1 + 1) (si h 49 (Int32.toNatClampNeg x1) (gi h 48 (Int32.toNatClampNeg x1))))))) ∧ ((gi h 31 (Int32.toNatClampNeg x1)) = 3 → (vp_in x1 4 ∧ (wp_X2_pressing (fun r_9 h_6 => GI h_6 → Ext h h_6 → (vp_in x1 4 ∧ (K2 (x1 + 1) (si h_6 49 (Int32.toNatClampNeg x1) r_9)))) h x1 ((gi h 34 (Int32.toNatClampNeg x1)) / 2))))))
def w_X2_findPresses_12 (post : Hp → Prop) (K2 : Int32 → Hp → Prop) : Nat → Int32 → Int32 → Hp → Prop
  | 0 => fun _ _ _ => False
  | n + 1 => fun x1 x2 h => (((gi h 25 12) ≤ x2 → (vp_in x1 4 ∧ ((¬ (gi h 31 (Int32.toNatClampNeg x1)) = 5 → (wp_X2_sureOf (fun r_7 h_4 => GI h_4 → Ext h h_4 → (wp_X2_pressing (fun r_12 h_9 => GI h_9 → Ext h_4 h_9 → (vp_in x1 4 ∧ (w_X2_findPresses_92 post K2 x1 (si h_9 48 (Int32.toNatClampNeg x1) r_12)))) h_4 x1 r_7)) h x1)) ∧ ((gi h 31 (Int32.toNatClampNeg x1)) = 5 → (wp_X2_findAlone (fun h_15 => GI h_15 → Ext h h_15 → (vp_in x1 4 ∧ (w_X2_findPresses_92 post K2 x1 (si h_15 48 (Int32.toNatClampNeg x1) (gi h_15 25 31))))) h x1))))) ∧ (¬ (gi h 25 12) ≤ x2 → (vp_in x1 4 ∧ (wp_X2_guessOf (fun r_27 h_24 => GI h_24 → Ext h h_24 → (vp_in ((24 * x1) + x2) 96 ∧ (w_X2_findPresses_12 post K2 n x1 (x2 + 1) (si h_24 47 (Int32.toNatClampNeg ((24 * x1) + x2)) r_27)))) h (gi h 32 (Int32.toNatClampNeg x1)) x2))))
def w_X2_findPresses_2 (post : Hp → Prop) : Nat → Int32 → Hp → Prop
  | 0 => fun _ _ => False
  | n + 1 => fun x1 h => (((gi h 25 13) ≤ x1 → (post h)) ∧ (¬ (gi h 25 13) ≤ x1 → (∃ fu : Nat, w_X2_findPresses_12 post (w_X2_findPresses_2 post n) fu x1 0 h)))
def wp_X2_findPresses (post : Hp → Prop) (h : Hp) : Prop := (∃ fu : Nat, w_X2_findPresses_2 post fu 0 h)
abbrev rm_X2_findPresses : Room := ({ frames := 4, cells := 0, slots := 0, locals := 133 })
abbrev K_X2_findPresses : Kx := ("BeforeTheEndModel", cX2_findPresses, 3, (Option.none : Option Jvm.ClassFile.FieldType), rm_X2_findPresses, [], false)
set_option maxHeartbeats 4000000 in
theorem t_X2_findPresses_92 {ρ : Rho} {h0 : Hp} {post : Hp → Prop} {K2 : Int32 → Hp → Prop} (G : G0 ρ) (hK2 : ∀ (x1 : Int32) (h : Hp), GI h → Ext h0 h → K2 x1 h → X ρ K_X2_findPresses 2 [(0, .ref (mr ρ 25)), (1, .int x1)] [] h 0 0 (phV h0 post) psN) :
    ∀ (x1 : Int32) (h : Hp), GI h → Ext h0 h → w_X2_findPresses_92 post K2 x1 h → X ρ K_X2_findPresses 92 [(0, .ref (mr ρ 25)), (1, .int x1)] [] h 0 0 (phV h0 post) psN := by
  intro x1 h g e hw
  refine x_aload_n 0 dX2_findPresses_92 rfl ?_
  refine x_get (ci := 2) (v := .ref (mr ρ 49)) 28 dX2_findPresses_93 (GI.s g (t := (12, 0)) rfl (by decide)) rfl in_X2 (by decide) q1251 (Or.inl rfl) (fv_rc rfl (GI.m g (n := 49) rfl (by decide)) (by decide)) ?_
  refine x_iload_n 1 dX2_findPresses_96 rfl ?_
  refine x_aload_n 0 dX2_findPresses_97 rfl ?_
  refine x_get (ci := 2) (v := .ref (mr ρ 31)) 5 dX2_findPresses_98 (GI.s g (t := (12, 0)) rfl (by decide)) rfl in_X2 (by decide) q1228 (Or.inl rfl) (fv_rc rfl (GI.m g (n := 31) rfl (by decide)) (by decide)) ?_
  refine x_iload_n 1 dX2_findPresses_101 rfl ?_
  obtain ⟨b_1, hw⟩ := hw
  refine x_iald (n := 4) (j := (Int32.toNatClampNeg x1)) dX2_findPresses_102 rfl (GI.s g (t := (1, 4)) rfl (by decide)) b_1 ?_
  refine x_iconst 3 dX2_findPresses_103 (by decide) ?_
  obtain ⟨wt_12, wf_13⟩ := hw
  refine x_icmp_ne 123 dX2_findPresses_104 (by decide) (fun c_2 => ?_) (fun c_2 => ?_)
  · have hw := wt_12 c_2
    refine x_aload_n 0 dX2_findPresses_123 rfl ?_
    refine x_get (ci := 2) (v := .ref (mr ρ 48)) 27 dX2_findPresses_124 (GI.s g (t := (12, 0)) rfl (by decide)) rfl in_X2 (by decide) q1250 (Or.inl rfl) (fv_rc rfl (GI.m g (n := 48) rfl (by decide)) (by decide)) ?_
    refine x_iload_n 1 dX2_findPresses_127 rfl ?_
    obtain ⟨b_3, hw⟩ := hw
    refine x_iald (n := 4) (j := (Int32.toNatClampNeg x1)) dX2_findPresses_128 rfl (GI.s g (t := (1, 4)) rfl (by decide)) b_3 ?_
    obtain ⟨b_4, hw⟩ := hw
    refine x_iast (n := 4) (j := (Int32.toNatClampNeg x1)) dX2_findPresses_129 rfl (GI.s g (t := (1, 4)) rfl (by decide)) b_4 ?_
    refine x_iinc (v := (x1 + 1)) (lv' := [(1, .int (x1 + 1)), (0, .ref (mr ρ 25))]) 1 dX2_findPresses_130 rfl (by rfl) (Nat.le_of_ble_eq_true rfl) rfl ?_
    refine x_goto 2 dX2_findPresses_133 (by decide) ?_
    refine X.sub [1, 0] rfl ?_
    exact hK2 (x1 + 1) (si h 49 (Int32.toNatClampNeg x1) (gi h 48 (Int32.toNatClampNeg x1))) (GI.i g) (Ext.i e) hw
  · have hw := wf_13 c_2
    refine x_aload_n 0 dX2_findPresses_107 rfl ?_
    refine x_iload_n 1 dX2_findPresses_108 rfl ?_
    refine x_aload_n 0 dX2_findPresses_109 rfl ?_
    refine x_get (ci := 2) (v := .ref (mr ρ 34)) 8 dX2_findPresses_110 (GI.s g (t := (12, 0)) rfl (by decide)) rfl in_X2 (by decide) q1231 (Or.inl rfl) (fv_rc rfl (GI.m g (n := 34) rfl (by decide)) (by decide)) ?_
    refine x_iload_n 1 dX2_findPresses_113 rfl ?_
    obtain ⟨b_5, hw⟩ := hw
    refine x_iald (n := 4) (j := (Int32.toNatClampNeg x1)) dX2_findPresses_114 rfl (GI.s g (t := (1, 4)) rfl (by decide)) b_5 ?_
    refine x_iconst 2 dX2_findPresses_115 (by decide) ?_
    refine x_idiv dX2_findPresses_116 (by decide) ?_
    refine x_callV (ci := 2) [.int x1, .int ((gi h 34 (Int32.toNatClampNeg x1)) / 2)] 2 dX2_findPresses_117 (k_X2_pressing G g hw) (GI.s g (t := (12, 0)) rfl (by decide)) rfl q1541 q1543 qs84 q106 q1544 (by decide) rfl rfl ⟨(Nat.le_of_ble_eq_true rfl), (Nat.le_of_ble_eq_true rfl)⟩ (Nat.le_of_ble_eq_true rfl) ⟨(Nat.le_of_ble_eq_true rfl), (Nat.le_of_ble_eq_true rfl)⟩ (fun v9 h_6 hv9 => ?_) (fun _ _ _ _ _ z _ _ => False.elim z)
    obtain ⟨r_9, rfl, g_7, e_8, hw⟩ := hv9
    have hw := hw g_7 e_8
    show X ρ K_X2_findPresses 120 [(0, .ref (mr ρ 25)), (1, .int x1)] [.int r_9, .int x1, .ref (mr ρ 49)] h_6 0 0 (phV h0 post) psN
    refine x_goto 129 dX2_findPresses_120 (by decide) ?_
    obtain ⟨b_11, hw⟩ := hw
    refine x_iast (n := 4) (j := (Int32.toNatClampNeg x1)) dX2_findPresses_129 rfl (GI.s g_7 (t := (1, 4)) rfl (by decide)) b_11 ?_
    refine x_iinc (v := (x1 + 1)) (lv' := [(1, .int (x1 + 1)), (0, .ref (mr ρ 25))]) 1 dX2_findPresses_130 rfl (by rfl) (Nat.le_of_ble_eq_true rfl) rfl ?_
    refine x_goto 2 dX2_findPresses_133 (by decide) ?_
    refine X.sub [1, 0] rfl ?_
    exact hK2 (x1 + 1) (si h_6 49 (Int32.toNatClampNeg x1) r_9) (GI.i g_7) (Ext.i (Ext.tr e e_8)) hw
set_option maxHeartbeats 4000000 in
theorem t_X2_findPresses_12 {ρ : Rho} {h0 : Hp} {post : Hp → Prop} {K2 : Int32 → Hp → Prop} (G : G0 ρ) (hK2 : ∀ (x1 : Int32) (h : Hp), GI h → Ext h0 h → K2 x1 h → X ρ K_X2_findPresses 2 [(0, .ref (mr ρ 25)), (1, .int x1)] [] h 0 0 (phV h0 post) psN) :
    ∀ (n : Nat), ∀ (x1 : Int32) (x2 : Int32) (h : Hp), GI h → Ext h0 h → w_X2_findPresses_12 post K2 n x1 x2 h → X ρ K_X2_findPresses 12 [(0, .ref (mr ρ 25)), (1, .int x1), (2, .int x2)] [] h 0 0 (phV h0 post) psN := by
  intro n
  induction n with
  | zero => intro x1 x2 h g e hw; exact False.elim hw
  | succ n ih =>
    intro x1 x2 h g e hw
    refine x_iload_n 2 dX2_findPresses_12 rfl ?_
    refine x_aload_n 0 dX2_findPresses_13 rfl ?_
    refine x_get (ci := 2) (v := .int (gi h 25 12)) 12 dX2_findPresses_14 (GI.s g (t := (12, 0)) rfl (by decide)) rfl in_X2 (by decide) q1235 (Or.inl rfl) (fv_i rfl) ?_
    obtain ⟨wt_30, wf_31⟩ := hw
    refine x_icmp_ge 48 dX2_findPresses_17 (by decide) (fun c_1 => ?_) (fun c_1 => ?_)
    · have hw := wt_30 c_1
      refine x_aload_n 0 dX2_findPresses_48 rfl ?_
      refine x_get (ci := 2) (v := .ref (mr ρ 31)) 5 dX2_findPresses_49 (GI.s g (t := (12, 0)) rfl (by decide)) rfl in_X2 (by decide) q1228 (Or.inl rfl) (fv_rc rfl (GI.m g (n := 31) rfl (by decide)) (by decide)) ?_
      refine x_iload_n 1 dX2_findPresses_52 rfl ?_
      obtain ⟨b_2, hw⟩ := hw
      refine x_iald (n := 4) (j := (Int32.toNatClampNeg x1)) dX2_findPresses_53 rfl (GI.s g (t := (1, 4)) rfl (by decide)) b_2 ?_
      refine x_iconst 5 dX2_findPresses_54 (by decide) ?_
      obtain ⟨wt_21, wf_22⟩ := hw
      refine x_icmp_ne 76 dX2_findPresses_55 (by decide) (fun c_3 => ?_) (fun c_3 => ?_)
      · have hw := wt_21 c_3
        refine x_aload_n 0 dX2_findPresses_76 rfl ?_
        refine x_get (ci := 2) (v := .ref (mr ρ 48)) 27 dX2_findPresses_77 (GI.s g (t := (12, 0)) rfl (by decide)) rfl in_X2 (by decide) q1250 (Or.inl rfl) (fv_rc rfl (GI.m g (n := 48) rfl (by decide)) (by decide)) ?_
        refine x_iload_n 1 dX2_findPresses_80 rfl ?_
        refine x_aload_n 0 dX2_findPresses_81 rfl ?_
        refine x_iload_n 1 dX2_findPresses_82 rfl ?_
        refine x_aload_n 0 dX2_findPresses_83 rfl ?_
        refine x_iload_n 1 dX2_findPresses_84 rfl ?_
        refine x_callV (ci := 2) [.int x1] 1 dX2_findPresses_85 (k_X2_sureOf G g hw) (GI.s g (t := (12, 0)) rfl (by decide)) rfl q1537 q1539 qs83 q106 q1540 (by decide) rfl rfl ⟨(Nat.le_of_ble_eq_true rfl), (Nat.le_of_ble_eq_true rfl)⟩ (Nat.le_of_ble_eq_true rfl) ⟨(Nat.le_of_ble_eq_true rfl), (Nat.le_of_ble_eq_true rfl)⟩ (fun v9 h_4 hv9 => ?_) (fun _ _ _ _ _ z _ _ => False.elim z)
        obtain ⟨r_7, rfl, g_5, e_6, hw⟩ := hv9
        have hw := hw g_5 e_6
        show X ρ K_X2_findPresses 88 [(0, .ref (mr ρ 25)), (1, .int x1), (2, .int x2)] [.int r_7, .int x1, .ref (mr ρ 25), .int x1, .ref (mr ρ 48)] h_4 0 0 (phV h0 post) psN
        refine x_callV (ci := 2) [.int x1, .int r_7] 2 dX2_findPresses_88 (k_X2_pressing G g_5 hw) (GI.s g_5 (t := (12, 0)) rfl (by decide)) rfl q1541 q1543 qs84 q106 q1544 (by decide) rfl rfl ⟨(Nat.le_of_ble_eq_true rfl), (Nat.le_of_ble_eq_true rfl)⟩ (Nat.le_of_ble_eq_true rfl) ⟨(Nat.le_of_ble_eq_true rfl), (Nat.le_of_ble_eq_true rfl)⟩ (fun v9 h_9 hv9 => ?_) (fun _ _ _ _ _ z _ _ => False.elim z)
        obtain ⟨r_12, rfl, g_10, e_11, hw⟩ := hv9
        have hw := hw g_10 e_11
        show X ρ K_X2_findPresses 91 [(0, .ref (mr ρ 25)), (1, .int x1), (2, .int x2)] [.int r_12, .int x1, .ref (mr ρ 48)] h_9 0 0 (phV h0 post) psN
        obtain ⟨b_14, hw⟩ := hw
        refine x_iast (n := 4) (j := (Int32.toNatClampNeg x1)) dX2_findPresses_91 rfl (GI.s g_10 (t := (1, 4)) rfl (by decide)) b_14 ?_
        refine X.sub [0, 1] rfl ?_
        exact t_X2_findPresses_92 G hK2 x1 (si h_9 48 (Int32.toNatClampNeg x1) r_12) (GI.i g_10) (Ext.i (Ext.tr (Ext.tr e e_6) e_11)) hw
      · have hw := wf_22 c_3
        refine x_aload_n 0 dX2_findPresses_58 rfl ?_
        refine x_iload_n 1 dX2_findPresses_59 rfl ?_
        refine x_callV (ci := 2) [.int x1] 1 dX2_findPresses_60 (k_X2_findAlone G g hw) (GI.s g (t := (12, 0)) rfl (by decide)) rfl q1529 q1531 qs81 q106 q1532 (by decide) rfl rfl ⟨(Nat.le_of_ble_eq_true rfl), (Nat.le_of_ble_eq_true rfl)⟩ (Nat.le_of_ble_eq_true rfl) ⟨(Nat.le_of_ble_eq_true rfl), (Nat.le_of_ble_eq_true rfl)⟩ (fun v9 h_15 hv9 => ?_) (fun _ _ _ _ _ z _ _ => False.elim z)
        obtain ⟨rfl, g_16, e_17, hw⟩ := hv9
        have hw := hw g_16 e_17
        show X ρ K_X2_findPresses 63 [(0, .ref (mr ρ 25)), (1, .int x1), (2, .int x2)] [] h_15 0 0 (phV h0 post) psN
        refine x_aload_n 0 dX2_findPresses_63 rfl ?_
        refine x_get (ci := 2) (v := .ref (mr ρ 48)) 27 dX2_findPresses_64 (GI.s g_16 (t := (12, 0)) rfl (by decide)) rfl in_X2 (by decide) q1250 (Or.inl rfl) (fv_rc rfl (GI.m g_16 (n := 48) rfl (by decide)) (by decide)) ?_
        refine x_iload_n 1 dX2_findPresses_67 rfl ?_
        refine x_aload_n 0 dX2_findPresses_68 rfl ?_
        refine x_get (ci := 2) (v := .int (gi h_15 25 31)) 31 dX2_findPresses_69 (GI.s g_16 (t := (12, 0)) rfl (by decide)) rfl in_X2 (by decide) q1254 (Or.inl rfl) (fv_i rfl) ?_
        obtain ⟨b_20, hw⟩ := hw
        refine x_iast (n := 4) (j := (Int32.toNatClampNeg x1)) dX2_findPresses_72 rfl (GI.s g_16 (t := (1, 4)) rfl (by decide)) b_20 ?_
        refine x_goto 92 dX2_findPresses_73 (by decide) ?_
        refine X.sub [0, 1] rfl ?_
        exact t_X2_findPresses_92 G hK2 x1 (si h_15 48 (Int32.toNatClampNeg x1) (gi h_15 25 31)) (GI.i g_16) (Ext.i (Ext.tr e e_17)) hw
    · have hw := wf_31 c_1
      refine x_aload_n 0 dX2_findPresses_20 rfl ?_
      refine x_get (ci := 2) (v := .ref (mr ρ 47)) 26 dX2_findPresses_21 (GI.s g (t := (12, 0)) rfl (by decide)) rfl in_X2 (by decide) q1249 (Or.inl rfl) (fv_rc rfl (GI.m g (n := 47) rfl (by decide)) (by decide)) ?_
      refine x_bipush 24 dX2_findPresses_24 (by decide) ?_
      refine x_iload_n 1 dX2_findPresses_26 rfl ?_
      refine x_imul dX2_findPresses_27 ?_
      refine x_iload_n 2 dX2_findPresses_28 rfl ?_
      refine x_iadd dX2_findPresses_29 ?_
      refine x_aload_n 0 dX2_findPresses_30 rfl ?_
      refine x_aload_n 0 dX2_findPresses_31 rfl ?_
      refine x_get (ci := 2) (v := .ref (mr ρ 32)) 6 dX2_findPresses_32 (GI.s g (t := (12, 0)) rfl (by decide)) rfl in_X2 (by decide) q1229 (Or.inl rfl) (fv_rc rfl (GI.m g (n := 32) rfl (by decide)) (by decide)) ?_
      refine x_iload_n 1 dX2_findPresses_35 rfl ?_
      obtain ⟨b_23, hw⟩ := hw
      refine x_iald (n := 4) (j := (Int32.toNatClampNeg x1)) dX2_findPresses_36 rfl (GI.s g (t := (1, 4)) rfl (by decide)) b_23 ?_
      refine x_iload_n 2 dX2_findPresses_37 rfl ?_
      refine x_callV (ci := 2) [.int (gi h 32 (Int32.toNatClampNeg x1)), .int x2] 2 dX2_findPresses_38 (k_X2_guessOf G g hw) (GI.s g (t := (12, 0)) rfl (by decide)) rfl q1505 q1507 qs78 q106 q1508 (by decide) rfl rfl ⟨(Nat.le_of_ble_eq_true rfl), (Nat.le_of_ble_eq_true rfl)⟩ (Nat.le_of_ble_eq_true rfl) ⟨(Nat.le_of_ble_eq_true rfl), (Nat.le_of_ble_eq_true rfl)⟩ (fun v9 h_24 hv9 => ?_) (fun _ _ _ _ _ z _ _ => False.elim z)
      obtain ⟨r_27, rfl, g_25, e_26, hw⟩ := hv9
      have hw := hw g_25 e_26
      show X ρ K_X2_findPresses 41 [(0, .ref (mr ρ 25)), (1, .int x1), (2, .int x2)] [.int r_27, .int ((24 * x1) + x2), .ref (mr ρ 47)] h_24 0 0 (phV h0 post) psN
      obtain ⟨b_29, hw⟩ := hw
      refine x_iast (n := 96) (j := (Int32.toNatClampNeg ((24 * x1) + x2))) dX2_findPresses_41 rfl (GI.s g_25 (t := (1, 96)) rfl (by decide)) b_29 ?_
      refine x_iinc (v := (x2 + 1)) (lv' := [(2, .int (x2 + 1)), (0, .ref (mr ρ 25)), (1, .int x1)]) 2 dX2_findPresses_42 rfl (by rfl) (Nat.le_of_ble_eq_true rfl) rfl ?_
      refine x_goto 12 dX2_findPresses_45 (by decide) ?_
      refine X.sub [1, 2, 0] rfl ?_
      exact ih x1 (x2 + 1) (si h_24 47 (Int32.toNatClampNeg ((24 * x1) + x2)) r_27) (GI.i g_25) (Ext.i (Ext.tr e e_26)) hw
set_option maxHeartbeats 4000000 in
theorem t_X2_findPresses_2 {ρ : Rho} {h0 : Hp} {post : Hp → Prop} (G : G0 ρ) :
    ∀ (n : Nat), ∀ (x1 : Int32) (h : Hp), GI h → Ext h0 h → w_X2_findPresses_2 post n x1 h → X ρ K_X2_findPresses 2 [(0, .ref (mr ρ 25)), (1, .int x1)] [] h 0 0 (phV h0 post) psN := by
  intro n
  induction n with
  | zero => intro x1 h g e hw; exact False.elim hw
  | succ n ih =>
    intro x1 h g e hw
    refine x_iload_n 1 dX2_findPresses_2 rfl ?_
    refine x_aload_n 0 dX2_findPresses_3 rfl ?_
    refine x_get (ci := 2) (v := .int (gi h 25 13)) 13 dX2_findPresses_4 (GI.s g (t := (12, 0)) rfl (by decide)) rfl in_X2 (by decide) q1236 (Or.inl rfl) (fv_i rfl) ?_
    obtain ⟨wt_2, wf_3⟩ := hw
    refine x_icmp_ge 136 dX2_findPresses_7 (by decide) (fun c_1 => ?_) (fun c_1 => ?_)
    · have hw := wt_2 c_1
      exact x_vret dX2_findPresses_136 rfl (Nat.le_of_ble_eq_true rfl) (Nat.le_of_ble_eq_true rfl) ⟨rfl, g, e, hw⟩
    · have hw := wf_3 c_1
      refine x_iconst 0 dX2_findPresses_10 (by decide) ?_
      refine x_istore_n (lv' := [(2, .int 0), (0, .ref (mr ρ 25)), (1, .int x1)]) dX2_findPresses_11 (Nat.le_of_ble_eq_true rfl) rfl ?_
      refine X.sub [1, 2, 0] rfl ?_
      obtain ⟨fu, hw⟩ := hw
      exact t_X2_findPresses_12 G ih fu x1 0 h g e hw
set_option maxHeartbeats 4000000 in
theorem k_X2_findPresses {ρ : Rho} {h : Hp} {post : Hp → Prop} (G : G0 ρ) (g : GI h) (hw : wp_X2_findPresses post h) : Con ρ yX2_findPresses (ws_ yX2_findPresses cX2_findPresses 3 (Option.none : Option Jvm.ClassFile.FieldType)) rm_X2_findPresses [.ref (mr ρ 25)] h (phV h post) psN := by
  refine con_of (own := "BeforeTheEndModel") (isI := false) (l0 := [(0, .ref (mr ρ 25))]) (by decide) rfl (fun z => by cases z) (Nat.le_of_ble_eq_true rfl) rfl (fun _ => ?_)
  show X ρ K_X2_findPresses 0 [(0, .ref (mr ρ 25))] [] h 0 0 (phV h post) psN
  refine x_iconst 0 dX2_findPresses_0 (by decide) ?_
  refine x_istore_n (lv' := [(1, .int 0), (0, .ref (mr ρ 25))]) dX2_findPresses_1 (Nat.le_of_ble_eq_true rfl) rfl ?_
  refine X.sub [1, 0] rfl ?_
  obtain ⟨fu, hw⟩ := hw
  exact t_X2_findPresses_2 G  fu 0 h g Ext.rf hw

/-! BeforeTheEndModel.finds()V -/
def wp_X2_finds (post : Hp → Prop) (h : Hp) : Prop := (wp_X2_findShares (fun h_1 => GI h_1 → Ext h h_1 → (wp_X2_findPresses (fun h_6 => GI h_6 → Ext h_1 h_6 → (post h_6)) h_1)) h)
abbrev rm_X2_finds : Room := ({ frames := 5, cells := 0, slots := 0, locals := 155 })
abbrev K_X2_finds : Kx := ("BeforeTheEndModel", cX2_finds, 1, (Option.none : Option Jvm.ClassFile.FieldType), rm_X2_finds, [], false)
set_option maxHeartbeats 4000000 in
theorem k_X2_finds {ρ : Rho} {h : Hp} {post : Hp → Prop} (G : G0 ρ) (g : GI h) (hw : wp_X2_finds post h) : Con ρ yX2_finds (ws_ yX2_finds cX2_finds 1 (Option.none : Option Jvm.ClassFile.FieldType)) rm_X2_finds [.ref (mr ρ 25)] h (phV h post) psN := by
  refine con_of (own := "BeforeTheEndModel") (isI := false) (l0 := [(0, .ref (mr ρ 25))]) (by decide) rfl (fun z => by cases z) (Nat.le_of_ble_eq_true rfl) rfl (fun _ => ?_)
  show X ρ K_X2_finds 0 [(0, .ref (mr ρ 25))] [] h 0 0 (phV h post) psN
  refine x_aload_n 0 dX2_finds_0 rfl ?_
  refine x_callV (ci := 2) [] 0 dX2_finds_1 (k_X2_findShares G g hw) (GI.s g (t := (12, 0)) rfl (by decide)) rfl q1483 q1485 qs75 q106 q1486 (by decide) rfl rfl ⟨(Nat.le_of_ble_eq_true rfl), (Nat.le_of_ble_eq_true rfl)⟩ (Nat.le_of_ble_eq_true rfl) ⟨(Nat.le_of_ble_eq_true rfl), (Nat.le_of_ble_eq_true rfl)⟩ (fun v9 h_1 hv9 => ?_) (fun _ _ _ _ _ z _ _ => False.elim z)
  obtain ⟨rfl, g_2, e_3, hw⟩ := hv9
  have hw := hw g_2 e_3
  show X ρ K_X2_finds 4 [(0, .ref (mr ρ 25))] [] h_1 0 0 (phV h post) psN
  refine x_aload_n 0 dX2_finds_4 rfl ?_
  refine x_callV (ci := 2) [] 0 dX2_finds_5 (k_X2_findPresses G g_2 hw) (GI.s g_2 (t := (12, 0)) rfl (by decide)) rfl q1525 q1527 qs80 q106 q1528 (by decide) rfl rfl ⟨(Nat.le_of_ble_eq_true rfl), (Nat.le_of_ble_eq_true rfl)⟩ (Nat.le_of_ble_eq_true rfl) ⟨(Nat.le_of_ble_eq_true rfl), (Nat.le_of_ble_eq_true rfl)⟩ (fun v9 h_6 hv9 => ?_) (fun _ _ _ _ _ z _ _ => False.elim z)
  obtain ⟨rfl, g_7, e_8, hw⟩ := hv9
  have hw := hw g_7 e_8
  show X ρ K_X2_finds 8 [(0, .ref (mr ρ 25))] [] h_6 0 0 (phV h post) psN
  exact x_vret dX2_finds_8 rfl (Nat.le_of_ble_eq_true rfl) (Nat.le_of_ble_eq_true rfl) ⟨rfl, g_7, (Ext.tr e_3 e_8), hw⟩

/-! BeforeTheEndModel.presses(II)I -/
def wp_X2_presses (post : Int32 → Hp → Prop) (h : Hp) (p1 : Int32) (p2 : Int32) : Prop := (wp_X2_isPlayer (fun r_4 h_1 => GI h_1 → Ext h h_1 → ((r_4 = 0 → (wp_X2_no (fun r_10 h_7 => GI h_7 → Ext h_1 h_7 → (post r_10 h_7)) h_1 (-1))) ∧ (¬ r_4 = 0 → (wp_X2_isWord (fun r_15 h_12 => GI h_12 → Ext h_1 h_12 → ((¬ r_15 = 0 → (wp_X2_isWhole (fun r_21 h_18 => GI h_18 → Ext h_12 h_18 → ((¬ r_21 = 0 → (wp_X2_finds (fun h_24 => GI h_24 → Ext h_18 h_24 → (vp_in p1 4 ∧ (post (((gi h_24 48 (Int32.toNatClampNeg p1)) >>> (p2 &&& 31)) &&& 1) h_24))) h_18)) ∧ (r_21 = 0 → (wp_X2_no (fun r_33 h_30 => GI h_30 → Ext h_18 h_30 → (post r_33 h_30)) h_18 (-3))))) h_12)) ∧ (r_15 = 0 → (wp_X2_no (fun r_40 h_37 => GI h_37 → Ext h_12 h_37 → (post r_40 h_37)) h_12 (-1))))) h_1 p2)))) h p1)
abbrev rm_X2_presses : Room := ({ frames := 6, cells := 0, slots := 0, locals := 175 })
abbrev K_X2_presses : Kx := ("BeforeTheEndModel", cX2_presses, 3, (Option.some Jvm.ClassFile.FieldType.int), rm_X2_presses, [], false)
set_option maxHeartbeats 4000000 in
theorem k_X2_presses {ρ : Rho} {h : Hp} {post : Int32 → Hp → Prop} {p1 : Int32} {p2 : Int32} (G : G0 ρ) (g : GI h) (hw : wp_X2_presses post h p1 p2) : Con ρ yX2_presses (ws_ yX2_presses cX2_presses 3 (Option.some Jvm.ClassFile.FieldType.int)) rm_X2_presses [.ref (mr ρ 25), .int p1, .int p2] h (phI h post) psN := by
  refine con_of (own := "BeforeTheEndModel") (isI := false) (l0 := [(0, .ref (mr ρ 25)), (1, .int p1), (2, .int p2)]) (by decide) rfl (fun z => by cases z) (Nat.le_of_ble_eq_true rfl) rfl (fun _ => ?_)
  show X ρ K_X2_presses 0 [(0, .ref (mr ρ 25)), (1, .int p1), (2, .int p2)] [] h 0 0 (phI h post) psN
  refine x_aload_n 0 dX2_presses_0 rfl ?_
  refine x_iload_n 1 dX2_presses_1 rfl ?_
  refine x_callV (ci := 2) [.int p1] 1 dX2_presses_2 (k_X2_isPlayer G g hw) (GI.s g (t := (12, 0)) rfl (by decide)) rfl q1454 q1456 qs71 q106 q1457 (by decide) rfl rfl ⟨(Nat.le_of_ble_eq_true rfl), (Nat.le_of_ble_eq_true rfl)⟩ (Nat.le_of_ble_eq_true rfl) ⟨(Nat.le_of_ble_eq_true rfl), (Nat.le_of_ble_eq_true rfl)⟩ (fun v9 h_1 hv9 => ?_) (fun _ _ _ _ _ z _ _ => False.elim z)
  obtain ⟨r_4, rfl, g_2, e_3, b_5, hw⟩ := hv9
  have hw := hw g_2 e_3
  show X ρ K_X2_presses 5 [(0, .ref (mr ρ 25)), (1, .int p1), (2, .int p2)] [.int r_4] h_1 0 0 (phI h post) psN
  obtain ⟨wt_44, wf_45⟩ := hw
  refine x_if_eq 16 dX2_presses_5 (by decide) (fun c_6 => ?_) (fun c_6 => ?_)
  · have hw := wt_44 c_6
    refine x_aload_n 0 dX2_presses_16 rfl ?_
    refine x_iconst (-1) dX2_presses_17 (by decide) ?_
    refine x_callV (ci := 2) [.int (-1)] 1 dX2_presses_18 (k_X2_no G g_2 hw) (GI.s g_2 (t := (12, 0)) rfl (by decide)) rfl q1387 q1389 qs59 q106 q1390 (by decide) rfl rfl ⟨(Nat.le_of_ble_eq_true rfl), (Nat.le_of_ble_eq_true rfl)⟩ (Nat.le_of_ble_eq_true rfl) ⟨(Nat.le_of_ble_eq_true rfl), (Nat.le_of_ble_eq_true rfl)⟩ (fun v9 h_7 hv9 => ?_) (fun _ _ _ _ _ z _ _ => False.elim z)
    obtain ⟨r_10, rfl, g_8, e_9, hw⟩ := hv9
    have hw := hw g_8 e_9
    show X ρ K_X2_presses 21 [(0, .ref (mr ρ 25)), (1, .int p1), (2, .int p2)] [.int r_10] h_7 0 0 (phI h post) psN
    exact x_iret dX2_presses_21 rfl (Nat.le_of_ble_eq_true rfl) (Nat.le_of_ble_eq_true rfl) ⟨_, rfl, g_8, (Ext.tr e_3 e_9), hw⟩
  · have hw := wf_45 c_6
    refine x_aload_n 0 dX2_presses_8 rfl ?_
    refine x_iload_n 2 dX2_presses_9 rfl ?_
    refine x_callV (ci := 2) [.int p2] 1 dX2_presses_10 (k_X2_isWord G g_2 hw) (GI.s g_2 (t := (12, 0)) rfl (by decide)) rfl q1434 q1436 qs68 q106 q1437 (by decide) rfl rfl ⟨(Nat.le_of_ble_eq_true rfl), (Nat.le_of_ble_eq_true rfl)⟩ (Nat.le_of_ble_eq_true rfl) ⟨(Nat.le_of_ble_eq_true rfl), (Nat.le_of_ble_eq_true rfl)⟩ (fun v9 h_12 hv9 => ?_) (fun _ _ _ _ _ z _ _ => False.elim z)
    obtain ⟨r_15, rfl, g_13, e_14, b_16, hw⟩ := hv9
    have hw := hw g_13 e_14
    show X ρ K_X2_presses 13 [(0, .ref (mr ρ 25)), (1, .int p1), (2, .int p2)] [.int r_15] h_12 0 0 (phI h post) psN
    obtain ⟨wt_42, wf_43⟩ := hw
    refine x_if_ne 22 dX2_presses_13 (by decide) (fun c_17 => ?_) (fun c_17 => ?_)
    · have hw := wt_42 c_17
      refine x_aload_n 0 dX2_presses_22 rfl ?_
      refine x_callV (ci := 2) [] 0 dX2_presses_23 (k_X2_isWhole G g_13 hw) (GI.s g_13 (t := (12, 0)) rfl (by decide)) rfl q1462 q1464 qs72 q106 q1465 (by decide) rfl rfl ⟨(Nat.le_of_ble_eq_true rfl), (Nat.le_of_ble_eq_true rfl)⟩ (Nat.le_of_ble_eq_true rfl) ⟨(Nat.le_of_ble_eq_true rfl), (Nat.le_of_ble_eq_true rfl)⟩ (fun v9 h_18 hv9 => ?_) (fun _ _ _ _ _ z _ _ => False.elim z)
      obtain ⟨r_21, rfl, g_19, e_20, b_22, hw⟩ := hv9
      have hw := hw g_19 e_20
      show X ρ K_X2_presses 26 [(0, .ref (mr ρ 25)), (1, .int p1), (2, .int p2)] [.int r_21] h_18 0 0 (phI h post) psN
      obtain ⟨wt_35, wf_36⟩ := hw
      refine x_if_ne 36 dX2_presses_26 (by decide) (fun c_23 => ?_) (fun c_23 => ?_)
      · have hw := wt_35 c_23
        refine x_aload_n 0 dX2_presses_36 rfl ?_
        refine x_callV (ci := 2) [] 0 dX2_presses_37 (k_X2_finds G g_19 hw) (GI.s g_19 (t := (12, 0)) rfl (by decide)) rfl q1521 q1523 qs79 q106 q1524 (by decide) rfl rfl ⟨(Nat.le_of_ble_eq_true rfl), (Nat.le_of_ble_eq_true rfl)⟩ (Nat.le_of_ble_eq_true rfl) ⟨(Nat.le_of_ble_eq_true rfl), (Nat.le_of_ble_eq_true rfl)⟩ (fun v9 h_24 hv9 => ?_) (fun _ _ _ _ _ z _ _ => False.elim z)
        obtain ⟨rfl, g_25, e_26, hw⟩ := hv9
        have hw := hw g_25 e_26
        show X ρ K_X2_presses 40 [(0, .ref (mr ρ 25)), (1, .int p1), (2, .int p2)] [] h_24 0 0 (phI h post) psN
        refine x_aload_n 0 dX2_presses_40 rfl ?_
        refine x_get (ci := 2) (v := .ref (mr ρ 48)) 27 dX2_presses_41 (GI.s g_25 (t := (12, 0)) rfl (by decide)) rfl in_X2 (by decide) q1250 (Or.inl rfl) (fv_rc rfl (GI.m g_25 (n := 48) rfl (by decide)) (by decide)) ?_
        refine x_iload_n 1 dX2_presses_44 rfl ?_
        obtain ⟨b_29, hw⟩ := hw
        refine x_iald (n := 4) (j := (Int32.toNatClampNeg p1)) dX2_presses_45 rfl (GI.s g_25 (t := (1, 4)) rfl (by decide)) b_29 ?_
        refine x_iload_n 2 dX2_presses_46 rfl ?_
        refine x_ishr dX2_presses_47 ?_
        refine x_iconst 1 dX2_presses_48 (by decide) ?_
        refine x_iand dX2_presses_49 ?_
        exact x_iret dX2_presses_50 rfl (Nat.le_of_ble_eq_true rfl) (Nat.le_of_ble_eq_true rfl) ⟨_, rfl, g_25, (Ext.tr (Ext.tr (Ext.tr e_3 e_14) e_20) e_26), hw⟩
      · have hw := wf_36 c_23
        refine x_aload_n 0 dX2_presses_29 rfl ?_
        refine x_bipush (-3) dX2_presses_30 (by decide) ?_
        refine x_callV (ci := 2) [.int (-3)] 1 dX2_presses_32 (k_X2_no G g_19 hw) (GI.s g_19 (t := (12, 0)) rfl (by decide)) rfl q1387 q1389 qs59 q106 q1390 (by decide) rfl rfl ⟨(Nat.le_of_ble_eq_true rfl), (Nat.le_of_ble_eq_true rfl)⟩ (Nat.le_of_ble_eq_true rfl) ⟨(Nat.le_of_ble_eq_true rfl), (Nat.le_of_ble_eq_true rfl)⟩ (fun v9 h_30 hv9 => ?_) (fun _ _ _ _ _ z _ _ => False.elim z)
        obtain ⟨r_33, rfl, g_31, e_32, hw⟩ := hv9
        have hw := hw g_31 e_32
        show X ρ K_X2_presses 35 [(0, .ref (mr ρ 25)), (1, .int p1), (2, .int p2)] [.int r_33] h_30 0 0 (phI h post) psN
        exact x_iret dX2_presses_35 rfl (Nat.le_of_ble_eq_true rfl) (Nat.le_of_ble_eq_true rfl) ⟨_, rfl, g_31, (Ext.tr (Ext.tr (Ext.tr e_3 e_14) e_20) e_32), hw⟩
    · have hw := wf_43 c_17
      refine x_aload_n 0 dX2_presses_16 rfl ?_
      refine x_iconst (-1) dX2_presses_17 (by decide) ?_
      refine x_callV (ci := 2) [.int (-1)] 1 dX2_presses_18 (k_X2_no G g_13 hw) (GI.s g_13 (t := (12, 0)) rfl (by decide)) rfl q1387 q1389 qs59 q106 q1390 (by decide) rfl rfl ⟨(Nat.le_of_ble_eq_true rfl), (Nat.le_of_ble_eq_true rfl)⟩ (Nat.le_of_ble_eq_true rfl) ⟨(Nat.le_of_ble_eq_true rfl), (Nat.le_of_ble_eq_true rfl)⟩ (fun v9 h_37 hv9 => ?_) (fun _ _ _ _ _ z _ _ => False.elim z)
      obtain ⟨r_40, rfl, g_38, e_39, hw⟩ := hv9
      have hw := hw g_38 e_39
      show X ρ K_X2_presses 21 [(0, .ref (mr ρ 25)), (1, .int p1), (2, .int p2)] [.int r_40] h_37 0 0 (phI h post) psN
      exact x_iret dX2_presses_21 rfl (Nat.le_of_ble_eq_true rfl) (Nat.le_of_ble_eq_true rfl) ⟨_, rfl, g_38, (Ext.tr (Ext.tr e_3 e_14) e_39), hw⟩

/-! BeforeTheEnd.run(II)I -/
def wp_X0_run (post : Int32 → Hp → Prop) (h : Hp) (p1 : Int32) (p2 : Int32) : Prop := (wp_X0_act (fun r_4 h_1 => GI h_1 → Ext h h_1 → (post r_4 h_1)) h 9 p1 p2 0)
abbrev rm_X0_run : Room := ({ frames := 19, cells := 1868, slots := 13143, locals := 599 })
abbrev K_X0_run : Kx := ("BeforeTheEnd", cX0_run, 3, (Option.some Jvm.ClassFile.FieldType.int), rm_X0_run, [], false)
set_option maxHeartbeats 4000000 in
theorem k_X0_run {ρ : Rho} {h : Hp} {post : Int32 → Hp → Prop} {p1 : Int32} {p2 : Int32} (G : G0 ρ) (g : GI h) (hw : wp_X0_run post h p1 p2) : Con ρ yX0_run (ws_ yX0_run cX0_run 3 (Option.some Jvm.ClassFile.FieldType.int)) rm_X0_run [.ref (mr ρ 1), .int p1, .int p2] h (phI h post) psN := by
  refine con_of (own := "BeforeTheEnd") (isI := false) (l0 := [(0, .ref (mr ρ 1)), (1, .int p1), (2, .int p2)]) (by decide) rfl (fun z => by cases z) (Nat.le_of_ble_eq_true rfl) rfl (fun _ => ?_)
  show X ρ K_X0_run 0 [(0, .ref (mr ρ 1)), (1, .int p1), (2, .int p2)] [] h 0 0 (phI h post) psN
  refine x_aload_n 0 dX0_run_0 rfl ?_
  refine x_bipush 9 dX0_run_1 (by decide) ?_
  refine x_iload_n 1 dX0_run_3 rfl ?_
  refine x_iload_n 2 dX0_run_4 rfl ?_
  refine x_iconst 0 dX0_run_5 (by decide) ?_
  refine x_callH (ci := 0) [.int 9, .int p1, .int p2, .int 0] 4 dX0_run_6 (k_X0_act G g hw) (GI.s g (t := (10, 0)) rfl (by decide)) rfl q383 q385 qs3 q104 q386 (by decide) rfl rfl ⟨(Nat.le_of_ble_eq_true rfl), (Nat.le_of_ble_eq_true rfl)⟩ (Nat.le_of_ble_eq_true rfl) ⟨(Nat.le_of_ble_eq_true rfl), (Nat.le_of_ble_eq_true rfl)⟩ (fun v9 h_1 hv9 => ?_) (fun _ _ _ _ _ z _ _ => False.elim z)
  obtain ⟨r_4, rfl, g_2, e_3, hw⟩ := hv9
  have hw := hw g_2 e_3
  show X ρ K_X0_run 9 [(0, .ref (mr ρ 1)), (1, .int p1), (2, .int p2)] [.int r_4] h_1 1868 13143 (phI h post) psN
  exact x_iret dX0_run_9 rfl (Nat.le_of_ble_eq_true rfl) (Nat.le_of_ble_eq_true rfl) ⟨_, rfl, g_2, e_3, hw⟩

/-! BeforeTheEndModel.answers(I)I -/
def w_X2_answers_4 (post : Int32 → Hp → Prop) : Nat → Int32 → Int32 → Int32 → Hp → Prop
  | 0 => fun _ _ _ _ => False
  | n + 1 => fun x1 x2 x3 h => (((gi h 25 13) ≤ x3 → (post x2 h)) ∧ (¬ (gi h 25 13) ≤ x3 → ((((gi h 25 37) ≤ 0 → (vp_in x3 4)) ∧ (¬ (gi h 25 37) ≤ 0 → (vp_in x3 4))) ∧ (∀ z_5 : Int32, z_5 = ((if (gi h 25 37) ≤ 0 then (gi h 48 (Int32.toNatClampNeg x3)) else (gi h 49 (Int32.toNatClampNeg x3))) : Int32) → ((¬ (((gi h 25 38) >>> (x3 &&& 31)) &&& 1) = 0 → (w_X2_answers_4 post n x1 x2 (x3 + 1) h)) ∧ ((((gi h 25 38) >>> (x3 &&& 31)) &&& 1) = 0 → ((¬ ((z_5 >>> (x1 &&& 31)) &&& 1) = 1 → (w_X2_answers_4 post n x1 x2 (x3 + 1) h)) ∧ (((z_5 >>> (x1 &&& 31)) &&& 1) = 1 → ((x2 < 0 → (w_X2_answers_4 post n x1 x3 (x3 + 1) h)) ∧ (¬ x2 < 0 → (vp_in x3 4 ∧ (vp_in x2 4 ∧ (((gi h 33 (Int32.toNatClampNeg x2)) ≤ (gi h 33 (Int32.toNatClampNeg x3)) → (w_X2_answers_4 post n x1 x2 (x3 + 1) h)) ∧ (¬ (gi h 33 (Int32.toNatClampNeg x2)) ≤ (gi h 33 (Int32.toNatClampNeg x3)) → (w_X2_answers_4 post n x1 x3 (x3 + 1) h)))))))))))))))
def wp_X2_answers (post : Int32 → Hp → Prop) (h : Hp) (p1 : Int32) : Prop := (∃ fu : Nat, w_X2_answers_4 post fu p1 (-1) 0 h)
abbrev rm_X2_answers : Room := ({ frames := 1, cells := 0, slots := 0, locals := 60 })
abbrev K_X2_answers : Kx := ("BeforeTheEndModel", cX2_answers, 5, (Option.some Jvm.ClassFile.FieldType.int), rm_X2_answers, [], false)
set_option maxHeartbeats 4000000 in
theorem t_X2_answers_4 {ρ : Rho} {h0 : Hp} {post : Int32 → Hp → Prop} (G : G0 ρ) :
    ∀ (n : Nat), ∀ (x1 : Int32) (x2 : Int32) (x3 : Int32) (h : Hp), GI h → Ext h0 h → w_X2_answers_4 post n x1 x2 x3 h → X ρ K_X2_answers 4 [(0, .ref (mr ρ 25)), (1, .int x1), (2, .int x2), (3, .int x3)] [] h 0 0 (phI h0 post) psN := by
  intro n
  induction n with
  | zero => intro x1 x2 x3 h g e hw; exact False.elim hw
  | succ n ih =>
    intro x1 x2 x3 h g e hw
    refine x_iload_n 3 dX2_answers_4 rfl ?_
    refine x_aload_n 0 dX2_answers_5 rfl ?_
    refine x_get (ci := 2) (v := .int (gi h 25 13)) 13 dX2_answers_6 (GI.s g (t := (12, 0)) rfl (by decide)) rfl in_X2 (by decide) q1236 (Or.inl rfl) (fv_i rfl) ?_
    obtain ⟨wt_22, wf_23⟩ := hw
    refine x_icmp_ge 84 dX2_answers_9 (by decide) (fun c_1 => ?_) (fun c_1 => ?_)
    · have hw := wt_22 c_1
      refine x_iload_n 2 dX2_answers_84 rfl ?_
      exact x_iret dX2_answers_85 rfl (Nat.le_of_ble_eq_true rfl) (Nat.le_of_ble_eq_true rfl) ⟨_, rfl, g, e, hw⟩
    · have hw := wf_23 c_1
      refine x_aload_n 0 dX2_answers_12 rfl ?_
      refine x_get (ci := 2) (v := .int (gi h 25 37)) 37 dX2_answers_13 (GI.s g (t := (12, 0)) rfl (by decide)) rfl in_X2 (by decide) q1260 (Or.inl rfl) (fv_i rfl) ?_
      obtain ⟨hO_21, hw⟩ := hw
      have kJ_20 : ∀ z_5 : Int32, z_5 = ((if (gi h 25 37) ≤ 0 then (gi h 48 (Int32.toNatClampNeg x3)) else (gi h 49 (Int32.toNatClampNeg x3))) : Int32) → X ρ K_X2_answers 34 [(0, .ref (mr ρ 25)), (1, .int x1), (2, .int x2), (3, .int x3)] [.int z_5] h 0 0 (phI h0 post) psN := fun z_5 ez_5 => by
        have hw := hw z_5 ez_5
        refine x_istore (lv' := [(4, .int z_5), (0, .ref (mr ρ 25)), (1, .int x1), (2, .int x2), (3, .int x3)]) dX2_answers_34 (Nat.le_of_ble_eq_true rfl) rfl ?_
        refine x_aload_n 1 dX2_answers_36 rfl ?_
        refine x_get (ci := 2) (v := .int (gi h 25 38)) 38 dX2_answers_37 (GI.s g (t := (12, 0)) rfl (by decide)) rfl in_X2 (by decide) q1261 (Or.inl rfl) (fv_i rfl) ?_
        refine x_iload_n 4 dX2_answers_40 rfl ?_
        refine x_ishr dX2_answers_41 ?_
        refine x_iconst 1 dX2_answers_42 (by decide) ?_
        refine x_iand dX2_answers_43 ?_
        obtain ⟨wt_18, wf_19⟩ := hw
        refine x_if_ne 78 dX2_answers_44 (by decide) (fun c_6 => ?_) (fun c_6 => ?_)
        · have hw := wt_18 c_6
          refine x_iinc (v := (x3 + 1)) (lv' := [(3, .int (x3 + 1)), (4, .int z_5), (0, .ref (mr ρ 25)), (1, .int x1), (2, .int x2)]) 4 dX2_answers_78 rfl (by rfl) (Nat.le_of_ble_eq_true rfl) rfl ?_
          refine x_goto 4 dX2_answers_81 (by decide) ?_
          refine X.sub [2, 3, 4, 0] rfl ?_
          exact ih x1 x2 (x3 + 1) h g e hw
        · have hw := wf_19 c_6
          refine x_iload 0 dX2_answers_47 rfl ?_
          refine x_iload_n 2 dX2_answers_49 rfl ?_
          refine x_ishr dX2_answers_50 ?_
          refine x_iconst 1 dX2_answers_51 (by decide) ?_
          refine x_iand dX2_answers_52 ?_
          refine x_iconst 1 dX2_answers_53 (by decide) ?_
          obtain ⟨wt_16, wf_17⟩ := hw
          refine x_icmp_ne 78 dX2_answers_54 (by decide) (fun c_7 => ?_) (fun c_7 => ?_)
          · have hw := wt_16 c_7
            refine x_iinc (v := (x3 + 1)) (lv' := [(3, .int (x3 + 1)), (4, .int z_5), (0, .ref (mr ρ 25)), (1, .int x1), (2, .int x2)]) 4 dX2_answers_78 rfl (by rfl) (Nat.le_of_ble_eq_true rfl) rfl ?_
            refine x_goto 4 dX2_answers_81 (by decide) ?_
            refine X.sub [2, 3, 4, 0] rfl ?_
            exact ih x1 x2 (x3 + 1) h g e hw
          · have hw := wf_17 c_7
            refine x_iload_n 3 dX2_answers_57 rfl ?_
            obtain ⟨wt_14, wf_15⟩ := hw
            refine x_if_lt 76 dX2_answers_58 (by decide) (fun c_8 => ?_) (fun c_8 => ?_)
            · have hw := wt_14 c_8
              refine x_iload_n 4 dX2_answers_76 rfl ?_
              refine x_istore_n (lv' := [(2, .int x3), (4, .int z_5), (0, .ref (mr ρ 25)), (1, .int x1), (3, .int x3)]) dX2_answers_77 (Nat.le_of_ble_eq_true rfl) rfl ?_
              refine x_iinc (v := (x3 + 1)) (lv' := [(3, .int (x3 + 1)), (2, .int x3), (4, .int z_5), (0, .ref (mr ρ 25)), (1, .int x1)]) 4 dX2_answers_78 rfl (by rfl) (Nat.le_of_ble_eq_true rfl) rfl ?_
              refine x_goto 4 dX2_answers_81 (by decide) ?_
              refine X.sub [3, 4, 1, 0] rfl ?_
              exact ih x1 x3 (x3 + 1) h g e hw
            · have hw := wf_15 c_8
              refine x_aload_n 1 dX2_answers_61 rfl ?_
              refine x_get (ci := 2) (v := .ref (mr ρ 33)) 7 dX2_answers_62 (GI.s g (t := (12, 0)) rfl (by decide)) rfl in_X2 (by decide) q1230 (Or.inl rfl) (fv_rc rfl (GI.m g (n := 33) rfl (by decide)) (by decide)) ?_
              refine x_iload_n 4 dX2_answers_65 rfl ?_
              obtain ⟨b_9, hw⟩ := hw
              refine x_iald (n := 4) (j := (Int32.toNatClampNeg x3)) dX2_answers_66 rfl (GI.s g (t := (1, 4)) rfl (by decide)) b_9 ?_
              refine x_aload_n 1 dX2_answers_67 rfl ?_
              refine x_get (ci := 2) (v := .ref (mr ρ 33)) 7 dX2_answers_68 (GI.s g (t := (12, 0)) rfl (by decide)) rfl in_X2 (by decide) q1230 (Or.inl rfl) (fv_rc rfl (GI.m g (n := 33) rfl (by decide)) (by decide)) ?_
              refine x_iload_n 3 dX2_answers_71 rfl ?_
              obtain ⟨b_10, hw⟩ := hw
              refine x_iald (n := 4) (j := (Int32.toNatClampNeg x2)) dX2_answers_72 rfl (GI.s g (t := (1, 4)) rfl (by decide)) b_10 ?_
              obtain ⟨wt_12, wf_13⟩ := hw
              refine x_icmp_ge 78 dX2_answers_73 (by decide) (fun c_11 => ?_) (fun c_11 => ?_)
              · have hw := wt_12 c_11
                refine x_iinc (v := (x3 + 1)) (lv' := [(3, .int (x3 + 1)), (4, .int z_5), (0, .ref (mr ρ 25)), (1, .int x1), (2, .int x2)]) 4 dX2_answers_78 rfl (by rfl) (Nat.le_of_ble_eq_true rfl) rfl ?_
                refine x_goto 4 dX2_answers_81 (by decide) ?_
                refine X.sub [2, 3, 4, 0] rfl ?_
                exact ih x1 x2 (x3 + 1) h g e hw
              · have hw := wf_13 c_11
                refine x_iload_n 4 dX2_answers_76 rfl ?_
                refine x_istore_n (lv' := [(2, .int x3), (4, .int z_5), (0, .ref (mr ρ 25)), (1, .int x1), (3, .int x3)]) dX2_answers_77 (Nat.le_of_ble_eq_true rfl) rfl ?_
                refine x_iinc (v := (x3 + 1)) (lv' := [(3, .int (x3 + 1)), (2, .int x3), (4, .int z_5), (0, .ref (mr ρ 25)), (1, .int x1)]) 4 dX2_answers_78 rfl (by rfl) (Nat.le_of_ble_eq_true rfl) rfl ?_
                refine x_goto 4 dX2_answers_81 (by decide) ?_
                refine X.sub [3, 4, 1, 0] rfl ?_
                exact ih x1 x3 (x3 + 1) h g e hw
      obtain ⟨hO_210, hO_211⟩ := hO_21
      refine x_if_le 28 dX2_answers_16 (by decide) (fun c_2 => ?_) (fun c_2 => ?_)
      · have hO_21_ := hO_210 c_2
        have b_3 := hO_21_
        refine x_aload_n 0 dX2_answers_28 rfl ?_
        refine x_get (ci := 2) (v := .ref (mr ρ 48)) 27 dX2_answers_29 (GI.s g (t := (12, 0)) rfl (by decide)) rfl in_X2 (by decide) q1250 (Or.inl rfl) (fv_rc rfl (GI.m g (n := 48) rfl (by decide)) (by decide)) ?_
        refine x_iload_n 3 dX2_answers_32 rfl ?_
        refine x_iald (n := 4) (j := (Int32.toNatClampNeg x3)) dX2_answers_33 rfl (GI.s g (t := (1, 4)) rfl (by decide)) b_3 ?_
        exact kJ_20 _ ((if_pos c_2)).symm
      · have hO_21_ := hO_211 c_2
        have b_4 := hO_21_
        refine x_aload_n 0 dX2_answers_19 rfl ?_
        refine x_get (ci := 2) (v := .ref (mr ρ 49)) 28 dX2_answers_20 (GI.s g (t := (12, 0)) rfl (by decide)) rfl in_X2 (by decide) q1251 (Or.inl rfl) (fv_rc rfl (GI.m g (n := 49) rfl (by decide)) (by decide)) ?_
        refine x_iload_n 3 dX2_answers_23 rfl ?_
        refine x_iald (n := 4) (j := (Int32.toNatClampNeg x3)) dX2_answers_24 rfl (GI.s g (t := (1, 4)) rfl (by decide)) b_4 ?_
        refine x_goto 34 dX2_answers_25 (by decide) ?_
        exact kJ_20 _ ((if_neg c_2)).symm
set_option maxHeartbeats 4000000 in
theorem k_X2_answers {ρ : Rho} {h : Hp} {post : Int32 → Hp → Prop} {p1 : Int32} (G : G0 ρ) (g : GI h) (hw : wp_X2_answers post h p1) : Con ρ yX2_answers (ws_ yX2_answers cX2_answers 5 (Option.some Jvm.ClassFile.FieldType.int)) rm_X2_answers [.ref (mr ρ 25), .int p1] h (phI h post) psN := by
  refine con_of (own := "BeforeTheEndModel") (isI := false) (l0 := [(0, .ref (mr ρ 25)), (1, .int p1)]) (by decide) rfl (fun z => by cases z) (Nat.le_of_ble_eq_true rfl) rfl (fun _ => ?_)
  show X ρ K_X2_answers 0 [(0, .ref (mr ρ 25)), (1, .int p1)] [] h 0 0 (phI h post) psN
  refine x_iconst (-1) dX2_answers_0 (by decide) ?_
  refine x_istore_n (lv' := [(2, .int (-1)), (0, .ref (mr ρ 25)), (1, .int p1)]) dX2_answers_1 (Nat.le_of_ble_eq_true rfl) rfl ?_
  refine x_iconst 0 dX2_answers_2 (by decide) ?_
  refine x_istore_n (lv' := [(3, .int 0), (2, .int (-1)), (0, .ref (mr ρ 25)), (1, .int p1)]) dX2_answers_3 (Nat.le_of_ble_eq_true rfl) rfl ?_
  refine X.sub [2, 3, 1, 0] rfl ?_
  obtain ⟨fu, hw⟩ := hw
  exact t_X2_answers_4 G  fu p1 (-1) 0 h g Ext.rf hw

/-! BeforeTheEndModel.isOver(III)Z -/
def w_X2_isOver_17 (post : Int32 → Hp → Prop) (x1 : Int32) (x2 : Int32) (x3 : Int32) (h : Hp) : Prop := (vp_in ((24 * x1) + x2) 96 ∧ (vp_in x3 24 ∧ ((¬ (gi h 47 (Int32.toNatClampNeg ((24 * x1) + x2))) = (gi h 29 (Int32.toNatClampNeg x3)) → (vp_in x1 4 ∧ (vp_in x1 4 ∧ (∀ h_6 : Hp, h_6 = (si (si h 52 (Int32.toNatClampNeg x1) ((gi h 52 (Int32.toNatClampNeg x1)) - (gi h 36 1))) 25 38 ((gi (si h 52 (Int32.toNatClampNeg x1) ((gi h 52 (Int32.toNatClampNeg x1)) - (gi h 36 1))) 25 38) ||| (1 <<< (x1 &&& 31)))) → (∀ z_10 : Int32, z_10 = ((if (gi (si h_6 25 37 ((gi h_6 25 37) + 1)) 36 3) = 0 then 1 else 0) : Int32) → (post z_10 (si h_6 25 37 ((gi h_6 25 37) + 1)))))))) ∧ ((gi h 47 (Int32.toNatClampNeg ((24 * x1) + x2))) = (gi h 29 (Int32.toNatClampNeg x3)) → (vp_in x1 4 ∧ (vp_in x3 24 ∧ (vp_in x2 24 ∧ (vp_in x1 4 ∧ (∀ h_16 : Hp, h_16 = (si (si h 25 34 x1) 52 (Int32.toNatClampNeg x1) ((gi (si h 25 34 x1) 52 (Int32.toNatClampNeg x1)) + ((gi (si h 25 34 x1) 36 0) + ((gi (si h 25 34 x1) 36 2) * ((gi (si h 25 34 x1) 30 (Int32.toNatClampNeg x3)) - (gi (si h 25 34 x1) 30 (Int32.toNatClampNeg x2))))))) → (post 1 h_16))))))))))
def wp_X2_isOver (post : Int32 → Hp → Prop) (h : Hp) (p1 : Int32) (p2 : Int32) (p3 : Int32) : Prop := ((0 ≤ (gi h 25 36) → (w_X2_isOver_17 post p1 p2 p3 h)) ∧ (¬ 0 ≤ (gi h 25 36) → (w_X2_isOver_17 post p1 p2 p3 (si (si h 25 36 p1) 25 35 p2))))
abbrev rm_X2_isOver : Room := ({ frames := 1, cells := 0, slots := 0, locals := 60 })
abbrev K_X2_isOver : Kx := ("BeforeTheEndModel", cX2_isOver, 4, (Option.some Jvm.ClassFile.FieldType.boolean), rm_X2_isOver, [], false)
set_option maxHeartbeats 4000000 in
theorem t_X2_isOver_17 {ρ : Rho} {h0 : Hp} {post : Int32 → Hp → Prop} (G : G0 ρ) :
    ∀ (x1 : Int32) (x2 : Int32) (x3 : Int32) (h : Hp), GI h → Ext h0 h → w_X2_isOver_17 post x1 x2 x3 h → X ρ K_X2_isOver 17 [(0, .ref (mr ρ 25)), (1, .int x1), (2, .int x2), (3, .int x3)] [] h 0 0 (phB h0 post) psN := by
  intro x1 x2 x3 h g e hw
  refine x_aload_n 0 dX2_isOver_17 rfl ?_
  refine x_get (ci := 2) (v := .ref (mr ρ 47)) 26 dX2_isOver_18 (GI.s g (t := (12, 0)) rfl (by decide)) rfl in_X2 (by decide) q1249 (Or.inl rfl) (fv_rc rfl (GI.m g (n := 47) rfl (by decide)) (by decide)) ?_
  refine x_bipush 24 dX2_isOver_21 (by decide) ?_
  refine x_iload_n 1 dX2_isOver_23 rfl ?_
  refine x_imul dX2_isOver_24 ?_
  refine x_iload_n 2 dX2_isOver_25 rfl ?_
  refine x_iadd dX2_isOver_26 ?_
  obtain ⟨b_1, hw⟩ := hw
  refine x_iald (n := 96) (j := (Int32.toNatClampNeg ((24 * x1) + x2))) dX2_isOver_27 rfl (GI.s g (t := (1, 96)) rfl (by decide)) b_1 ?_
  refine x_aload_n 0 dX2_isOver_28 rfl ?_
  refine x_get (ci := 2) (v := .ref (mr ρ 29)) 3 dX2_isOver_29 (GI.s g (t := (12, 0)) rfl (by decide)) rfl in_X2 (by decide) q1226 (Or.inl rfl) (fv_rc rfl (GI.m g (n := 29) rfl (by decide)) (by decide)) ?_
  refine x_iload_n 3 dX2_isOver_32 rfl ?_
  obtain ⟨b_2, hw⟩ := hw
  refine x_iald (n := 24) (j := (Int32.toNatClampNeg x3)) dX2_isOver_33 rfl (GI.s g (t := (1, 24)) rfl (by decide)) b_2 ?_
  obtain ⟨wt_19, wf_20⟩ := hw
  refine x_icmp_ne 80 dX2_isOver_34 (by decide) (fun c_3 => ?_) (fun c_3 => ?_)
  · have hw := wt_19 c_3
    refine x_aload_n 0 dX2_isOver_80 rfl ?_
    refine x_get (ci := 2) (v := .ref (mr ρ 52)) 33 dX2_isOver_81 (GI.s g (t := (12, 0)) rfl (by decide)) rfl in_X2 (by decide) q1256 (Or.inl rfl) (fv_rc rfl (GI.m g (n := 52) rfl (by decide)) (by decide)) ?_
    refine x_iload_n 1 dX2_isOver_84 rfl ?_
    refine x_dup2 dX2_isOver_85 rfl rfl ?_
    obtain ⟨b_4, hw⟩ := hw
    refine x_iald (n := 4) (j := (Int32.toNatClampNeg x1)) dX2_isOver_86 rfl (GI.s g (t := (1, 4)) rfl (by decide)) b_4 ?_
    refine x_aload_n 0 dX2_isOver_87 rfl ?_
    refine x_get (ci := 2) (v := .ref (mr ρ 36)) 10 dX2_isOver_88 (GI.s g (t := (12, 0)) rfl (by decide)) rfl in_X2 (by decide) q1233 (Or.inl rfl) (fv_rc rfl (GI.m g (n := 36) rfl (by decide)) (by decide)) ?_
    refine x_iconst 1 dX2_isOver_91 (by decide) ?_
    refine x_iald (n := 4) (j := 1) dX2_isOver_92 (by decide) (GI.s g (t := (1, 4)) rfl (by decide)) (by unfold vp_in; decide) ?_
    refine x_isub dX2_isOver_93 ?_
    obtain ⟨b_5, hw⟩ := hw
    refine x_iast (n := 4) (j := (Int32.toNatClampNeg x1)) dX2_isOver_94 rfl (GI.s g (t := (1, 4)) rfl (by decide)) b_5 ?_
    refine x_aload_n 0 dX2_isOver_95 rfl ?_
    refine x_dup dX2_isOver_96 rfl ?_
    refine x_get (ci := 2) (v := .int (gi (si h 52 (Int32.toNatClampNeg x1) ((gi h 52 (Int32.toNatClampNeg x1)) - (gi h 36 1))) 25 38)) 38 dX2_isOver_97 (GI.s (GI.i g) (t := (12, 0)) rfl (by decide)) rfl in_X2 (by decide) q1261 (Or.inl rfl) (fv_i rfl) ?_
    refine x_iconst 1 dX2_isOver_100 (by decide) ?_
    refine x_iload_n 1 dX2_isOver_101 rfl ?_
    refine x_ishl dX2_isOver_102 ?_
    refine x_ior dX2_isOver_103 ?_
    refine x_put (ci := 2) 38 dX2_isOver_104 (GI.s (GI.i g) (t := (12, 0)) rfl (by decide)) rfl in_X2 tyX2 tyX2_ok nmX2 (by decide) q1261 (Or.inl rfl) rfl rfl rfl (isPut_i rfl) ?_
    refine x_nmh (fun h_6 eh_6 => ?_)
    have hw := hw h_6 eh_6
    have g_7 : GI h_6 := eh_6 ▸ (GI.i (GI.i g))
    have e_8 : Ext h0 h_6 := eh_6 ▸ (Ext.i (Ext.i e))
    refine x_aload_n 0 dX2_isOver_107 rfl ?_
    refine x_dup dX2_isOver_108 rfl ?_
    refine x_get (ci := 2) (v := .int (gi h_6 25 37)) 37 dX2_isOver_109 (GI.s g_7 (t := (12, 0)) rfl (by decide)) rfl in_X2 (by decide) q1260 (Or.inl rfl) (fv_i rfl) ?_
    refine x_iconst 1 dX2_isOver_112 (by decide) ?_
    refine x_iadd dX2_isOver_113 ?_
    refine x_put (ci := 2) 37 dX2_isOver_114 (GI.s g_7 (t := (12, 0)) rfl (by decide)) rfl in_X2 tyX2 tyX2_ok nmX2 (by decide) q1260 (Or.inl rfl) rfl rfl rfl (isPut_i rfl) ?_
    refine x_aload_n 0 dX2_isOver_117 rfl ?_
    refine x_get (ci := 2) (v := .ref (mr ρ 36)) 10 dX2_isOver_118 (GI.s (GI.i g_7) (t := (12, 0)) rfl (by decide)) rfl in_X2 (by decide) q1233 (Or.inl rfl) (fv_rc rfl (GI.m (GI.i g_7) (n := 36) rfl (by decide)) (by decide)) ?_
    refine x_iconst 3 dX2_isOver_121 (by decide) ?_
    refine x_iald (n := 4) (j := 3) dX2_isOver_122 (by decide) (GI.s (GI.i g_7) (t := (1, 4)) rfl (by decide)) (by unfold vp_in; decide) ?_
    have kJ_11 : ∀ z_10 : Int32, z_10 = ((if (gi (si h_6 25 37 ((gi h_6 25 37) + 1)) 36 3) = 0 then 1 else 0) : Int32) → X ρ K_X2_isOver 131 [(0, .ref (mr ρ 25)), (1, .int x1), (2, .int x2), (3, .int x3)] [.int z_10] (si h_6 25 37 ((gi h_6 25 37) + 1)) 0 0 (phB h0 post) psN := fun z_10 ez_10 => by
      have hw := hw z_10 ez_10
      exact x_zret dX2_isOver_131 rfl (isB.n (Eq.mpr (congrArg isB ez_10) (isB_ite isB_1 isB_0))) (Nat.le_of_ble_eq_true rfl) (Nat.le_of_ble_eq_true rfl) ⟨_, rfl, (GI.i g_7), (Ext.i e_8), (Eq.mpr (congrArg isB ez_10) (isB_ite isB_1 isB_0)), hw⟩
    refine x_if_ne 130 dX2_isOver_123 (by decide) (fun c_9 => ?_) (fun c_9 => ?_)
    · refine x_iconst 0 dX2_isOver_130 (by decide) ?_
      exact kJ_11 _ ((if_neg c_9)).symm
    · refine x_iconst 1 dX2_isOver_126 (by decide) ?_
      refine x_goto 131 dX2_isOver_127 (by decide) ?_
      exact kJ_11 _ ((if_pos c_9)).symm
  · have hw := wf_20 c_3
    refine x_aload_n 0 dX2_isOver_37 rfl ?_
    refine x_iload_n 1 dX2_isOver_38 rfl ?_
    refine x_put (ci := 2) 34 dX2_isOver_39 (GI.s g (t := (12, 0)) rfl (by decide)) rfl in_X2 tyX2 tyX2_ok nmX2 (by decide) q1257 (Or.inl rfl) rfl rfl rfl (isPut_i rfl) ?_
    refine x_aload_n 0 dX2_isOver_42 rfl ?_
    refine x_get (ci := 2) (v := .ref (mr ρ 52)) 33 dX2_isOver_43 (GI.s (GI.i g) (t := (12, 0)) rfl (by decide)) rfl in_X2 (by decide) q1256 (Or.inl rfl) (fv_rc rfl (GI.m (GI.i g) (n := 52) rfl (by decide)) (by decide)) ?_
    refine x_iload_n 1 dX2_isOver_46 rfl ?_
    refine x_dup2 dX2_isOver_47 rfl rfl ?_
    obtain ⟨b_12, hw⟩ := hw
    refine x_iald (n := 4) (j := (Int32.toNatClampNeg x1)) dX2_isOver_48 rfl (GI.s (GI.i g) (t := (1, 4)) rfl (by decide)) b_12 ?_
    refine x_aload_n 0 dX2_isOver_49 rfl ?_
    refine x_get (ci := 2) (v := .ref (mr ρ 36)) 10 dX2_isOver_50 (GI.s (GI.i g) (t := (12, 0)) rfl (by decide)) rfl in_X2 (by decide) q1233 (Or.inl rfl) (fv_rc rfl (GI.m (GI.i g) (n := 36) rfl (by decide)) (by decide)) ?_
    refine x_iconst 0 dX2_isOver_53 (by decide) ?_
    refine x_iald (n := 4) (j := 0) dX2_isOver_54 (by decide) (GI.s (GI.i g) (t := (1, 4)) rfl (by decide)) (by unfold vp_in; decide) ?_
    refine x_aload_n 0 dX2_isOver_55 rfl ?_
    refine x_get (ci := 2) (v := .ref (mr ρ 36)) 10 dX2_isOver_56 (GI.s (GI.i g) (t := (12, 0)) rfl (by decide)) rfl in_X2 (by decide) q1233 (Or.inl rfl) (fv_rc rfl (GI.m (GI.i g) (n := 36) rfl (by decide)) (by decide)) ?_
    refine x_iconst 2 dX2_isOver_59 (by decide) ?_
    refine x_iald (n := 4) (j := 2) dX2_isOver_60 (by decide) (GI.s (GI.i g) (t := (1, 4)) rfl (by decide)) (by unfold vp_in; decide) ?_
    refine x_aload_n 0 dX2_isOver_61 rfl ?_
    refine x_get (ci := 2) (v := .ref (mr ρ 30)) 4 dX2_isOver_62 (GI.s (GI.i g) (t := (12, 0)) rfl (by decide)) rfl in_X2 (by decide) q1227 (Or.inl rfl) (fv_rc rfl (GI.m (GI.i g) (n := 30) rfl (by decide)) (by decide)) ?_
    refine x_iload_n 3 dX2_isOver_65 rfl ?_
    obtain ⟨b_13, hw⟩ := hw
    refine x_iald (n := 24) (j := (Int32.toNatClampNeg x3)) dX2_isOver_66 rfl (GI.s (GI.i g) (t := (1, 24)) rfl (by decide)) b_13 ?_
    refine x_aload_n 0 dX2_isOver_67 rfl ?_
    refine x_get (ci := 2) (v := .ref (mr ρ 30)) 4 dX2_isOver_68 (GI.s (GI.i g) (t := (12, 0)) rfl (by decide)) rfl in_X2 (by decide) q1227 (Or.inl rfl) (fv_rc rfl (GI.m (GI.i g) (n := 30) rfl (by decide)) (by decide)) ?_
    refine x_iload_n 2 dX2_isOver_71 rfl ?_
    obtain ⟨b_14, hw⟩ := hw
    refine x_iald (n := 24) (j := (Int32.toNatClampNeg x2)) dX2_isOver_72 rfl (GI.s (GI.i g) (t := (1, 24)) rfl (by decide)) b_14 ?_
    refine x_isub dX2_isOver_73 ?_
    refine x_imul dX2_isOver_74 ?_
    refine x_iadd dX2_isOver_75 ?_
    refine x_iadd dX2_isOver_76 ?_
    obtain ⟨b_15, hw⟩ := hw
    refine x_iast (n := 4) (j := (Int32.toNatClampNeg x1)) dX2_isOver_77 rfl (GI.s (GI.i g) (t := (1, 4)) rfl (by decide)) b_15 ?_
    refine x_nmh (fun h_16 eh_16 => ?_)
    have hw := hw h_16 eh_16
    have g_17 : GI h_16 := eh_16 ▸ (GI.i (GI.i g))
    have e_18 : Ext h0 h_16 := eh_16 ▸ (Ext.i (Ext.i e))
    refine x_iconst 1 dX2_isOver_78 (by decide) ?_
    exact x_zret dX2_isOver_79 rfl (isB.n isB_1) (Nat.le_of_ble_eq_true rfl) (Nat.le_of_ble_eq_true rfl) ⟨_, rfl, g_17, e_18, isB_1, hw⟩
set_option maxHeartbeats 4000000 in
theorem k_X2_isOver {ρ : Rho} {h : Hp} {post : Int32 → Hp → Prop} {p1 : Int32} {p2 : Int32} {p3 : Int32} (G : G0 ρ) (g : GI h) (hw : wp_X2_isOver post h p1 p2 p3) : Con ρ yX2_isOver (ws_ yX2_isOver cX2_isOver 4 (Option.some Jvm.ClassFile.FieldType.boolean)) rm_X2_isOver [.ref (mr ρ 25), .int p1, .int p2, .int p3] h (phB h post) psN := by
  refine con_of (own := "BeforeTheEndModel") (isI := false) (l0 := [(0, .ref (mr ρ 25)), (1, .int p1), (2, .int p2), (3, .int p3)]) (by decide) rfl (fun z => by cases z) (Nat.le_of_ble_eq_true rfl) rfl (fun _ => ?_)
  show X ρ K_X2_isOver 0 [(0, .ref (mr ρ 25)), (1, .int p1), (2, .int p2), (3, .int p3)] [] h 0 0 (phB h post) psN
  refine x_aload_n 0 dX2_isOver_0 rfl ?_
  refine x_get (ci := 2) (v := .int (gi h 25 36)) 36 dX2_isOver_1 (GI.s g (t := (12, 0)) rfl (by decide)) rfl in_X2 (by decide) q1259 (Or.inl rfl) (fv_i rfl) ?_
  obtain ⟨wt_2, wf_3⟩ := hw
  refine x_if_ge 17 dX2_isOver_4 (by decide) (fun c_1 => ?_) (fun c_1 => ?_)
  · have hw := wt_2 c_1
    exact t_X2_isOver_17 G  p1 p2 p3 h g Ext.rf hw
  · have hw := wf_3 c_1
    refine x_aload_n 0 dX2_isOver_7 rfl ?_
    refine x_iload_n 1 dX2_isOver_8 rfl ?_
    refine x_put (ci := 2) 36 dX2_isOver_9 (GI.s g (t := (12, 0)) rfl (by decide)) rfl in_X2 tyX2 tyX2_ok nmX2 (by decide) q1259 (Or.inl rfl) rfl rfl rfl (isPut_i rfl) ?_
    refine x_aload_n 0 dX2_isOver_12 rfl ?_
    refine x_iload_n 2 dX2_isOver_13 rfl ?_
    refine x_put (ci := 2) 35 dX2_isOver_14 (GI.s (GI.i g) (t := (12, 0)) rfl (by decide)) rfl in_X2 tyX2 tyX2_ok nmX2 (by decide) q1258 (Or.inl rfl) rfl rfl rfl (isPut_i rfl) ?_
    exact t_X2_isOver_17 G  p1 p2 p3 (si (si h 25 36 p1) 25 35 p2) (GI.i (GI.i g)) (Ext.i (Ext.i Ext.rf)) hw

/-! BeforeTheEndModel.runs(I)V -/
def w_X2_runs_133 (post : Hp → Prop) : Nat → Int32 → Int32 → Hp → Prop
  | 0 => fun _ _ _ => False
  | n + 1 => fun x1 x3 h => ((x3 < 0 → (post h)) ∧ (¬ x3 < 0 → (wp_X2_isOver (fun r_5 h_2 => GI h_2 → Ext h h_2 → ((r_5 = 0 → (wp_X2_answers (fun r_11 h_8 => GI h_8 → Ext h_2 h_8 → (w_X2_runs_133 post n x1 r_11 h_8)) h_2 x1)) ∧ (¬ r_5 = 0 → (post h_2)))) h x3 x1 x1)))
def w_X2_runs_77 (post : Hp → Prop) : Nat → Int32 → Int32 → Hp → Prop
  | 0 => fun _ _ _ => False
  | n + 1 => fun x1 x3 h => (vp_in x1 24 ∧ (((gi h 30 (Int32.toNatClampNeg x1)) < x3 → (wp_X2_answers (fun r_6 h_3 => GI h_3 → Ext h h_3 → (∃ fu : Nat, w_X2_runs_133 post fu x1 r_6 h_3)) h x1)) ∧ (¬ (gi h 30 (Int32.toNatClampNeg x1)) < x3 → (vp_in x3 24 ∧ (wp_X2_answers (fun r_12 h_9 => GI h_9 → Ext h h_9 → ((r_12 < 0 → (w_X2_runs_77 post n x1 (x3 + 1) h_9)) ∧ (¬ r_12 < 0 → (vp_in x3 24 ∧ (wp_X2_isOver (fun r_19 h_16 => GI h_16 → Ext h_9 h_16 → ((r_19 = 0 → (w_X2_runs_77 post n x1 (x3 + 1) h_16)) ∧ (¬ r_19 = 0 → (post h_16)))) h_9 r_12 (gi h_9 51 (Int32.toNatClampNeg x3)) x1))))) h (gi h 51 (Int32.toNatClampNeg x3)))))))
def w_X2_runs_49 (post : Hp → Prop) : Nat → Int32 → Int32 → Hp → Prop
  | 0 => fun _ _ _ => False
  | n + 1 => fun x1 x2 h => ((x2 ≤ 0 → (∃ fu : Nat, w_X2_runs_77 post fu x1 1 h)) ∧ (¬ x2 ≤ 0 → (vp_in x2 24 ∧ (vp_in (gi h 30 (Int32.toNatClampNeg x2)) 24 ∧ (vp_in x2 24 ∧ (∀ x2_5 : Int32, x2_5 = (gi (si h 51 (Int32.toNatClampNeg (gi h 30 (Int32.toNatClampNeg x2))) x2) 27 (Int32.toNatClampNeg x2)) → (w_X2_runs_49 post n x1 x2_5 (si h 51 (Int32.toNatClampNeg (gi h 30 (Int32.toNatClampNeg x2))) x2))))))))
def w_X2_runs_29 (post : Hp → Prop) : Nat → Int32 → Int32 → Hp → Prop
  | 0 => fun _ _ _ => False
  | n + 1 => fun x1 x2 h => ((4 ≤ x2 → (∃ fu : Nat, w_X2_runs_49 post fu x1 x1 h)) ∧ (¬ 4 ≤ x2 → (vp_in x2 4 ∧ (w_X2_runs_29 post n x1 (x2 + 1) (si h 52 (Int32.toNatClampNeg x2) 0)))))
def wp_X2_runs (post : Hp → Prop) (h : Hp) (p1 : Int32) : Prop := (∃ fu : Nat, w_X2_runs_29 post fu p1 0 (si (si (si (si (si h 25 34 (-9)) 25 35 (-9)) 25 36 (-1)) 25 37 0) 25 38 0))
abbrev rm_X2_runs : Room := ({ frames := 2, cells := 0, slots := 0, locals := 84 })
abbrev K_X2_runs : Kx := ("BeforeTheEndModel", cX2_runs, 5, (Option.none : Option Jvm.ClassFile.FieldType), rm_X2_runs, [], false)
set_option maxHeartbeats 4000000 in
theorem t_X2_runs_133 {ρ : Rho} {h0 : Hp} {post : Hp → Prop} (G : G0 ρ) :
    ∀ (n : Nat), ∀ (x1 : Int32) (x3 : Int32) (h : Hp), GI h → Ext h0 h → w_X2_runs_133 post n x1 x3 h → X ρ K_X2_runs 133 [(0, .ref (mr ρ 25)), (1, .int x1), (3, .int x3)] [] h 0 0 (phV h0 post) psN := by
  intro n
  induction n with
  | zero => intro x1 x3 h g e hw; exact False.elim hw
  | succ n ih =>
    intro x1 x3 h g e hw
    refine x_iload_n 2 dX2_runs_133 rfl ?_
    obtain ⟨wt_15, wf_16⟩ := hw
    refine x_if_lt 157 dX2_runs_134 (by decide) (fun c_1 => ?_) (fun c_1 => ?_)
    · have hw := wt_15 c_1
      exact x_vret dX2_runs_157 rfl (Nat.le_of_ble_eq_true rfl) (Nat.le_of_ble_eq_true rfl) ⟨rfl, g, e, hw⟩
    · have hw := wf_16 c_1
      refine x_aload_n 0 dX2_runs_137 rfl ?_
      refine x_iload_n 2 dX2_runs_138 rfl ?_
      refine x_iload_n 1 dX2_runs_139 rfl ?_
      refine x_iload_n 1 dX2_runs_140 rfl ?_
      refine x_callV (ci := 2) [.int x3, .int x1, .int x1] 3 dX2_runs_141 (k_X2_isOver G g hw) (GI.s g (t := (12, 0)) rfl (by decide)) rfl q1566 q1568 qs89 q106 q1569 (by decide) rfl rfl ⟨(Nat.le_of_ble_eq_true rfl), (Nat.le_of_ble_eq_true rfl)⟩ (Nat.le_of_ble_eq_true rfl) ⟨(Nat.le_of_ble_eq_true rfl), (Nat.le_of_ble_eq_true rfl)⟩ (fun v9 h_2 hv9 => ?_) (fun _ _ _ _ _ z _ _ => False.elim z)
      obtain ⟨r_5, rfl, g_3, e_4, b_6, hw⟩ := hv9
      have hw := hw g_3 e_4
      show X ρ K_X2_runs 144 [(0, .ref (mr ρ 25)), (1, .int x1), (3, .int x3)] [.int r_5] h_2 0 0 (phV h0 post) psN
      obtain ⟨wt_13, wf_14⟩ := hw
      refine x_if_eq 148 dX2_runs_144 (by decide) (fun c_7 => ?_) (fun c_7 => ?_)
      · have hw := wt_13 c_7
        refine x_aload_n 0 dX2_runs_148 rfl ?_
        refine x_iload_n 1 dX2_runs_149 rfl ?_
        refine x_callV (ci := 2) [.int x1] 1 dX2_runs_150 (k_X2_answers G g_3 hw) (GI.s g_3 (t := (12, 0)) rfl (by decide)) rfl q1562 q1564 qs88 q106 q1565 (by decide) rfl rfl ⟨(Nat.le_of_ble_eq_true rfl), (Nat.le_of_ble_eq_true rfl)⟩ (Nat.le_of_ble_eq_true rfl) ⟨(Nat.le_of_ble_eq_true rfl), (Nat.le_of_ble_eq_true rfl)⟩ (fun v9 h_8 hv9 => ?_) (fun _ _ _ _ _ z _ _ => False.elim z)
        obtain ⟨r_11, rfl, g_9, e_10, hw⟩ := hv9
        have hw := hw g_9 e_10
        show X ρ K_X2_runs 153 [(0, .ref (mr ρ 25)), (1, .int x1), (3, .int x3)] [.int r_11] h_8 0 0 (phV h0 post) psN
        refine x_istore_n (lv' := [(3, .int r_11), (0, .ref (mr ρ 25)), (1, .int x1)]) dX2_runs_153 (Nat.le_of_ble_eq_true rfl) rfl ?_
        refine x_goto 133 dX2_runs_154 (by decide) ?_
        refine X.sub [1, 2, 0] rfl ?_
        exact ih x1 r_11 h_8 g_9 (Ext.tr (Ext.tr e e_4) e_10) hw
      · have hw := wf_14 c_7
        exact x_vret dX2_runs_147 rfl (Nat.le_of_ble_eq_true rfl) (Nat.le_of_ble_eq_true rfl) ⟨rfl, g_3, (Ext.tr e e_4), hw⟩
set_option maxHeartbeats 4000000 in
theorem t_X2_runs_77 {ρ : Rho} {h0 : Hp} {post : Hp → Prop} (G : G0 ρ) :
    ∀ (n : Nat), ∀ (x1 : Int32) (x3 : Int32) (h : Hp), GI h → Ext h0 h → w_X2_runs_77 post n x1 x3 h → X ρ K_X2_runs 77 [(0, .ref (mr ρ 25)), (1, .int x1), (3, .int x3)] [] h 0 0 (phV h0 post) psN := by
  intro n
  induction n with
  | zero => intro x1 x3 h g e hw; exact False.elim hw
  | succ n ih =>
    intro x1 x3 h g e hw
    refine x_iload_n 2 dX2_runs_77 rfl ?_
    refine x_aload_n 0 dX2_runs_78 rfl ?_
    refine x_get (ci := 2) (v := .ref (mr ρ 30)) 4 dX2_runs_79 (GI.s g (t := (12, 0)) rfl (by decide)) rfl in_X2 (by decide) q1227 (Or.inl rfl) (fv_rc rfl (GI.m g (n := 30) rfl (by decide)) (by decide)) ?_
    refine x_iload_n 1 dX2_runs_82 rfl ?_
    obtain ⟨b_1, hw⟩ := hw
    refine x_iald (n := 24) (j := (Int32.toNatClampNeg x1)) dX2_runs_83 rfl (GI.s g (t := (1, 24)) rfl (by decide)) b_1 ?_
    obtain ⟨wt_26, wf_27⟩ := hw
    refine x_icmp_gt 127 dX2_runs_84 (by decide) (fun c_2 => ?_) (fun c_2 => ?_)
    · have hw := wt_26 c_2
      refine x_aload_n 0 dX2_runs_127 rfl ?_
      refine x_iload_n 1 dX2_runs_128 rfl ?_
      refine x_callV (ci := 2) [.int x1] 1 dX2_runs_129 (k_X2_answers G g hw) (GI.s g (t := (12, 0)) rfl (by decide)) rfl q1562 q1564 qs88 q106 q1565 (by decide) rfl rfl ⟨(Nat.le_of_ble_eq_true rfl), (Nat.le_of_ble_eq_true rfl)⟩ (Nat.le_of_ble_eq_true rfl) ⟨(Nat.le_of_ble_eq_true rfl), (Nat.le_of_ble_eq_true rfl)⟩ (fun v9 h_3 hv9 => ?_) (fun _ _ _ _ _ z _ _ => False.elim z)
      obtain ⟨r_6, rfl, g_4, e_5, hw⟩ := hv9
      have hw := hw g_4 e_5
      show X ρ K_X2_runs 132 [(0, .ref (mr ρ 25)), (1, .int x1), (3, .int x3)] [.int r_6] h_3 0 0 (phV h0 post) psN
      refine x_istore_n (lv' := [(3, .int r_6), (0, .ref (mr ρ 25)), (1, .int x1)]) dX2_runs_132 (Nat.le_of_ble_eq_true rfl) rfl ?_
      refine X.sub [1, 2, 0] rfl ?_
      obtain ⟨fu, hw⟩ := hw
      exact t_X2_runs_133 G  fu x1 r_6 h_3 g_4 (Ext.tr e e_5) hw
    · have hw := wf_27 c_2
      refine x_aload_n 0 dX2_runs_87 rfl ?_
      refine x_aload_n 0 dX2_runs_88 rfl ?_
      refine x_get (ci := 2) (v := .ref (mr ρ 51)) 32 dX2_runs_89 (GI.s g (t := (12, 0)) rfl (by decide)) rfl in_X2 (by decide) q1255 (Or.inl rfl) (fv_rc rfl (GI.m g (n := 51) rfl (by decide)) (by decide)) ?_
      refine x_iload_n 2 dX2_runs_92 rfl ?_
      obtain ⟨b_8, hw⟩ := hw
      refine x_iald (n := 24) (j := (Int32.toNatClampNeg x3)) dX2_runs_93 rfl (GI.s g (t := (1, 24)) rfl (by decide)) b_8 ?_
      refine x_callV (ci := 2) [.int (gi h 51 (Int32.toNatClampNeg x3))] 1 dX2_runs_94 (k_X2_answers G g hw) (GI.s g (t := (12, 0)) rfl (by decide)) rfl q1562 q1564 qs88 q106 q1565 (by decide) rfl rfl ⟨(Nat.le_of_ble_eq_true rfl), (Nat.le_of_ble_eq_true rfl)⟩ (Nat.le_of_ble_eq_true rfl) ⟨(Nat.le_of_ble_eq_true rfl), (Nat.le_of_ble_eq_true rfl)⟩ (fun v9 h_9 hv9 => ?_) (fun _ _ _ _ _ z _ _ => False.elim z)
      obtain ⟨r_12, rfl, g_10, e_11, hw⟩ := hv9
      have hw := hw g_10 e_11
      show X ρ K_X2_runs 97 [(0, .ref (mr ρ 25)), (1, .int x1), (3, .int x3)] [.int r_12] h_9 0 0 (phV h0 post) psN
      refine x_istore (lv' := [(4, .int r_12), (0, .ref (mr ρ 25)), (1, .int x1), (3, .int x3)]) dX2_runs_97 (Nat.le_of_ble_eq_true rfl) rfl ?_
      refine x_iload 0 dX2_runs_99 rfl ?_
      obtain ⟨wt_24, wf_25⟩ := hw
      refine x_if_lt 121 dX2_runs_101 (by decide) (fun c_14 => ?_) (fun c_14 => ?_)
      · have hw := wt_24 c_14
        refine x_iinc (v := (x3 + 1)) (lv' := [(3, .int (x3 + 1)), (4, .int r_12), (0, .ref (mr ρ 25)), (1, .int x1)]) 3 dX2_runs_121 rfl (by rfl) (Nat.le_of_ble_eq_true rfl) rfl ?_
        refine x_goto 77 dX2_runs_124 (by decide) ?_
        refine X.sub [2, 3, 0] rfl ?_
        exact ih x1 (x3 + 1) h_9 g_10 (Ext.tr e e_11) hw
      · have hw := wf_25 c_14
        refine x_aload_n 1 dX2_runs_104 rfl ?_
        refine x_iload 0 dX2_runs_105 rfl ?_
        refine x_aload_n 1 dX2_runs_107 rfl ?_
        refine x_get (ci := 2) (v := .ref (mr ρ 51)) 32 dX2_runs_108 (GI.s g_10 (t := (12, 0)) rfl (by decide)) rfl in_X2 (by decide) q1255 (Or.inl rfl) (fv_rc rfl (GI.m g_10 (n := 51) rfl (by decide)) (by decide)) ?_
        refine x_iload_n 3 dX2_runs_111 rfl ?_
        obtain ⟨b_15, hw⟩ := hw
        refine x_iald (n := 24) (j := (Int32.toNatClampNeg x3)) dX2_runs_112 rfl (GI.s g_10 (t := (1, 24)) rfl (by decide)) b_15 ?_
        refine x_iload_n 2 dX2_runs_113 rfl ?_
        refine x_callV (ci := 2) [.int r_12, .int (gi h_9 51 (Int32.toNatClampNeg x3)), .int x1] 3 dX2_runs_114 (k_X2_isOver G g_10 hw) (GI.s g_10 (t := (12, 0)) rfl (by decide)) rfl q1566 q1568 qs89 q106 q1569 (by decide) rfl rfl ⟨(Nat.le_of_ble_eq_true rfl), (Nat.le_of_ble_eq_true rfl)⟩ (Nat.le_of_ble_eq_true rfl) ⟨(Nat.le_of_ble_eq_true rfl), (Nat.le_of_ble_eq_true rfl)⟩ (fun v9 h_16 hv9 => ?_) (fun _ _ _ _ _ z _ _ => False.elim z)
        obtain ⟨r_19, rfl, g_17, e_18, b_20, hw⟩ := hv9
        have hw := hw g_17 e_18
        show X ρ K_X2_runs 117 [(4, .int r_12), (0, .ref (mr ρ 25)), (1, .int x1), (3, .int x3)] [.int r_19] h_16 0 0 (phV h0 post) psN
        obtain ⟨wt_22, wf_23⟩ := hw
        refine x_if_eq 121 dX2_runs_117 (by decide) (fun c_21 => ?_) (fun c_21 => ?_)
        · have hw := wt_22 c_21
          refine x_iinc (v := (x3 + 1)) (lv' := [(3, .int (x3 + 1)), (4, .int r_12), (0, .ref (mr ρ 25)), (1, .int x1)]) 3 dX2_runs_121 rfl (by rfl) (Nat.le_of_ble_eq_true rfl) rfl ?_
          refine x_goto 77 dX2_runs_124 (by decide) ?_
          refine X.sub [2, 3, 0] rfl ?_
          exact ih x1 (x3 + 1) h_16 g_17 (Ext.tr (Ext.tr e e_11) e_18) hw
        · have hw := wf_23 c_21
          exact x_vret dX2_runs_120 rfl (Nat.le_of_ble_eq_true rfl) (Nat.le_of_ble_eq_true rfl) ⟨rfl, g_17, (Ext.tr (Ext.tr e e_11) e_18), hw⟩
set_option maxHeartbeats 4000000 in
theorem t_X2_runs_49 {ρ : Rho} {h0 : Hp} {post : Hp → Prop} (G : G0 ρ) :
    ∀ (n : Nat), ∀ (x1 : Int32) (x2 : Int32) (h : Hp), GI h → Ext h0 h → w_X2_runs_49 post n x1 x2 h → X ρ K_X2_runs 49 [(0, .ref (mr ρ 25)), (1, .int x1), (2, .int x2)] [] h 0 0 (phV h0 post) psN := by
  intro n
  induction n with
  | zero => intro x1 x2 h g e hw; exact False.elim hw
  | succ n ih =>
    intro x1 x2 h g e hw
    refine x_iload_n 2 dX2_runs_49 rfl ?_
    obtain ⟨wt_6, wf_7⟩ := hw
    refine x_if_le 75 dX2_runs_50 (by decide) (fun c_1 => ?_) (fun c_1 => ?_)
    · have hw := wt_6 c_1
      refine x_iconst 1 dX2_runs_75 (by decide) ?_
      refine x_istore_n (lv' := [(3, .int 1), (0, .ref (mr ρ 25)), (1, .int x1), (2, .int x2)]) dX2_runs_76 (Nat.le_of_ble_eq_true rfl) rfl ?_
      refine X.sub [1, 2, 0] rfl ?_
      obtain ⟨fu, hw⟩ := hw
      exact t_X2_runs_77 G  fu x1 1 h g e hw
    · have hw := wf_7 c_1
      refine x_aload_n 0 dX2_runs_53 rfl ?_
      refine x_get (ci := 2) (v := .ref (mr ρ 51)) 32 dX2_runs_54 (GI.s g (t := (12, 0)) rfl (by decide)) rfl in_X2 (by decide) q1255 (Or.inl rfl) (fv_rc rfl (GI.m g (n := 51) rfl (by decide)) (by decide)) ?_
      refine x_aload_n 0 dX2_runs_57 rfl ?_
      refine x_get (ci := 2) (v := .ref (mr ρ 30)) 4 dX2_runs_58 (GI.s g (t := (12, 0)) rfl (by decide)) rfl in_X2 (by decide) q1227 (Or.inl rfl) (fv_rc rfl (GI.m g (n := 30) rfl (by decide)) (by decide)) ?_
      refine x_iload_n 2 dX2_runs_61 rfl ?_
      obtain ⟨b_2, hw⟩ := hw
      refine x_iald (n := 24) (j := (Int32.toNatClampNeg x2)) dX2_runs_62 rfl (GI.s g (t := (1, 24)) rfl (by decide)) b_2 ?_
      refine x_iload_n 2 dX2_runs_63 rfl ?_
      obtain ⟨b_3, hw⟩ := hw
      refine x_iast (n := 24) (j := (Int32.toNatClampNeg (gi h 30 (Int32.toNatClampNeg x2)))) dX2_runs_64 rfl (GI.s g (t := (1, 24)) rfl (by decide)) b_3 ?_
      refine x_aload_n 0 dX2_runs_65 rfl ?_
      refine x_get (ci := 2) (v := .ref (mr ρ 27)) 1 dX2_runs_66 (GI.s (GI.i g) (t := (12, 0)) rfl (by decide)) rfl in_X2 (by decide) q1224 (Or.inl rfl) (fv_rc rfl (GI.m (GI.i g) (n := 27) rfl (by decide)) (by decide)) ?_
      refine x_iload_n 2 dX2_runs_69 rfl ?_
      obtain ⟨b_4, hw⟩ := hw
      refine x_iald (n := 24) (j := (Int32.toNatClampNeg x2)) dX2_runs_70 rfl (GI.s (GI.i g) (t := (1, 24)) rfl (by decide)) b_4 ?_
      refine x_nmi (fun x2_5 ex2_5 => ?_)
      have hw := hw x2_5 ex2_5
      refine x_istore_n (lv' := [(2, .int x2_5), (0, .ref (mr ρ 25)), (1, .int x1)]) dX2_runs_71 (Nat.le_of_ble_eq_true rfl) rfl ?_
      refine x_goto 49 dX2_runs_72 (by decide) ?_
      refine X.sub [1, 2, 0] rfl ?_
      exact ih x1 x2_5 (si h 51 (Int32.toNatClampNeg (gi h 30 (Int32.toNatClampNeg x2))) x2) (GI.i g) (Ext.i e) hw
set_option maxHeartbeats 4000000 in
theorem t_X2_runs_29 {ρ : Rho} {h0 : Hp} {post : Hp → Prop} (G : G0 ρ) :
    ∀ (n : Nat), ∀ (x1 : Int32) (x2 : Int32) (h : Hp), GI h → Ext h0 h → w_X2_runs_29 post n x1 x2 h → X ρ K_X2_runs 29 [(0, .ref (mr ρ 25)), (1, .int x1), (2, .int x2)] [] h 0 0 (phV h0 post) psN := by
  intro n
  induction n with
  | zero => intro x1 x2 h g e hw; exact False.elim hw
  | succ n ih =>
    intro x1 x2 h g e hw
    refine x_iload_n 2 dX2_runs_29 rfl ?_
    refine x_iconst 4 dX2_runs_30 (by decide) ?_
    obtain ⟨wt_3, wf_4⟩ := hw
    refine x_icmp_ge 47 dX2_runs_31 (by decide) (fun c_1 => ?_) (fun c_1 => ?_)
    · have hw := wt_3 c_1
      refine x_iload_n 1 dX2_runs_47 rfl ?_
      refine x_istore_n (lv' := [(2, .int x1), (0, .ref (mr ρ 25)), (1, .int x1)]) dX2_runs_48 (Nat.le_of_ble_eq_true rfl) rfl ?_
      refine X.sub [1, 2, 0] rfl ?_
      obtain ⟨fu, hw⟩ := hw
      exact t_X2_runs_49 G  fu x1 x1 h g e hw
    · have hw := wf_4 c_1
      refine x_aload_n 0 dX2_runs_34 rfl ?_
      refine x_get (ci := 2) (v := .ref (mr ρ 52)) 33 dX2_runs_35 (GI.s g (t := (12, 0)) rfl (by decide)) rfl in_X2 (by decide) q1256 (Or.inl rfl) (fv_rc rfl (GI.m g (n := 52) rfl (by decide)) (by decide)) ?_
      refine x_iload_n 2 dX2_runs_38 rfl ?_
      refine x_iconst 0 dX2_runs_39 (by decide) ?_
      obtain ⟨b_2, hw⟩ := hw
      refine x_iast (n := 4) (j := (Int32.toNatClampNeg x2)) dX2_runs_40 rfl (GI.s g (t := (1, 4)) rfl (by decide)) b_2 ?_
      refine x_iinc (v := (x2 + 1)) (lv' := [(2, .int (x2 + 1)), (0, .ref (mr ρ 25)), (1, .int x1)]) 2 dX2_runs_41 rfl (by rfl) (Nat.le_of_ble_eq_true rfl) rfl ?_
      refine x_goto 29 dX2_runs_44 (by decide) ?_
      refine X.sub [1, 2, 0] rfl ?_
      exact ih x1 (x2 + 1) (si h 52 (Int32.toNatClampNeg x2) 0) (GI.i g) (Ext.i e) hw
set_option maxHeartbeats 4000000 in
theorem k_X2_runs {ρ : Rho} {h : Hp} {post : Hp → Prop} {p1 : Int32} (G : G0 ρ) (g : GI h) (hw : wp_X2_runs post h p1) : Con ρ yX2_runs (ws_ yX2_runs cX2_runs 5 (Option.none : Option Jvm.ClassFile.FieldType)) rm_X2_runs [.ref (mr ρ 25), .int p1] h (phV h post) psN := by
  refine con_of (own := "BeforeTheEndModel") (isI := false) (l0 := [(0, .ref (mr ρ 25)), (1, .int p1)]) (by decide) rfl (fun z => by cases z) (Nat.le_of_ble_eq_true rfl) rfl (fun _ => ?_)
  show X ρ K_X2_runs 0 [(0, .ref (mr ρ 25)), (1, .int p1)] [] h 0 0 (phV h post) psN
  refine x_aload_n 0 dX2_runs_0 rfl ?_
  refine x_bipush (-9) dX2_runs_1 (by decide) ?_
  refine x_put (ci := 2) 34 dX2_runs_3 (GI.s g (t := (12, 0)) rfl (by decide)) rfl in_X2 tyX2 tyX2_ok nmX2 (by decide) q1257 (Or.inl rfl) rfl rfl rfl (isPut_i rfl) ?_
  refine x_aload_n 0 dX2_runs_6 rfl ?_
  refine x_bipush (-9) dX2_runs_7 (by decide) ?_
  refine x_put (ci := 2) 35 dX2_runs_9 (GI.s (GI.i g) (t := (12, 0)) rfl (by decide)) rfl in_X2 tyX2 tyX2_ok nmX2 (by decide) q1258 (Or.inl rfl) rfl rfl rfl (isPut_i rfl) ?_
  refine x_aload_n 0 dX2_runs_12 rfl ?_
  refine x_iconst (-1) dX2_runs_13 (by decide) ?_
  refine x_put (ci := 2) 36 dX2_runs_14 (GI.s (GI.i (GI.i g)) (t := (12, 0)) rfl (by decide)) rfl in_X2 tyX2 tyX2_ok nmX2 (by decide) q1259 (Or.inl rfl) rfl rfl rfl (isPut_i rfl) ?_
  refine x_aload_n 0 dX2_runs_17 rfl ?_
  refine x_iconst 0 dX2_runs_18 (by decide) ?_
  refine x_put (ci := 2) 37 dX2_runs_19 (GI.s (GI.i (GI.i (GI.i g))) (t := (12, 0)) rfl (by decide)) rfl in_X2 tyX2 tyX2_ok nmX2 (by decide) q1260 (Or.inl rfl) rfl rfl rfl (isPut_i rfl) ?_
  refine x_aload_n 0 dX2_runs_22 rfl ?_
  refine x_iconst 0 dX2_runs_23 (by decide) ?_
  refine x_put (ci := 2) 38 dX2_runs_24 (GI.s (GI.i (GI.i (GI.i (GI.i g)))) (t := (12, 0)) rfl (by decide)) rfl in_X2 tyX2 tyX2_ok nmX2 (by decide) q1261 (Or.inl rfl) rfl rfl rfl (isPut_i rfl) ?_
  refine x_iconst 0 dX2_runs_27 (by decide) ?_
  refine x_istore_n (lv' := [(2, .int 0), (0, .ref (mr ρ 25)), (1, .int p1)]) dX2_runs_28 (Nat.le_of_ble_eq_true rfl) rfl ?_
  refine X.sub [1, 2, 0] rfl ?_
  obtain ⟨fu, hw⟩ := hw
  exact t_X2_runs_29 G  fu p1 0 (si (si (si (si (si h 25 34 (-9)) 25 35 (-9)) 25 36 (-1)) 25 37 0) 25 38 0) (GI.i (GI.i (GI.i (GI.i (GI.i g))))) (Ext.i (Ext.i (Ext.i (Ext.i (Ext.i Ext.rf))))) hw

/-! BeforeTheEndModel.run(II)I -/
def wp_X2_run (post : Int32 → Hp → Prop) (h : Hp) (p1 : Int32) (p2 : Int32) : Prop := (wp_X2_isWord (fun r_4 h_1 => GI h_1 → Ext h h_1 → ((r_4 = 0 → (wp_X2_no (fun r_10 h_7 => GI h_7 → Ext h_1 h_7 → (post r_10 h_7)) h_1 (-1))) ∧ (¬ r_4 = 0 → (vp_in p1 24 ∧ ((¬ (gi h_1 29 (Int32.toNatClampNeg p1)) = 0 → (wp_X2_isIn (fun r_17 h_14 => GI h_14 → Ext h_1 h_14 → ((¬ r_17 = 0 → (wp_X2_isWhole (fun r_23 h_20 => GI h_20 → Ext h_14 h_20 → ((¬ r_23 = 0 → (wp_X2_finds (fun h_26 => GI h_26 → Ext h_20 h_26 → (wp_X2_runs (fun h_31 => GI h_31 → Ext h_26 h_31 → (∀ z_38 : Int32, z_38 = ((if p2 = 0 then (gi h_31 25 34) else (if p2 = 1 then (gi h_31 25 35) else (gi h_31 25 37))) : Int32) → (post z_38 h_31))) h_26 p1)) h_20)) ∧ (r_23 = 0 → (wp_X2_no (fun r_43 h_40 => GI h_40 → Ext h_20 h_40 → (post r_43 h_40)) h_20 (-3))))) h_14)) ∧ (r_17 = 0 → (wp_X2_no (fun r_50 h_47 => GI h_47 → Ext h_14 h_47 → (post r_50 h_47)) h_14 (-2))))) h_1 p2 0 2)) ∧ ((gi h_1 29 (Int32.toNatClampNeg p1)) = 0 → (wp_X2_no (fun r_57 h_54 => GI h_54 → Ext h_1 h_54 → (post r_57 h_54)) h_1 (-1)))))))) h p1)
abbrev rm_X2_run : Room := ({ frames := 6, cells := 0, slots := 0, locals := 175 })
abbrev K_X2_run : Kx := ("BeforeTheEndModel", cX2_run, 3, (Option.some Jvm.ClassFile.FieldType.int), rm_X2_run, [], false)
set_option maxHeartbeats 4000000 in
theorem k_X2_run {ρ : Rho} {h : Hp} {post : Int32 → Hp → Prop} {p1 : Int32} {p2 : Int32} (G : G0 ρ) (g : GI h) (hw : wp_X2_run post h p1 p2) : Con ρ yX2_run (ws_ yX2_run cX2_run 3 (Option.some Jvm.ClassFile.FieldType.int)) rm_X2_run [.ref (mr ρ 25), .int p1, .int p2] h (phI h post) psN := by
  refine con_of (own := "BeforeTheEndModel") (isI := false) (l0 := [(0, .ref (mr ρ 25)), (1, .int p1), (2, .int p2)]) (by decide) rfl (fun z => by cases z) (Nat.le_of_ble_eq_true rfl) rfl (fun _ => ?_)
  show X ρ K_X2_run 0 [(0, .ref (mr ρ 25)), (1, .int p1), (2, .int p2)] [] h 0 0 (phI h post) psN
  refine x_aload_n 0 dX2_run_0 rfl ?_
  refine x_iload_n 1 dX2_run_1 rfl ?_
  refine x_callV (ci := 2) [.int p1] 1 dX2_run_2 (k_X2_isWord G g hw) (GI.s g (t := (12, 0)) rfl (by decide)) rfl q1434 q1436 qs68 q106 q1437 (by decide) rfl rfl ⟨(Nat.le_of_ble_eq_true rfl), (Nat.le_of_ble_eq_true rfl)⟩ (Nat.le_of_ble_eq_true rfl) ⟨(Nat.le_of_ble_eq_true rfl), (Nat.le_of_ble_eq_true rfl)⟩ (fun v9 h_1 hv9 => ?_) (fun _ _ _ _ _ z _ _ => False.elim z)
  obtain ⟨r_4, rfl, g_2, e_3, b_5, hw⟩ := hv9
  have hw := hw g_2 e_3
  show X ρ K_X2_run 5 [(0, .ref (mr ρ 25)), (1, .int p1), (2, .int p2)] [.int r_4] h_1 0 0 (phI h post) psN
  obtain ⟨wt_61, wf_62⟩ := hw
  refine x_if_eq 17 dX2_run_5 (by decide) (fun c_6 => ?_) (fun c_6 => ?_)
  · have hw := wt_61 c_6
    refine x_aload_n 0 dX2_run_17 rfl ?_
    refine x_iconst (-1) dX2_run_18 (by decide) ?_
    refine x_callV (ci := 2) [.int (-1)] 1 dX2_run_19 (k_X2_no G g_2 hw) (GI.s g_2 (t := (12, 0)) rfl (by decide)) rfl q1387 q1389 qs59 q106 q1390 (by decide) rfl rfl ⟨(Nat.le_of_ble_eq_true rfl), (Nat.le_of_ble_eq_true rfl)⟩ (Nat.le_of_ble_eq_true rfl) ⟨(Nat.le_of_ble_eq_true rfl), (Nat.le_of_ble_eq_true rfl)⟩ (fun v9 h_7 hv9 => ?_) (fun _ _ _ _ _ z _ _ => False.elim z)
    obtain ⟨r_10, rfl, g_8, e_9, hw⟩ := hv9
    have hw := hw g_8 e_9
    show X ρ K_X2_run 22 [(0, .ref (mr ρ 25)), (1, .int p1), (2, .int p2)] [.int r_10] h_7 0 0 (phI h post) psN
    exact x_iret dX2_run_22 rfl (Nat.le_of_ble_eq_true rfl) (Nat.le_of_ble_eq_true rfl) ⟨_, rfl, g_8, (Ext.tr e_3 e_9), hw⟩
  · have hw := wf_62 c_6
    refine x_aload_n 0 dX2_run_8 rfl ?_
    refine x_get (ci := 2) (v := .ref (mr ρ 29)) 3 dX2_run_9 (GI.s g_2 (t := (12, 0)) rfl (by decide)) rfl in_X2 (by decide) q1226 (Or.inl rfl) (fv_rc rfl (GI.m g_2 (n := 29) rfl (by decide)) (by decide)) ?_
    refine x_iload_n 1 dX2_run_12 rfl ?_
    obtain ⟨b_12, hw⟩ := hw
    refine x_iald (n := 24) (j := (Int32.toNatClampNeg p1)) dX2_run_13 rfl (GI.s g_2 (t := (1, 24)) rfl (by decide)) b_12 ?_
    obtain ⟨wt_59, wf_60⟩ := hw
    refine x_if_ne 23 dX2_run_14 (by decide) (fun c_13 => ?_) (fun c_13 => ?_)
    · have hw := wt_59 c_13
      refine x_iload_n 2 dX2_run_23 rfl ?_
      refine x_iconst 0 dX2_run_24 (by decide) ?_
      refine x_iconst 2 dX2_run_25 (by decide) ?_
      refine x_callS [.int p2, .int 0, .int 2] 3 dX2_run_26 (k_X2_isIn G g_2 hw) q1412 q1413 q106 q1414 (by decide) rfl rfl ⟨(Nat.le_of_ble_eq_true rfl), (Nat.le_of_ble_eq_true rfl)⟩ (Nat.le_of_ble_eq_true rfl) ⟨(Nat.le_of_ble_eq_true rfl), (Nat.le_of_ble_eq_true rfl)⟩ (fun v9 h_14 hv9 => ?_) (fun _ _ _ _ _ z _ _ => False.elim z)
      obtain ⟨r_17, rfl, g_15, e_16, b_18, hw⟩ := hv9
      have hw := hw g_15 e_16
      show X ρ K_X2_run 29 [(0, .ref (mr ρ 25)), (1, .int p1), (2, .int p2)] [.int r_17] h_14 0 0 (phI h post) psN
      obtain ⟨wt_52, wf_53⟩ := hw
      refine x_if_ne 39 dX2_run_29 (by decide) (fun c_19 => ?_) (fun c_19 => ?_)
      · have hw := wt_52 c_19
        refine x_aload_n 0 dX2_run_39 rfl ?_
        refine x_callV (ci := 2) [] 0 dX2_run_40 (k_X2_isWhole G g_15 hw) (GI.s g_15 (t := (12, 0)) rfl (by decide)) rfl q1462 q1464 qs72 q106 q1465 (by decide) rfl rfl ⟨(Nat.le_of_ble_eq_true rfl), (Nat.le_of_ble_eq_true rfl)⟩ (Nat.le_of_ble_eq_true rfl) ⟨(Nat.le_of_ble_eq_true rfl), (Nat.le_of_ble_eq_true rfl)⟩ (fun v9 h_20 hv9 => ?_) (fun _ _ _ _ _ z _ _ => False.elim z)
        obtain ⟨r_23, rfl, g_21, e_22, b_24, hw⟩ := hv9
        have hw := hw g_21 e_22
        show X ρ K_X2_run 43 [(0, .ref (mr ρ 25)), (1, .int p1), (2, .int p2)] [.int r_23] h_20 0 0 (phI h post) psN
        obtain ⟨wt_45, wf_46⟩ := hw
        refine x_if_ne 53 dX2_run_43 (by decide) (fun c_25 => ?_) (fun c_25 => ?_)
        · have hw := wt_45 c_25
          refine x_aload_n 0 dX2_run_53 rfl ?_
          refine x_callV (ci := 2) [] 0 dX2_run_54 (k_X2_finds G g_21 hw) (GI.s g_21 (t := (12, 0)) rfl (by decide)) rfl q1521 q1523 qs79 q106 q1524 (by decide) rfl rfl ⟨(Nat.le_of_ble_eq_true rfl), (Nat.le_of_ble_eq_true rfl)⟩ (Nat.le_of_ble_eq_true rfl) ⟨(Nat.le_of_ble_eq_true rfl), (Nat.le_of_ble_eq_true rfl)⟩ (fun v9 h_26 hv9 => ?_) (fun _ _ _ _ _ z _ _ => False.elim z)
          obtain ⟨rfl, g_27, e_28, hw⟩ := hv9
          have hw := hw g_27 e_28
          show X ρ K_X2_run 57 [(0, .ref (mr ρ 25)), (1, .int p1), (2, .int p2)] [] h_26 0 0 (phI h post) psN
          refine x_aload_n 0 dX2_run_57 rfl ?_
          refine x_iload_n 1 dX2_run_58 rfl ?_
          refine x_callV (ci := 2) [.int p1] 1 dX2_run_59 (k_X2_runs G g_27 hw) (GI.s g_27 (t := (12, 0)) rfl (by decide)) rfl q1558 q1560 qs87 q106 q1561 (by decide) rfl rfl ⟨(Nat.le_of_ble_eq_true rfl), (Nat.le_of_ble_eq_true rfl)⟩ (Nat.le_of_ble_eq_true rfl) ⟨(Nat.le_of_ble_eq_true rfl), (Nat.le_of_ble_eq_true rfl)⟩ (fun v9 h_31 hv9 => ?_) (fun _ _ _ _ _ z _ _ => False.elim z)
          obtain ⟨rfl, g_32, e_33, hw⟩ := hv9
          have hw := hw g_32 e_33
          show X ρ K_X2_run 62 [(0, .ref (mr ρ 25)), (1, .int p1), (2, .int p2)] [] h_31 0 0 (phI h post) psN
          refine x_iload_n 2 dX2_run_62 rfl ?_
          have kJ_39 : ∀ z_38 : Int32, z_38 = ((if p2 = 0 then (gi h_31 25 34) else (if p2 = 1 then (gi h_31 25 35) else (gi h_31 25 37))) : Int32) → X ρ K_X2_run 89 [(0, .ref (mr ρ 25)), (1, .int p1), (2, .int p2)] [.int z_38] h_31 0 0 (phI h post) psN := fun z_38 ez_38 => by
            have hw := hw z_38 ez_38
            exact x_iret dX2_run_89 rfl (Nat.le_of_ble_eq_true rfl) (Nat.le_of_ble_eq_true rfl) ⟨_, rfl, g_32, (Ext.tr (Ext.tr (Ext.tr (Ext.tr e_3 e_16) e_22) e_28) e_33), hw⟩
          refine x_if_ne 73 dX2_run_63 (by decide) (fun c_36 => ?_) (fun c_36 => ?_)
          · refine x_iload_n 2 dX2_run_73 rfl ?_
            refine x_iconst 1 dX2_run_74 (by decide) ?_
            refine x_icmp_ne 85 dX2_run_75 (by decide) (fun c_37 => ?_) (fun c_37 => ?_)
            · refine x_aload_n 0 dX2_run_85 rfl ?_
              refine x_get (ci := 2) (v := .int (gi h_31 25 37)) 37 dX2_run_86 (GI.s g_32 (t := (12, 0)) rfl (by decide)) rfl in_X2 (by decide) q1260 (Or.inl rfl) (fv_i rfl) ?_
              exact kJ_39 _ (((if_neg c_36).trans (if_neg c_37))).symm
            · refine x_aload_n 0 dX2_run_78 rfl ?_
              refine x_get (ci := 2) (v := .int (gi h_31 25 35)) 35 dX2_run_79 (GI.s g_32 (t := (12, 0)) rfl (by decide)) rfl in_X2 (by decide) q1258 (Or.inl rfl) (fv_i rfl) ?_
              refine x_goto 89 dX2_run_82 (by decide) ?_
              exact kJ_39 _ (((if_neg c_36).trans (if_pos c_37))).symm
          · refine x_aload_n 0 dX2_run_66 rfl ?_
            refine x_get (ci := 2) (v := .int (gi h_31 25 34)) 34 dX2_run_67 (GI.s g_32 (t := (12, 0)) rfl (by decide)) rfl in_X2 (by decide) q1257 (Or.inl rfl) (fv_i rfl) ?_
            refine x_goto 89 dX2_run_70 (by decide) ?_
            exact kJ_39 _ ((if_pos c_36)).symm
        · have hw := wf_46 c_25
          refine x_aload_n 0 dX2_run_46 rfl ?_
          refine x_bipush (-3) dX2_run_47 (by decide) ?_
          refine x_callV (ci := 2) [.int (-3)] 1 dX2_run_49 (k_X2_no G g_21 hw) (GI.s g_21 (t := (12, 0)) rfl (by decide)) rfl q1387 q1389 qs59 q106 q1390 (by decide) rfl rfl ⟨(Nat.le_of_ble_eq_true rfl), (Nat.le_of_ble_eq_true rfl)⟩ (Nat.le_of_ble_eq_true rfl) ⟨(Nat.le_of_ble_eq_true rfl), (Nat.le_of_ble_eq_true rfl)⟩ (fun v9 h_40 hv9 => ?_) (fun _ _ _ _ _ z _ _ => False.elim z)
          obtain ⟨r_43, rfl, g_41, e_42, hw⟩ := hv9
          have hw := hw g_41 e_42
          show X ρ K_X2_run 52 [(0, .ref (mr ρ 25)), (1, .int p1), (2, .int p2)] [.int r_43] h_40 0 0 (phI h post) psN
          exact x_iret dX2_run_52 rfl (Nat.le_of_ble_eq_true rfl) (Nat.le_of_ble_eq_true rfl) ⟨_, rfl, g_41, (Ext.tr (Ext.tr (Ext.tr e_3 e_16) e_22) e_42), hw⟩
      · have hw := wf_53 c_19
        refine x_aload_n 0 dX2_run_32 rfl ?_
        refine x_bipush (-2) dX2_run_33 (by decide) ?_
        refine x_callV (ci := 2) [.int (-2)] 1 dX2_run_35 (k_X2_no G g_15 hw) (GI.s g_15 (t := (12, 0)) rfl (by decide)) rfl q1387 q1389 qs59 q106 q1390 (by decide) rfl rfl ⟨(Nat.le_of_ble_eq_true rfl), (Nat.le_of_ble_eq_true rfl)⟩ (Nat.le_of_ble_eq_true rfl) ⟨(Nat.le_of_ble_eq_true rfl), (Nat.le_of_ble_eq_true rfl)⟩ (fun v9 h_47 hv9 => ?_) (fun _ _ _ _ _ z _ _ => False.elim z)
        obtain ⟨r_50, rfl, g_48, e_49, hw⟩ := hv9
        have hw := hw g_48 e_49
        show X ρ K_X2_run 38 [(0, .ref (mr ρ 25)), (1, .int p1), (2, .int p2)] [.int r_50] h_47 0 0 (phI h post) psN
        exact x_iret dX2_run_38 rfl (Nat.le_of_ble_eq_true rfl) (Nat.le_of_ble_eq_true rfl) ⟨_, rfl, g_48, (Ext.tr (Ext.tr e_3 e_16) e_49), hw⟩
    · have hw := wf_60 c_13
      refine x_aload_n 0 dX2_run_17 rfl ?_
      refine x_iconst (-1) dX2_run_18 (by decide) ?_
      refine x_callV (ci := 2) [.int (-1)] 1 dX2_run_19 (k_X2_no G g_2 hw) (GI.s g_2 (t := (12, 0)) rfl (by decide)) rfl q1387 q1389 qs59 q106 q1390 (by decide) rfl rfl ⟨(Nat.le_of_ble_eq_true rfl), (Nat.le_of_ble_eq_true rfl)⟩ (Nat.le_of_ble_eq_true rfl) ⟨(Nat.le_of_ble_eq_true rfl), (Nat.le_of_ble_eq_true rfl)⟩ (fun v9 h_54 hv9 => ?_) (fun _ _ _ _ _ z _ _ => False.elim z)
      obtain ⟨r_57, rfl, g_55, e_56, hw⟩ := hv9
      have hw := hw g_55 e_56
      show X ρ K_X2_run 22 [(0, .ref (mr ρ 25)), (1, .int p1), (2, .int p2)] [.int r_57] h_54 0 0 (phI h post) psN
      exact x_iret dX2_run_22 rfl (Nat.le_of_ble_eq_true rfl) (Nat.le_of_ble_eq_true rfl) ⟨_, rfl, g_55, (Ext.tr e_3 e_56), hw⟩

/-! BeforeTheEnd.allTold(III)J -/
def w_X0_allTold_93 (post : Int64 → Hp → Prop) (z0 : Int32) (z2 : Int64) (h : Hp) : Prop := (wp_X0_refuse (fun r_4 h_1 => GI h_1 → Ext h h_1 → (post (z2 - (Int32.toInt64 r_4)) h_1)) h z0)
def w_X0_allTold_82 (post : Int64 → Hp → Prop) (z0 : Nat) (h : Hp) : Prop := (wv_X3_number_isEx (fun r_4 h_1 => GI h_1 → Ext h h_1 → (w_X0_allTold_93 post r_4 4000000000000000000 h_1)) h z0)
def w_X0_allTold_10 (post : Int64 → Hp → Prop) (x1 : Int32) (x2 : Int32) (x3 : Int32) (h : Hp) : Prop := (wp_X0_mustBePart (fun h_1 => GI h_1 → Ext h h_1 → (wp_X0_mustBeWhole (fun h_9 => GI h_9 → Ext h_1 h_9 → (wp_X0_runAll (fun h_17 => GI h_17 → Ext h_9 h_17 → (((¬ x1 = 0 → ((x1 = 1 → (vp_in x2 4)))) ∧ (x1 = 0 → (vp_in x2 4))) ∧ (∀ z_27 : Int64, z_27 = ((if x1 = 0 then (gl h_17 20 (Int32.toNatClampNeg x2)) else (if x1 = 1 then (gl h_17 21 (Int32.toNatClampNeg x2)) else (if x1 = 2 then (gl h_17 1 24) else (gl h_17 1 25)))) : Int64) → (wp_X1_units (fun r_31 h_28 => GI h_28 → Ext h_17 h_28 → (wp_X0_partTold (fun r_36 h_33 => GI h_33 → Ext h_28 h_33 → (post r_36 h_33)) h_28 z_27 r_31 x3)) h_17 (gr h_17 1 1) 0)))) h_9)) (fun q_14 h_9x => GI h_9x → Ext h_1 h_9x → (isEx h_9x q_14 ∧ (w_X0_allTold_82 post q_14 h_9x))) h_1)) (fun q_6 h_1x => GI h_1x → Ext h h_1x → (isEx h_1x q_6 ∧ (w_X0_allTold_82 post q_6 h_1x))) h x3)
def wp_X0_allTold (post : Int64 → Hp → Prop) (h : Hp) (p1 : Int32) (p2 : Int32) (p3 : Int32) : Prop := ((2 ≤ p1 → (w_X0_allTold_10 post p1 p2 p3 h)) ∧ (¬ 2 ≤ p1 → (wp_X0_mustBePlayer (fun h_2 => GI h_2 → Ext h h_2 → (w_X0_allTold_10 post p1 p2 p3 h_2)) (fun q_7 h_2x => GI h_2x → Ext h h_2x → (isEx h_2x q_7 ∧ (w_X0_allTold_82 post q_7 h_2x))) h p2)))
abbrev rm_X0_allTold : Room := ({ frames := 13, cells := 3, slots := 21, locals := 360 })
abbrev K_X0_allTold : Kx := ("BeforeTheEnd", cX0_allTold, 6, (Option.some Jvm.ClassFile.FieldType.long), rm_X0_allTold, [(0, 81, 82, 343)], false)
set_option maxHeartbeats 4000000 in
theorem t_X0_allTold_93 {ρ : Rho} {h0 : Hp} {post : Int64 → Hp → Prop} (G : G0 ρ) :
    ∀ (z0 : Int32) (z2 : Int64) (h : Hp), GI h → Ext h0 h → w_X0_allTold_93 post z0 z2 h → X ρ K_X0_allTold 93 [] [.int z0, .ref (mr ρ 1), .long z2] h 3 21 (phL h0 post) psN := by
  intro z0 z2 h g e hw
  refine x_callV (ci := 0) [.int z0] 1 dX0_allTold_93 (k_X0_refuse G g hw) (GI.s g (t := (10, 0)) rfl (by decide)) rfl q375 q377 qs2 q104 q378 (by decide) rfl rfl ⟨(Nat.le_of_ble_eq_true rfl), (Nat.le_of_ble_eq_true rfl)⟩ (Nat.le_of_ble_eq_true rfl) ⟨(Nat.le_of_ble_eq_true rfl), (Nat.le_of_ble_eq_true rfl)⟩ (fun v9 h_1 hv9 => ?_) (fun _ _ _ _ _ z _ _ => False.elim z)
  obtain ⟨r_4, rfl, g_2, e_3, hw⟩ := hv9
  have hw := hw g_2 e_3
  show X ρ K_X0_allTold 96 [] [.int r_4, .long z2] h_1 3 21 (phL h0 post) psN
  refine x_i2l dX0_allTold_96 ?_
  refine x_lsub dX0_allTold_97 ?_
  exact x_lret dX0_allTold_98 rfl (Nat.le_of_ble_eq_true rfl) (Nat.le_of_ble_eq_true rfl) ⟨_, rfl, g_2, (Ext.tr e e_3), hw⟩
set_option maxHeartbeats 4000000 in
theorem t_X0_allTold_82 {ρ : Rho} {h0 : Hp} {post : Int64 → Hp → Prop} (G : G0 ρ) :
    ∀ (z0 : Nat) (h : Hp), GI h → Ext h0 h → isEx h z0 → w_X0_allTold_82 post z0 h → X ρ K_X0_allTold 82 [(0, .ref (mr ρ 1))] [.ref (mr ρ z0)] h 3 21 (phL h0 post) psN := by
  intro z0 h g e fz0 hw
  refine x_astore (lv' := [(4, .ref (mr ρ z0)), (0, .ref (mr ρ 1))]) dX0_allTold_82 (Nat.le_of_ble_eq_true rfl) rfl ?_
  refine x_ldc2 dX0_allTold_84 q1093 ?_
  refine x_aload_n 1 dX0_allTold_87 rfl ?_
  refine x_aload 0 dX0_allTold_88 rfl ?_
  have kk_8 : ∀ (v9 : Option Value) (h_1 : Hp), (phI h (fun r_4 h_1 => GI h_1 → Ext h h_1 → (w_X0_allTold_93 post r_4 4000000000000000000 h_1))) v9 h_1 → X ρ K_X0_allTold 93 [(4, .ref (mr ρ z0)), (0, .ref (mr ρ 1))] (v9.toList ++ [.ref (mr ρ 1), .long 4000000000000000000]) h_1 3 21 (phL h0 post) psN := by
    intro v9 h_1 hv9
    obtain ⟨r_4, rfl, g_2, e_3, hw⟩ := hv9
    have hw := hw g_2 e_3
    show X ρ K_X0_allTold 93 [(4, .ref (mr ρ z0)), (0, .ref (mr ρ 1))] [.int r_4, .ref (mr ρ 1), .long 4000000000000000000] h_1 3 21 (phL h0 post) psN
    refine X.sub [] rfl ?_
    exact t_X0_allTold_93 G  r_4 4000000000000000000 h_1 g_2 (Ext.tr e e_3) hw
  obtain ⟨wc_6, wc_7⟩ := hw
  rcases fz0 with fc9 | fc9
  · exact x_callA (ci := 3) (x0 := ⟨"BeforeTheEnd$Refusal", "number", "()I"⟩) (owner := "BeforeTheEnd$Refusal") [] 0 dX0_allTold_90 (k_X4_number_c3 G g fc9 (wc_6 fc9)) fc9 rfl (lw_U q366 q368 q372 q373 q111 q374) q367 (by decide) rfl rfl ⟨(Nat.le_of_ble_eq_true rfl), (Nat.le_of_ble_eq_true rfl)⟩ (Nat.le_of_ble_eq_true rfl) ⟨(Nat.le_of_ble_eq_true rfl), (Nat.le_of_ble_eq_true rfl)⟩ kk_8 (fun _ _ _ _ _ z _ _ => False.elim z)
  · exact x_callA (ci := 5) (x0 := ⟨"BeforeTheEnd$Refusal", "number", "()I"⟩) (owner := "BeforeTheEnd$Refusal") [] 0 dX0_allTold_90 (k_X6_number_c5 G g fc9 (wc_7 fc9)) fc9 rfl (lw_U q366 q368 q369 q370 q113 q371) q367 (by decide) rfl rfl ⟨(Nat.le_of_ble_eq_true rfl), (Nat.le_of_ble_eq_true rfl)⟩ (Nat.le_of_ble_eq_true rfl) ⟨(Nat.le_of_ble_eq_true rfl), (Nat.le_of_ble_eq_true rfl)⟩ kk_8 (fun _ _ _ _ _ z _ _ => False.elim z)
set_option maxHeartbeats 4000000 in
theorem t_X0_allTold_10 {ρ : Rho} {h0 : Hp} {post : Int64 → Hp → Prop} (G : G0 ρ) :
    ∀ (x1 : Int32) (x2 : Int32) (x3 : Int32) (h : Hp), GI h → Ext h0 h → w_X0_allTold_10 post x1 x2 x3 h → X ρ K_X0_allTold 10 [(0, .ref (mr ρ 1)), (1, .int x1), (2, .int x2), (3, .int x3)] [] h 1 7 (phL h0 post) psN := by
  intro x1 x2 x3 h g e hw
  refine x_iload_n 3 dX0_allTold_10 rfl ?_
  refine x_callS [.int x3] 1 dX0_allTold_11 (k_X0_mustBePart G g hw) q1083 q1084 q104 q1085 (by decide) rfl rfl ⟨(Nat.le_of_ble_eq_true rfl), (Nat.le_of_ble_eq_true rfl)⟩ (Nat.le_of_ble_eq_true rfl) ⟨(Nat.le_of_ble_eq_true rfl), (Nat.le_of_ble_eq_true rfl)⟩ (fun v9 h_1 hv9 => ?_) (fun q_6 h_1x ci9 n9 x9 hx9 hs9 hc9 => ?_)
  · obtain ⟨rfl, g_2, e_3, hw⟩ := hv9
    have hw := hw g_2 e_3
    show X ρ K_X0_allTold 14 [(0, .ref (mr ρ 1)), (1, .int x1), (2, .int x2), (3, .int x3)] [] h_1 2 14 (phL h0 post) psN
    refine x_aload_n 0 dX0_allTold_14 rfl ?_
    refine x_callV (ci := 0) [] 0 dX0_allTold_15 (k_X0_mustBeWhole G g_2 hw) (GI.s g_2 (t := (10, 0)) rfl (by decide)) rfl q801 q803 qs18 q104 q804 (by decide) rfl rfl ⟨(Nat.le_of_ble_eq_true rfl), (Nat.le_of_ble_eq_true rfl)⟩ (Nat.le_of_ble_eq_true rfl) ⟨(Nat.le_of_ble_eq_true rfl), (Nat.le_of_ble_eq_true rfl)⟩ (fun v9 h_9 hv9 => ?_) (fun q_14 h_9x ci9 n9 x9 hx9 hs9 hc9 => ?_)
    · obtain ⟨rfl, g_10, e_11, hw⟩ := hv9
      have hw := hw g_10 e_11
      show X ρ K_X0_allTold 18 [(0, .ref (mr ρ 1)), (1, .int x1), (2, .int x2), (3, .int x3)] [] h_9 3 21 (phL h0 post) psN
      refine x_aload_n 0 dX0_allTold_18 rfl ?_
      refine x_callV (ci := 0) [] 0 dX0_allTold_19 (k_X0_runAll G g_10 hw) (GI.s g_10 (t := (10, 0)) rfl (by decide)) rfl q941 q943 qs33 q104 q944 (by decide) rfl rfl ⟨(Nat.le_of_ble_eq_true rfl), (Nat.le_of_ble_eq_true rfl)⟩ (Nat.le_of_ble_eq_true rfl) ⟨(Nat.le_of_ble_eq_true rfl), (Nat.le_of_ble_eq_true rfl)⟩ (fun v9 h_17 hv9 => ?_) (fun _ _ _ _ _ z _ _ => False.elim z)
      obtain ⟨rfl, g_18, e_19, hw⟩ := hv9
      have hw := hw g_18 e_19
      show X ρ K_X0_allTold 22 [(0, .ref (mr ρ 1)), (1, .int x1), (2, .int x2), (3, .int x3)] [] h_17 3 21 (phL h0 post) psN
      refine x_iload_n 1 dX0_allTold_22 rfl ?_
      obtain ⟨hO_39, hw⟩ := hw
      have kJ_38 : ∀ z_27 : Int64, z_27 = ((if x1 = 0 then (gl h_17 20 (Int32.toNatClampNeg x2)) else (if x1 = 1 then (gl h_17 21 (Int32.toNatClampNeg x2)) else (if x1 = 2 then (gl h_17 1 24) else (gl h_17 1 25)))) : Int64) → X ρ K_X0_allTold 65 [(0, .ref (mr ρ 1)), (1, .int x1), (2, .int x2), (3, .int x3)] [.long z_27] h_17 3 21 (phL h0 post) psN := fun z_27 ez_27 => by
        have hw := hw z_27 ez_27
        refine x_lstore (lv' := [(4, .long z_27), (0, .ref (mr ρ 1)), (1, .int x1), (2, .int x2), (3, .int x3)]) dX0_allTold_65 (Nat.le_of_ble_eq_true rfl) rfl ?_
        refine x_lload 0 dX0_allTold_67 rfl ?_
        refine x_aload_n 1 dX0_allTold_69 rfl ?_
        refine x_get (ci := 0) (v := .ref (mr ρ (gr h_17 1 1))) 1 dX0_allTold_70 (GI.s g_18 (t := (10, 0)) rfl (by decide)) rfl in_X0 (by decide) q188 (Or.inl rfl) (fv_rc rfl rfl (isTree.nz (GI.t g_18) (GI.live g_18))) ?_
        refine x_iconst 0 dX0_allTold_73 (by decide) ?_
        refine x_callV (ci := 1) [.int 0] 1 dX0_allTold_74 (k_X1_units G g_18 (GI.t g_18) hw) (isTree.s (GI.t g_18)) rfl q872 q873 q874 q105 q875 (by decide) rfl rfl ⟨(Nat.le_of_ble_eq_true rfl), (Nat.le_of_ble_eq_true rfl)⟩ (Nat.le_of_ble_eq_true rfl) ⟨(Nat.le_of_ble_eq_true rfl), (Nat.le_of_ble_eq_true rfl)⟩ (fun v9 h_28 hv9 => ?_) (fun _ _ _ _ _ z _ _ => False.elim z)
        obtain ⟨r_31, rfl, g_29, e_30, hw⟩ := hv9
        have hw := hw g_29 e_30
        show X ρ K_X0_allTold 77 [(4, .long z_27), (0, .ref (mr ρ 1)), (1, .int x1), (2, .int x2), (3, .int x3)] [.long r_31, .long z_27] h_28 3 21 (phL h0 post) psN
        refine x_iload_n 4 dX0_allTold_77 rfl ?_
        refine x_callS [.long z_27, .long r_31, .int x3] 3 dX0_allTold_78 (k_X0_partTold G g_29 hw) q1086 q1087 q104 q1088 (by decide) rfl rfl ⟨(Nat.le_of_ble_eq_true rfl), (Nat.le_of_ble_eq_true rfl)⟩ (Nat.le_of_ble_eq_true rfl) ⟨(Nat.le_of_ble_eq_true rfl), (Nat.le_of_ble_eq_true rfl)⟩ (fun v9 h_33 hv9 => ?_) (fun _ _ _ _ _ z _ _ => False.elim z)
        obtain ⟨r_36, rfl, g_34, e_35, hw⟩ := hv9
        have hw := hw g_34 e_35
        show X ρ K_X0_allTold 81 [(4, .long z_27), (0, .ref (mr ρ 1)), (1, .int x1), (2, .int x2), (3, .int x3)] [.long r_36] h_33 3 21 (phL h0 post) psN
        exact x_lret dX0_allTold_81 rfl (Nat.le_of_ble_eq_true rfl) (Nat.le_of_ble_eq_true rfl) ⟨_, rfl, g_34, (Ext.tr (Ext.tr (Ext.tr (Ext.tr (Ext.tr e e_3) e_11) e_19) e_30) e_35), hw⟩
      obtain ⟨hO_390, hO_391⟩ := hO_39
      refine x_if_ne 35 dX0_allTold_23 (by decide) (fun c_22 => ?_) (fun c_22 => ?_)
      · have hO_39_ := hO_390 c_22
        have hO_39_0 := hO_39_
        refine x_iload_n 1 dX0_allTold_35 rfl ?_
        refine x_iconst 1 dX0_allTold_36 (by decide) ?_
        refine x_icmp_ne 49 dX0_allTold_37 (by decide) (fun c_23 => ?_) (fun c_23 => ?_)
        · refine x_iload_n 1 dX0_allTold_49 rfl ?_
          refine x_iconst 2 dX0_allTold_50 (by decide) ?_
          refine x_icmp_ne 61 dX0_allTold_51 (by decide) (fun c_24 => ?_) (fun c_24 => ?_)
          · refine x_aload_n 0 dX0_allTold_61 rfl ?_
            refine x_get (ci := 0) (v := .long (gl h_17 1 25)) 25 dX0_allTold_62 (GI.s g_18 (t := (10, 0)) rfl (by decide)) rfl in_X0 (by decide) q214 (Or.inl rfl) (fv_l rfl) ?_
            exact kJ_38 _ (((if_neg c_22).trans ((if_neg c_23).trans (if_neg c_24)))).symm
          · refine x_aload_n 0 dX0_allTold_54 rfl ?_
            refine x_get (ci := 0) (v := .long (gl h_17 1 24)) 24 dX0_allTold_55 (GI.s g_18 (t := (10, 0)) rfl (by decide)) rfl in_X0 (by decide) q213 (Or.inl rfl) (fv_l rfl) ?_
            refine x_goto 65 dX0_allTold_58 (by decide) ?_
            exact kJ_38 _ (((if_neg c_22).trans ((if_neg c_23).trans (if_pos c_24)))).symm
        · have hO_39__ := hO_39_0 c_23
          have b_25 := hO_39__
          refine x_aload_n 0 dX0_allTold_40 rfl ?_
          refine x_get (ci := 0) (v := .ref (mr ρ 21)) 23 dX0_allTold_41 (GI.s g_18 (t := (10, 0)) rfl (by decide)) rfl in_X0 (by decide) q212 (Or.inl rfl) (fv_rc rfl (GI.x g_18 (n := 21) rfl (by decide)) (by decide)) ?_
          refine x_iload_n 2 dX0_allTold_44 rfl ?_
          refine x_lald (n := 4) (j := (Int32.toNatClampNeg x2)) dX0_allTold_45 rfl (GI.s g_18 (t := (2, 4)) rfl (by decide)) b_25 ?_
          refine x_goto 65 dX0_allTold_46 (by decide) ?_
          exact kJ_38 _ (((if_neg c_22).trans (if_pos c_23))).symm
      · have hO_39_ := hO_391 c_22
        have b_26 := hO_39_
        refine x_aload_n 0 dX0_allTold_26 rfl ?_
        refine x_get (ci := 0) (v := .ref (mr ρ 20)) 22 dX0_allTold_27 (GI.s g_18 (t := (10, 0)) rfl (by decide)) rfl in_X0 (by decide) q211 (Or.inl rfl) (fv_rc rfl (GI.x g_18 (n := 20) rfl (by decide)) (by decide)) ?_
        refine x_iload_n 2 dX0_allTold_30 rfl ?_
        refine x_lald (n := 4) (j := (Int32.toNatClampNeg x2)) dX0_allTold_31 rfl (GI.s g_18 (t := (2, 4)) rfl (by decide)) b_26 ?_
        refine x_goto 65 dX0_allTold_32 (by decide) ?_
        exact kJ_38 _ ((if_pos c_22)).symm
    · obtain ⟨g_15, e_16, hw⟩ := hx9
      have hw := hw g_15 e_16
      obtain ⟨hE8, hw⟩ := hw
      have kH9 : X ρ K_X0_allTold 82 [(0, .ref (mr ρ 1)), (1, .int x1), (2, .int x2), (3, .int x3)] [.ref (mr ρ q_14)] h_9x 3 21 (phL h0 post) psN := by
        have hE9 := hE8
        refine X.sub [0] rfl ?_
        exact t_X0_allTold_82 G  q_14 h_9x g_15 (Ext.tr (Ext.tr e e_3) e_16) hE9 hw
      rcases hE8 with hE9 | hE9
      · refine xt_catch 0 81 82 343 hE9 (ci := 3) (x := (RX4, T3n, 2)) rfl rfl (by decide) (by decide) q289 q1726 ?_
        exact kH9
      · refine xt_catch 0 81 82 343 hE9 (ci := 5) (x := (RX6, T5n, 2)) rfl rfl (by decide) (by decide) q289 q1725 ?_
        exact kH9
  · obtain ⟨g_7, e_8, hw⟩ := hx9
    have hw := hw g_7 e_8
    obtain ⟨hE8, hw⟩ := hw
    have kH9 : X ρ K_X0_allTold 82 [(0, .ref (mr ρ 1)), (1, .int x1), (2, .int x2), (3, .int x3)] [.ref (mr ρ q_6)] h_1x 2 14 (phL h0 post) psN := by
      have hE9 := hE8
      refine X.widen (k := 3) (n := 21) (Nat.le_of_ble_eq_true rfl) (Nat.le_of_ble_eq_true rfl) ?_
      refine X.sub [0] rfl ?_
      exact t_X0_allTold_82 G  q_6 h_1x g_7 (Ext.tr e e_8) hE9 hw
    rcases hE8 with hE9 | hE9
    · refine xt_catch 0 81 82 343 hE9 (ci := 3) (x := (RX4, T3n, 2)) rfl rfl (by decide) (by decide) q289 q1726 ?_
      exact kH9
    · refine xt_catch 0 81 82 343 hE9 (ci := 5) (x := (RX6, T5n, 2)) rfl rfl (by decide) (by decide) q289 q1725 ?_
      exact kH9
set_option maxHeartbeats 4000000 in
theorem k_X0_allTold {ρ : Rho} {h : Hp} {post : Int64 → Hp → Prop} {p1 : Int32} {p2 : Int32} {p3 : Int32} (G : G0 ρ) (g : GI h) (hw : wp_X0_allTold post h p1 p2 p3) : Con ρ yX0_allTold (wsW_ yX0_allTold cX0_allTold 6 (Option.some Jvm.ClassFile.FieldType.long) [(0, 81, 82, 343)]) rm_X0_allTold [.ref (mr ρ 1), .int p1, .int p2, .int p3] h (phL h post) psN := by
  refine con_ofH (own := "BeforeTheEnd") (l0 := [(0, .ref (mr ρ 1)), (1, .int p1), (2, .int p2), (3, .int p3)]) (by decide) rfl q1121 (Nat.le_of_ble_eq_true rfl) rfl (fun _ => ?_)
  show X ρ K_X0_allTold 0 [(0, .ref (mr ρ 1)), (1, .int p1), (2, .int p2), (3, .int p3)] [] h 0 0 (phL h post) psN
  refine x_iload_n 1 dX0_allTold_0 rfl ?_
  refine x_iconst 2 dX0_allTold_1 (by decide) ?_
  obtain ⟨wt_10, wf_11⟩ := hw
  refine x_icmp_ge 10 dX0_allTold_2 (by decide) (fun c_1 => ?_) (fun c_1 => ?_)
  · have hw := wt_10 c_1
    refine X.widen (k := 1) (n := 7) (Nat.le_of_ble_eq_true rfl) (Nat.le_of_ble_eq_true rfl) ?_
    exact t_X0_allTold_10 G  p1 p2 p3 h g Ext.rf hw
  · have hw := wf_11 c_1
    refine x_aload_n 0 dX0_allTold_5 rfl ?_
    refine x_iload_n 2 dX0_allTold_6 rfl ?_
    refine x_callV (ci := 0) [.int p2] 1 dX0_allTold_7 (k_X0_mustBePlayer G g hw) (GI.s g (t := (10, 0)) rfl (by decide)) rfl q751 q753 qs17 q104 q754 (by decide) rfl rfl ⟨(Nat.le_of_ble_eq_true rfl), (Nat.le_of_ble_eq_true rfl)⟩ (Nat.le_of_ble_eq_true rfl) ⟨(Nat.le_of_ble_eq_true rfl), (Nat.le_of_ble_eq_true rfl)⟩ (fun v9 h_2 hv9 => ?_) (fun q_7 h_2x ci9 n9 x9 hx9 hs9 hc9 => ?_)
    · obtain ⟨rfl, g_3, e_4, hw⟩ := hv9
      have hw := hw g_3 e_4
      show X ρ K_X0_allTold 10 [(0, .ref (mr ρ 1)), (1, .int p1), (2, .int p2), (3, .int p3)] [] h_2 1 7 (phL h post) psN
      exact t_X0_allTold_10 G  p1 p2 p3 h_2 g_3 e_4 hw
    · obtain ⟨g_8, e_9, hw⟩ := hx9
      have hw := hw g_8 e_9
      obtain ⟨hE8, hw⟩ := hw
      have kH9 : X ρ K_X0_allTold 82 [(0, .ref (mr ρ 1)), (1, .int p1), (2, .int p2), (3, .int p3)] [.ref (mr ρ q_7)] h_2x 1 7 (phL h post) psN := by
        have hE9 := hE8
        refine X.widen (k := 3) (n := 21) (Nat.le_of_ble_eq_true rfl) (Nat.le_of_ble_eq_true rfl) ?_
        refine X.sub [0] rfl ?_
        exact t_X0_allTold_82 G  q_7 h_2x g_8 e_9 hE9 hw
      rcases hE8 with hE9 | hE9
      · refine xt_catch 0 81 82 343 hE9 (ci := 3) (x := (RX4, T3n, 2)) rfl rfl (by decide) (by decide) q289 q1726 ?_
        exact kH9
      · refine xt_catch 0 81 82 343 hE9 (ci := 5) (x := (RX6, T5n, 2)) rfl rfl (by decide) (by decide) q289 q1725 ?_
        exact kH9
