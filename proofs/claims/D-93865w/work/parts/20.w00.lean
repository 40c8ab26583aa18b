/-! THE WALK, printed by wip/D-93865w/gen/main.py -/
set_option maxRecDepth 100000
/-! BeforeTheEnd$Tree.<init>()V -/
def wp_X1_init (post : Hp → Prop) (h : Hp) (r0 : Nat) : Prop := (∀ h_1 : Hp, h_1 = (al (sr (al (sr (al (si h r0 0 1) (1, 24)) r0 1 (sz (si h r0 0 1) + 1)) (1, 24)) r0 2 (sz (sr (al (si h r0 0 1) (1, 24)) r0 1 (sz (si h r0 0 1) + 1)) + 1)) (1, 24)) → (∀ h_5 : Hp, h_5 = (sr h_1 r0 3 (sz (sr (al (sr (al (si h r0 0 1) (1, 24)) r0 1 (sz (si h r0 0 1) + 1)) (1, 24)) r0 2 (sz (sr (al (si h r0 0 1) (1, 24)) r0 1 (sz (si h r0 0 1) + 1)) + 1)) + 1)) → (∀ h_8 : Hp, h_8 = (sr (al (sr (al (sr (al h_5 (1, 24)) r0 4 (sz h_5 + 1)) (1, 24)) r0 5 (sz (sr (al h_5 (1, 24)) r0 4 (sz h_5 + 1)) + 1)) (2, 24)) r0 6 (sz (sr (al (sr (al h_5 (1, 24)) r0 4 (sz h_5 + 1)) (1, 24)) r0 5 (sz (sr (al h_5 (1, 24)) r0 4 (sz h_5 + 1)) + 1)) + 1)) → (post (sr (al h_8 (2, 240)) r0 7 (sz h_8 + 1))))))
abbrev rm_X1_init : Room := ({ frames := 1, cells := 7, slots := 384, locals := 60 })
abbrev K_X1_init : Kx := ("BeforeTheEnd$Tree", cX1_init, 1, (Option.none : Option Jvm.ClassFile.FieldType), rm_X1_init, [], true)
set_option maxHeartbeats 4000000 in
theorem k_X1_init {ρ : Rho} {h : Hp} {post : Hp → Prop} {r0 : Nat} (G : G0 ρ) (L : Live h) (fr0 : sh h r0 = (11, 0)) (hw : wp_X1_init post h r0) : Con ρ yX1_init (ws_ yX1_init cX1_init 1 (Option.none : Option Jvm.ClassFile.FieldType)) rm_X1_init [.ref (mr ρ r0)] h (phW post) psN := by
  refine con_of (own := "BeforeTheEnd$Tree") (isI := true) (l0 := [(0, .ref (mr ρ r0))]) (by decide) rfl (fun _ => rfl) (Nat.le_of_ble_eq_true rfl) rfl (fun _ => ?_)
  show X ρ K_X1_init 0 [(0, .ref (mr ρ r0))] [] h 0 0 (phW post) psN
  refine x_aload_n 0 dX1_init_0 rfl ?_
  refine x_objInit dX1_init_1 q144 q137 q138 (Nat.le_of_ble_eq_true rfl) (Nat.le_of_ble_eq_true rfl) ?_
  refine x_aload_n 0 dX1_init_4 rfl ?_
  refine x_iconst 1 dX1_init_5 (by decide) ?_
  refine x_put (ci := 1) 0 dX1_init_6 fr0 rfl in_X1 tyX1 tyX1_ok nmX1 (by decide) q145 (Or.inl rfl) rfl rfl rfl (isPut_i rfl) ?_
  refine x_aload_n 0 dX1_init_9 rfl ?_
  refine x_bipush 24 dX1_init_10 (by decide) ?_
  refine x_newa 1 24 dX1_init_12 rfl (by decide) (by decide) q180 (by decide) (by decide) (Nat.le_of_ble_eq_true rfl) (Nat.le_of_ble_eq_true rfl) (Nat.le_of_ble_eq_true rfl) ?_
  refine x_putF (ci := 1) 1 dX1_init_14 (sh_al (Live.i L) fr0 (by decide)) rfl in_X1 tyX1 tyX1_ok nmX1 (by decide) q148 rfl rfl rfl rfl rfl rfl (isPut_rn rfl (Nat.succ_ne_zero _)) ?_
  refine x_aload_n 0 dX1_init_17 rfl ?_
  refine x_bipush 24 dX1_init_18 (by decide) ?_
  refine x_newa 1 24 dX1_init_20 rfl (by decide) (by decide) q180 (by decide) (by decide) (Nat.le_of_ble_eq_true rfl) (Nat.le_of_ble_eq_true rfl) (Nat.le_of_ble_eq_true rfl) ?_
  refine x_putF (ci := 1) 2 dX1_init_22 (sh_al (Live.r (Live.w (Live.i L))) (sh_al (Live.i L) fr0 (by decide)) (by decide)) rfl in_X1 tyX1 tyX1_ok nmX1 (by decide) q150 rfl rfl rfl rfl rfl rfl (isPut_rn rfl (Nat.succ_ne_zero _)) ?_
  refine x_aload_n 0 dX1_init_25 rfl ?_
  refine x_bipush 24 dX1_init_26 (by decide) ?_
  refine x_newa 1 24 dX1_init_28 rfl (by decide) (by decide) q180 (by decide) (by decide) (Nat.le_of_ble_eq_true rfl) (Nat.le_of_ble_eq_true rfl) (Nat.le_of_ble_eq_true rfl) ?_
  refine x_nmh (fun h_1 eh_1 => ?_)
  have hw := hw h_1 eh_1
  have L_2 : Live h_1 := eh_1 ▸ (Live.w (Live.r (Live.w (Live.r (Live.w (Live.i L))))))
  have f_3 : sh h_1 r0 = (11, 0) := eh_1 ▸ (sh_al (Live.r (Live.w (Live.r (Live.w (Live.i L))))) (sh_al (Live.r (Live.w (Live.i L))) (sh_al (Live.i L) fr0 (by decide)) (by decide)) (by decide))
  have f_4 : sh h_1 (sz (sr (al (sr (al (si h r0 0 1) (1, 24)) r0 1 (sz (si h r0 0 1) + 1)) (1, 24)) r0 2 (sz (sr (al (si h r0 0 1) (1, 24)) r0 1 (sz (si h r0 0 1) + 1)) + 1)) + 1) = (1, 24) := eh_1 ▸ sh_new
  refine x_putF (ci := 1) 3 dX1_init_30 f_3 rfl in_X1 tyX1 tyX1_ok nmX1 (by decide) q152 rfl rfl rfl rfl rfl rfl (isPut_rn rfl (Nat.succ_ne_zero _)) ?_
  refine x_nmh (fun h_5 eh_5 => ?_)
  have hw := hw h_5 eh_5
  have L_6 : Live h_5 := eh_5 ▸ (Live.r L_2)
  have f_7 : sh h_5 r0 = (11, 0) := eh_5 ▸ f_3
  refine x_aload_n 0 dX1_init_33 rfl ?_
  refine x_bipush 24 dX1_init_34 (by decide) ?_
  refine x_newa 1 24 dX1_init_36 rfl (by decide) (by decide) q180 (by decide) (by decide) (Nat.le_of_ble_eq_true rfl) (Nat.le_of_ble_eq_true rfl) (Nat.le_of_ble_eq_true rfl) ?_
  refine x_putF (ci := 1) 4 dX1_init_38 (sh_al L_6 f_7 (by decide)) rfl in_X1 tyX1 tyX1_ok nmX1 (by decide) q154 rfl rfl rfl rfl rfl rfl (isPut_rn rfl (Nat.succ_ne_zero _)) ?_
  refine x_aload_n 0 dX1_init_41 rfl ?_
  refine x_bipush 24 dX1_init_42 (by decide) ?_
  refine x_newa 1 24 dX1_init_44 rfl (by decide) (by decide) q180 (by decide) (by decide) (Nat.le_of_ble_eq_true rfl) (Nat.le_of_ble_eq_true rfl) (Nat.le_of_ble_eq_true rfl) ?_
  refine x_putF (ci := 1) 5 dX1_init_46 (sh_al (Live.r (Live.w L_6)) (sh_al L_6 f_7 (by decide)) (by decide)) rfl in_X1 tyX1 tyX1_ok nmX1 (by decide) q156 rfl rfl rfl rfl rfl rfl (isPut_rn rfl (Nat.succ_ne_zero _)) ?_
  refine x_aload_n 0 dX1_init_49 rfl ?_
  refine x_bipush 24 dX1_init_50 (by decide) ?_
  refine x_newa 2 24 dX1_init_52 rfl (by decide) (by decide) q181 (by decide) (by decide) (Nat.le_of_ble_eq_true rfl) (Nat.le_of_ble_eq_true rfl) (Nat.le_of_ble_eq_true rfl) ?_
  refine x_putF (ci := 1) 6 dX1_init_54 (sh_al (Live.r (Live.w (Live.r (Live.w L_6)))) (sh_al (Live.r (Live.w L_6)) (sh_al L_6 f_7 (by decide)) (by decide)) (by decide)) rfl in_X1 tyX1 tyX1_ok nmX1 (by decide) q158 rfl rfl rfl rfl rfl rfl (isPut_rn rfl (Nat.succ_ne_zero _)) ?_
  refine x_nmh (fun h_8 eh_8 => ?_)
  have hw := hw h_8 eh_8
  have L_9 : Live h_8 := eh_8 ▸ (Live.r (Live.w (Live.r (Live.w (Live.r (Live.w L_6))))))
  have f_10 : sh h_8 r0 = (11, 0) := eh_8 ▸ (sh_al (Live.r (Live.w (Live.r (Live.w L_6)))) (sh_al (Live.r (Live.w L_6)) (sh_al L_6 f_7 (by decide)) (by decide)) (by decide))
  refine x_aload_n 0 dX1_init_57 rfl ?_
  refine x_sipush 240 dX1_init_58 (by decide) ?_
  refine x_newa 2 240 dX1_init_61 rfl (by decide) (by decide) q181 (by decide) (by decide) (Nat.le_of_ble_eq_true rfl) (Nat.le_of_ble_eq_true rfl) (Nat.le_of_ble_eq_true rfl) ?_
  refine x_putF (ci := 1) 7 dX1_init_63 (sh_al L_9 f_10 (by decide)) rfl in_X1 tyX1 tyX1_ok nmX1 (by decide) q159 rfl rfl rfl rfl rfl rfl (isPut_rn rfl (Nat.succ_ne_zero _)) ?_
  exact x_vret dX1_init_66 rfl (Nat.le_of_ble_eq_true rfl) (Nat.le_of_ble_eq_true rfl) ⟨rfl, hw⟩

/-! BeforeTheEnd.<init>()V -/
def wp_X0_init (post : Hp → Prop) (h : Hp) (r0 : Nat) : Prop := (wp_X1_init (fun h_1 => (Live h_1 ∧ Ext (al h (11, 0)) h_1 ∧ isTree h_1 (sz h + 1) ∧ (∀ h_8 : Hp, h_8 = (si (al (sr (al (sr h_1 r0 1 (sz h + 1)) (5, 4)) r0 2 (sz (sr h_1 r0 1 (sz h + 1)) + 1)) (1, 4)) (sz (sr (al (sr h_1 r0 1 (sz h + 1)) (5, 4)) r0 2 (sz (sr h_1 r0 1 (sz h + 1)) + 1)) + 1) 0 10) → (∀ h_12 : Hp, h_12 = (si (si h_8 (sz (sr (al (sr h_1 r0 1 (sz h + 1)) (5, 4)) r0 2 (sz (sr h_1 r0 1 (sz h + 1)) + 1)) + 1) 1 5) (sz (sr (al (sr h_1 r0 1 (sz h + 1)) (5, 4)) r0 2 (sz (sr h_1 r0 1 (sz h + 1)) + 1)) + 1) 2 0) → (∀ h_16 : Hp, h_16 = (sr (si h_12 (sz (sr (al (sr h_1 r0 1 (sz h + 1)) (5, 4)) r0 2 (sz (sr h_1 r0 1 (sz h + 1)) + 1)) + 1) 3 1) r0 4 (sz (sr (al (sr h_1 r0 1 (sz h + 1)) (5, 4)) r0 2 (sz (sr h_1 r0 1 (sz h + 1)) + 1)) + 1)) → (∀ h_19 : Hp, h_19 = (sr (al (sr (al (sr (al h_16 (1, 5)) r0 5 (sz h_16 + 1)) (5, 4)) r0 8 (sz (sr (al h_16 (1, 5)) r0 5 (sz h_16 + 1)) + 1)) (1, 10)) r0 10 (sz (sr (al (sr (al h_16 (1, 5)) r0 5 (sz h_16 + 1)) (5, 4)) r0 8 (sz (sr (al h_16 (1, 5)) r0 5 (sz h_16 + 1)) + 1)) + 1)) → (∀ h_22 : Hp, h_22 = (sr (al (sr (al (sr (al h_19 (3, 20)) r0 11 (sz h_19 + 1)) (3, 64)) r0 13 (sz (sr (al h_19 (3, 20)) r0 11 (sz h_19 + 1)) + 1)) (1, 7)) r0 15 (sz (sr (al (sr (al h_19 (3, 20)) r0 11 (sz h_19 + 1)) (3, 64)) r0 13 (sz (sr (al h_19 (3, 20)) r0 11 (sz h_19 + 1)) + 1)) + 1)) → (∀ h_25 : Hp, h_25 = (sr (al (sr (al (sr (al h_22 (1, 4)) r0 20 (sz h_22 + 1)) (4, 4)) r0 21 (sz (sr (al h_22 (1, 4)) r0 20 (sz h_22 + 1)) + 1)) (2, 4)) r0 22 (sz (sr (al (sr (al h_22 (1, 4)) r0 20 (sz h_22 + 1)) (4, 4)) r0 21 (sz (sr (al h_22 (1, 4)) r0 20 (sz h_22 + 1)) + 1)) + 1)) → (∀ h_28 : Hp, h_28 = (sr (al (sr (al (sr (al h_25 (2, 4)) r0 23 (sz h_25 + 1)) (2, 24)) r0 26 (sz (sr (al h_25 (2, 4)) r0 23 (sz h_25 + 1)) + 1)) (1, 5)) r0 27 (sz (sr (al (sr (al h_25 (2, 4)) r0 23 (sz h_25 + 1)) (2, 24)) r0 26 (sz (sr (al h_25 (2, 4)) r0 23 (sz h_25 + 1)) + 1)) + 1)) → (post (sr (al h_28 (1, 5)) r0 28 (sz h_28 + 1)))))))))))) (al h (11, 0)) (sz h + 1))
abbrev rm_X0_init : Room := ({ frames := 2, cells := 23, slots := 561, locals := 80 })
abbrev K_X0_init : Kx := ("BeforeTheEnd", cX0_init, 1, (Option.none : Option Jvm.ClassFile.FieldType), rm_X0_init, [], true)
set_option maxHeartbeats 4000000 in
theorem k_X0_init {ρ : Rho} {h : Hp} {post : Hp → Prop} {r0 : Nat} (G : G0 ρ) (L : Live h) (fr0 : sh h r0 = (10, 0)) (hw : wp_X0_init post h r0) : Con ρ yX0_init (ws_ yX0_init cX0_init 1 (Option.none : Option Jvm.ClassFile.FieldType)) rm_X0_init [.ref (mr ρ r0)] h (phW post) psN := by
  refine con_of (own := "BeforeTheEnd") (isI := true) (l0 := [(0, .ref (mr ρ r0))]) (by decide) rfl (fun _ => rfl) (Nat.le_of_ble_eq_true rfl) rfl (fun _ => ?_)
  show X ρ K_X0_init 0 [(0, .ref (mr ρ r0))] [] h 0 0 (phW post) psN
  refine x_aload_n 0 dX0_init_0 rfl ?_
  refine x_objInit dX0_init_1 q136 q137 q138 (Nat.le_of_ble_eq_true rfl) (Nat.le_of_ble_eq_true rfl) ?_
  refine x_aload_n 0 dX0_init_4 rfl ?_
  refine x_new (ci := 1) (n := 9) dX0_init_5 rfl in_X1 tyX1_ok df_X1 q139 q140 q105 (Nat.le_of_ble_eq_true rfl) (Nat.le_of_ble_eq_true rfl) ?_
  refine x_dup dX0_init_8 rfl ?_
  refine x_callIN [] 0 dX0_init_9 (k_X1_init G (Live.w L) sh_new hw) q141 q142 q105 q143 rfl (by decide) rfl rfl ⟨(Nat.le_of_ble_eq_true rfl), (Nat.le_of_ble_eq_true rfl)⟩ (Nat.le_of_ble_eq_true rfl) ⟨(Nat.le_of_ble_eq_true rfl), (Nat.le_of_ble_eq_true rfl)⟩ (fun v9 h_1 hv9 => ?_) (fun _ _ _ _ _ z _ _ => False.elim z)
  obtain ⟨rfl, hw⟩ := hv9
  show X ρ K_X0_init 12 [(0, .ref (mr ρ r0))] [.ref (mr ρ (sz h + 1)), .ref (mr ρ r0)] h_1 8 393 (phW post) psN
  obtain ⟨L_6, e_3, f_7, hw⟩ := hw
  refine x_put (ci := 0) 1 dX0_init_12 (Ext.s e_3 (sh_al L fr0 (by decide)) (by decide)) rfl in_X0 tyX0 tyX0_ok nmX0 (by decide) q188 (Or.inl rfl) rfl rfl rfl (isPut_rn rfl (isTree.nz f_7 L_6)) ?_
  refine x_aload_n 0 dX0_init_15 rfl ?_
  refine x_iconst 4 dX0_init_16 (by decide) ?_
  refine x_anew 5 4 dX0_init_17 rfl (by decide) (by decide) q182 q183 (by decide) (by decide) (Nat.le_of_ble_eq_true rfl) (Nat.le_of_ble_eq_true rfl) (Nat.le_of_ble_eq_true rfl) ?_
  refine x_putF (ci := 0) 2 dX0_init_20 (sh_al (Live.r L_6) (Ext.s e_3 (sh_al L fr0 (by decide)) (by decide)) (by decide)) rfl in_X0 tyX0 tyX0_ok nmX0 (by decide) q189 rfl rfl rfl rfl rfl rfl (isPut_rn rfl (Nat.succ_ne_zero _)) ?_
  refine x_aload_n 0 dX0_init_23 rfl ?_
  refine x_iconst 4 dX0_init_24 (by decide) ?_
  refine x_newa 1 4 dX0_init_25 rfl (by decide) (by decide) q180 (by decide) (by decide) (Nat.le_of_ble_eq_true rfl) (Nat.le_of_ble_eq_true rfl) (Nat.le_of_ble_eq_true rfl) ?_
  refine x_dup dX0_init_27 rfl ?_
  refine x_iconst 0 dX0_init_28 (by decide) ?_
  refine x_bipush 10 dX0_init_29 (by decide) ?_
  refine x_iast (n := 4) (j := 0) dX0_init_31 (by decide) sh_new (by unfold vp_in; decide) ?_
  refine x_nmh (fun h_8 eh_8 => ?_)
  have hw := hw h_8 eh_8
  have L_9 : Live h_8 := eh_8 ▸ (Live.i (Live.w (Live.r (Live.w (Live.r L_6)))))
  have f_10 : sh h_8 r0 = (10, 0) := eh_8 ▸ (sh_al (Live.r (Live.w (Live.r L_6))) (sh_al (Live.r L_6) (Ext.s e_3 (sh_al L fr0 (by decide)) (by decide)) (by decide)) (by decide))
  have f_11 : sh h_8 (sz (sr (al (sr h_1 r0 1 (sz h + 1)) (5, 4)) r0 2 (sz (sr h_1 r0 1 (sz h + 1)) + 1)) + 1) = (1, 4) := eh_8 ▸ sh_new
  refine x_dup dX0_init_32 rfl ?_
  refine x_iconst 1 dX0_init_33 (by decide) ?_
  refine x_iconst 5 dX0_init_34 (by decide) ?_
  refine x_iast (n := 4) (j := 1) dX0_init_35 (by decide) f_11 (by unfold vp_in; decide) ?_
  refine x_dup dX0_init_36 rfl ?_
  refine x_iconst 2 dX0_init_37 (by decide) ?_
  refine x_iconst 0 dX0_init_38 (by decide) ?_
  refine x_iast (n := 4) (j := 2) dX0_init_39 (by decide) f_11 (by unfold vp_in; decide) ?_
  refine x_nmh (fun h_12 eh_12 => ?_)
  have hw := hw h_12 eh_12
  have L_13 : Live h_12 := eh_12 ▸ (Live.i (Live.i L_9))
  have f_14 : sh h_12 r0 = (10, 0) := eh_12 ▸ f_10
  have f_15 : sh h_12 (sz (sr (al (sr h_1 r0 1 (sz h + 1)) (5, 4)) r0 2 (sz (sr h_1 r0 1 (sz h + 1)) + 1)) + 1) = (1, 4) := eh_12 ▸ f_11
  refine x_dup dX0_init_40 rfl ?_
  refine x_iconst 3 dX0_init_41 (by decide) ?_
  refine x_iconst 1 dX0_init_42 (by decide) ?_
  refine x_iast (n := 4) (j := 3) dX0_init_43 (by decide) f_15 (by unfold vp_in; decide) ?_
  refine x_putF (ci := 0) 4 dX0_init_44 f_14 rfl in_X0 tyX0 tyX0_ok nmX0 (by decide) q191 rfl rfl rfl rfl rfl rfl (isPut_rn rfl (Nat.succ_ne_zero _)) ?_
  refine x_nmh (fun h_16 eh_16 => ?_)
  have hw := hw h_16 eh_16
  have L_17 : Live h_16 := eh_16 ▸ (Live.r (Live.i L_13))
  have f_18 : sh h_16 r0 = (10, 0) := eh_16 ▸ f_14
  refine x_aload_n 0 dX0_init_47 rfl ?_
  refine x_iconst 5 dX0_init_48 (by decide) ?_
  refine x_newa 1 5 dX0_init_49 rfl (by decide) (by decide) q180 (by decide) (by decide) (Nat.le_of_ble_eq_true rfl) (Nat.le_of_ble_eq_true rfl) (Nat.le_of_ble_eq_true rfl) ?_
  refine x_putF (ci := 0) 5 dX0_init_51 (sh_al L_17 f_18 (by decide)) rfl in_X0 tyX0 tyX0_ok nmX0 (by decide) q192 rfl rfl rfl rfl rfl rfl (isPut_rn rfl (Nat.succ_ne_zero _)) ?_
  refine x_aload_n 0 dX0_init_54 rfl ?_
  refine x_iconst 4 dX0_init_55 (by decide) ?_
  refine x_anew 5 4 dX0_init_56 rfl (by decide) (by decide) q182 q183 (by decide) (by decide) (Nat.le_of_ble_eq_true rfl) (Nat.le_of_ble_eq_true rfl) (Nat.le_of_ble_eq_true rfl) ?_
  refine x_putF (ci := 0) 8 dX0_init_59 (sh_al (Live.r (Live.w L_17)) (sh_al L_17 f_18 (by decide)) (by decide)) rfl in_X0 tyX0 tyX0_ok nmX0 (by decide) q195 rfl rfl rfl rfl rfl rfl (isPut_rn rfl (Nat.succ_ne_zero _)) ?_
  refine x_aload_n 0 dX0_init_62 rfl ?_
  refine x_bipush 10 dX0_init_63 (by decide) ?_
  refine x_newa 1 10 dX0_init_65 rfl (by decide) (by decide) q180 (by decide) (by decide) (Nat.le_of_ble_eq_true rfl) (Nat.le_of_ble_eq_true rfl) (Nat.le_of_ble_eq_true rfl) ?_
  refine x_putF (ci := 0) 10 dX0_init_67 (sh_al (Live.r (Live.w (Live.r (Live.w L_17)))) (sh_al (Live.r (Live.w L_17)) (sh_al L_17 f_18 (by decide)) (by decide)) (by decide)) rfl in_X0 tyX0 tyX0_ok nmX0 (by decide) q197 rfl rfl rfl rfl rfl rfl (isPut_rn rfl (Nat.succ_ne_zero _)) ?_
  refine x_nmh (fun h_19 eh_19 => ?_)
  have hw := hw h_19 eh_19
  have L_20 : Live h_19 := eh_19 ▸ (Live.r (Live.w (Live.r (Live.w (Live.r (Live.w L_17))))))
  have f_21 : sh h_19 r0 = (10, 0) := eh_19 ▸ (sh_al (Live.r (Live.w (Live.r (Live.w L_17)))) (sh_al (Live.r (Live.w L_17)) (sh_al L_17 f_18 (by decide)) (by decide)) (by decide))
  refine x_aload_n 0 dX0_init_70 rfl ?_
  refine x_bipush 20 dX0_init_71 (by decide) ?_
  refine x_newa 3 20 dX0_init_73 rfl (by decide) (by decide) q283 (by decide) (by decide) (Nat.le_of_ble_eq_true rfl) (Nat.le_of_ble_eq_true rfl) (Nat.le_of_ble_eq_true rfl) ?_
  refine x_putF (ci := 0) 11 dX0_init_75 (sh_al L_20 f_21 (by decide)) rfl in_X0 tyX0 tyX0_ok nmX0 (by decide) q198 rfl rfl rfl rfl rfl rfl (isPut_rn rfl (Nat.succ_ne_zero _)) ?_
  refine x_aload_n 0 dX0_init_78 rfl ?_
  refine x_bipush 64 dX0_init_79 (by decide) ?_
  refine x_newa 3 64 dX0_init_81 rfl (by decide) (by decide) q283 (by decide) (by decide) (Nat.le_of_ble_eq_true rfl) (Nat.le_of_ble_eq_true rfl) (Nat.le_of_ble_eq_true rfl) ?_
  refine x_putF (ci := 0) 13 dX0_init_83 (sh_al (Live.r (Live.w L_20)) (sh_al L_20 f_21 (by decide)) (by decide)) rfl in_X0 tyX0 tyX0_ok nmX0 (by decide) q201 rfl rfl rfl rfl rfl rfl (isPut_rn rfl (Nat.succ_ne_zero _)) ?_
  refine x_aload_n 0 dX0_init_86 rfl ?_
  refine x_bipush 7 dX0_init_87 (by decide) ?_
  refine x_newa 1 7 dX0_init_89 rfl (by decide) (by decide) q180 (by decide) (by decide) (Nat.le_of_ble_eq_true rfl) (Nat.le_of_ble_eq_true rfl) (Nat.le_of_ble_eq_true rfl) ?_
  refine x_putF (ci := 0) 15 dX0_init_91 (sh_al (Live.r (Live.w (Live.r (Live.w L_20)))) (sh_al (Live.r (Live.w L_20)) (sh_al L_20 f_21 (by decide)) (by decide)) (by decide)) rfl in_X0 tyX0 tyX0_ok nmX0 (by decide) q204 rfl rfl rfl rfl rfl rfl (isPut_rn rfl (Nat.succ_ne_zero _)) ?_
  refine x_nmh (fun h_22 eh_22 => ?_)
  have hw := hw h_22 eh_22
  have L_23 : Live h_22 := eh_22 ▸ (Live.r (Live.w (Live.r (Live.w (Live.r (Live.w L_20))))))
  have f_24 : sh h_22 r0 = (10, 0) := eh_22 ▸ (sh_al (Live.r (Live.w (Live.r (Live.w L_20)))) (sh_al (Live.r (Live.w L_20)) (sh_al L_20 f_21 (by decide)) (by decide)) (by decide))
  refine x_aload_n 0 dX0_init_94 rfl ?_
  refine x_iconst 4 dX0_init_95 (by decide) ?_
  refine x_newa 1 4 dX0_init_96 rfl (by decide) (by decide) q180 (by decide) (by decide) (Nat.le_of_ble_eq_true rfl) (Nat.le_of_ble_eq_true rfl) (Nat.le_of_ble_eq_true rfl) ?_
  refine x_putF (ci := 0) 20 dX0_init_98 (sh_al L_23 f_24 (by decide)) rfl in_X0 tyX0 tyX0_ok nmX0 (by decide) q209 rfl rfl rfl rfl rfl rfl (isPut_rn rfl (Nat.succ_ne_zero _)) ?_
  refine x_aload_n 0 dX0_init_101 rfl ?_
  refine x_iconst 4 dX0_init_102 (by decide) ?_
  refine x_newa 4 4 dX0_init_103 rfl (by decide) (by decide) q284 (by decide) (by decide) (Nat.le_of_ble_eq_true rfl) (Nat.le_of_ble_eq_true rfl) (Nat.le_of_ble_eq_true rfl) ?_
  refine x_putF (ci := 0) 21 dX0_init_105 (sh_al (Live.r (Live.w L_23)) (sh_al L_23 f_24 (by decide)) (by decide)) rfl in_X0 tyX0 tyX0_ok nmX0 (by decide) q210 rfl rfl rfl rfl rfl rfl (isPut_rn rfl (Nat.succ_ne_zero _)) ?_
  refine x_aload_n 0 dX0_init_108 rfl ?_
  refine x_iconst 4 dX0_init_109 (by decide) ?_
  refine x_newa 2 4 dX0_init_110 rfl (by decide) (by decide) q181 (by decide) (by decide) (Nat.le_of_ble_eq_true rfl) (Nat.le_of_ble_eq_true rfl) (Nat.le_of_ble_eq_true rfl) ?_
  refine x_putF (ci := 0) 22 dX0_init_112 (sh_al (Live.r (Live.w (Live.r (Live.w L_23)))) (sh_al (Live.r (Live.w L_23)) (sh_al L_23 f_24 (by decide)) (by decide)) (by decide)) rfl in_X0 tyX0 tyX0_ok nmX0 (by decide) q211 rfl rfl rfl rfl rfl rfl (isPut_rn rfl (Nat.succ_ne_zero _)) ?_
  refine x_nmh (fun h_25 eh_25 => ?_)
  have hw := hw h_25 eh_25
  have L_26 : Live h_25 := eh_25 ▸ (Live.r (Live.w (Live.r (Live.w (Live.r (Live.w L_23))))))
  have f_27 : sh h_25 r0 = (10, 0) := eh_25 ▸ (sh_al (Live.r (Live.w (Live.r (Live.w L_23)))) (sh_al (Live.r (Live.w L_23)) (sh_al L_23 f_24 (by decide)) (by decide)) (by decide))
  refine x_aload_n 0 dX0_init_115 rfl ?_
  refine x_iconst 4 dX0_init_116 (by decide) ?_
  refine x_newa 2 4 dX0_init_117 rfl (by decide) (by decide) q181 (by decide) (by decide) (Nat.le_of_ble_eq_true rfl) (Nat.le_of_ble_eq_true rfl) (Nat.le_of_ble_eq_true rfl) ?_
  refine x_putF (ci := 0) 23 dX0_init_119 (sh_al L_26 f_27 (by decide)) rfl in_X0 tyX0 tyX0_ok nmX0 (by decide) q212 rfl rfl rfl rfl rfl rfl (isPut_rn rfl (Nat.succ_ne_zero _)) ?_
  refine x_aload_n 0 dX0_init_122 rfl ?_
  refine x_bipush 24 dX0_init_123 (by decide) ?_
  refine x_newa 2 24 dX0_init_125 rfl (by decide) (by decide) q181 (by decide) (by decide) (Nat.le_of_ble_eq_true rfl) (Nat.le_of_ble_eq_true rfl) (Nat.le_of_ble_eq_true rfl) ?_
  refine x_putF (ci := 0) 26 dX0_init_127 (sh_al (Live.r (Live.w L_26)) (sh_al L_26 f_27 (by decide)) (by decide)) rfl in_X0 tyX0 tyX0_ok nmX0 (by decide) q215 rfl rfl rfl rfl rfl rfl (isPut_rn rfl (Nat.succ_ne_zero _)) ?_
  refine x_aload_n 0 dX0_init_130 rfl ?_
  refine x_iconst 5 dX0_init_131 (by decide) ?_
  refine x_newa 1 5 dX0_init_132 rfl (by decide) (by decide) q180 (by decide) (by decide) (Nat.le_of_ble_eq_true rfl) (Nat.le_of_ble_eq_true rfl) (Nat.le_of_ble_eq_true rfl) ?_
  refine x_putF (ci := 0) 27 dX0_init_134 (sh_al (Live.r (Live.w (Live.r (Live.w L_26)))) (sh_al (Live.r (Live.w L_26)) (sh_al L_26 f_27 (by decide)) (by decide)) (by decide)) rfl in_X0 tyX0 tyX0_ok nmX0 (by decide) q216 rfl rfl rfl rfl rfl rfl (isPut_rn rfl (Nat.succ_ne_zero _)) ?_
  refine x_nmh (fun h_28 eh_28 => ?_)
  have hw := hw h_28 eh_28
  have L_29 : Live h_28 := eh_28 ▸ (Live.r (Live.w (Live.r (Live.w (Live.r (Live.w L_26))))))
  have f_30 : sh h_28 r0 = (10, 0) := eh_28 ▸ (sh_al (Live.r (Live.w (Live.r (Live.w L_26)))) (sh_al (Live.r (Live.w L_26)) (sh_al L_26 f_27 (by decide)) (by decide)) (by decide))
  refine x_aload_n 0 dX0_init_137 rfl ?_
  refine x_iconst 5 dX0_init_138 (by decide) ?_
  refine x_newa 1 5 dX0_init_139 rfl (by decide) (by decide) q180 (by decide) (by decide) (Nat.le_of_ble_eq_true rfl) (Nat.le_of_ble_eq_true rfl) (Nat.le_of_ble_eq_true rfl) ?_
  refine x_putF (ci := 0) 28 dX0_init_141 (sh_al L_29 f_30 (by decide)) rfl in_X0 tyX0 tyX0_ok nmX0 (by decide) q217 rfl rfl rfl rfl rfl rfl (isPut_rn rfl (Nat.succ_ne_zero _)) ?_
  exact x_vret dX0_init_144 rfl (Nat.le_of_ble_eq_true rfl) (Nat.le_of_ble_eq_true rfl) ⟨rfl, hw⟩

/-! BeforeTheEndModel.<init>()V -/
def wp_X2_init (post : Hp → Prop) (h : Hp) (r0 : Nat) : Prop := (∀ h_1 : Hp, h_1 = (sr (al (sr (al (sr (al h (1, 7)) r0 0 (sz h + 1)) (1, 24)) r0 1 (sz (sr (al h (1, 7)) r0 0 (sz h + 1)) + 1)) (1, 24)) r0 2 (sz (sr (al (sr (al h (1, 7)) r0 0 (sz h + 1)) (1, 24)) r0 1 (sz (sr (al h (1, 7)) r0 0 (sz h + 1)) + 1)) + 1)) → (∀ h_4 : Hp, h_4 = (sr (al (sr (al (sr (al h_1 (1, 24)) r0 3 (sz h_1 + 1)) (1, 24)) r0 4 (sz (sr (al h_1 (1, 24)) r0 3 (sz h_1 + 1)) + 1)) (1, 4)) r0 5 (sz (sr (al (sr (al h_1 (1, 24)) r0 3 (sz h_1 + 1)) (1, 24)) r0 4 (sz (sr (al h_1 (1, 24)) r0 3 (sz h_1 + 1)) + 1)) + 1)) → (∀ h_7 : Hp, h_7 = (sr (al (sr (al (sr (al h_4 (1, 4)) r0 6 (sz h_4 + 1)) (1, 4)) r0 7 (sz (sr (al h_4 (1, 4)) r0 6 (sz h_4 + 1)) + 1)) (1, 4)) r0 8 (sz (sr (al (sr (al h_4 (1, 4)) r0 6 (sz h_4 + 1)) (1, 4)) r0 7 (sz (sr (al h_4 (1, 4)) r0 6 (sz h_4 + 1)) + 1)) + 1)) → (∀ h_10 : Hp, h_10 = (si (si (al (sr (al h_7 (1, 4)) r0 9 (sz h_7 + 1)) (1, 4)) (sz (sr (al h_7 (1, 4)) r0 9 (sz h_7 + 1)) + 1) 0 10) (sz (sr (al h_7 (1, 4)) r0 9 (sz h_7 + 1)) + 1) 1 5) → (∀ h_14 : Hp, h_14 = (sr (si (si h_10 (sz (sr (al h_7 (1, 4)) r0 9 (sz h_7 + 1)) + 1) 2 0) (sz (sr (al h_7 (1, 4)) r0 9 (sz h_7 + 1)) + 1) 3 1) r0 10 (sz (sr (al h_7 (1, 4)) r0 9 (sz h_7 + 1)) + 1)) → (∀ h_17 : Hp, h_17 = (al (si (sr (si (si (si (si (al h_14 (1, 4)) (sz h_14 + 1) 0 20) (sz h_14 + 1) 1 20) (sz h_14 + 1) 2 5) (sz h_14 + 1) 3 1) r0 11 (sz h_14 + 1)) r0 12 1) (1, 64)) → (∀ h_21 : Hp, h_21 = (sr h_17 r0 14 (sz (si (sr (si (si (si (si (al h_14 (1, 4)) (sz h_14 + 1) 0 20) (sz h_14 + 1) 1 20) (sz h_14 + 1) 2 5) (sz h_14 + 1) 3 1) r0 11 (sz h_14 + 1)) r0 12 1) + 1)) → (∀ h_24 : Hp, h_24 = (sr (al (sr (al (sr (al h_21 (1, 32)) r0 15 (sz h_21 + 1)) (1, 32)) r0 16 (sz (sr (al h_21 (1, 32)) r0 15 (sz h_21 + 1)) + 1)) (1, 32)) r0 17 (sz (sr (al (sr (al h_21 (1, 32)) r0 15 (sz h_21 + 1)) (1, 32)) r0 16 (sz (sr (al h_21 (1, 32)) r0 15 (sz h_21 + 1)) + 1)) + 1)) → (∀ h_27 : Hp, h_27 = (sr (al (sr (al (sr (al h_24 (1, 32)) r0 18 (sz h_24 + 1)) (1, 32)) r0 19 (sz (sr (al h_24 (1, 32)) r0 18 (sz h_24 + 1)) + 1)) (1, 32)) r0 20 (sz (sr (al (sr (al h_24 (1, 32)) r0 18 (sz h_24 + 1)) (1, 32)) r0 19 (sz (sr (al h_24 (1, 32)) r0 18 (sz h_24 + 1)) + 1)) + 1)) → (∀ h_30 : Hp, h_30 = (sr (al (sr (al (sr (al h_27 (2, 24)) r0 24 (sz h_27 + 1)) (2, 240)) r0 25 (sz (sr (al h_27 (2, 24)) r0 24 (sz h_27 + 1)) + 1)) (1, 96)) r0 26 (sz (sr (al (sr (al h_27 (2, 24)) r0 24 (sz h_27 + 1)) (2, 240)) r0 25 (sz (sr (al h_27 (2, 24)) r0 24 (sz h_27 + 1)) + 1)) + 1)) → (∀ h_33 : Hp, h_33 = (sr (al (sr (al (sr (al h_30 (1, 4)) r0 27 (sz h_30 + 1)) (1, 4)) r0 28 (sz (sr (al h_30 (1, 4)) r0 27 (sz h_30 + 1)) + 1)) (2, 24)) r0 30 (sz (sr (al (sr (al h_30 (1, 4)) r0 27 (sz h_30 + 1)) (1, 4)) r0 28 (sz (sr (al h_30 (1, 4)) r0 27 (sz h_30 + 1)) + 1)) + 1)) → (∀ h_36 : Hp, h_36 = (sr (al (sr (al (sr (al h_33 (1, 24)) r0 32 (sz h_33 + 1)) (1, 4)) r0 33 (sz (sr (al h_33 (1, 24)) r0 32 (sz h_33 + 1)) + 1)) (1, 5)) r0 41 (sz (sr (al (sr (al h_33 (1, 24)) r0 32 (sz h_33 + 1)) (1, 4)) r0 33 (sz (sr (al h_33 (1, 24)) r0 32 (sz h_33 + 1)) + 1)) + 1)) → (∀ h_39 : Hp, h_39 = (sr (al (sr (al (sr (al h_36 (1, 5)) r0 42 (sz h_36 + 1)) (1, 5)) r0 43 (sz (sr (al h_36 (1, 5)) r0 42 (sz h_36 + 1)) + 1)) (1, 20)) r0 46 (sz (sr (al (sr (al h_36 (1, 5)) r0 42 (sz h_36 + 1)) (1, 5)) r0 43 (sz (sr (al h_36 (1, 5)) r0 42 (sz h_36 + 1)) + 1)) + 1)) → (post (sr (al h_39 (1, 140)) r0 48 (sz h_39 + 1))))))))))))))))
abbrev rm_X2_init : Room := ({ frames := 1, cells := 32, slots := 982, locals := 60 })
abbrev K_X2_init : Kx := ("BeforeTheEndModel", cX2_init, 1, (Option.none : Option Jvm.ClassFile.FieldType), rm_X2_init, [], true)
set_option maxHeartbeats 4000000 in
theorem k_X2_init {ρ : Rho} {h : Hp} {post : Hp → Prop} {r0 : Nat} (G : G0 ρ) (L : Live h) (fr0 : sh h r0 = (12, 0)) (hw : wp_X2_init post h r0) : Con ρ yX2_init (ws_ yX2_init cX2_init 1 (Option.none : Option Jvm.ClassFile.FieldType)) rm_X2_init [.ref (mr ρ r0)] h (phW post) psN := by
  refine con_of (own := "BeforeTheEndModel") (isI := true) (l0 := [(0, .ref (mr ρ r0))]) (by decide) rfl (fun _ => rfl) (Nat.le_of_ble_eq_true rfl) rfl (fun _ => ?_)
  show X ρ K_X2_init 0 [(0, .ref (mr ρ r0))] [] h 0 0 (phW post) psN
  refine x_aload_n 0 dX2_init_0 rfl ?_
  refine x_objInit dX2_init_1 q1222 q137 q138 (Nat.le_of_ble_eq_true rfl) (Nat.le_of_ble_eq_true rfl) ?_
  refine x_aload_n 0 dX2_init_4 rfl ?_
  refine x_bipush 7 dX2_init_5 (by decide) ?_
  refine x_newa 1 7 dX2_init_7 rfl (by decide) (by decide) q180 (by decide) (by decide) (Nat.le_of_ble_eq_true rfl) (Nat.le_of_ble_eq_true rfl) (Nat.le_of_ble_eq_true rfl) ?_
  refine x_putF (ci := 2) 0 dX2_init_9 (sh_al L fr0 (by decide)) rfl in_X2 tyX2 tyX2_ok nmX2 (by decide) q1223 rfl rfl rfl rfl rfl rfl (isPut_rn rfl (Nat.succ_ne_zero _)) ?_
  refine x_aload_n 0 dX2_init_12 rfl ?_
  refine x_bipush 24 dX2_init_13 (by decide) ?_
  refine x_newa 1 24 dX2_init_15 rfl (by decide) (by decide) q180 (by decide) (by decide) (Nat.le_of_ble_eq_true rfl) (Nat.le_of_ble_eq_true rfl) (Nat.le_of_ble_eq_true rfl) ?_
  refine x_putF (ci := 2) 1 dX2_init_17 (sh_al (Live.r (Live.w L)) (sh_al L fr0 (by decide)) (by decide)) rfl in_X2 tyX2 tyX2_ok nmX2 (by decide) q1224 rfl rfl rfl rfl rfl rfl (isPut_rn rfl (Nat.succ_ne_zero _)) ?_
  refine x_aload_n 0 dX2_init_20 rfl ?_
  refine x_bipush 24 dX2_init_21 (by decide) ?_
  refine x_newa 1 24 dX2_init_23 rfl (by decide) (by decide) q180 (by decide) (by decide) (Nat.le_of_ble_eq_true rfl) (Nat.le_of_ble_eq_true rfl) (Nat.le_of_ble_eq_true rfl) ?_
  refine x_putF (ci := 2) 2 dX2_init_25 (sh_al (Live.r (Live.w (Live.r (Live.w L)))) (sh_al (Live.r (Live.w L)) (sh_al L fr0 (by decide)) (by decide)) (by decide)) rfl in_X2 tyX2 tyX2_ok nmX2 (by decide) q1225 rfl rfl rfl rfl rfl rfl (isPut_rn rfl (Nat.succ_ne_zero _)) ?_
  refine x_nmh (fun h_1 eh_1 => ?_)
  have hw := hw h_1 eh_1
  have L_2 : Live h_1 := eh_1 ▸ (Live.r (Live.w (Live.r (Live.w (Live.r (Live.w L))))))
  have f_3 : sh h_1 r0 = (12, 0) := eh_1 ▸ (sh_al (Live.r (Live.w (Live.r (Live.w L)))) (sh_al (Live.r (Live.w L)) (sh_al L fr0 (by decide)) (by decide)) (by decide))
  refine x_aload_n 0 dX2_init_28 rfl ?_
  refine x_bipush 24 dX2_init_29 (by decide) ?_
  refine x_newa 1 24 dX2_init_31 rfl (by decide) (by decide) q180 (by decide) (by decide) (Nat.le_of_ble_eq_true rfl) (Nat.le_of_ble_eq_true rfl) (Nat.le_of_ble_eq_true rfl) ?_
  refine x_putF (ci := 2) 3 dX2_init_33 (sh_al L_2 f_3 (by decide)) rfl in_X2 tyX2 tyX2_ok nmX2 (by decide) q1226 rfl rfl rfl rfl rfl rfl (isPut_rn rfl (Nat.succ_ne_zero _)) ?_
  refine x_aload_n 0 dX2_init_36 rfl ?_
  refine x_bipush 24 dX2_init_37 (by decide) ?_
  refine x_newa 1 24 dX2_init_39 rfl (by decide) (by decide) q180 (by decide) (by decide) (Nat.le_of_ble_eq_true rfl) (Nat.le_of_ble_eq_true rfl) (Nat.le_of_ble_eq_true rfl) ?_
  refine x_putF (ci := 2) 4 dX2_init_41 (sh_al (Live.r (Live.w L_2)) (sh_al L_2 f_3 (by decide)) (by decide)) rfl in_X2 tyX2 tyX2_ok nmX2 (by decide) q1227 rfl rfl rfl rfl rfl rfl (isPut_rn rfl (Nat.succ_ne_zero _)) ?_
  refine x_aload_n 0 dX2_init_44 rfl ?_
  refine x_iconst 4 dX2_init_45 (by decide) ?_
  refine x_newa 1 4 dX2_init_46 rfl (by decide) (by decide) q180 (by decide) (by decide) (Nat.le_of_ble_eq_true rfl) (Nat.le_of_ble_eq_true rfl) (Nat.le_of_ble_eq_true rfl) ?_
  refine x_putF (ci := 2) 5 dX2_init_48 (sh_al (Live.r (Live.w (Live.r (Live.w L_2)))) (sh_al (Live.r (Live.w L_2)) (sh_al L_2 f_3 (by decide)) (by decide)) (by decide)) rfl in_X2 tyX2 tyX2_ok nmX2 (by decide) q1228 rfl rfl rfl rfl rfl rfl (isPut_rn rfl (Nat.succ_ne_zero _)) ?_
  refine x_nmh (fun h_4 eh_4 => ?_)
  have hw := hw h_4 eh_4
  have L_5 : Live h_4 := eh_4 ▸ (Live.r (Live.w (Live.r (Live.w (Live.r (Live.w L_2))))))
  have f_6 : sh h_4 r0 = (12, 0) := eh_4 ▸ (sh_al (Live.r (Live.w (Live.r (Live.w L_2)))) (sh_al (Live.r (Live.w L_2)) (sh_al L_2 f_3 (by decide)) (by decide)) (by decide))
  refine x_aload_n 0 dX2_init_51 rfl ?_
  refine x_iconst 4 dX2_init_52 (by decide) ?_
  refine x_newa 1 4 dX2_init_53 rfl (by decide) (by decide) q180 (by decide) (by decide) (Nat.le_of_ble_eq_true rfl) (Nat.le_of_ble_eq_true rfl) (Nat.le_of_ble_eq_true rfl) ?_
  refine x_putF (ci := 2) 6 dX2_init_55 (sh_al L_5 f_6 (by decide)) rfl in_X2 tyX2 tyX2_ok nmX2 (by decide) q1229 rfl rfl rfl rfl rfl rfl (isPut_rn rfl (Nat.succ_ne_zero _)) ?_
  refine x_aload_n 0 dX2_init_58 rfl ?_
  refine x_iconst 4 dX2_init_59 (by decide) ?_
  refine x_newa 1 4 dX2_init_60 rfl (by decide) (by decide) q180 (by decide) (by decide) (Nat.le_of_ble_eq_true rfl) (Nat.le_of_ble_eq_true rfl) (Nat.le_of_ble_eq_true rfl) ?_
  refine x_putF (ci := 2) 7 dX2_init_62 (sh_al (Live.r (Live.w L_5)) (sh_al L_5 f_6 (by decide)) (by decide)) rfl in_X2 tyX2 tyX2_ok nmX2 (by decide) q1230 rfl rfl rfl rfl rfl rfl (isPut_rn rfl (Nat.succ_ne_zero _)) ?_
  refine x_aload_n 0 dX2_init_65 rfl ?_
  refine x_iconst 4 dX2_init_66 (by decide) ?_
  refine x_newa 1 4 dX2_init_67 rfl (by decide) (by decide) q180 (by decide) (by decide) (Nat.le_of_ble_eq_true rfl) (Nat.le_of_ble_eq_true rfl) (Nat.le_of_ble_eq_true rfl) ?_
  refine x_putF (ci := 2) 8 dX2_init_69 (sh_al (Live.r (Live.w (Live.r (Live.w L_5)))) (sh_al (Live.r (Live.w L_5)) (sh_al L_5 f_6 (by decide)) (by decide)) (by decide)) rfl in_X2 tyX2 tyX2_ok nmX2 (by decide) q1231 rfl rfl rfl rfl rfl rfl (isPut_rn rfl (Nat.succ_ne_zero _)) ?_
  refine x_nmh (fun h_7 eh_7 => ?_)
  have hw := hw h_7 eh_7
  have L_8 : Live h_7 := eh_7 ▸ (Live.r (Live.w (Live.r (Live.w (Live.r (Live.w L_5))))))
  have f_9 : sh h_7 r0 = (12, 0) := eh_7 ▸ (sh_al (Live.r (Live.w (Live.r (Live.w L_5)))) (sh_al (Live.r (Live.w L_5)) (sh_al L_5 f_6 (by decide)) (by decide)) (by decide))
  refine x_aload_n 0 dX2_init_72 rfl ?_
  refine x_iconst 4 dX2_init_73 (by decide) ?_
  refine x_newa 1 4 dX2_init_74 rfl (by decide) (by decide) q180 (by decide) (by decide) (Nat.le_of_ble_eq_true rfl) (Nat.le_of_ble_eq_true rfl) (Nat.le_of_ble_eq_true rfl) ?_
  refine x_putF (ci := 2) 9 dX2_init_76 (sh_al L_8 f_9 (by decide)) rfl in_X2 tyX2 tyX2_ok nmX2 (by decide) q1232 rfl rfl rfl rfl rfl rfl (isPut_rn rfl (Nat.succ_ne_zero _)) ?_
  refine x_aload_n 0 dX2_init_79 rfl ?_
  refine x_iconst 4 dX2_init_80 (by decide) ?_
  refine x_newa 1 4 dX2_init_81 rfl (by decide) (by decide) q180 (by decide) (by decide) (Nat.le_of_ble_eq_true rfl) (Nat.le_of_ble_eq_true rfl) (Nat.le_of_ble_eq_true rfl) ?_
  refine x_dup dX2_init_83 rfl ?_
  refine x_iconst 0 dX2_init_84 (by decide) ?_
  refine x_bipush 10 dX2_init_85 (by decide) ?_
  refine x_iast (n := 4) (j := 0) dX2_init_87 (by decide) sh_new (by unfold vp_in; decide) ?_
  refine x_dup dX2_init_88 rfl ?_
  refine x_iconst 1 dX2_init_89 (by decide) ?_
  refine x_iconst 5 dX2_init_90 (by decide) ?_
  refine x_iast (n := 4) (j := 1) dX2_init_91 (by decide) sh_new (by unfold vp_in; decide) ?_
  refine x_nmh (fun h_10 eh_10 => ?_)
  have hw := hw h_10 eh_10
  have L_11 : Live h_10 := eh_10 ▸ (Live.i (Live.i (Live.w (Live.r (Live.w L_8)))))
  have f_12 : sh h_10 r0 = (12, 0) := eh_10 ▸ (sh_al (Live.r (Live.w L_8)) (sh_al L_8 f_9 (by decide)) (by decide))
  have f_13 : sh h_10 (sz (sr (al h_7 (1, 4)) r0 9 (sz h_7 + 1)) + 1) = (1, 4) := eh_10 ▸ sh_new
  refine x_dup dX2_init_92 rfl ?_
  refine x_iconst 2 dX2_init_93 (by decide) ?_
  refine x_iconst 0 dX2_init_94 (by decide) ?_
  refine x_iast (n := 4) (j := 2) dX2_init_95 (by decide) f_13 (by unfold vp_in; decide) ?_
  refine x_dup dX2_init_96 rfl ?_
  refine x_iconst 3 dX2_init_97 (by decide) ?_
  refine x_iconst 1 dX2_init_98 (by decide) ?_
  refine x_iast (n := 4) (j := 3) dX2_init_99 (by decide) f_13 (by unfold vp_in; decide) ?_
  refine x_putF (ci := 2) 10 dX2_init_100 f_12 rfl in_X2 tyX2 tyX2_ok nmX2 (by decide) q1233 rfl rfl rfl rfl rfl rfl (isPut_rn rfl (Nat.succ_ne_zero _)) ?_
  refine x_nmh (fun h_14 eh_14 => ?_)
  have hw := hw h_14 eh_14
  have L_15 : Live h_14 := eh_14 ▸ (Live.r (Live.i (Live.i L_11)))
  have f_16 : sh h_14 r0 = (12, 0) := eh_14 ▸ f_12
  refine x_aload_n 0 dX2_init_103 rfl ?_
  refine x_iconst 4 dX2_init_104 (by decide) ?_
  refine x_newa 1 4 dX2_init_105 rfl (by decide) (by decide) q180 (by decide) (by decide) (Nat.le_of_ble_eq_true rfl) (Nat.le_of_ble_eq_true rfl) (Nat.le_of_ble_eq_true rfl) ?_
  refine x_dup dX2_init_107 rfl ?_
  refine x_iconst 0 dX2_init_108 (by decide) ?_
  refine x_bipush 20 dX2_init_109 (by decide) ?_
  refine x_iast (n := 4) (j := 0) dX2_init_111 (by decide) sh_new (by unfold vp_in; decide) ?_
  refine x_dup dX2_init_112 rfl ?_
  refine x_iconst 1 dX2_init_113 (by decide) ?_
  refine x_bipush 20 dX2_init_114 (by decide) ?_
  refine x_iast (n := 4) (j := 1) dX2_init_116 (by decide) sh_new (by unfold vp_in; decide) ?_
  refine x_dup dX2_init_117 rfl ?_
  refine x_iconst 2 dX2_init_118 (by decide) ?_
  refine x_iconst 5 dX2_init_119 (by decide) ?_
  refine x_iast (n := 4) (j := 2) dX2_init_120 (by decide) sh_new (by unfold vp_in; decide) ?_
  refine x_dup dX2_init_121 rfl ?_
  refine x_iconst 3 dX2_init_122 (by decide) ?_
  refine x_iconst 1 dX2_init_123 (by decide) ?_
  refine x_iast (n := 4) (j := 3) dX2_init_124 (by decide) sh_new (by unfold vp_in; decide) ?_
  refine x_putF (ci := 2) 11 dX2_init_125 (sh_al L_15 f_16 (by decide)) rfl in_X2 tyX2 tyX2_ok nmX2 (by decide) q1234 rfl rfl rfl rfl rfl rfl (isPut_rn rfl (Nat.succ_ne_zero _)) ?_
  refine x_aload_n 0 dX2_init_128 rfl ?_
  refine x_iconst 1 dX2_init_129 (by decide) ?_
  refine x_put (ci := 2) 12 dX2_init_130 (sh_al L_15 f_16 (by decide)) rfl in_X2 tyX2 tyX2_ok nmX2 (by decide) q1235 (Or.inl rfl) rfl rfl rfl (isPut_i rfl) ?_
  refine x_aload_n 0 dX2_init_133 rfl ?_
  refine x_bipush 64 dX2_init_134 (by decide) ?_
  refine x_newa 1 64 dX2_init_136 rfl (by decide) (by decide) q180 (by decide) (by decide) (Nat.le_of_ble_eq_true rfl) (Nat.le_of_ble_eq_true rfl) (Nat.le_of_ble_eq_true rfl) ?_
  refine x_nmh (fun h_17 eh_17 => ?_)
  have hw := hw h_17 eh_17
  have L_18 : Live h_17 := eh_17 ▸ (Live.w (Live.i (Live.r (Live.i (Live.i (Live.i (Live.i (Live.w L_15))))))))
  have f_19 : sh h_17 r0 = (12, 0) := eh_17 ▸ (sh_al (Live.i (Live.r (Live.i (Live.i (Live.i (Live.i (Live.w L_15))))))) (sh_al L_15 f_16 (by decide)) (by decide))
  have f_20 : sh h_17 (sz (si (sr (si (si (si (si (al h_14 (1, 4)) (sz h_14 + 1) 0 20) (sz h_14 + 1) 1 20) (sz h_14 + 1) 2 5) (sz h_14 + 1) 3 1) r0 11 (sz h_14 + 1)) r0 12 1) + 1) = (1, 64) := eh_17 ▸ sh_new
  refine x_putF (ci := 2) 14 dX2_init_138 f_19 rfl in_X2 tyX2 tyX2_ok nmX2 (by decide) q1237 rfl rfl rfl rfl rfl rfl (isPut_rn rfl (Nat.succ_ne_zero _)) ?_
  refine x_nmh (fun h_21 eh_21 => ?_)
  have hw := hw h_21 eh_21
  have L_22 : Live h_21 := eh_21 ▸ (Live.r L_18)
  have f_23 : sh h_21 r0 = (12, 0) := eh_21 ▸ f_19
  refine x_aload_n 0 dX2_init_141 rfl ?_
  refine x_bipush 32 dX2_init_142 (by decide) ?_
  refine x_newa 1 32 dX2_init_144 rfl (by decide) (by decide) q180 (by decide) (by decide) (Nat.le_of_ble_eq_true rfl) (Nat.le_of_ble_eq_true rfl) (Nat.le_of_ble_eq_true rfl) ?_
  refine x_putF (ci := 2) 15 dX2_init_146 (sh_al L_22 f_23 (by decide)) rfl in_X2 tyX2 tyX2_ok nmX2 (by decide) q1238 rfl rfl rfl rfl rfl rfl (isPut_rn rfl (Nat.succ_ne_zero _)) ?_
  refine x_aload_n 0 dX2_init_149 rfl ?_
  refine x_bipush 32 dX2_init_150 (by decide) ?_
  refine x_newa 1 32 dX2_init_152 rfl (by decide) (by decide) q180 (by decide) (by decide) (Nat.le_of_ble_eq_true rfl) (Nat.le_of_ble_eq_true rfl) (Nat.le_of_ble_eq_true rfl) ?_
  refine x_putF (ci := 2) 16 dX2_init_154 (sh_al (Live.r (Live.w L_22)) (sh_al L_22 f_23 (by decide)) (by decide)) rfl in_X2 tyX2 tyX2_ok nmX2 (by decide) q1239 rfl rfl rfl rfl rfl rfl (isPut_rn rfl (Nat.succ_ne_zero _)) ?_
  refine x_aload_n 0 dX2_init_157 rfl ?_
  refine x_bipush 32 dX2_init_158 (by decide) ?_
  refine x_newa 1 32 dX2_init_160 rfl (by decide) (by decide) q180 (by decide) (by decide) (Nat.le_of_ble_eq_true rfl) (Nat.le_of_ble_eq_true rfl) (Nat.le_of_ble_eq_true rfl) ?_
  refine x_putF (ci := 2) 17 dX2_init_162 (sh_al (Live.r (Live.w (Live.r (Live.w L_22)))) (sh_al (Live.r (Live.w L_22)) (sh_al L_22 f_23 (by decide)) (by decide)) (by decide)) rfl in_X2 tyX2 tyX2_ok nmX2 (by decide) q1240 rfl rfl rfl rfl rfl rfl (isPut_rn rfl (Nat.succ_ne_zero _)) ?_
  refine x_nmh (fun h_24 eh_24 => ?_)
  have hw := hw h_24 eh_24
  have L_25 : Live h_24 := eh_24 ▸ (Live.r (Live.w (Live.r (Live.w (Live.r (Live.w L_22))))))
  have f_26 : sh h_24 r0 = (12, 0) := eh_24 ▸ (sh_al (Live.r (Live.w (Live.r (Live.w L_22)))) (sh_al (Live.r (Live.w L_22)) (sh_al L_22 f_23 (by decide)) (by decide)) (by decide))
  refine x_aload_n 0 dX2_init_165 rfl ?_
  refine x_bipush 32 dX2_init_166 (by decide) ?_
  refine x_newa 1 32 dX2_init_168 rfl (by decide) (by decide) q180 (by decide) (by decide) (Nat.le_of_ble_eq_true rfl) (Nat.le_of_ble_eq_true rfl) (Nat.le_of_ble_eq_true rfl) ?_
  refine x_putF (ci := 2) 18 dX2_init_170 (sh_al L_25 f_26 (by decide)) rfl in_X2 tyX2 tyX2_ok nmX2 (by decide) q1241 rfl rfl rfl rfl rfl rfl (isPut_rn rfl (Nat.succ_ne_zero _)) ?_
  refine x_aload_n 0 dX2_init_173 rfl ?_
  refine x_bipush 32 dX2_init_174 (by decide) ?_
  refine x_newa 1 32 dX2_init_176 rfl (by decide) (by decide) q180 (by decide) (by decide) (Nat.le_of_ble_eq_true rfl) (Nat.le_of_ble_eq_true rfl) (Nat.le_of_ble_eq_true rfl) ?_
  refine x_putF (ci := 2) 19 dX2_init_178 (sh_al (Live.r (Live.w L_25)) (sh_al L_25 f_26 (by decide)) (by decide)) rfl in_X2 tyX2 tyX2_ok nmX2 (by decide) q1242 rfl rfl rfl rfl rfl rfl (isPut_rn rfl (Nat.succ_ne_zero _)) ?_
  refine x_aload_n 0 dX2_init_181 rfl ?_
  refine x_bipush 32 dX2_init_182 (by decide) ?_
  refine x_newa 1 32 dX2_init_184 rfl (by decide) (by decide) q180 (by decide) (by decide) (Nat.le_of_ble_eq_true rfl) (Nat.le_of_ble_eq_true rfl) (Nat.le_of_ble_eq_true rfl) ?_
  refine x_putF (ci := 2) 20 dX2_init_186 (sh_al (Live.r (Live.w (Live.r (Live.w L_25)))) (sh_al (Live.r (Live.w L_25)) (sh_al L_25 f_26 (by decide)) (by decide)) (by decide)) rfl in_X2 tyX2 tyX2_ok nmX2 (by decide) q1243 rfl rfl rfl rfl rfl rfl (isPut_rn rfl (Nat.succ_ne_zero _)) ?_
  refine x_nmh (fun h_27 eh_27 => ?_)
  have hw := hw h_27 eh_27
  have L_28 : Live h_27 := eh_27 ▸ (Live.r (Live.w (Live.r (Live.w (Live.r (Live.w L_25))))))
  have f_29 : sh h_27 r0 = (12, 0) := eh_27 ▸ (sh_al (Live.r (Live.w (Live.r (Live.w L_25)))) (sh_al (Live.r (Live.w L_25)) (sh_al L_25 f_26 (by decide)) (by decide)) (by decide))
  refine x_aload_n 0 dX2_init_189 rfl ?_
  refine x_bipush 24 dX2_init_190 (by decide) ?_
  refine x_newa 2 24 dX2_init_192 rfl (by decide) (by decide) q181 (by decide) (by decide) (Nat.le_of_ble_eq_true rfl) (Nat.le_of_ble_eq_true rfl) (Nat.le_of_ble_eq_true rfl) ?_
  refine x_putF (ci := 2) 24 dX2_init_194 (sh_al L_28 f_29 (by decide)) rfl in_X2 tyX2 tyX2_ok nmX2 (by decide) q1247 rfl rfl rfl rfl rfl rfl (isPut_rn rfl (Nat.succ_ne_zero _)) ?_
  refine x_aload_n 0 dX2_init_197 rfl ?_
  refine x_sipush 240 dX2_init_198 (by decide) ?_
  refine x_newa 2 240 dX2_init_201 rfl (by decide) (by decide) q181 (by decide) (by decide) (Nat.le_of_ble_eq_true rfl) (Nat.le_of_ble_eq_true rfl) (Nat.le_of_ble_eq_true rfl) ?_
  refine x_putF (ci := 2) 25 dX2_init_203 (sh_al (Live.r (Live.w L_28)) (sh_al L_28 f_29 (by decide)) (by decide)) rfl in_X2 tyX2 tyX2_ok nmX2 (by decide) q1248 rfl rfl rfl rfl rfl rfl (isPut_rn rfl (Nat.succ_ne_zero _)) ?_
  refine x_aload_n 0 dX2_init_206 rfl ?_
  refine x_bipush 96 dX2_init_207 (by decide) ?_
  refine x_newa 1 96 dX2_init_209 rfl (by decide) (by decide) q180 (by decide) (by decide) (Nat.le_of_ble_eq_true rfl) (Nat.le_of_ble_eq_true rfl) (Nat.le_of_ble_eq_true rfl) ?_
  refine x_putF (ci := 2) 26 dX2_init_211 (sh_al (Live.r (Live.w (Live.r (Live.w L_28)))) (sh_al (Live.r (Live.w L_28)) (sh_al L_28 f_29 (by decide)) (by decide)) (by decide)) rfl in_X2 tyX2 tyX2_ok nmX2 (by decide) q1249 rfl rfl rfl rfl rfl rfl (isPut_rn rfl (Nat.succ_ne_zero _)) ?_
  refine x_nmh (fun h_30 eh_30 => ?_)
  have hw := hw h_30 eh_30
  have L_31 : Live h_30 := eh_30 ▸ (Live.r (Live.w (Live.r (Live.w (Live.r (Live.w L_28))))))
  have f_32 : sh h_30 r0 = (12, 0) := eh_30 ▸ (sh_al (Live.r (Live.w (Live.r (Live.w L_28)))) (sh_al (Live.r (Live.w L_28)) (sh_al L_28 f_29 (by decide)) (by decide)) (by decide))
  refine x_aload_n 0 dX2_init_214 rfl ?_
  refine x_iconst 4 dX2_init_215 (by decide) ?_
  refine x_newa 1 4 dX2_init_216 rfl (by decide) (by decide) q180 (by decide) (by decide) (Nat.le_of_ble_eq_true rfl) (Nat.le_of_ble_eq_true rfl) (Nat.le_of_ble_eq_true rfl) ?_
  refine x_putF (ci := 2) 27 dX2_init_218 (sh_al L_31 f_32 (by decide)) rfl in_X2 tyX2 tyX2_ok nmX2 (by decide) q1250 rfl rfl rfl rfl rfl rfl (isPut_rn rfl (Nat.succ_ne_zero _)) ?_
  refine x_aload_n 0 dX2_init_221 rfl ?_
  refine x_iconst 4 dX2_init_222 (by decide) ?_
  refine x_newa 1 4 dX2_init_223 rfl (by decide) (by decide) q180 (by decide) (by decide) (Nat.le_of_ble_eq_true rfl) (Nat.le_of_ble_eq_true rfl) (Nat.le_of_ble_eq_true rfl) ?_
  refine x_putF (ci := 2) 28 dX2_init_225 (sh_al (Live.r (Live.w L_31)) (sh_al L_31 f_32 (by decide)) (by decide)) rfl in_X2 tyX2 tyX2_ok nmX2 (by decide) q1251 rfl rfl rfl rfl rfl rfl (isPut_rn rfl (Nat.succ_ne_zero _)) ?_
  refine x_aload_n 0 dX2_init_228 rfl ?_
  refine x_bipush 24 dX2_init_229 (by decide) ?_
  refine x_newa 2 24 dX2_init_231 rfl (by decide) (by decide) q181 (by decide) (by decide) (Nat.le_of_ble_eq_true rfl) (Nat.le_of_ble_eq_true rfl) (Nat.le_of_ble_eq_true rfl) ?_
  refine x_putF (ci := 2) 30 dX2_init_233 (sh_al (Live.r (Live.w (Live.r (Live.w L_31)))) (sh_al (Live.r (Live.w L_31)) (sh_al L_31 f_32 (by decide)) (by decide)) (by decide)) rfl in_X2 tyX2 tyX2_ok nmX2 (by decide) q1253 rfl rfl rfl rfl rfl rfl (isPut_rn rfl (Nat.succ_ne_zero _)) ?_
  refine x_nmh (fun h_33 eh_33 => ?_)
  have hw := hw h_33 eh_33
  have L_34 : Live h_33 := eh_33 ▸ (Live.r (Live.w (Live.r (Live.w (Live.r (Live.w L_31))))))
  have f_35 : sh h_33 r0 = (12, 0) := eh_33 ▸ (sh_al (Live.r (Live.w (Live.r (Live.w L_31)))) (sh_al (Live.r (Live.w L_31)) (sh_al L_31 f_32 (by decide)) (by decide)) (by decide))
  refine x_aload_n 0 dX2_init_236 rfl ?_
  refine x_bipush 24 dX2_init_237 (by decide) ?_
  refine x_newa 1 24 dX2_init_239 rfl (by decide) (by decide) q180 (by decide) (by decide) (Nat.le_of_ble_eq_true rfl) (Nat.le_of_ble_eq_true rfl) (Nat.le_of_ble_eq_true rfl) ?_
  refine x_putF (ci := 2) 32 dX2_init_241 (sh_al L_34 f_35 (by decide)) rfl in_X2 tyX2 tyX2_ok nmX2 (by decide) q1255 rfl rfl rfl rfl rfl rfl (isPut_rn rfl (Nat.succ_ne_zero _)) ?_
  refine x_aload_n 0 dX2_init_244 rfl ?_
  refine x_iconst 4 dX2_init_245 (by decide) ?_
  refine x_newa 1 4 dX2_init_246 rfl (by decide) (by decide) q180 (by decide) (by decide) (Nat.le_of_ble_eq_true rfl) (Nat.le_of_ble_eq_true rfl) (Nat.le_of_ble_eq_true rfl) ?_
  refine x_putF (ci := 2) 33 dX2_init_248 (sh_al (Live.r (Live.w L_34)) (sh_al L_34 f_35 (by decide)) (by decide)) rfl in_X2 tyX2 tyX2_ok nmX2 (by decide) q1256 rfl rfl rfl rfl rfl rfl (isPut_rn rfl (Nat.succ_ne_zero _)) ?_
  refine x_aload_n 0 dX2_init_251 rfl ?_
  refine x_iconst 5 dX2_init_252 (by decide) ?_
  refine x_newa 1 5 dX2_init_253 rfl (by decide) (by decide) q180 (by decide) (by decide) (Nat.le_of_ble_eq_true rfl) (Nat.le_of_ble_eq_true rfl) (Nat.le_of_ble_eq_true rfl) ?_
  refine x_putF (ci := 2) 41 dX2_init_255 (sh_al (Live.r (Live.w (Live.r (Live.w L_34)))) (sh_al (Live.r (Live.w L_34)) (sh_al L_34 f_35 (by decide)) (by decide)) (by decide)) rfl in_X2 tyX2 tyX2_ok nmX2 (by decide) q1264 rfl rfl rfl rfl rfl rfl (isPut_rn rfl (Nat.succ_ne_zero _)) ?_
  refine x_nmh (fun h_36 eh_36 => ?_)
  have hw := hw h_36 eh_36
  have L_37 : Live h_36 := eh_36 ▸ (Live.r (Live.w (Live.r (Live.w (Live.r (Live.w L_34))))))
  have f_38 : sh h_36 r0 = (12, 0) := eh_36 ▸ (sh_al (Live.r (Live.w (Live.r (Live.w L_34)))) (sh_al (Live.r (Live.w L_34)) (sh_al L_34 f_35 (by decide)) (by decide)) (by decide))
  refine x_aload_n 0 dX2_init_258 rfl ?_
  refine x_iconst 5 dX2_init_259 (by decide) ?_
  refine x_newa 1 5 dX2_init_260 rfl (by decide) (by decide) q180 (by decide) (by decide) (Nat.le_of_ble_eq_true rfl) (Nat.le_of_ble_eq_true rfl) (Nat.le_of_ble_eq_true rfl) ?_
  refine x_putF (ci := 2) 42 dX2_init_262 (sh_al L_37 f_38 (by decide)) rfl in_X2 tyX2 tyX2_ok nmX2 (by decide) q1265 rfl rfl rfl rfl rfl rfl (isPut_rn rfl (Nat.succ_ne_zero _)) ?_
  refine x_aload_n 0 dX2_init_265 rfl ?_
  refine x_iconst 5 dX2_init_266 (by decide) ?_
  refine x_newa 1 5 dX2_init_267 rfl (by decide) (by decide) q180 (by decide) (by decide) (Nat.le_of_ble_eq_true rfl) (Nat.le_of_ble_eq_true rfl) (Nat.le_of_ble_eq_true rfl) ?_
  refine x_putF (ci := 2) 43 dX2_init_269 (sh_al (Live.r (Live.w L_37)) (sh_al L_37 f_38 (by decide)) (by decide)) rfl in_X2 tyX2 tyX2_ok nmX2 (by decide) q1266 rfl rfl rfl rfl rfl rfl (isPut_rn rfl (Nat.succ_ne_zero _)) ?_
  refine x_aload_n 0 dX2_init_272 rfl ?_
  refine x_bipush 20 dX2_init_273 (by decide) ?_
  refine x_newa 1 20 dX2_init_275 rfl (by decide) (by decide) q180 (by decide) (by decide) (Nat.le_of_ble_eq_true rfl) (Nat.le_of_ble_eq_true rfl) (Nat.le_of_ble_eq_true rfl) ?_
  refine x_putF (ci := 2) 46 dX2_init_277 (sh_al (Live.r (Live.w (Live.r (Live.w L_37)))) (sh_al (Live.r (Live.w L_37)) (sh_al L_37 f_38 (by decide)) (by decide)) (by decide)) rfl in_X2 tyX2 tyX2_ok nmX2 (by decide) q1269 rfl rfl rfl rfl rfl rfl (isPut_rn rfl (Nat.succ_ne_zero _)) ?_
  refine x_nmh (fun h_39 eh_39 => ?_)
  have hw := hw h_39 eh_39
  have L_40 : Live h_39 := eh_39 ▸ (Live.r (Live.w (Live.r (Live.w (Live.r (Live.w L_37))))))
  have f_41 : sh h_39 r0 = (12, 0) := eh_39 ▸ (sh_al (Live.r (Live.w (Live.r (Live.w L_37)))) (sh_al (Live.r (Live.w L_37)) (sh_al L_37 f_38 (by decide)) (by decide)) (by decide))
  refine x_aload_n 0 dX2_init_280 rfl ?_
  refine x_sipush 140 dX2_init_281 (by decide) ?_
  refine x_newa 1 140 dX2_init_284 rfl (by decide) (by decide) q180 (by decide) (by decide) (Nat.le_of_ble_eq_true rfl) (Nat.le_of_ble_eq_true rfl) (Nat.le_of_ble_eq_true rfl) ?_
  refine x_putF (ci := 2) 48 dX2_init_286 (sh_al L_40 f_41 (by decide)) rfl in_X2 tyX2 tyX2_ok nmX2 (by decide) q1271 rfl rfl rfl rfl rfl rfl (isPut_rn rfl (Nat.succ_ne_zero _)) ?_
  exact x_vret dX2_init_289 rfl (Nat.le_of_ble_eq_true rfl) (Nat.le_of_ble_eq_true rfl) ⟨rfl, hw⟩

/-! BeforeTheEnd$Refused.<init>(I)V on an object of class 3 -/
def wp_X4_init_c3 (post : Hp → Prop) (h : Hp) (r0 : Nat) (p1 : Int32) : Prop := (post (si h r0 0 p1))
abbrev rm_X4_init_c3 : Room := ({ frames := 8, cells := 0, slots := 0, locals := 200 })
abbrev K_X4_init_c3 : Kx := ("BeforeTheEnd$Refused", cX4_init, 2, (Option.none : Option Jvm.ClassFile.FieldType), rm_X4_init_c3, [], true)
set_option maxHeartbeats 4000000 in
theorem k_X4_init_c3 {ρ : Rho} {h : Hp} {post : Hp → Prop} {r0 : Nat} {p1 : Int32} (G : G0 ρ) (g : GI h) (fr0 : sh h r0 = (13, 0)) (hw : wp_X4_init_c3 post h r0 p1) : Con ρ yX4_init (ws_ yX4_init cX4_init 2 (Option.none : Option Jvm.ClassFile.FieldType)) rm_X4_init_c3 [.ref (mr ρ r0), .int p1] h (phV h post) psN := by
  refine con_of (own := "BeforeTheEnd$Refused") (isI := true) (l0 := [(0, .ref (mr ρ r0)), (1, .int p1)]) (by decide) rfl (fun _ => rfl) (Nat.le_of_ble_eq_true rfl) rfl (fun _ => ?_)
  show X ρ K_X4_init_c3 0 [(0, .ref (mr ρ r0)), (1, .int p1)] [] h 0 0 (phV h post) psN
  refine x_aload_n 0 dX4_init_0 rfl ?_
  refine x_thr3 dX4_init_1 fr0 (Nat.le_of_ble_eq_true rfl) (Nat.le_of_ble_eq_true rfl) ?_
  refine x_aload_n 0 dX4_init_4 rfl ?_
  refine x_iload_n 1 dX4_init_5 rfl ?_
  refine x_putF (ci := 3) 0 dX4_init_6 fr0 rfl in_X4n tyT3 tyT3_ok nmT3 (by decide) q351 rfl rfl rfl rfl rfl rfl (isPut_i rfl) ?_
  exact x_vret dX4_init_9 rfl (Nat.le_of_ble_eq_true rfl) (Nat.le_of_ble_eq_true rfl) ⟨rfl, (GI.i g), (Ext.i Ext.rf), hw⟩

/-! BeforeTheEnd.must(ZI)V -/
def wp_X0_must (post : Hp → Prop) (px : Nat → Hp → Prop) (h : Hp) (p1 : Int32) (p2 : Int32) : Prop := ((¬ p1 = 0 → (post h)) ∧ (p1 = 0 → (wp_X4_init_c3 (fun h_2 => GI h_2 → Ext (al h (13, 0)) h_2 → (px (sz h + 1) h_2)) (al h (13, 0)) (sz h + 1) p2)))
abbrev rm_X0_must : Room := ({ frames := 9, cells := 1, slots := 7, locals := 221 })
abbrev K_X0_must : Kx := ("BeforeTheEnd", cX0_must, 2, (Option.none : Option Jvm.ClassFile.FieldType), rm_X0_must, [], false)
set_option maxHeartbeats 4000000 in
theorem k_X0_must {ρ : Rho} {h : Hp} {post : Hp → Prop} {px : Nat → Hp → Prop} {p1 : Int32} {p2 : Int32} (G : G0 ρ) (g : GI h) (hw : wp_X0_must post px h p1 p2) : Con ρ yX0_must (ws_ yX0_must cX0_must 2 (Option.none : Option Jvm.ClassFile.FieldType)) rm_X0_must [.int p1, .int p2] h (phV h post) (psX h px) := by
  refine con_of (own := "BeforeTheEnd") (isI := false) (l0 := [(0, .int p1), (1, .int p2)]) (by decide) rfl (fun z => by cases z) (Nat.le_of_ble_eq_true rfl) rfl (fun _ => ?_)
  show X ρ K_X0_must 0 [(0, .int p1), (1, .int p2)] [] h 0 0 (phV h post) (psX h px)
  refine x_iload_n 0 dX0_must_0 rfl ?_
  obtain ⟨wt_7, wf_8⟩ := hw
  refine x_if_ne 13 dX0_must_1 (by decide) (fun c_1 => ?_) (fun c_1 => ?_)
  · have hw := wt_7 c_1
    exact x_vret dX0_must_13 rfl (Nat.le_of_ble_eq_true rfl) (Nat.le_of_ble_eq_true rfl) ⟨rfl, g, Ext.rf, hw⟩
  · have hw := wf_8 c_1
    refine x_new (ci := 3) (n := 7) dX0_must_4 rfl in_X4n tyT3_ok df_X4 q297 q298 q111 (Nat.le_of_ble_eq_true rfl) (Nat.le_of_ble_eq_true rfl) ?_
    refine x_dup dX0_must_7 rfl ?_
    refine x_iload_n 1 dX0_must_8 rfl ?_
    refine x_callI [.int p2] 1 dX0_must_9 (k_X4_init_c3 G (GI.w g) sh_new hw) q338 q339 q111 q340 rfl (by decide) rfl rfl ⟨(Nat.le_of_ble_eq_true rfl), (Nat.le_of_ble_eq_true rfl)⟩ (Nat.le_of_ble_eq_true rfl) ⟨(Nat.le_of_ble_eq_true rfl), (Nat.le_of_ble_eq_true rfl)⟩ (fun v9 h_2 hv9 => ?_) (fun _ _ _ _ _ z _ _ => False.elim z)
    obtain ⟨rfl, g_3, e_4, hw⟩ := hv9
    have hw := hw g_3 e_4
    show X ρ K_X0_must 12 [(0, .int p1), (1, .int p2)] [.ref (mr ρ (sz h + 1))] h_2 1 7 (phV h post) (psX h px)
    refine x_athrow dX0_must_12 ?_
    exact xt_out (Ext.s e_4 sh_new (by decide)) rfl (fun z hz => by cases hz) (Nat.le_of_ble_eq_true rfl) (Nat.le_of_ble_eq_true rfl) ⟨g_3, (Ext.tr (Ext.w Ext.rf (GI.live g)) e_4), hw⟩

/-! BeforeTheEnd.feedIt(IJ)I -/
def w_X0_feedIt_45 (post : Int32 → Hp → Prop) (px : Nat → Hp → Prop) : Nat → Int32 → Int64 → Int32 → Hp → Prop
  | 0 => fun _ _ _ _ => False
  | n + 1 => fun x1 x2 x4 h => ((x1 ≤ x4 → (post (gi h 1 14) h)) ∧ (¬ x1 ≤ x4 → (vp_in (gi h 1 14) 64 ∧ (∀ h_3 : Hp, h_3 = (si h 16 (Int32.toNatClampNeg (gi h 1 14)) (Int8.toInt32 (Int32.toInt8 (Int8.toInt32 (Int32.toInt8 (Int64.toInt32 (x2 >>> (Int32.toInt64 (8 * x4) &&& 63)))))))) → (w_X0_feedIt_45 post px n x1 x2 (x4 + 1) (si h_3 1 14 ((gi h_3 1 14) + 1)))))))
def wp_X0_feedIt (post : Int32 → Hp → Prop) (px : Nat → Hp → Prop) (h : Hp) (p1 : Int32) (p2 : Int64) : Prop := (∀ z_2 : Int32, z_2 = ((if p1 < 1 then 0 else 1) : Int32) → (wp_X0_must (fun h_3 => GI h_3 → Ext h h_3 → (∀ z_10 : Int32, z_10 = ((if 8 < p1 then 0 else (if 64 < ((gi h_3 1 14) + p1) then 0 else 1)) : Int32) → (wp_X0_must (fun h_11 => GI h_11 → Ext h_3 h_11 → (∃ fu : Nat, w_X0_feedIt_45 post px fu p1 p2 0 h_11)) px h_3 z_10 (-6)))) px h z_2 (-4)))
abbrev rm_X0_feedIt : Room := ({ frames := 10, cells := 2, slots := 14, locals := 242 })
abbrev K_X0_feedIt : Kx := ("BeforeTheEnd", cX0_feedIt, 5, (Option.some Jvm.ClassFile.FieldType.int), rm_X0_feedIt, [], false)
set_option maxHeartbeats 4000000 in
theorem t_X0_feedIt_45 {ρ : Rho} {h0 : Hp} {post : Int32 → Hp → Prop} {px : Nat → Hp → Prop} (G : G0 ρ) :
    ∀ (n : Nat), ∀ (x1 : Int32) (x2 : Int64) (x4 : Int32) (h : Hp), GI h → Ext h0 h → w_X0_feedIt_45 post px n x1 x2 x4 h → X ρ K_X0_feedIt 45 [(0, .ref (mr ρ 1)), (1, .int x1), (2, .long x2), (4, .int x4)] [] h 2 14 (phI h0 post) (psX h0 px) := by
  intro n
  induction n with
  | zero => intro x1 x2 x4 h g e hw; exact False.elim hw
  | succ n ih =>
    intro x1 x2 x4 h g e hw
    refine x_iload 3 dX0_feedIt_45 rfl ?_
    refine x_iload_n 1 dX0_feedIt_47 rfl ?_
    obtain ⟨wt_6, wf_7⟩ := hw
    refine x_icmp_ge 85 dX0_feedIt_48 (by decide) (fun c_1 => ?_) (fun c_1 => ?_)
    · have hw := wt_6 c_1
      refine x_aload_n 0 dX0_feedIt_85 rfl ?_
      refine x_get (ci := 0) (v := .int (gi h 1 14)) 14 dX0_feedIt_86 (GI.s g (t := (10, 0)) rfl (by decide)) rfl in_X0 (by decide) q203 (Or.inl rfl) (fv_i rfl) ?_
      exact x_iret dX0_feedIt_89 rfl (Nat.le_of_ble_eq_true rfl) (Nat.le_of_ble_eq_true rfl) ⟨_, rfl, g, e, hw⟩
    · have hw := wf_7 c_1
      refine x_aload_n 0 dX0_feedIt_51 rfl ?_
      refine x_get (ci := 0) (v := .ref (mr ρ 16)) 13 dX0_feedIt_52 (GI.s g (t := (10, 0)) rfl (by decide)) rfl in_X0 (by decide) q201 (Or.inl rfl) (fv_rc rfl (GI.x g (n := 16) rfl (by decide)) (by decide)) ?_
      refine x_aload_n 0 dX0_feedIt_55 rfl ?_
      refine x_get (ci := 0) (v := .int (gi h 1 14)) 14 dX0_feedIt_56 (GI.s g (t := (10, 0)) rfl (by decide)) rfl in_X0 (by decide) q203 (Or.inl rfl) (fv_i rfl) ?_
      refine x_lload_n 2 dX0_feedIt_59 rfl ?_
      refine x_bipush 8 dX0_feedIt_60 (by decide) ?_
      refine x_iload 3 dX0_feedIt_62 rfl ?_
      refine x_imul dX0_feedIt_64 ?_
      refine x_lshr dX0_feedIt_65 ?_
      refine x_l2i dX0_feedIt_66 ?_
      refine x_i2b dX0_feedIt_67 ?_
      obtain ⟨b_2, hw⟩ := hw
      refine x_bast (n := 64) (j := (Int32.toNatClampNeg (gi h 1 14))) dX0_feedIt_68 rfl (GI.s g (t := (3, 64)) rfl (by decide)) b_2 ?_
      refine x_nmh (fun h_3 eh_3 => ?_)
      have hw := hw h_3 eh_3
      have g_4 : GI h_3 := eh_3 ▸ (GI.i g)
      have e_5 : Ext h0 h_3 := eh_3 ▸ (Ext.i e)
      refine x_aload_n 0 dX0_feedIt_69 rfl ?_
      refine x_dup dX0_feedIt_70 rfl ?_
      refine x_get (ci := 0) (v := .int (gi h_3 1 14)) 14 dX0_feedIt_71 (GI.s g_4 (t := (10, 0)) rfl (by decide)) rfl in_X0 (by decide) q203 (Or.inl rfl) (fv_i rfl) ?_
      refine x_iconst 1 dX0_feedIt_74 (by decide) ?_
      refine x_iadd dX0_feedIt_75 ?_
      refine x_put (ci := 0) 14 dX0_feedIt_76 (GI.s g_4 (t := (10, 0)) rfl (by decide)) rfl in_X0 tyX0 tyX0_ok nmX0 (by decide) q203 (Or.inl rfl) rfl rfl rfl (isPut_i rfl) ?_
      refine x_iinc (v := (x4 + 1)) (lv' := [(4, .int (x4 + 1)), (0, .ref (mr ρ 1)), (1, .int x1), (2, .long x2)]) 3 dX0_feedIt_79 rfl (by rfl) (Nat.le_of_ble_eq_true rfl) rfl ?_
      refine x_goto 45 dX0_feedIt_82 (by decide) ?_
      refine X.sub [1, 2, 3, 0] rfl ?_
      exact ih x1 x2 (x4 + 1) (si h_3 1 14 ((gi h_3 1 14) + 1)) (GI.i g_4) (Ext.i e_5) hw
set_option maxHeartbeats 4000000 in
theorem k_X0_feedIt {ρ : Rho} {h : Hp} {post : Int32 → Hp → Prop} {px : Nat → Hp → Prop} {p1 : Int32} {p2 : Int64} (G : G0 ρ) (g : GI h) (hw : wp_X0_feedIt post px h p1 p2) : Con ρ yX0_feedIt (ws_ yX0_feedIt cX0_feedIt 5 (Option.some Jvm.ClassFile.FieldType.int)) rm_X0_feedIt [.ref (mr ρ 1), .int p1, .long p2] h (phI h post) (psX h px) := by
  refine con_of (own := "BeforeTheEnd") (isI := false) (l0 := [(0, .ref (mr ρ 1)), (1, .int p1), (2, .long p2)]) (by decide) rfl (fun z => by cases z) (Nat.le_of_ble_eq_true rfl) rfl (fun _ => ?_)
  show X ρ K_X0_feedIt 0 [(0, .ref (mr ρ 1)), (1, .int p1), (2, .long p2)] [] h 0 0 (phI h post) (psX h px)
  refine x_iload_n 1 dX0_feedIt_0 rfl ?_
  refine x_iconst 1 dX0_feedIt_1 (by decide) ?_
  have kJ_17 : ∀ z_2 : Int32, z_2 = ((if p1 < 1 then 0 else 1) : Int32) → X ρ K_X0_feedIt 10 [(0, .ref (mr ρ 1)), (1, .int p1), (2, .long p2)] [.int z_2] h 0 0 (phI h post) (psX h px) := fun z_2 ez_2 => by
    have hw := hw z_2 ez_2
    refine x_bipush (-4) dX0_feedIt_10 (by decide) ?_
    refine x_callS [.int z_2, .int (-4)] 2 dX0_feedIt_12 (k_X0_must G g hw) q294 q295 q104 q296 (by decide) rfl rfl ⟨(Nat.le_of_ble_eq_true rfl), (Nat.le_of_ble_eq_true rfl)⟩ (Nat.le_of_ble_eq_true rfl) ⟨(Nat.le_of_ble_eq_true rfl), (Nat.le_of_ble_eq_true rfl)⟩ (fun v9 h_3 hv9 => ?_) (fun q9 h9 ci9 n9 x9 hx9 hs9 hc9 => xt_out hs9 hc9 (fun z hz => by cases hz) (Nat.le_of_ble_eq_true rfl) (Nat.le_of_ble_eq_true rfl) ⟨hx9.1, Ext.tr Ext.rf hx9.2.1, hx9.2.2⟩)
    obtain ⟨rfl, g_4, e_5, hw⟩ := hv9
    have hw := hw g_4 e_5
    show X ρ K_X0_feedIt 15 [(0, .ref (mr ρ 1)), (1, .int p1), (2, .long p2)] [] h_3 1 7 (phI h post) (psX h px)
    refine x_iload_n 1 dX0_feedIt_15 rfl ?_
    refine x_bipush 8 dX0_feedIt_16 (by decide) ?_
    have kJ_16 : ∀ z_10 : Int32, z_10 = ((if 8 < p1 then 0 else (if 64 < ((gi h_3 1 14) + p1) then 0 else 1)) : Int32) → X ρ K_X0_feedIt 37 [(0, .ref (mr ρ 1)), (1, .int p1), (2, .long p2)] [.int z_10] h_3 1 7 (phI h post) (psX h px) := fun z_10 ez_10 => by
      have hw := hw z_10 ez_10
      refine x_bipush (-6) dX0_feedIt_37 (by decide) ?_
      refine x_callS [.int z_10, .int (-6)] 2 dX0_feedIt_39 (k_X0_must G g_4 hw) q294 q295 q104 q296 (by decide) rfl rfl ⟨(Nat.le_of_ble_eq_true rfl), (Nat.le_of_ble_eq_true rfl)⟩ (Nat.le_of_ble_eq_true rfl) ⟨(Nat.le_of_ble_eq_true rfl), (Nat.le_of_ble_eq_true rfl)⟩ (fun v9 h_11 hv9 => ?_) (fun q9 h9 ci9 n9 x9 hx9 hs9 hc9 => xt_out hs9 hc9 (fun z hz => by cases hz) (Nat.le_of_ble_eq_true rfl) (Nat.le_of_ble_eq_true rfl) ⟨hx9.1, Ext.tr e_5 hx9.2.1, hx9.2.2⟩)
      obtain ⟨rfl, g_12, e_13, hw⟩ := hv9
      have hw := hw g_12 e_13
      show X ρ K_X0_feedIt 42 [(0, .ref (mr ρ 1)), (1, .int p1), (2, .long p2)] [] h_11 2 14 (phI h post) (psX h px)
      refine x_iconst 0 dX0_feedIt_42 (by decide) ?_
      refine x_istore (lv' := [(4, .int 0), (0, .ref (mr ρ 1)), (1, .int p1), (2, .long p2)]) dX0_feedIt_43 (Nat.le_of_ble_eq_true rfl) rfl ?_
      refine X.sub [1, 2, 3, 0] rfl ?_
      obtain ⟨fu, hw⟩ := hw
      exact t_X0_feedIt_45 G  fu p1 p2 0 h_11 g_12 (Ext.tr e_5 e_13) hw
    refine x_icmp_gt 36 dX0_feedIt_18 (by decide) (fun c_8 => ?_) (fun c_8 => ?_)
    · refine x_iconst 0 dX0_feedIt_36 (by decide) ?_
      exact kJ_16 _ ((if_pos c_8)).symm
    · refine x_aload_n 0 dX0_feedIt_21 rfl ?_
      refine x_get (ci := 0) (v := .int (gi h_3 1 14)) 14 dX0_feedIt_22 (GI.s g_4 (t := (10, 0)) rfl (by decide)) rfl in_X0 (by decide) q203 (Or.inl rfl) (fv_i rfl) ?_
      refine x_iload_n 1 dX0_feedIt_25 rfl ?_
      refine x_iadd dX0_feedIt_26 ?_
      refine x_bipush 64 dX0_feedIt_27 (by decide) ?_
      refine x_icmp_gt 36 dX0_feedIt_29 (by decide) (fun c_9 => ?_) (fun c_9 => ?_)
      · refine x_iconst 0 dX0_feedIt_36 (by decide) ?_
        exact kJ_16 _ (((if_neg c_8).trans (if_pos c_9))).symm
      · refine x_iconst 1 dX0_feedIt_32 (by decide) ?_
        refine x_goto 37 dX0_feedIt_33 (by decide) ?_
        exact kJ_16 _ (((if_neg c_8).trans (if_neg c_9))).symm
  refine x_icmp_lt 9 dX0_feedIt_2 (by decide) (fun c_1 => ?_) (fun c_1 => ?_)
  · refine x_iconst 0 dX0_feedIt_9 (by decide) ?_
    exact kJ_17 _ ((if_pos c_1)).symm
  · refine x_iconst 1 dX0_feedIt_5 (by decide) ?_
    refine x_goto 10 dX0_feedIt_6 (by decide) ?_
    exact kJ_17 _ ((if_neg c_1)).symm

/-! BeforeTheEnd$Refused.number()I on an object of class 3 -/
def wp_X4_number_c3 (post : Int32 → Hp → Prop) (h : Hp) (r0 : Nat) : Prop := (post (gi h r0 0) h)
abbrev rm_X4_number_c3 : Room := ({ frames := 1, cells := 0, slots := 0, locals := 60 })
abbrev K_X4_number_c3 : Kx := ("BeforeTheEnd$Refused", cX4_number, 1, (Option.some Jvm.ClassFile.FieldType.int), rm_X4_number_c3, [], false)
set_option maxHeartbeats 4000000 in
theorem k_X4_number_c3 {ρ : Rho} {h : Hp} {post : Int32 → Hp → Prop} {r0 : Nat} (G : G0 ρ) (g : GI h) (fr0 : sh h r0 = (13, 0)) (hw : wp_X4_number_c3 post h r0) : Con ρ yX4_number (ws_ yX4_number cX4_number 1 (Option.some Jvm.ClassFile.FieldType.int)) rm_X4_number_c3 [.ref (mr ρ r0)] h (phI h post) psN := by
  refine con_of (own := "BeforeTheEnd$Refused") (isI := false) (l0 := [(0, .ref (mr ρ r0))]) (by decide) rfl (fun z => by cases z) (Nat.le_of_ble_eq_true rfl) rfl (fun _ => ?_)
  show X ρ K_X4_number_c3 0 [(0, .ref (mr ρ r0))] [] h 0 0 (phI h post) psN
  refine x_aload_n 0 dX4_number_0 rfl ?_
  refine x_get (ci := 3) (v := .int (gi h r0 0)) 0 dX4_number_1 fr0 rfl in_X4n (by decide) q351 (Or.inl rfl) (fv_i rfl) ?_
  exact x_iret dX4_number_4 rfl (Nat.le_of_ble_eq_true rfl) (Nat.le_of_ble_eq_true rfl) ⟨_, rfl, g, Ext.rf, hw⟩

/-! BeforeTheEnd$Fault.number()I on an object of class 5 -/
def wp_X6_number_c5 (post : Int32 → Hp → Prop) (h : Hp) (r0 : Nat) : Prop := (post (gi h r0 0) h)
abbrev rm_X6_number_c5 : Room := ({ frames := 1, cells := 0, slots := 0, locals := 60 })
abbrev K_X6_number_c5 : Kx := ("BeforeTheEnd$Fault", cX6_number, 1, (Option.some Jvm.ClassFile.FieldType.int), rm_X6_number_c5, [], false)
set_option maxHeartbeats 4000000 in
theorem k_X6_number_c5 {ρ : Rho} {h : Hp} {post : Int32 → Hp → Prop} {r0 : Nat} (G : G0 ρ) (g : GI h) (fr0 : sh h r0 = (15, 0)) (hw : wp_X6_number_c5 post h r0) : Con ρ yX6_number (ws_ yX6_number cX6_number 1 (Option.some Jvm.ClassFile.FieldType.int)) rm_X6_number_c5 [.ref (mr ρ r0)] h (phI h post) psN := by
  refine con_of (own := "BeforeTheEnd$Fault") (isI := false) (l0 := [(0, .ref (mr ρ r0))]) (by decide) rfl (fun z => by cases z) (Nat.le_of_ble_eq_true rfl) rfl (fun _ => ?_)
  show X ρ K_X6_number_c5 0 [(0, .ref (mr ρ r0))] [] h 0 0 (phI h post) psN
  refine x_aload_n 0 dX6_number_0 rfl ?_
  refine x_get (ci := 5) (v := .int (gi h r0 0)) 0 dX6_number_1 fr0 rfl in_X6n (by decide) q444 (Or.inl rfl) (fv_i rfl) ?_
  exact x_iret dX6_number_4 rfl (Nat.le_of_ble_eq_true rfl) (Nat.le_of_ble_eq_true rfl) ⟨_, rfl, g, Ext.rf, hw⟩

/-! BeforeTheEnd$Refusal.number by the class of the object -/
def wv_X3_number_isEx (post : Int32 → Hp → Prop) (h : Hp) (r0 : Nat) : Prop := (sh h r0 = (13, 0) → wp_X4_number_c3 post h r0) ∧ (sh h r0 = (15, 0) → wp_X6_number_c5 post h r0)

/-! BeforeTheEnd.refuse(I)I -/
def wp_X0_refuse (post : Int32 → Hp → Prop) (h : Hp) (p1 : Int32) : Prop := ((p1 ≤ (-20) → (post p1 h)) ∧ (¬ p1 ≤ (-20) → (vp_in (-p1) 7 ∧ (vp_in (-p1) 7 ∧ (post p1 (si h 17 (Int32.toNatClampNeg (-p1)) ((gi h 17 (Int32.toNatClampNeg (-p1))) + 1)))))))
abbrev rm_X0_refuse : Room := ({ frames := 1, cells := 0, slots := 0, locals := 60 })
abbrev K_X0_refuse : Kx := ("BeforeTheEnd", cX0_refuse, 2, (Option.some Jvm.ClassFile.FieldType.int), rm_X0_refuse, [], false)
set_option maxHeartbeats 4000000 in
theorem k_X0_refuse {ρ : Rho} {h : Hp} {post : Int32 → Hp → Prop} {p1 : Int32} (G : G0 ρ) (g : GI h) (hw : wp_X0_refuse post h p1) : Con ρ yX0_refuse (ws_ yX0_refuse cX0_refuse 2 (Option.some Jvm.ClassFile.FieldType.int)) rm_X0_refuse [.ref (mr ρ 1), .int p1] h (phI h post) psN := by
  refine con_of (own := "BeforeTheEnd") (isI := false) (l0 := [(0, .ref (mr ρ 1)), (1, .int p1)]) (by decide) rfl (fun z => by cases z) (Nat.le_of_ble_eq_true rfl) rfl (fun _ => ?_)
  show X ρ K_X0_refuse 0 [(0, .ref (mr ρ 1)), (1, .int p1)] [] h 0 0 (phI h post) psN
  refine x_iload_n 1 dX0_refuse_0 rfl ?_
  refine x_bipush (-20) dX0_refuse_1 (by decide) ?_
  obtain ⟨wt_4, wf_5⟩ := hw
  refine x_icmp_le 17 dX0_refuse_3 (by decide) (fun c_1 => ?_) (fun c_1 => ?_)
  · have hw := wt_4 c_1
    refine x_iload_n 1 dX0_refuse_17 rfl ?_
    exact x_iret dX0_refuse_18 rfl (Nat.le_of_ble_eq_true rfl) (Nat.le_of_ble_eq_true rfl) ⟨_, rfl, g, Ext.rf, hw⟩
  · have hw := wf_5 c_1
    refine x_aload_n 0 dX0_refuse_6 rfl ?_
    refine x_get (ci := 0) (v := .ref (mr ρ 17)) 15 dX0_refuse_7 (GI.s g (t := (10, 0)) rfl (by decide)) rfl in_X0 (by decide) q204 (Or.inl rfl) (fv_rc rfl (GI.x g (n := 17) rfl (by decide)) (by decide)) ?_
    refine x_iload_n 1 dX0_refuse_10 rfl ?_
    refine x_ineg dX0_refuse_11 ?_
    refine x_dup2 dX0_refuse_12 rfl rfl ?_
    obtain ⟨b_2, hw⟩ := hw
    refine x_iald (n := 7) (j := (Int32.toNatClampNeg (-p1))) dX0_refuse_13 rfl (GI.s g (t := (1, 7)) rfl (by decide)) b_2 ?_
    refine x_iconst 1 dX0_refuse_14 (by decide) ?_
    refine x_iadd dX0_refuse_15 ?_
    obtain ⟨b_3, hw⟩ := hw
    refine x_iast (n := 7) (j := (Int32.toNatClampNeg (-p1))) dX0_refuse_16 rfl (GI.s g (t := (1, 7)) rfl (by decide)) b_3 ?_
    refine x_iload_n 1 dX0_refuse_17 rfl ?_
    exact x_iret dX0_refuse_18 rfl (Nat.le_of_ble_eq_true rfl) (Nat.le_of_ble_eq_true rfl) ⟨_, rfl, (GI.i g), (Ext.i Ext.rf), hw⟩

/-! BeforeTheEnd.feed(IJ)I -/
def w_X0_feed_15 (post : Int32 → Hp → Prop) (z0 : Int32) (h : Hp) : Prop := (wp_X0_refuse (fun r_4 h_1 => GI h_1 → Ext h h_1 → (post r_4 h_1)) h z0)
def w_X0_feed_7 (post : Int32 → Hp → Prop) (z0 : Nat) (h : Hp) : Prop := (wv_X3_number_isEx (fun r_4 h_1 => GI h_1 → Ext h h_1 → (w_X0_feed_15 post r_4 h_1)) h z0)
def wp_X0_feed (post : Int32 → Hp → Prop) (h : Hp) (p1 : Int32) (p2 : Int64) : Prop := (wp_X0_feedIt (fun r_4 h_1 => GI h_1 → Ext h h_1 → (post r_4 h_1)) (fun q_6 h_1x => GI h_1x → Ext h h_1x → (isEx h_1x q_6 ∧ (w_X0_feed_7 post q_6 h_1x))) h p1 p2)
abbrev rm_X0_feed : Room := ({ frames := 11, cells := 2, slots := 14, locals := 266 })
abbrev K_X0_feed : Kx := ("BeforeTheEnd", cX0_feed, 5, (Option.some Jvm.ClassFile.FieldType.int), rm_X0_feed, [(0, 6, 7, 343)], false)
set_option maxHeartbeats 4000000 in
theorem t_X0_feed_15 {ρ : Rho} {h0 : Hp} {post : Int32 → Hp → Prop} (G : G0 ρ) :
    ∀ (z0 : Int32) (h : Hp), GI h → Ext h0 h → w_X0_feed_15 post z0 h → X ρ K_X0_feed 15 [] [.int z0, .ref (mr ρ 1)] h 2 14 (phI h0 post) psN := by
  intro z0 h g e hw
  refine x_callV (ci := 0) [.int z0] 1 dX0_feed_15 (k_X0_refuse G g hw) (GI.s g (t := (10, 0)) rfl (by decide)) rfl q375 q377 qs2 q104 q378 (by decide) rfl rfl ⟨(Nat.le_of_ble_eq_true rfl), (Nat.le_of_ble_eq_true rfl)⟩ (Nat.le_of_ble_eq_true rfl) ⟨(Nat.le_of_ble_eq_true rfl), (Nat.le_of_ble_eq_true rfl)⟩ (fun v9 h_1 hv9 => ?_) (fun _ _ _ _ _ z _ _ => False.elim z)
  obtain ⟨r_4, rfl, g_2, e_3, hw⟩ := hv9
  have hw := hw g_2 e_3
  show X ρ K_X0_feed 18 [] [.int r_4] h_1 2 14 (phI h0 post) psN
  exact x_iret dX0_feed_18 rfl (Nat.le_of_ble_eq_true rfl) (Nat.le_of_ble_eq_true rfl) ⟨_, rfl, g_2, (Ext.tr e e_3), hw⟩
set_option maxHeartbeats 4000000 in
theorem t_X0_feed_7 {ρ : Rho} {h0 : Hp} {post : Int32 → Hp → Prop} (G : G0 ρ) :
    ∀ (z0 : Nat) (h : Hp), GI h → Ext h0 h → isEx h z0 → w_X0_feed_7 post z0 h → X ρ K_X0_feed 7 [(0, .ref (mr ρ 1))] [.ref (mr ρ z0)] h 2 14 (phI h0 post) psN := by
  intro z0 h g e fz0 hw
  refine x_astore (lv' := [(4, .ref (mr ρ z0)), (0, .ref (mr ρ 1))]) dX0_feed_7 (Nat.le_of_ble_eq_true rfl) rfl ?_
  refine x_aload_n 1 dX0_feed_9 rfl ?_
  refine x_aload 0 dX0_feed_10 rfl ?_
  have kk_8 : ∀ (v9 : Option Value) (h_1 : Hp), (phI h (fun r_4 h_1 => GI h_1 → Ext h h_1 → (w_X0_feed_15 post r_4 h_1))) v9 h_1 → X ρ K_X0_feed 15 [(4, .ref (mr ρ z0)), (0, .ref (mr ρ 1))] (v9.toList ++ [.ref (mr ρ 1)]) h_1 2 14 (phI h0 post) psN := by
    intro v9 h_1 hv9
    obtain ⟨r_4, rfl, g_2, e_3, hw⟩ := hv9
    have hw := hw g_2 e_3
    show X ρ K_X0_feed 15 [(4, .ref (mr ρ z0)), (0, .ref (mr ρ 1))] [.int r_4, .ref (mr ρ 1)] h_1 2 14 (phI h0 post) psN
    refine X.sub [] rfl ?_
    exact t_X0_feed_15 G  r_4 h_1 g_2 (Ext.tr e e_3) hw
  obtain ⟨wc_6, wc_7⟩ := hw
  rcases fz0 with fc9 | fc9
  · exact x_callA (ci := 3) (x0 := ⟨"BeforeTheEnd$Refusal", "number", "()I"⟩) (owner := "BeforeTheEnd$Refusal") [] 0 dX0_feed_12 (k_X4_number_c3 G g fc9 (wc_6 fc9)) fc9 rfl (lw_U q366 q368 q372 q373 q111 q374) q367 (by decide) rfl rfl ⟨(Nat.le_of_ble_eq_true rfl), (Nat.le_of_ble_eq_true rfl)⟩ (Nat.le_of_ble_eq_true rfl) ⟨(Nat.le_of_ble_eq_true rfl), (Nat.le_of_ble_eq_true rfl)⟩ kk_8 (fun _ _ _ _ _ z _ _ => False.elim z)
  · exact x_callA (ci := 5) (x0 := ⟨"BeforeTheEnd$Refusal", "number", "()I"⟩) (owner := "BeforeTheEnd$Refusal") [] 0 dX0_feed_12 (k_X6_number_c5 G g fc9 (wc_7 fc9)) fc9 rfl (lw_U q366 q368 q369 q370 q113 q371) q367 (by decide) rfl rfl ⟨(Nat.le_of_ble_eq_true rfl), (Nat.le_of_ble_eq_true rfl)⟩ (Nat.le_of_ble_eq_true rfl) ⟨(Nat.le_of_ble_eq_true rfl), (Nat.le_of_ble_eq_true rfl)⟩ kk_8 (fun _ _ _ _ _ z _ _ => False.elim z)
set_option maxHeartbeats 4000000 in
theorem k_X0_feed {ρ : Rho} {h : Hp} {post : Int32 → Hp → Prop} {p1 : Int32} {p2 : Int64} (G : G0 ρ) (g : GI h) (hw : wp_X0_feed post h p1 p2) : Con ρ yX0_feed (wsW_ yX0_feed cX0_feed 5 (Option.some Jvm.ClassFile.FieldType.int) [(0, 6, 7, 343)]) rm_X0_feed [.ref (mr ρ 1), .int p1, .long p2] h (phI h post) psN := by
  refine con_ofH (own := "BeforeTheEnd") (l0 := [(0, .ref (mr ρ 1)), (1, .int p1), (2, .long p2)]) (by decide) rfl q288 (Nat.le_of_ble_eq_true rfl) rfl (fun _ => ?_)
  show X ρ K_X0_feed 0 [(0, .ref (mr ρ 1)), (1, .int p1), (2, .long p2)] [] h 0 0 (phI h post) psN
  refine x_aload_n 0 dX0_feed_0 rfl ?_
  refine x_iload_n 1 dX0_feed_1 rfl ?_
  refine x_lload_n 2 dX0_feed_2 rfl ?_
  refine x_callV (ci := 0) [.int p1, .long p2] 2 dX0_feed_3 (k_X0_feedIt G g hw) (GI.s g (t := (10, 0)) rfl (by decide)) rfl q290 q292 qs0 q104 q293 (by decide) rfl rfl ⟨(Nat.le_of_ble_eq_true rfl), (Nat.le_of_ble_eq_true rfl)⟩ (Nat.le_of_ble_eq_true rfl) ⟨(Nat.le_of_ble_eq_true rfl), (Nat.le_of_ble_eq_true rfl)⟩ (fun v9 h_1 hv9 => ?_) (fun q_6 h_1x ci9 n9 x9 hx9 hs9 hc9 => ?_)
  · obtain ⟨r_4, rfl, g_2, e_3, hw⟩ := hv9
    have hw := hw g_2 e_3
    show X ρ K_X0_feed 6 [(0, .ref (mr ρ 1)), (1, .int p1), (2, .long p2)] [.int r_4] h_1 2 14 (phI h post) psN
    exact x_iret dX0_feed_6 rfl (Nat.le_of_ble_eq_true rfl) (Nat.le_of_ble_eq_true rfl) ⟨_, rfl, g_2, e_3, hw⟩
  · obtain ⟨g_7, e_8, hw⟩ := hx9
    have hw := hw g_7 e_8
    obtain ⟨hE8, hw⟩ := hw
    have kH9 : X ρ K_X0_feed 7 [(0, .ref (mr ρ 1)), (1, .int p1), (2, .long p2)] [.ref (mr ρ q_6)] h_1x 2 14 (phI h post) psN := by
      have hE9 := hE8
      refine X.sub [0] rfl ?_
      exact t_X0_feed_7 G  q_6 h_1x g_7 e_8 hE9 hw
    rcases hE8 with hE9 | hE9
    · refine xt_catch 0 6 7 343 hE9 (ci := 3) (x := (RX4, T3n, 2)) rfl rfl (by decide) (by decide) q289 q1726 ?_
      exact kH9
    · refine xt_catch 0 6 7 343 hE9 (ci := 5) (x := (RX6, T5n, 2)) rfl rfl (by decide) (by decide) q289 q1725 ?_
      exact kH9

/-! BeforeTheEndModel.bound(III)I -/
def wp_X2_bound (post : Int32 → Hp → Prop) (h : Hp) (p1 : Int32) (p2 : Int32) (p3 : Int32) : Prop := (∀ z_3 : Int32, z_3 = ((if p2 ≤ p1 then (if p1 ≤ p3 then 0 else (-6)) else (-4)) : Int32) → (post z_3 h))
abbrev rm_X2_bound : Room := ({ frames := 1, cells := 0, slots := 0, locals := 60 })
abbrev K_X2_bound : Kx := ("BeforeTheEndModel", cX2_bound, 3, (Option.some Jvm.ClassFile.FieldType.int), rm_X2_bound, [], false)
set_option maxHeartbeats 4000000 in
theorem k_X2_bound {ρ : Rho} {h : Hp} {post : Int32 → Hp → Prop} {p1 : Int32} {p2 : Int32} {p3 : Int32} (G : G0 ρ) (g : GI h) (hw : wp_X2_bound post h p1 p2 p3) : Con ρ yX2_bound (ws_ yX2_bound cX2_bound 3 (Option.some Jvm.ClassFile.FieldType.int)) rm_X2_bound [.int p1, .int p2, .int p3] h (phI h post) psN := by
  refine con_of (own := "BeforeTheEndModel") (isI := false) (l0 := [(0, .int p1), (1, .int p2), (2, .int p3)]) (by decide) rfl (fun z => by cases z) (Nat.le_of_ble_eq_true rfl) rfl (fun _ => ?_)
  show X ρ K_X2_bound 0 [(0, .int p1), (1, .int p2), (2, .int p3)] [] h 0 0 (phI h post) psN
  refine x_iload_n 0 dX2_bound_0 rfl ?_
  refine x_iload_n 1 dX2_bound_1 rfl ?_
  have kJ_4 : ∀ z_3 : Int32, z_3 = ((if p2 ≤ p1 then (if p1 ≤ p3 then 0 else (-6)) else (-4)) : Int32) → X ρ K_X2_bound 21 [(0, .int p1), (1, .int p2), (2, .int p3)] [.int z_3] h 0 0 (phI h post) psN := fun z_3 ez_3 => by
    have hw := hw z_3 ez_3
    exact x_iret dX2_bound_21 rfl (Nat.le_of_ble_eq_true rfl) (Nat.le_of_ble_eq_true rfl) ⟨_, rfl, g, Ext.rf, hw⟩
  refine x_icmp_ge 10 dX2_bound_2 (by decide) (fun c_1 => ?_) (fun c_1 => ?_)
  · refine x_iload_n 0 dX2_bound_10 rfl ?_
    refine x_iload_n 2 dX2_bound_11 rfl ?_
    refine x_icmp_le 20 dX2_bound_12 (by decide) (fun c_2 => ?_) (fun c_2 => ?_)
    · refine x_iconst 0 dX2_bound_20 (by decide) ?_
      exact kJ_4 _ (((if_pos c_1).trans (if_pos c_2))).symm
    · refine x_bipush (-6) dX2_bound_15 (by decide) ?_
      refine x_goto 21 dX2_bound_17 (by decide) ?_
      exact kJ_4 _ (((if_pos c_1).trans (if_neg c_2))).symm
  · refine x_bipush (-4) dX2_bound_5 (by decide) ?_
    refine x_goto 21 dX2_bound_7 (by decide) ?_
    exact kJ_4 _ ((if_neg c_1)).symm

/-! BeforeTheEndModel.no(I)I -/
def wp_X2_no (post : Int32 → Hp → Prop) (h : Hp) (p1 : Int32) : Prop := (vp_in (-p1) 7 ∧ (vp_in (-p1) 7 ∧ (post p1 (si h 26 (Int32.toNatClampNeg (-p1)) ((gi h 26 (Int32.toNatClampNeg (-p1))) + 1)))))
abbrev rm_X2_no : Room := ({ frames := 1, cells := 0, slots := 0, locals := 60 })
abbrev K_X2_no : Kx := ("BeforeTheEndModel", cX2_no, 2, (Option.some Jvm.ClassFile.FieldType.int), rm_X2_no, [], false)
set_option maxHeartbeats 4000000 in
theorem k_X2_no {ρ : Rho} {h : Hp} {post : Int32 → Hp → Prop} {p1 : Int32} (G : G0 ρ) (g : GI h) (hw : wp_X2_no post h p1) : Con ρ yX2_no (ws_ yX2_no cX2_no 2 (Option.some Jvm.ClassFile.FieldType.int)) rm_X2_no [.ref (mr ρ 25), .int p1] h (phI h post) psN := by
  refine con_of (own := "BeforeTheEndModel") (isI := false) (l0 := [(0, .ref (mr ρ 25)), (1, .int p1)]) (by decide) rfl (fun z => by cases z) (Nat.le_of_ble_eq_true rfl) rfl (fun _ => ?_)
  show X ρ K_X2_no 0 [(0, .ref (mr ρ 25)), (1, .int p1)] [] h 0 0 (phI h post) psN
  refine x_aload_n 0 dX2_no_0 rfl ?_
  refine x_get (ci := 2) (v := .ref (mr ρ 26)) 0 dX2_no_1 (GI.s g (t := (12, 0)) rfl (by decide)) rfl in_X2 (by decide) q1223 (Or.inl rfl) (fv_rc rfl (GI.m g (n := 26) rfl (by decide)) (by decide)) ?_
  refine x_iload_n 1 dX2_no_4 rfl ?_
  refine x_ineg dX2_no_5 ?_
  refine x_dup2 dX2_no_6 rfl rfl ?_
  obtain ⟨b_1, hw⟩ := hw
  refine x_iald (n := 7) (j := (Int32.toNatClampNeg (-p1))) dX2_no_7 rfl (GI.s g (t := (1, 7)) rfl (by decide)) b_1 ?_
  refine x_iconst 1 dX2_no_8 (by decide) ?_
  refine x_iadd dX2_no_9 ?_
  obtain ⟨b_2, hw⟩ := hw
  refine x_iast (n := 7) (j := (Int32.toNatClampNeg (-p1))) dX2_no_10 rfl (GI.s g (t := (1, 7)) rfl (by decide)) b_2 ?_
  refine x_iload_n 1 dX2_no_11 rfl ?_
  exact x_iret dX2_no_12 rfl (Nat.le_of_ble_eq_true rfl) (Nat.le_of_ble_eq_true rfl) ⟨_, rfl, (GI.i g), (Ext.i Ext.rf), hw⟩

/-! BeforeTheEndModel.feed(IJ)I -/
def w_X2_feed_44 (post : Int32 → Hp → Prop) : Nat → Int32 → Int64 → Int32 → Hp → Prop
  | 0 => fun _ _ _ _ => False
  | n + 1 => fun x1 x2 x5 h => ((x1 ≤ x5 → (post (gi h 25 21) h)) ∧ (¬ x1 ≤ x5 → (vp_in (gi h 25 21) 64 ∧ (∀ h_3 : Hp, h_3 = (si (si h 38 (Int32.toNatClampNeg (gi h 25 21)) (Int64.toInt32 ((x2 >>> (Int32.toInt64 (8 * x5) &&& 63)) &&& 255))) 25 21 ((gi (si h 38 (Int32.toNatClampNeg (gi h 25 21)) (Int64.toInt32 ((x2 >>> (Int32.toInt64 (8 * x5) &&& 63)) &&& 255))) 25 21) + 1)) → (w_X2_feed_44 post n x1 x2 (x5 + 1) h_3)))))
def w_X2_feed_29 (post : Int32 → Hp → Prop) (x1 : Int32) (x2 : Int64) (x4 : Int32) (h : Hp) : Prop := ((x4 = 0 → (∃ fu : Nat, w_X2_feed_44 post fu x1 x2 0 h)) ∧ (¬ x4 = 0 → (wp_X2_no (fun r_5 h_2 => GI h_2 → Ext h h_2 → (post r_5 h_2)) h x4)))
def wp_X2_feed (post : Int32 → Hp → Prop) (h : Hp) (p1 : Int32) (p2 : Int64) : Prop := (wp_X2_bound (fun r_4 h_1 => GI h_1 → Ext h h_1 → ((¬ r_4 = 0 → (w_X2_feed_29 post p1 p2 r_4 h_1)) ∧ (r_4 = 0 → ((((gi h_1 25 21) + p1) ≤ 64 → (w_X2_feed_29 post p1 p2 r_4 h_1)) ∧ (¬ ((gi h_1 25 21) + p1) ≤ 64 → (w_X2_feed_29 post p1 p2 (-6) h_1)))))) h p1 1 8)
abbrev rm_X2_feed : Room := ({ frames := 2, cells := 0, slots := 0, locals := 82 })
abbrev K_X2_feed : Kx := ("BeforeTheEndModel", cX2_feed, 6, (Option.some Jvm.ClassFile.FieldType.int), rm_X2_feed, [], false)
set_option maxHeartbeats 4000000 in
theorem t_X2_feed_44 {ρ : Rho} {h0 : Hp} {post : Int32 → Hp → Prop} (G : G0 ρ) :
    ∀ (n : Nat), ∀ (x1 : Int32) (x2 : Int64) (x5 : Int32) (h : Hp), GI h → Ext h0 h → w_X2_feed_44 post n x1 x2 x5 h → X ρ K_X2_feed 44 [(0, .ref (mr ρ 25)), (1, .int x1), (2, .long x2), (5, .int x5)] [] h 0 0 (phI h0 post) psN := by
  intro n
  induction n with
  | zero => intro x1 x2 x5 h g e hw; exact False.elim hw
  | succ n ih =>
    intro x1 x2 x5 h g e hw
    refine x_iload 3 dX2_feed_44 rfl ?_
    refine x_iload_n 1 dX2_feed_46 rfl ?_
    obtain ⟨wt_6, wf_7⟩ := hw
    refine x_icmp_ge 87 dX2_feed_47 (by decide) (fun c_1 => ?_) (fun c_1 => ?_)
    · have hw := wt_6 c_1
      refine x_aload_n 0 dX2_feed_87 rfl ?_
      refine x_get (ci := 2) (v := .int (gi h 25 21)) 21 dX2_feed_88 (GI.s g (t := (12, 0)) rfl (by decide)) rfl in_X2 (by decide) q1244 (Or.inl rfl) (fv_i rfl) ?_
      exact x_iret dX2_feed_91 rfl (Nat.le_of_ble_eq_true rfl) (Nat.le_of_ble_eq_true rfl) ⟨_, rfl, g, e, hw⟩
    · have hw := wf_7 c_1
      refine x_aload_n 0 dX2_feed_50 rfl ?_
      refine x_get (ci := 2) (v := .ref (mr ρ 38)) 14 dX2_feed_51 (GI.s g (t := (12, 0)) rfl (by decide)) rfl in_X2 (by decide) q1237 (Or.inl rfl) (fv_rc rfl (GI.m g (n := 38) rfl (by decide)) (by decide)) ?_
      refine x_aload_n 0 dX2_feed_54 rfl ?_
      refine x_get (ci := 2) (v := .int (gi h 25 21)) 21 dX2_feed_55 (GI.s g (t := (12, 0)) rfl (by decide)) rfl in_X2 (by decide) q1244 (Or.inl rfl) (fv_i rfl) ?_
      refine x_lload_n 2 dX2_feed_58 rfl ?_
      refine x_bipush 8 dX2_feed_59 (by decide) ?_
      refine x_iload 3 dX2_feed_61 rfl ?_
      refine x_imul dX2_feed_63 ?_
      refine x_lshr dX2_feed_64 ?_
      refine x_ldc2 dX2_feed_65 q1391 ?_
      refine x_land dX2_feed_68 ?_
      refine x_l2i dX2_feed_69 ?_
      obtain ⟨b_2, hw⟩ := hw
      refine x_iast (n := 64) (j := (Int32.toNatClampNeg (gi h 25 21))) dX2_feed_70 rfl (GI.s g (t := (1, 64)) rfl (by decide)) b_2 ?_
      refine x_aload_n 0 dX2_feed_71 rfl ?_
      refine x_dup dX2_feed_72 rfl ?_
      refine x_get (ci := 2) (v := .int (gi (si h 38 (Int32.toNatClampNeg (gi h 25 21)) (Int64.toInt32 ((x2 >>> (Int32.toInt64 (8 * x5) &&& 63)) &&& 255))) 25 21)) 21 dX2_feed_73 (GI.s (GI.i g) (t := (12, 0)) rfl (by decide)) rfl in_X2 (by decide) q1244 (Or.inl rfl) (fv_i rfl) ?_
      refine x_iconst 1 dX2_feed_76 (by decide) ?_
      refine x_iadd dX2_feed_77 ?_
      refine x_put (ci := 2) 21 dX2_feed_78 (GI.s (GI.i g) (t := (12, 0)) rfl (by decide)) rfl in_X2 tyX2 tyX2_ok nmX2 (by decide) q1244 (Or.inl rfl) rfl rfl rfl (isPut_i rfl) ?_
      refine x_nmh (fun h_3 eh_3 => ?_)
      have hw := hw h_3 eh_3
      have g_4 : GI h_3 := eh_3 ▸ (GI.i (GI.i g))
      have e_5 : Ext h0 h_3 := eh_3 ▸ (Ext.i (Ext.i e))
      refine x_iinc (v := (x5 + 1)) (lv' := [(5, .int (x5 + 1)), (0, .ref (mr ρ 25)), (1, .int x1), (2, .long x2)]) 3 dX2_feed_81 rfl (by rfl) (Nat.le_of_ble_eq_true rfl) rfl ?_
      refine x_goto 44 dX2_feed_84 (by decide) ?_
      refine X.sub [1, 2, 3, 0] rfl ?_
      exact ih x1 x2 (x5 + 1) h_3 g_4 e_5 hw
set_option maxHeartbeats 4000000 in
theorem t_X2_feed_29 {ρ : Rho} {h0 : Hp} {post : Int32 → Hp → Prop} (G : G0 ρ) :
    ∀ (x1 : Int32) (x2 : Int64) (x4 : Int32) (h : Hp), GI h → Ext h0 h → w_X2_feed_29 post x1 x2 x4 h → X ρ K_X2_feed 29 [(0, .ref (mr ρ 25)), (1, .int x1), (2, .long x2), (4, .int x4)] [] h 0 0 (phI h0 post) psN := by
  intro x1 x2 x4 h g e hw
  refine x_iload 3 dX2_feed_29 rfl ?_
  obtain ⟨wt_7, wf_8⟩ := hw
  refine x_if_eq 41 dX2_feed_31 (by decide) (fun c_1 => ?_) (fun c_1 => ?_)
  · have hw := wt_7 c_1
    refine x_iconst 0 dX2_feed_41 (by decide) ?_
    refine x_istore (lv' := [(5, .int 0), (0, .ref (mr ρ 25)), (1, .int x1), (2, .long x2), (4, .int x4)]) dX2_feed_42 (Nat.le_of_ble_eq_true rfl) rfl ?_
    refine X.sub [1, 2, 3, 0] rfl ?_
    obtain ⟨fu, hw⟩ := hw
    exact t_X2_feed_44 G  fu x1 x2 0 h g e hw
  · have hw := wf_8 c_1
    refine x_aload_n 0 dX2_feed_34 rfl ?_
    refine x_iload 3 dX2_feed_35 rfl ?_
    refine x_callV (ci := 2) [.int x4] 1 dX2_feed_37 (k_X2_no G g hw) (GI.s g (t := (12, 0)) rfl (by decide)) rfl q1387 q1389 qs59 q106 q1390 (by decide) rfl rfl ⟨(Nat.le_of_ble_eq_true rfl), (Nat.le_of_ble_eq_true rfl)⟩ (Nat.le_of_ble_eq_true rfl) ⟨(Nat.le_of_ble_eq_true rfl), (Nat.le_of_ble_eq_true rfl)⟩ (fun v9 h_2 hv9 => ?_) (fun _ _ _ _ _ z _ _ => False.elim z)
    obtain ⟨r_5, rfl, g_3, e_4, hw⟩ := hv9
    have hw := hw g_3 e_4
    show X ρ K_X2_feed 40 [(0, .ref (mr ρ 25)), (1, .int x1), (2, .long x2), (4, .int x4)] [.int r_5] h_2 0 0 (phI h0 post) psN
    exact x_iret dX2_feed_40 rfl (Nat.le_of_ble_eq_true rfl) (Nat.le_of_ble_eq_true rfl) ⟨_, rfl, g_3, (Ext.tr e e_4), hw⟩
set_option maxHeartbeats 4000000 in
theorem k_X2_feed {ρ : Rho} {h : Hp} {post : Int32 → Hp → Prop} {p1 : Int32} {p2 : Int64} (G : G0 ρ) (g : GI h) (hw : wp_X2_feed post h p1 p2) : Con ρ yX2_feed (ws_ yX2_feed cX2_feed 6 (Option.some Jvm.ClassFile.FieldType.int)) rm_X2_feed [.ref (mr ρ 25), .int p1, .long p2] h (phI h post) psN := by
  refine con_of (own := "BeforeTheEndModel") (isI := false) (l0 := [(0, .ref (mr ρ 25)), (1, .int p1), (2, .long p2)]) (by decide) rfl (fun z => by cases z) (Nat.le_of_ble_eq_true rfl) rfl (fun _ => ?_)
  show X ρ K_X2_feed 0 [(0, .ref (mr ρ 25)), (1, .int p1), (2, .long p2)] [] h 0 0 (phI h post) psN
  refine x_iload_n 1 dX2_feed_0 rfl ?_
  refine x_iconst 1 dX2_feed_1 (by decide) ?_
  refine x_bipush 8 dX2_feed_2 (by decide) ?_
  refine x_callS [.int p1, .int 1, .int 8] 3 dX2_feed_4 (k_X2_bound G g hw) q1384 q1385 q106 q1386 (by decide) rfl rfl ⟨(Nat.le_of_ble_eq_true rfl), (Nat.le_of_ble_eq_true rfl)⟩ (Nat.le_of_ble_eq_true rfl) ⟨(Nat.le_of_ble_eq_true rfl), (Nat.le_of_ble_eq_true rfl)⟩ (fun v9 h_1 hv9 => ?_) (fun _ _ _ _ _ z _ _ => False.elim z)
  obtain ⟨r_4, rfl, g_2, e_3, hw⟩ := hv9
  have hw := hw g_2 e_3
  show X ρ K_X2_feed 7 [(0, .ref (mr ρ 25)), (1, .int p1), (2, .long p2)] [.int r_4] h_1 0 0 (phI h post) psN
  refine x_istore (lv' := [(4, .int r_4), (0, .ref (mr ρ 25)), (1, .int p1), (2, .long p2)]) dX2_feed_7 (Nat.le_of_ble_eq_true rfl) rfl ?_
  refine x_iload 0 dX2_feed_9 rfl ?_
  obtain ⟨wt_10, wf_11⟩ := hw
  refine x_if_ne 29 dX2_feed_11 (by decide) (fun c_6 => ?_) (fun c_6 => ?_)
  · have hw := wt_10 c_6
    refine X.sub [1, 2, 3, 0] rfl ?_
    exact t_X2_feed_29 G  p1 p2 r_4 h_1 g_2 e_3 hw
  · have hw := wf_11 c_6
    refine x_aload_n 1 dX2_feed_14 rfl ?_
    refine x_get (ci := 2) (v := .int (gi h_1 25 21)) 21 dX2_feed_15 (GI.s g_2 (t := (12, 0)) rfl (by decide)) rfl in_X2 (by decide) q1244 (Or.inl rfl) (fv_i rfl) ?_
    refine x_iload_n 2 dX2_feed_18 rfl ?_
    refine x_iadd dX2_feed_19 ?_
    refine x_bipush 64 dX2_feed_20 (by decide) ?_
    obtain ⟨wt_8, wf_9⟩ := hw
    refine x_icmp_le 29 dX2_feed_22 (by decide) (fun c_7 => ?_) (fun c_7 => ?_)
    · have hw := wt_8 c_7
      refine X.sub [1, 2, 3, 0] rfl ?_
      exact t_X2_feed_29 G  p1 p2 r_4 h_1 g_2 e_3 hw
    · have hw := wf_9 c_7
      refine x_bipush (-6) dX2_feed_25 (by decide) ?_
      refine x_istore (lv' := [(4, .int (-6)), (0, .ref (mr ρ 25)), (1, .int p1), (2, .long p2)]) dX2_feed_27 (Nat.le_of_ble_eq_true rfl) rfl ?_
      refine X.sub [1, 2, 3, 0] rfl ?_
      exact t_X2_feed_29 G  p1 p2 (-6) h_1 g_2 e_3 hw

/-! BeforeTheEnd$Reader.<init>(LBeforeTheEnd;)V -/
def wp_X5_init (post : Hp → Prop) (h : Hp) (r0 : Nat) : Prop := (post (si (sr h r0 2 1) r0 0 (gi (sr h r0 2 1) 1 14)))
abbrev rm_X5_init : Room := ({ frames := 1, cells := 0, slots := 0, locals := 60 })
abbrev K_X5_init : Kx := ("BeforeTheEnd$Reader", cX5_init, 2, (Option.none : Option Jvm.ClassFile.FieldType), rm_X5_init, [], true)
set_option maxHeartbeats 4000000 in
theorem k_X5_init {ρ : Rho} {h : Hp} {post : Hp → Prop} {r0 : Nat} (G : G0 ρ) (g : GI h) (fr0 : sh h r0 = (14, 0)) (hw : wp_X5_init post h r0) : Con ρ yX5_init (ws_ yX5_init cX5_init 2 (Option.none : Option Jvm.ClassFile.FieldType)) rm_X5_init [.ref (mr ρ r0), .ref (mr ρ 1)] h (phV h post) psN := by
  refine con_of (own := "BeforeTheEnd$Reader") (isI := true) (l0 := [(0, .ref (mr ρ r0)), (1, .ref (mr ρ 1))]) (by decide) rfl (fun _ => rfl) (Nat.le_of_ble_eq_true rfl) rfl (fun _ => ?_)
  show X ρ K_X5_init 0 [(0, .ref (mr ρ r0)), (1, .ref (mr ρ 1))] [] h 0 0 (phV h post) psN
  refine x_aload_n 0 dX5_init_0 rfl ?_
  refine x_aload_n 1 dX5_init_1 rfl ?_
  refine x_putF (ci := 4) 2 dX5_init_2 fr0 rfl in_X5 tyX5 tyX5_ok nmX5 (by decide) q409 rfl rfl rfl rfl rfl rfl (isPut_rn rfl (by decide)) ?_
  refine x_aload_n 0 dX5_init_5 rfl ?_
  refine x_objInit dX5_init_6 q404 q137 q138 (Nat.le_of_ble_eq_true rfl) (Nat.le_of_ble_eq_true rfl) ?_
  refine x_aload_n 0 dX5_init_9 rfl ?_
  refine x_aload_n 0 dX5_init_10 rfl ?_
  refine x_get (ci := 4) (v := .ref (mr ρ 1)) 2 dX5_init_11 fr0 rfl in_X5 (by decide) q409 (Or.inl rfl) (fv_rc rfl (if_pos ⟨rfl, rfl⟩) (by decide)) ?_
  refine x_getN (ci := 0) (v := .int (gi (sr h r0 2 1) 1 14)) 14 dX5_init_14 (GI.s (GI.r g fr0 (by decide) (by decide) (by decide)) (t := (10, 0)) rfl (by decide)) rfl in_X0 (by decide) q202 (Or.inl rfl) (fv_i rfl) ?_
  refine x_putF (ci := 4) 0 dX5_init_17 fr0 rfl in_X5 tyX5 tyX5_ok nmX5 (by decide) q405 rfl rfl rfl rfl rfl rfl (isPut_i rfl) ?_
  exact x_vret dX5_init_20 rfl (Nat.le_of_ble_eq_true rfl) (Nat.le_of_ble_eq_true rfl) ⟨rfl, (GI.i (GI.r g fr0 (by decide) (by decide) (by decide))), (Ext.i (Ext.rR Ext.rf fr0)), hw⟩

/-! BeforeTheEnd$Reader.here()I -/
def wp_X5_here (post : Int32 → Hp → Prop) (h : Hp) (r0 : Nat) : Prop := (((¬ (gi h r0 0) ≤ (gi h r0 1) → (vp_in (gi h r0 1) 64))) ∧ (∀ z_3 : Int32, z_3 = ((if (gi h r0 0) ≤ (gi h r0 1) then (-1) else ((gi h 16 (Int32.toNatClampNeg (gi h r0 1))) &&& 255)) : Int32) → (post z_3 h)))
abbrev rm_X5_here : Room := ({ frames := 1, cells := 0, slots := 0, locals := 60 })
abbrev K_X5_here : Kx := ("BeforeTheEnd$Reader", cX5_here, 1, (Option.some Jvm.ClassFile.FieldType.int), rm_X5_here, [], false)
set_option maxHeartbeats 4000000 in
theorem k_X5_here {ρ : Rho} {h : Hp} {post : Int32 → Hp → Prop} {r0 : Nat} (G : G0 ρ) (g : GI h) (fr0 : isRd h r0) (hw : wp_X5_here post h r0) : Con ρ yX5_here (ws_ yX5_here cX5_here 1 (Option.some Jvm.ClassFile.FieldType.int)) rm_X5_here [.ref (mr ρ r0)] h (phI h post) psN := by
  refine con_of (own := "BeforeTheEnd$Reader") (isI := false) (l0 := [(0, .ref (mr ρ r0))]) (by decide) rfl (fun z => by cases z) (Nat.le_of_ble_eq_true rfl) rfl (fun _ => ?_)
  show X ρ K_X5_here 0 [(0, .ref (mr ρ r0))] [] h 0 0 (phI h post) psN
  refine x_aload_n 0 dX5_here_0 rfl ?_
  refine x_get (ci := 4) (v := .int (gi h r0 1)) 1 dX5_here_1 fr0.1 rfl in_X5 (by decide) q407 (Or.inl rfl) (fv_i rfl) ?_
  refine x_aload_n 0 dX5_here_4 rfl ?_
  refine x_get (ci := 4) (v := .int (gi h r0 0)) 0 dX5_here_5 fr0.1 rfl in_X5 (by decide) q405 (Or.inl rfl) (fv_i rfl) ?_
  obtain ⟨hO_5, hw⟩ := hw
  have kJ_4 : ∀ z_3 : Int32, z_3 = ((if (gi h r0 0) ≤ (gi h r0 1) then (-1) else ((gi h 16 (Int32.toNatClampNeg (gi h r0 1))) &&& 255)) : Int32) → X ρ K_X5_here 31 [(0, .ref (mr ρ r0))] [.int z_3] h 0 0 (phI h post) psN := fun z_3 ez_3 => by
    have hw := hw z_3 ez_3
    exact x_iret dX5_here_31 rfl (Nat.le_of_ble_eq_true rfl) (Nat.le_of_ble_eq_true rfl) ⟨_, rfl, g, Ext.rf, hw⟩
  have hO_50 := hO_5
  refine x_icmp_ge 30 dX5_here_8 (by decide) (fun c_1 => ?_) (fun c_1 => ?_)
  · refine x_iconst (-1) dX5_here_30 (by decide) ?_
    exact kJ_4 _ ((if_pos c_1)).symm
  · have hO_5_ := hO_50 c_1
    have b_2 := hO_5_
    refine x_aload_n 0 dX5_here_11 rfl ?_
    refine x_get (ci := 4) (v := .ref (mr ρ 1)) 2 dX5_here_12 fr0.1 rfl in_X5 (by decide) q409 (Or.inl rfl) (fv_rc rfl fr0.2 (by decide)) ?_
    refine x_getN (ci := 0) (v := .ref (mr ρ 16)) 13 dX5_here_15 (GI.s g (t := (10, 0)) rfl (by decide)) rfl in_X0 (by decide) q200 (Or.inl rfl) (fv_rc rfl (GI.x g (n := 16) rfl (by decide)) (by decide)) ?_
    refine x_aload_n 0 dX5_here_18 rfl ?_
    refine x_get (ci := 4) (v := .int (gi h r0 1)) 1 dX5_here_19 fr0.1 rfl in_X5 (by decide) q407 (Or.inl rfl) (fv_i rfl) ?_
    refine x_bald (n := 64) (j := (Int32.toNatClampNeg (gi h r0 1))) dX5_here_22 rfl (GI.s g (t := (3, 64)) rfl (by decide)) b_2 ?_
    refine x_sipush 255 dX5_here_23 (by decide) ?_
    refine x_iand dX5_here_26 ?_
    refine x_goto 31 dX5_here_27 (by decide) ?_
    exact kJ_4 _ ((if_neg c_1)).symm

/-! BeforeTheEnd$Fault.<init>(I)V on an object of class 5 -/
def wp_X6_init_c5 (post : Hp → Prop) (h : Hp) (r0 : Nat) (p1 : Int32) : Prop := (post (si h r0 0 p1))
abbrev rm_X6_init_c5 : Room := ({ frames := 8, cells := 0, slots := 0, locals := 200 })
abbrev K_X6_init_c5 : Kx := ("BeforeTheEnd$Fault", cX6_init, 2, (Option.none : Option Jvm.ClassFile.FieldType), rm_X6_init_c5, [], true)
set_option maxHeartbeats 4000000 in
theorem k_X6_init_c5 {ρ : Rho} {h : Hp} {post : Hp → Prop} {r0 : Nat} {p1 : Int32} (G : G0 ρ) (g : GI h) (fr0 : sh h r0 = (15, 0)) (hw : wp_X6_init_c5 post h r0 p1) : Con ρ yX6_init (ws_ yX6_init cX6_init 2 (Option.none : Option Jvm.ClassFile.FieldType)) rm_X6_init_c5 [.ref (mr ρ r0), .int p1] h (phV h post) psN := by
  refine con_of (own := "BeforeTheEnd$Fault") (isI := true) (l0 := [(0, .ref (mr ρ r0)), (1, .int p1)]) (by decide) rfl (fun _ => rfl) (Nat.le_of_ble_eq_true rfl) rfl (fun _ => ?_)
  show X ρ K_X6_init_c5 0 [(0, .ref (mr ρ r0)), (1, .int p1)] [] h 0 0 (phV h post) psN
  refine x_aload_n 0 dX6_init_0 rfl ?_
  refine x_thr5 dX6_init_1 fr0 (Nat.le_of_ble_eq_true rfl) (Nat.le_of_ble_eq_true rfl) ?_
  refine x_aload_n 0 dX6_init_4 rfl ?_
  refine x_iload_n 1 dX6_init_5 rfl ?_
  refine x_putF (ci := 5) 0 dX6_init_6 fr0 rfl in_X6n tyT3 tyT5_ok nmT5 (by decide) q444 rfl rfl rfl rfl rfl rfl (isPut_i rfl) ?_
  exact x_vret dX6_init_9 rfl (Nat.le_of_ble_eq_true rfl) (Nat.le_of_ble_eq_true rfl) ⟨rfl, (GI.i g), (Ext.i Ext.rf), hw⟩

/-! BeforeTheEnd$Reader.mustStand(Z)V -/
def wp_X5_mustStand (post : Hp → Prop) (px : Nat → Hp → Prop) (h : Hp) (r0 : Nat) (p1 : Int32) : Prop := ((¬ p1 = 0 → (post h)) ∧ (p1 = 0 → (wp_X6_init_c5 (fun h_2 => GI h_2 → Ext (al h (15, 0)) h_2 → (px (sz h + 1) h_2)) (al h (15, 0)) (sz h + 1) ((-1000) - (gi (al h (15, 0)) r0 1)))))
abbrev rm_X5_mustStand : Room := ({ frames := 9, cells := 1, slots := 7, locals := 221 })
abbrev K_X5_mustStand : Kx := ("BeforeTheEnd$Reader", cX5_mustStand, 2, (Option.none : Option Jvm.ClassFile.FieldType), rm_X5_mustStand, [], false)
set_option maxHeartbeats 4000000 in
theorem k_X5_mustStand {ρ : Rho} {h : Hp} {post : Hp → Prop} {px : Nat → Hp → Prop} {r0 : Nat} {p1 : Int32} (G : G0 ρ) (g : GI h) (fr0 : isRd h r0) (hw : wp_X5_mustStand post px h r0 p1) : Con ρ yX5_mustStand (ws_ yX5_mustStand cX5_mustStand 2 (Option.none : Option Jvm.ClassFile.FieldType)) rm_X5_mustStand [.ref (mr ρ r0), .int p1] h (phV h post) (psX h px) := by
  refine con_of (own := "BeforeTheEnd$Reader") (isI := false) (l0 := [(0, .ref (mr ρ r0)), (1, .int p1)]) (by decide) rfl (fun z => by cases z) (Nat.le_of_ble_eq_true rfl) rfl (fun _ => ?_)
  show X ρ K_X5_mustStand 0 [(0, .ref (mr ρ r0)), (1, .int p1)] [] h 0 0 (phV h post) (psX h px)
  refine x_iload_n 1 dX5_mustStand_0 rfl ?_
  obtain ⟨wt_7, wf_8⟩ := hw
  refine x_if_ne 20 dX5_mustStand_1 (by decide) (fun c_1 => ?_) (fun c_1 => ?_)
  · have hw := wt_7 c_1
    exact x_vret dX5_mustStand_20 rfl (Nat.le_of_ble_eq_true rfl) (Nat.le_of_ble_eq_true rfl) ⟨rfl, g, Ext.rf, hw⟩
  · have hw := wf_8 c_1
    refine x_new (ci := 5) (n := 7) dX5_mustStand_4 rfl in_X6n tyT5_ok df_X6 q431 q432 q113 (Nat.le_of_ble_eq_true rfl) (Nat.le_of_ble_eq_true rfl) ?_
    refine x_dup dX5_mustStand_7 rfl ?_
    refine x_sipush (-1000) dX5_mustStand_8 (by decide) ?_
    refine x_aload_n 0 dX5_mustStand_11 rfl ?_
    refine x_get (ci := 4) (v := .int (gi (al h (15, 0)) r0 1)) 1 dX5_mustStand_12 (isRd.w fr0 (GI.live g)).1 rfl in_X5 (by decide) q407 (Or.inl rfl) (fv_i rfl) ?_
    refine x_isub dX5_mustStand_15 ?_
    refine x_callI [.int ((-1000) - (gi (al h (15, 0)) r0 1))] 1 dX5_mustStand_16 (k_X6_init_c5 G (GI.w g) sh_new hw) q440 q441 q113 q442 rfl (by decide) rfl rfl ⟨(Nat.le_of_ble_eq_true rfl), (Nat.le_of_ble_eq_true rfl)⟩ (Nat.le_of_ble_eq_true rfl) ⟨(Nat.le_of_ble_eq_true rfl), (Nat.le_of_ble_eq_true rfl)⟩ (fun v9 h_2 hv9 => ?_) (fun _ _ _ _ _ z _ _ => False.elim z)
    obtain ⟨rfl, g_3, e_4, hw⟩ := hv9
    have hw := hw g_3 e_4
    show X ρ K_X5_mustStand 19 [(0, .ref (mr ρ r0)), (1, .int p1)] [.ref (mr ρ (sz h + 1))] h_2 1 7 (phV h post) (psX h px)
    refine x_athrow dX5_mustStand_19 ?_
    exact xt_out (Ext.s e_4 sh_new (by decide)) rfl (fun z hz => by cases hz) (Nat.le_of_ble_eq_true rfl) (Nat.le_of_ble_eq_true rfl) ⟨g_3, (Ext.tr (Ext.w Ext.rf (GI.live g)) e_4), hw⟩

/-! BeforeTheEnd.in(JJJ)Z -/
def wp_X0_in (post : Int32 → Hp → Prop) (h : Hp) (p1 : Int64) (p2 : Int64) (p3 : Int64) : Prop := ((p1 < p2 → (post 0 h)) ∧ (¬ p1 < p2 → ((p3 < p1 → (post 0 h)) ∧ (¬ p3 < p1 → (post 1 h)))))
abbrev rm_X0_in : Room := ({ frames := 1, cells := 0, slots := 0, locals := 60 })
abbrev K_X0_in : Kx := ("BeforeTheEnd", cX0_in, 6, (Option.some Jvm.ClassFile.FieldType.boolean), rm_X0_in, [], false)
set_option maxHeartbeats 4000000 in
theorem k_X0_in {ρ : Rho} {h : Hp} {post : Int32 → Hp → Prop} {p1 : Int64} {p2 : Int64} {p3 : Int64} (G : G0 ρ) (g : GI h) (hw : wp_X0_in post h p1 p2 p3) : Con ρ yX0_in (ws_ yX0_in cX0_in 6 (Option.some Jvm.ClassFile.FieldType.boolean)) rm_X0_in [.long p1, .long p2, .long p3] h (phB h post) psN := by
  refine con_of (own := "BeforeTheEnd") (isI := false) (l0 := [(0, .long p1), (2, .long p2), (4, .long p3)]) (by decide) rfl (fun z => by cases z) (Nat.le_of_ble_eq_true rfl) rfl (fun _ => ?_)
  show X ρ K_X0_in 0 [(0, .long p1), (2, .long p2), (4, .long p3)] [] h 0 0 (phB h post) psN
  refine x_lload_n 0 dX0_in_0 rfl ?_
  refine x_lload_n 1 dX0_in_1 rfl ?_
  obtain ⟨wt_5, wf_6⟩ := hw
  refine x_lif_lt 17 dX0_in_2 dX0_in_3 (by decide) (fun c_1 => ?_) (fun c_1 => ?_)
  · have hw := wt_5 c_1
    refine x_iconst 0 dX0_in_17 (by decide) ?_
    exact x_zret dX0_in_18 rfl (isB.n isB_0) (Nat.le_of_ble_eq_true rfl) (Nat.le_of_ble_eq_true rfl) ⟨_, rfl, g, Ext.rf, isB_0, hw⟩
  · have hw := wf_6 c_1
    refine x_lload_n 0 dX0_in_6 rfl ?_
    refine x_lload 2 dX0_in_7 rfl ?_
    obtain ⟨wt_3, wf_4⟩ := hw
    refine x_lif_gt 17 dX0_in_9 dX0_in_10 (by decide) (fun c_2 => ?_) (fun c_2 => ?_)
    · have hw := wt_3 c_2
      refine x_iconst 0 dX0_in_17 (by decide) ?_
      exact x_zret dX0_in_18 rfl (isB.n isB_0) (Nat.le_of_ble_eq_true rfl) (Nat.le_of_ble_eq_true rfl) ⟨_, rfl, g, Ext.rf, isB_0, hw⟩
    · have hw := wf_4 c_2
      refine x_iconst 1 dX0_in_13 (by decide) ?_
      refine x_goto 18 dX0_in_14 (by decide) ?_
      exact x_zret dX0_in_18 rfl (isB.n isB_1) (Nat.le_of_ble_eq_true rfl) (Nat.le_of_ble_eq_true rfl) ⟨_, rfl, g, Ext.rf, isB_1, hw⟩

/-! BeforeTheEnd$Reader.digit()I -/
def wp_X5_digit (post : Int32 → Hp → Prop) (px : Nat → Hp → Prop) (h : Hp) (r0 : Nat) : Prop := (wp_X5_here (fun r_4 h_1 => GI h_1 → Ext h h_1 → (wp_X0_in (fun r_9 h_6 => GI h_6 → Ext h_1 h_6 → (wp_X5_mustStand (fun h_11 => GI h_11 → Ext h_6 h_11 → (vp_in ((gi (si h_11 r0 1 ((gi h_11 r0 1) + 1)) r0 1) - 1) 64 ∧ (post ((gi (si h_11 r0 1 ((gi h_11 r0 1) + 1)) 16 (Int32.toNatClampNeg ((gi (si h_11 r0 1 ((gi h_11 r0 1) + 1)) r0 1) - 1))) - 48) (si h_11 r0 1 ((gi h_11 r0 1) + 1))))) px h_6 r0 r_9)) h_1 (Int32.toInt64 r_4) 48 57)) h r0)
abbrev rm_X5_digit : Room := ({ frames := 10, cells := 1, slots := 7, locals := 242 })
abbrev K_X5_digit : Kx := ("BeforeTheEnd$Reader", cX5_digit, 1, (Option.some Jvm.ClassFile.FieldType.int), rm_X5_digit, [], false)
set_option maxHeartbeats 4000000 in
theorem k_X5_digit {ρ : Rho} {h : Hp} {post : Int32 → Hp → Prop} {px : Nat → Hp → Prop} {r0 : Nat} (G : G0 ρ) (g : GI h) (fr0 : isRd h r0) (hw : wp_X5_digit post px h r0) : Con ρ yX5_digit (ws_ yX5_digit cX5_digit 1 (Option.some Jvm.ClassFile.FieldType.int)) rm_X5_digit [.ref (mr ρ r0)] h (phI h post) (psX h px) := by
  refine con_of (own := "BeforeTheEnd$Reader") (isI := false) (l0 := [(0, .ref (mr ρ r0))]) (by decide) rfl (fun z => by cases z) (Nat.le_of_ble_eq_true rfl) rfl (fun _ => ?_)
  show X ρ K_X5_digit 0 [(0, .ref (mr ρ r0))] [] h 0 0 (phI h post) (psX h px)
  refine x_aload_n 0 dX5_digit_0 rfl ?_
  refine x_aload_n 0 dX5_digit_1 rfl ?_
  refine x_callV (ci := 4) [] 0 dX5_digit_2 (k_X5_here G g fr0 hw) fr0.1 rfl q423 q425 qs7 q112 q426 (by decide) rfl rfl ⟨(Nat.le_of_ble_eq_true rfl), (Nat.le_of_ble_eq_true rfl)⟩ (Nat.le_of_ble_eq_true rfl) ⟨(Nat.le_of_ble_eq_true rfl), (Nat.le_of_ble_eq_true rfl)⟩ (fun v9 h_1 hv9 => ?_) (fun _ _ _ _ _ z _ _ => False.elim z)
  obtain ⟨r_4, rfl, g_2, e_3, hw⟩ := hv9
  have hw := hw g_2 e_3
  show X ρ K_X5_digit 5 [(0, .ref (mr ρ r0))] [.int r_4, .ref (mr ρ r0)] h_1 0 0 (phI h post) (psX h px)
  refine x_i2l dX5_digit_5 ?_
  refine x_ldc2 dX5_digit_6 q461 ?_
  refine x_ldc2 dX5_digit_9 q462 ?_
  refine x_callSN [.long (Int32.toInt64 r_4), .long 48, .long 57] 3 dX5_digit_12 (k_X0_in G g_2 hw) q463 q464 q104 q465 (by decide) rfl rfl ⟨(Nat.le_of_ble_eq_true rfl), (Nat.le_of_ble_eq_true rfl)⟩ (Nat.le_of_ble_eq_true rfl) ⟨(Nat.le_of_ble_eq_true rfl), (Nat.le_of_ble_eq_true rfl)⟩ (fun v9 h_6 hv9 => ?_) (fun _ _ _ _ _ z _ _ => False.elim z)
  obtain ⟨r_9, rfl, g_7, e_8, b_10, hw⟩ := hv9
  have hw := hw g_7 e_8
  show X ρ K_X5_digit 15 [(0, .ref (mr ρ r0))] [.int r_9, .ref (mr ρ r0)] h_6 0 0 (phI h post) (psX h px)
  refine x_callV (ci := 4) [.int r_9] 1 dX5_digit_15 (k_X5_mustStand G g_7 (isRd.ext (isRd.ext fr0 e_3) e_8) hw) (isRd.ext (isRd.ext fr0 e_3) e_8).1 rfl q427 q429 qs8 q112 q430 (by decide) rfl rfl ⟨(Nat.le_of_ble_eq_true rfl), (Nat.le_of_ble_eq_true rfl)⟩ (Nat.le_of_ble_eq_true rfl) ⟨(Nat.le_of_ble_eq_true rfl), (Nat.le_of_ble_eq_true rfl)⟩ (fun v9 h_11 hv9 => ?_) (fun q9 h9 ci9 n9 x9 hx9 hs9 hc9 => xt_out hs9 hc9 (fun z hz => by cases hz) (Nat.le_of_ble_eq_true rfl) (Nat.le_of_ble_eq_true rfl) ⟨hx9.1, Ext.tr (Ext.tr e_3 e_8) hx9.2.1, hx9.2.2⟩)
  obtain ⟨rfl, g_12, e_13, hw⟩ := hv9
  have hw := hw g_12 e_13
  show X ρ K_X5_digit 18 [(0, .ref (mr ρ r0))] [] h_11 1 7 (phI h post) (psX h px)
  refine x_aload_n 0 dX5_digit_18 rfl ?_
  refine x_dup dX5_digit_19 rfl ?_
  refine x_get (ci := 4) (v := .int (gi h_11 r0 1)) 1 dX5_digit_20 (isRd.ext (isRd.ext (isRd.ext fr0 e_3) e_8) e_13).1 rfl in_X5 (by decide) q407 (Or.inl rfl) (fv_i rfl) ?_
  refine x_iconst 1 dX5_digit_23 (by decide) ?_
  refine x_iadd dX5_digit_24 ?_
  refine x_put (ci := 4) 1 dX5_digit_25 (isRd.ext (isRd.ext (isRd.ext fr0 e_3) e_8) e_13).1 rfl in_X5 tyX5 tyX5_ok nmX5 (by decide) q407 (Or.inl rfl) rfl rfl rfl (isPut_i rfl) ?_
  refine x_aload_n 0 dX5_digit_28 rfl ?_
  refine x_get (ci := 4) (v := .ref (mr ρ 1)) 2 dX5_digit_29 (isRd.i (isRd.ext (isRd.ext (isRd.ext fr0 e_3) e_8) e_13)).1 rfl in_X5 (by decide) q409 (Or.inl rfl) (fv_rc rfl (isRd.i (isRd.ext (isRd.ext (isRd.ext fr0 e_3) e_8) e_13)).2 (by decide)) ?_
  refine x_getN (ci := 0) (v := .ref (mr ρ 16)) 13 dX5_digit_32 (GI.s (GI.i g_12) (t := (10, 0)) rfl (by decide)) rfl in_X0 (by decide) q200 (Or.inl rfl) (fv_rc rfl (GI.x (GI.i g_12) (n := 16) rfl (by decide)) (by decide)) ?_
  refine x_aload_n 0 dX5_digit_35 rfl ?_
  refine x_get (ci := 4) (v := .int (gi (si h_11 r0 1 ((gi h_11 r0 1) + 1)) r0 1)) 1 dX5_digit_36 (isRd.i (isRd.ext (isRd.ext (isRd.ext fr0 e_3) e_8) e_13)).1 rfl in_X5 (by decide) q407 (Or.inl rfl) (fv_i rfl) ?_
  refine x_iconst 1 dX5_digit_39 (by decide) ?_
  refine x_isub dX5_digit_40 ?_
  obtain ⟨b_16, hw⟩ := hw
  refine x_bald (n := 64) (j := (Int32.toNatClampNeg ((gi (si h_11 r0 1 ((gi h_11 r0 1) + 1)) r0 1) - 1))) dX5_digit_41 rfl (GI.s (GI.i g_12) (t := (3, 64)) rfl (by decide)) b_16 ?_
  refine x_bipush 48 dX5_digit_42 (by decide) ?_
  refine x_isub dX5_digit_44 ?_
  exact x_iret dX5_digit_45 rfl (Nat.le_of_ble_eq_true rfl) (Nat.le_of_ble_eq_true rfl) ⟨_, rfl, (GI.i g_12), (Ext.i (Ext.tr (Ext.tr e_3 e_8) e_13)), hw⟩

/-! BeforeTheEnd$Reader.number(I)I -/
def w_X5_number_7 (post : Int32 → Hp → Prop) (px : Nat → Hp → Prop) : Nat → Nat → Int32 → Int32 → Int32 → Hp → Prop
  | 0 => fun _ _ _ _ _ => False
  | n + 1 => fun x0 x1 x2 x3 h => ((x1 ≤ x3 → (post x2 h)) ∧ (¬ x1 ≤ x3 → (wp_X5_here (fun r_5 h_2 => GI h_2 → Ext h h_2 → (wp_X0_in (fun r_10 h_7 => GI h_7 → Ext h_2 h_7 → ((r_10 = 0 → (post x2 h_7)) ∧ (¬ r_10 = 0 → (wp_X5_digit (fun r_16 h_13 => GI h_13 → Ext h_7 h_13 → (w_X5_number_7 post px n x0 x1 ((10 * x2) + r_16) (x3 + 1) h_13)) px h_7 x0)))) h_2 (Int32.toInt64 r_5) 48 57)) h x0)))
def wp_X5_number (post : Int32 → Hp → Prop) (px : Nat → Hp → Prop) (h : Hp) (r0 : Nat) (p1 : Int32) : Prop := (wp_X5_digit (fun r_4 h_1 => GI h_1 → Ext h h_1 → (w_X5_number_7 post px 3 r0 p1 r_4 1 h_1)) px h r0)
abbrev rm_X5_number : Room := ({ frames := 11, cells := 4, slots := 28, locals := 262 })
abbrev K_X5_number : Kx := ("BeforeTheEnd$Reader", cX5_number, 4, (Option.some Jvm.ClassFile.FieldType.int), rm_X5_number, [], false)
set_option maxHeartbeats 4000000 in
theorem t_X5_number_7 {ρ : Rho} {h0 : Hp} {post : Int32 → Hp → Prop} {px : Nat → Hp → Prop} (G : G0 ρ) :
    ∀ (n : Nat), n ≤ 3 → ∀ (x0 : Nat) (x1 : Int32) (x2 : Int32) (x3 : Int32) (h : Hp), GI h → Ext h0 h → isRd h x0 → w_X5_number_7 post px n x0 x1 x2 x3 h → X ρ K_X5_number 7 [(0, .ref (mr ρ x0)), (1, .int x1), (2, .int x2), (3, .int x3)] [] h (1 + (3 - n) * 1) (7 + (3 - n) * 7) (phI h0 post) (psX h0 px) := by
  intro n
  induction n with
  | zero => intro hn x0 x1 x2 x3 h g e fx0 hw; exact False.elim hw
  | succ n ih =>
    intro hn x0 x1 x2 x3 h g e fx0 hw
    refine x_iload_n 3 dX5_number_7 rfl ?_
    refine x_iload_n 1 dX5_number_8 rfl ?_
    obtain ⟨wt_20, wf_21⟩ := hw
    refine x_icmp_ge 45 dX5_number_9 (by decide) (fun c_1 => ?_) (fun c_1 => ?_)
    · have hw := wt_20 c_1
      refine x_iload_n 2 dX5_number_45 rfl ?_
      exact x_iret dX5_number_46 rfl (show 1 + (3 - (n + 1)) * 1 ≤ 4 by omega) (show 7 + (3 - (n + 1)) * 7 ≤ 28 by omega) ⟨_, rfl, g, e, hw⟩
    · have hw := wf_21 c_1
      refine x_aload_n 0 dX5_number_12 rfl ?_
      refine x_callV (ci := 4) [] 0 dX5_number_13 (k_X5_here G g fx0 hw) fx0.1 rfl q423 q425 qs7 q112 q426 (by decide) rfl rfl ⟨(Nat.le_of_ble_eq_true rfl), (Nat.le_of_ble_eq_true rfl)⟩ (Nat.le_of_ble_eq_true rfl) ⟨(show 1 + (3 - (n + 1)) * 1 + 0 ≤ 4 by omega), (show 7 + (3 - (n + 1)) * 7 + 0 ≤ 28 by omega)⟩ (fun v9 h_2 hv9 => ?_) (fun _ _ _ _ _ z _ _ => False.elim z)
      obtain ⟨r_5, rfl, g_3, e_4, hw⟩ := hv9
      have hw := hw g_3 e_4
      show X ρ K_X5_number 16 [(0, .ref (mr ρ x0)), (1, .int x1), (2, .int x2), (3, .int x3)] [.int r_5] h_2 (1 + (3 - (n + 1)) * 1) (7 + (3 - (n + 1)) * 7) (phI h0 post) (psX h0 px)
      refine x_i2l dX5_number_16 ?_
      refine x_ldc2 dX5_number_17 q461 ?_
      refine x_ldc2 dX5_number_20 q462 ?_
      refine x_callSN [.long (Int32.toInt64 r_5), .long 48, .long 57] 3 dX5_number_23 (k_X0_in G g_3 hw) q463 q464 q104 q465 (by decide) rfl rfl ⟨(Nat.le_of_ble_eq_true rfl), (Nat.le_of_ble_eq_true rfl)⟩ (Nat.le_of_ble_eq_true rfl) ⟨(show 1 + (3 - (n + 1)) * 1 + 0 ≤ 4 by omega), (show 7 + (3 - (n + 1)) * 7 + 0 ≤ 28 by omega)⟩ (fun v9 h_7 hv9 => ?_) (fun _ _ _ _ _ z _ _ => False.elim z)
      obtain ⟨r_10, rfl, g_8, e_9, b_11, hw⟩ := hv9
      have hw := hw g_8 e_9
      show X ρ K_X5_number 26 [(0, .ref (mr ρ x0)), (1, .int x1), (2, .int x2), (3, .int x3)] [.int r_10] h_7 (1 + (3 - (n + 1)) * 1) (7 + (3 - (n + 1)) * 7) (phI h0 post) (psX h0 px)
      obtain ⟨wt_18, wf_19⟩ := hw
      refine x_if_eq 45 dX5_number_26 (by decide) (fun c_12 => ?_) (fun c_12 => ?_)
      · have hw := wt_18 c_12
        refine x_iload_n 2 dX5_number_45 rfl ?_
        exact x_iret dX5_number_46 rfl (show 1 + (3 - (n + 1)) * 1 ≤ 4 by omega) (show 7 + (3 - (n + 1)) * 7 ≤ 28 by omega) ⟨_, rfl, g_8, (Ext.tr (Ext.tr e e_4) e_9), hw⟩
      · have hw := wf_19 c_12
        refine x_bipush 10 dX5_number_29 (by decide) ?_
        refine x_iload_n 2 dX5_number_31 rfl ?_
        refine x_imul dX5_number_32 ?_
        refine x_aload_n 0 dX5_number_33 rfl ?_
        refine x_callV (ci := 4) [] 0 dX5_number_34 (k_X5_digit G g_8 (isRd.ext (isRd.ext fx0 e_4) e_9) hw) (isRd.ext (isRd.ext fx0 e_4) e_9).1 rfl q457 q459 qs11 q112 q460 (by decide) rfl rfl ⟨(Nat.le_of_ble_eq_true rfl), (Nat.le_of_ble_eq_true rfl)⟩ (Nat.le_of_ble_eq_true rfl) ⟨(show 1 + (3 - (n + 1)) * 1 + 1 ≤ 4 by omega), (show 7 + (3 - (n + 1)) * 7 + 7 ≤ 28 by omega)⟩ (fun v9 h_13 hv9 => ?_) (fun q9 h9 ci9 n9 x9 hx9 hs9 hc9 => xt_out hs9 hc9 (fun z hz => by cases hz) (show 1 + (3 - (n + 1)) * 1 + 1 ≤ 4 by omega) (show 7 + (3 - (n + 1)) * 7 + 7 ≤ 28 by omega) ⟨hx9.1, Ext.tr (Ext.tr (Ext.tr e e_4) e_9) hx9.2.1, hx9.2.2⟩)
        obtain ⟨r_16, rfl, g_14, e_15, hw⟩ := hv9
        have hw := hw g_14 e_15
        show X ρ K_X5_number 37 [(0, .ref (mr ρ x0)), (1, .int x1), (2, .int x2), (3, .int x3)] [.int r_16, .int (10 * x2)] h_13 (1 + (3 - (n + 1)) * 1 + 1) (7 + (3 - (n + 1)) * 7 + 7) (phI h0 post) (psX h0 px)
        refine x_iadd dX5_number_37 ?_
        refine x_istore_n (lv' := [(2, .int ((10 * x2) + r_16)), (0, .ref (mr ρ x0)), (1, .int x1), (3, .int x3)]) dX5_number_38 (Nat.le_of_ble_eq_true rfl) rfl ?_
        refine x_iinc (v := (x3 + 1)) (lv' := [(3, .int (x3 + 1)), (2, .int ((10 * x2) + r_16)), (0, .ref (mr ρ x0)), (1, .int x1)]) 3 dX5_number_39 rfl (by rfl) (Nat.le_of_ble_eq_true rfl) rfl ?_
        refine x_goto 7 dX5_number_42 (by decide) ?_
        refine X.widen (k := 1 + (3 - n) * 1) (n := 7 + (3 - n) * 7) (show 1 + (3 - (n + 1)) * 1 + 1 ≤ 1 + (3 - n) * 1 by omega) (show 7 + (3 - (n + 1)) * 7 + 7 ≤ 7 + (3 - n) * 7 by omega) ?_
        refine X.sub [2, 3, 1, 0] rfl ?_
        exact ih (by omega) x0 x1 ((10 * x2) + r_16) (x3 + 1) h_13 g_14 (Ext.tr (Ext.tr (Ext.tr e e_4) e_9) e_15) (isRd.ext (isRd.ext (isRd.ext fx0 e_4) e_9) e_15) hw
set_option maxHeartbeats 4000000 in
theorem k_X5_number {ρ : Rho} {h : Hp} {post : Int32 → Hp → Prop} {px : Nat → Hp → Prop} {r0 : Nat} {p1 : Int32} (G : G0 ρ) (g : GI h) (fr0 : isRd h r0) (hw : wp_X5_number post px h r0 p1) : Con ρ yX5_number (ws_ yX5_number cX5_number 4 (Option.some Jvm.ClassFile.FieldType.int)) rm_X5_number [.ref (mr ρ r0), .int p1] h (phI h post) (psX h px) := by
  refine con_of (own := "BeforeTheEnd$Reader") (isI := false) (l0 := [(0, .ref (mr ρ r0)), (1, .int p1)]) (by decide) rfl (fun z => by cases z) (Nat.le_of_ble_eq_true rfl) rfl (fun _ => ?_)
  show X ρ K_X5_number 0 [(0, .ref (mr ρ r0)), (1, .int p1)] [] h 0 0 (phI h post) (psX h px)
  refine x_aload_n 0 dX5_number_0 rfl ?_
  refine x_callV (ci := 4) [] 0 dX5_number_1 (k_X5_digit G g fr0 hw) fr0.1 rfl q457 q459 qs11 q112 q460 (by decide) rfl rfl ⟨(Nat.le_of_ble_eq_true rfl), (Nat.le_of_ble_eq_true rfl)⟩ (Nat.le_of_ble_eq_true rfl) ⟨(Nat.le_of_ble_eq_true rfl), (Nat.le_of_ble_eq_true rfl)⟩ (fun v9 h_1 hv9 => ?_) (fun q9 h9 ci9 n9 x9 hx9 hs9 hc9 => xt_out hs9 hc9 (fun z hz => by cases hz) (Nat.le_of_ble_eq_true rfl) (Nat.le_of_ble_eq_true rfl) ⟨hx9.1, Ext.tr Ext.rf hx9.2.1, hx9.2.2⟩)
  obtain ⟨r_4, rfl, g_2, e_3, hw⟩ := hv9
  have hw := hw g_2 e_3
  show X ρ K_X5_number 4 [(0, .ref (mr ρ r0)), (1, .int p1)] [.int r_4] h_1 1 7 (phI h post) (psX h px)
  refine x_istore_n (lv' := [(2, .int r_4), (0, .ref (mr ρ r0)), (1, .int p1)]) dX5_number_4 (Nat.le_of_ble_eq_true rfl) rfl ?_
  refine x_iconst 1 dX5_number_5 (by decide) ?_
  refine x_istore_n (lv' := [(3, .int 1), (2, .int r_4), (0, .ref (mr ρ r0)), (1, .int p1)]) dX5_number_6 (Nat.le_of_ble_eq_true rfl) rfl ?_
  refine X.widen (k := 1 + (3 - 3) * 1) (n := 7 + (3 - 3) * 7) (show 1 ≤ 1 + (3 - 3) * 1 by omega) (show 7 ≤ 7 + (3 - 3) * 7 by omega) ?_
  refine X.sub [2, 3, 1, 0] rfl ?_
  exact t_X5_number_7 G  3 (Nat.le_refl _) r0 p1 r_4 1 h_1 g_2 e_3 (isRd.ext fr0 e_3) hw

/-! BeforeTheEnd$Reader.take(I)V -/
def wp_X5_take (post : Hp → Prop) (px : Nat → Hp → Prop) (h : Hp) (r0 : Nat) (p1 : Int32) : Prop := (wp_X5_here (fun r_4 h_1 => GI h_1 → Ext h h_1 → (∀ z_7 : Int32, z_7 = ((if r_4 = p1 then 1 else 0) : Int32) → (wp_X5_mustStand (fun h_8 => GI h_8 → Ext h_1 h_8 → (post (si h_8 r0 1 ((gi h_8 r0 1) + 1)))) px h_1 r0 z_7))) h r0)
abbrev rm_X5_take : Room := ({ frames := 10, cells := 1, slots := 7, locals := 242 })
abbrev K_X5_take : Kx := ("BeforeTheEnd$Reader", cX5_take, 2, (Option.none : Option Jvm.ClassFile.FieldType), rm_X5_take, [], false)
set_option maxHeartbeats 4000000 in
theorem k_X5_take {ρ : Rho} {h : Hp} {post : Hp → Prop} {px : Nat → Hp → Prop} {r0 : Nat} {p1 : Int32} (G : G0 ρ) (g : GI h) (fr0 : isRd h r0) (hw : wp_X5_take post px h r0 p1) : Con ρ yX5_take (ws_ yX5_take cX5_take 2 (Option.none : Option Jvm.ClassFile.FieldType)) rm_X5_take [.ref (mr ρ r0), .int p1] h (phV h post) (psX h px) := by
  refine con_of (own := "BeforeTheEnd$Reader") (isI := false) (l0 := [(0, .ref (mr ρ r0)), (1, .int p1)]) (by decide) rfl (fun z => by cases z) (Nat.le_of_ble_eq_true rfl) rfl (fun _ => ?_)
  show X ρ K_X5_take 0 [(0, .ref (mr ρ r0)), (1, .int p1)] [] h 0 0 (phV h post) (psX h px)
  refine x_aload_n 0 dX5_take_0 rfl ?_
  refine x_aload_n 0 dX5_take_1 rfl ?_
  refine x_callV (ci := 4) [] 0 dX5_take_2 (k_X5_here G g fr0 hw) fr0.1 rfl q423 q425 qs7 q112 q426 (by decide) rfl rfl ⟨(Nat.le_of_ble_eq_true rfl), (Nat.le_of_ble_eq_true rfl)⟩ (Nat.le_of_ble_eq_true rfl) ⟨(Nat.le_of_ble_eq_true rfl), (Nat.le_of_ble_eq_true rfl)⟩ (fun v9 h_1 hv9 => ?_) (fun _ _ _ _ _ z _ _ => False.elim z)
  obtain ⟨r_4, rfl, g_2, e_3, hw⟩ := hv9
  have hw := hw g_2 e_3
  show X ρ K_X5_take 5 [(0, .ref (mr ρ r0)), (1, .int p1)] [.int r_4, .ref (mr ρ r0)] h_1 0 0 (phV h post) (psX h px)
  refine x_iload_n 1 dX5_take_5 rfl ?_
  have kJ_13 : ∀ z_7 : Int32, z_7 = ((if r_4 = p1 then 1 else 0) : Int32) → X ρ K_X5_take 14 [(0, .ref (mr ρ r0)), (1, .int p1)] [.int z_7, .ref (mr ρ r0)] h_1 0 0 (phV h post) (psX h px) := fun z_7 ez_7 => by
    have hw := hw z_7 ez_7
    refine x_callV (ci := 4) [.int z_7] 1 dX5_take_14 (k_X5_mustStand G g_2 (isRd.ext fr0 e_3) hw) (isRd.ext fr0 e_3).1 rfl q427 q429 qs8 q112 q430 (by decide) rfl rfl ⟨(Nat.le_of_ble_eq_true rfl), (Nat.le_of_ble_eq_true rfl)⟩ (Nat.le_of_ble_eq_true rfl) ⟨(Nat.le_of_ble_eq_true rfl), (Nat.le_of_ble_eq_true rfl)⟩ (fun v9 h_8 hv9 => ?_) (fun q9 h9 ci9 n9 x9 hx9 hs9 hc9 => xt_out hs9 hc9 (fun z hz => by cases hz) (Nat.le_of_ble_eq_true rfl) (Nat.le_of_ble_eq_true rfl) ⟨hx9.1, Ext.tr e_3 hx9.2.1, hx9.2.2⟩)
    obtain ⟨rfl, g_9, e_10, hw⟩ := hv9
    have hw := hw g_9 e_10
    show X ρ K_X5_take 17 [(0, .ref (mr ρ r0)), (1, .int p1)] [] h_8 1 7 (phV h post) (psX h px)
    refine x_aload_n 0 dX5_take_17 rfl ?_
    refine x_dup dX5_take_18 rfl ?_
    refine x_get (ci := 4) (v := .int (gi h_8 r0 1)) 1 dX5_take_19 (isRd.ext (isRd.ext fr0 e_3) e_10).1 rfl in_X5 (by decide) q407 (Or.inl rfl) (fv_i rfl) ?_
    refine x_iconst 1 dX5_take_22 (by decide) ?_
    refine x_iadd dX5_take_23 ?_
    refine x_put (ci := 4) 1 dX5_take_24 (isRd.ext (isRd.ext fr0 e_3) e_10).1 rfl in_X5 tyX5 tyX5_ok nmX5 (by decide) q407 (Or.inl rfl) rfl rfl rfl (isPut_i rfl) ?_
    exact x_vret dX5_take_27 rfl (Nat.le_of_ble_eq_true rfl) (Nat.le_of_ble_eq_true rfl) ⟨rfl, (GI.i g_9), (Ext.i (Ext.tr e_3 e_10)), hw⟩
  refine x_icmp_ne 13 dX5_take_6 (by decide) (fun c_6 => ?_) (fun c_6 => ?_)
  · refine x_iconst 0 dX5_take_13 (by decide) ?_
    exact kJ_13 _ ((if_neg c_6)).symm
  · refine x_iconst 1 dX5_take_9 (by decide) ?_
    refine x_goto 14 dX5_take_10 (by decide) ?_
    exact kJ_13 _ ((if_pos c_6)).symm

/-! BeforeTheEnd$Told.<init>(I)V on an object of class 6 -/
def wp_X7_init_c6 (post : Hp → Prop) (h : Hp) (r0 : Nat) (p1 : Int32) : Prop := (post (si h r0 0 p1))
abbrev rm_X7_init_c6 : Room := ({ frames := 1, cells := 0, slots := 0, locals := 60 })
abbrev K_X7_init_c6 : Kx := ("BeforeTheEnd$Told", cX7_init, 2, (Option.none : Option Jvm.ClassFile.FieldType), rm_X7_init_c6, [], true)
set_option maxHeartbeats 4000000 in
theorem k_X7_init_c6 {ρ : Rho} {h : Hp} {post : Hp → Prop} {r0 : Nat} {p1 : Int32} (G : G0 ρ) (g : GI h) (fr0 : sh h r0 = (16, 0)) (hw : wp_X7_init_c6 post h r0 p1) : Con ρ yX7_init (ws_ yX7_init cX7_init 2 (Option.none : Option Jvm.ClassFile.FieldType)) rm_X7_init_c6 [.ref (mr ρ r0), .int p1] h (phV h post) psN := by
  refine con_of (own := "BeforeTheEnd$Told") (isI := true) (l0 := [(0, .ref (mr ρ r0)), (1, .int p1)]) (by decide) rfl (fun _ => rfl) (Nat.le_of_ble_eq_true rfl) rfl (fun _ => ?_)
  show X ρ K_X7_init_c6 0 [(0, .ref (mr ρ r0)), (1, .int p1)] [] h 0 0 (phV h post) psN
  refine x_aload_n 0 dX7_init_0 rfl ?_
  refine x_objInit dX7_init_1 q478 q137 q138 (Nat.le_of_ble_eq_true rfl) (Nat.le_of_ble_eq_true rfl) ?_
  refine x_aload_n 0 dX7_init_4 rfl ?_
  refine x_iload_n 1 dX7_init_5 rfl ?_
  refine x_putF (ci := 6) 0 dX7_init_6 fr0 rfl in_X8 tyX8 tyX8_ok nmX8 (by decide) q485 rfl rfl rfl rfl rfl rfl (isPut_i rfl) ?_
  exact x_vret dX7_init_9 rfl (Nat.le_of_ble_eq_true rfl) (Nat.le_of_ble_eq_true rfl) ⟨rfl, (GI.i g), (Ext.i Ext.rf), hw⟩

/-! BeforeTheEnd$WordTold.<init>(IIII)V on an object of class 6 -/
def wp_X8_init_c6 (post : Hp → Prop) (h : Hp) (r0 : Nat) (p1 : Int32) (p2 : Int32) (p3 : Int32) (p4 : Int32) : Prop := (wp_X7_init_c6 (fun h_1 => GI h_1 → Ext h h_1 → (post (si (si (si h_1 r0 1 p2) r0 2 p3) r0 3 p4))) h r0 p1)
abbrev rm_X8_init_c6 : Room := ({ frames := 2, cells := 0, slots := 0, locals := 81 })
abbrev K_X8_init_c6 : Kx := ("BeforeTheEnd$WordTold", cX8_init, 5, (Option.none : Option Jvm.ClassFile.FieldType), rm_X8_init_c6, [], true)
set_option maxHeartbeats 4000000 in
theorem k_X8_init_c6 {ρ : Rho} {h : Hp} {post : Hp → Prop} {r0 : Nat} {p1 : Int32} {p2 : Int32} {p3 : Int32} {p4 : Int32} (G : G0 ρ) (g : GI h) (fr0 : sh h r0 = (16, 0)) (hw : wp_X8_init_c6 post h r0 p1 p2 p3 p4) : Con ρ yX8_init (ws_ yX8_init cX8_init 5 (Option.none : Option Jvm.ClassFile.FieldType)) rm_X8_init_c6 [.ref (mr ρ r0), .int p1, .int p2, .int p3, .int p4] h (phV h post) psN := by
  refine con_of (own := "BeforeTheEnd$WordTold") (isI := true) (l0 := [(0, .ref (mr ρ r0)), (1, .int p1), (2, .int p2), (3, .int p3), (4, .int p4)]) (by decide) rfl (fun _ => rfl) (Nat.le_of_ble_eq_true rfl) rfl (fun _ => ?_)
  show X ρ K_X8_init_c6 0 [(0, .ref (mr ρ r0)), (1, .int p1), (2, .int p2), (3, .int p3), (4, .int p4)] [] h 0 0 (phV h post) psN
  refine x_aload_n 0 dX8_init_0 rfl ?_
  refine x_iload_n 1 dX8_init_1 rfl ?_
  refine x_callI [.int p1] 1 dX8_init_2 (k_X7_init_c6 G g fr0 hw) q475 q476 q114 q477 rfl (by decide) rfl rfl ⟨(Nat.le_of_ble_eq_true rfl), (Nat.le_of_ble_eq_true rfl)⟩ (Nat.le_of_ble_eq_true rfl) ⟨(Nat.le_of_ble_eq_true rfl), (Nat.le_of_ble_eq_true rfl)⟩ (fun v9 h_1 hv9 => ?_) (fun _ _ _ _ _ z _ _ => False.elim z)
  obtain ⟨rfl, g_2, e_3, hw⟩ := hv9
  have hw := hw g_2 e_3
  show X ρ K_X8_init_c6 5 [(0, .ref (mr ρ r0)), (1, .int p1), (2, .int p2), (3, .int p3), (4, .int p4)] [] h_1 0 0 (phV h post) psN
  refine x_aload_n 0 dX8_init_5 rfl ?_
  refine x_iload_n 2 dX8_init_6 rfl ?_
  refine x_putF (ci := 6) 1 dX8_init_7 (Ext.s e_3 fr0 (by decide)) rfl in_X8 tyX8 tyX8_ok nmX8 (by decide) q479 rfl rfl rfl rfl rfl rfl (isPut_i rfl) ?_
  refine x_aload_n 0 dX8_init_10 rfl ?_
  refine x_iload_n 3 dX8_init_11 rfl ?_
  refine x_putF (ci := 6) 2 dX8_init_12 (Ext.s e_3 fr0 (by decide)) rfl in_X8 tyX8 tyX8_ok nmX8 (by decide) q481 rfl rfl rfl rfl rfl rfl (isPut_i rfl) ?_
  refine x_aload_n 0 dX8_init_15 rfl ?_
  refine x_iload 4 dX8_init_16 rfl ?_
  refine x_putF (ci := 6) 3 dX8_init_18 (Ext.s e_3 fr0 (by decide)) rfl in_X8 tyX8 tyX8_ok nmX8 (by decide) q483 rfl rfl rfl rfl rfl rfl (isPut_i rfl) ?_
  exact x_vret dX8_init_21 rfl (Nat.le_of_ble_eq_true rfl) (Nat.le_of_ble_eq_true rfl) ⟨rfl, (GI.i (GI.i (GI.i g_2))), (Ext.i (Ext.i (Ext.i e_3))), hw⟩
