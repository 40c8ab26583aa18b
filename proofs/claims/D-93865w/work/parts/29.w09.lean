/-! THE WALK, printed by wip/D-93865w/gen/main.py -/
set_option maxRecDepth 100000
/-! BeforeTheEndModel.comes(I)Z -/
def wp_X2_comes (post : Int32 → Hp → Prop) (h : Hp) (p1 : Int32) : Prop := (vp_in p1 32 ∧ ((¬ (gi h 43 (Int32.toNatClampNeg p1)) = 119 → (((gi h 25 13) = 4 → (post 0 h)) ∧ (¬ (gi h 25 13) = 4 → (vp_in p1 32 ∧ ((100 < (gi h 40 (Int32.toNatClampNeg p1)) → (post 0 h)) ∧ (¬ 100 < (gi h 40 (Int32.toNatClampNeg p1)) → (vp_in p1 32 ∧ (((gi h 42 (Int32.toNatClampNeg p1)) < 1024 → (vp_in p1 32 ∧ (vp_in (gi h 25 13) 4 ∧ (vp_in p1 32 ∧ (vp_in (gi (si h 31 (Int32.toNatClampNeg (gi h 25 13)) (gi h 41 (Int32.toNatClampNeg p1))) 25 13) 4 ∧ (∀ h_12 : Hp, h_12 = (si (si h 31 (Int32.toNatClampNeg (gi h 25 13)) (gi h 41 (Int32.toNatClampNeg p1))) 33 (Int32.toNatClampNeg (gi (si h 31 (Int32.toNatClampNeg (gi h 25 13)) (gi h 41 (Int32.toNatClampNeg p1))) 25 13)) (gi (si h 31 (Int32.toNatClampNeg (gi h 25 13)) (gi h 41 (Int32.toNatClampNeg p1))) 39 (Int32.toNatClampNeg p1))) → (vp_in p1 32 ∧ (vp_in (gi h_12 25 13) 4 ∧ (vp_in p1 32 ∧ (vp_in (gi (si h_12 34 (Int32.toNatClampNeg (gi h_12 25 13)) (gi h_12 40 (Int32.toNatClampNeg p1))) 25 13) 4 ∧ (∀ h_19 : Hp, h_19 = (si (si h_12 34 (Int32.toNatClampNeg (gi h_12 25 13)) (gi h_12 40 (Int32.toNatClampNeg p1))) 32 (Int32.toNatClampNeg (gi (si h_12 34 (Int32.toNatClampNeg (gi h_12 25 13)) (gi h_12 40 (Int32.toNatClampNeg p1))) 25 13)) (gi (si h_12 34 (Int32.toNatClampNeg (gi h_12 25 13)) (gi h_12 40 (Int32.toNatClampNeg p1))) 42 (Int32.toNatClampNeg p1))) → (vp_in (gi h_19 25 13) 4 ∧ (post 1 (si (si h_19 35 (Int32.toNatClampNeg (gi h_19 25 13)) 0) 25 13 ((gi (si h_19 35 (Int32.toNatClampNeg (gi h_19 25 13)) 0) 25 13) + 1))))))))))))))) ∧ (¬ (gi h 42 (Int32.toNatClampNeg p1)) < 1024 → (post 0 h)))))))))) ∧ ((gi h 43 (Int32.toNatClampNeg p1)) = 119 → (((gi h 25 12) = 24 → (post 0 h)) ∧ (¬ (gi h 25 12) = 24 → (vp_in p1 32 ∧ (wp_X2_isWord (fun r_34 h_31 => GI h_31 → Ext h h_31 → ((r_34 = 0 → (post 0 h_31)) ∧ (¬ r_34 = 0 → (vp_in p1 32 ∧ (vp_in (gi h_31 39 (Int32.toNatClampNeg p1)) 24 ∧ ((¬ (gi h_31 29 (Int32.toNatClampNeg (gi h_31 39 (Int32.toNatClampNeg p1)))) = 0 → (post 0 h_31)) ∧ ((gi h_31 29 (Int32.toNatClampNeg (gi h_31 39 (Int32.toNatClampNeg p1)))) = 0 → (vp_in p1 32 ∧ ((¬ (gi h_31 40 (Int32.toNatClampNeg p1)) = 0 → (vp_in p1 32 ∧ (vp_in p1 32 ∧ (vp_in p1 32 ∧ (wp_X2_comesWord (fun h_45 => GI h_45 → Ext h_31 h_45 → (post 1 h_45)) h_31 (gi h_31 39 (Int32.toNatClampNeg p1)) (gi h_31 40 (Int32.toNatClampNeg p1)) (gi h_31 41 (Int32.toNatClampNeg p1))))))) ∧ ((gi h_31 40 (Int32.toNatClampNeg p1)) = 0 → (post 0 h_31))))))))))) h (gi h 39 (Int32.toNatClampNeg p1)))))))))
abbrev rm_X2_comes : Room := ({ frames := 2, cells := 0, slots := 0, locals := 83 })
abbrev K_X2_comes : Kx := ("BeforeTheEndModel", cX2_comes, 2, (Option.some Jvm.ClassFile.FieldType.boolean), rm_X2_comes, [], false)
set_option maxHeartbeats 4000000 in
theorem k_X2_comes {ρ : Rho} {h : Hp} {post : Int32 → Hp → Prop} {p1 : Int32} (G : G0 ρ) (g : GI h) (hw : wp_X2_comes post h p1) : Con ρ yX2_comes (ws_ yX2_comes cX2_comes 2 (Option.some Jvm.ClassFile.FieldType.boolean)) rm_X2_comes [.ref (mr ρ 25), .int p1] h (phB h post) psN := by
  refine con_of (own := "BeforeTheEndModel") (isI := false) (l0 := [(0, .ref (mr ρ 25)), (1, .int p1)]) (by decide) rfl (fun z => by cases z) (Nat.le_of_ble_eq_true rfl) rfl (fun _ => ?_)
  show X ρ K_X2_comes 0 [(0, .ref (mr ρ 25)), (1, .int p1)] [] h 0 0 (phB h post) psN
  refine x_aload_n 0 dX2_comes_0 rfl ?_
  refine x_get (ci := 2) (v := .ref (mr ρ 43)) 19 dX2_comes_1 (GI.s g (t := (12, 0)) rfl (by decide)) rfl in_X2 (by decide) q1242 (Or.inl rfl) (fv_rc rfl (GI.m g (n := 43) rfl (by decide)) (by decide)) ?_
  refine x_iload_n 1 dX2_comes_4 rfl ?_
  obtain ⟨b_1, hw⟩ := hw
  refine x_iald (n := 32) (j := (Int32.toNatClampNeg p1)) dX2_comes_5 rfl (GI.s g (t := (1, 32)) rfl (by decide)) b_1 ?_
  refine x_bipush 119 dX2_comes_6 (by decide) ?_
  obtain ⟨wt_58, wf_59⟩ := hw
  refine x_icmp_ne 82 dX2_comes_8 (by decide) (fun c_2 => ?_) (fun c_2 => ?_)
  · have hw := wt_58 c_2
    refine x_aload_n 0 dX2_comes_82 rfl ?_
    refine x_get (ci := 2) (v := .int (gi h 25 13)) 13 dX2_comes_83 (GI.s g (t := (12, 0)) rfl (by decide)) rfl in_X2 (by decide) q1236 (Or.inl rfl) (fv_i rfl) ?_
    refine x_iconst 4 dX2_comes_86 (by decide) ?_
    obtain ⟨wt_27, wf_28⟩ := hw
    refine x_icmp_eq 113 dX2_comes_87 (by decide) (fun c_3 => ?_) (fun c_3 => ?_)
    · have hw := wt_27 c_3
      refine x_iconst 0 dX2_comes_113 (by decide) ?_
      exact x_zret dX2_comes_114 rfl (isB.n isB_0) (Nat.le_of_ble_eq_true rfl) (Nat.le_of_ble_eq_true rfl) ⟨_, rfl, g, Ext.rf, isB_0, hw⟩
    · have hw := wf_28 c_3
      refine x_aload_n 0 dX2_comes_90 rfl ?_
      refine x_get (ci := 2) (v := .ref (mr ρ 40)) 16 dX2_comes_91 (GI.s g (t := (12, 0)) rfl (by decide)) rfl in_X2 (by decide) q1239 (Or.inl rfl) (fv_rc rfl (GI.m g (n := 40) rfl (by decide)) (by decide)) ?_
      refine x_iload_n 1 dX2_comes_94 rfl ?_
      obtain ⟨b_4, hw⟩ := hw
      refine x_iald (n := 32) (j := (Int32.toNatClampNeg p1)) dX2_comes_95 rfl (GI.s g (t := (1, 32)) rfl (by decide)) b_4 ?_
      refine x_bipush 100 dX2_comes_96 (by decide) ?_
      obtain ⟨wt_25, wf_26⟩ := hw
      refine x_icmp_gt 113 dX2_comes_98 (by decide) (fun c_5 => ?_) (fun c_5 => ?_)
      · have hw := wt_25 c_5
        refine x_iconst 0 dX2_comes_113 (by decide) ?_
        exact x_zret dX2_comes_114 rfl (isB.n isB_0) (Nat.le_of_ble_eq_true rfl) (Nat.le_of_ble_eq_true rfl) ⟨_, rfl, g, Ext.rf, isB_0, hw⟩
      · have hw := wf_26 c_5
        refine x_aload_n 0 dX2_comes_101 rfl ?_
        refine x_get (ci := 2) (v := .ref (mr ρ 42)) 18 dX2_comes_102 (GI.s g (t := (12, 0)) rfl (by decide)) rfl in_X2 (by decide) q1241 (Or.inl rfl) (fv_rc rfl (GI.m g (n := 42) rfl (by decide)) (by decide)) ?_
        refine x_iload_n 1 dX2_comes_105 rfl ?_
        obtain ⟨b_6, hw⟩ := hw
        refine x_iald (n := 32) (j := (Int32.toNatClampNeg p1)) dX2_comes_106 rfl (GI.s g (t := (1, 32)) rfl (by decide)) b_6 ?_
        refine x_sipush 1024 dX2_comes_107 (by decide) ?_
        obtain ⟨wt_23, wf_24⟩ := hw
        refine x_icmp_lt 115 dX2_comes_110 (by decide) (fun c_7 => ?_) (fun c_7 => ?_)
        · have hw := wt_23 c_7
          refine x_aload_n 0 dX2_comes_115 rfl ?_
          refine x_get (ci := 2) (v := .ref (mr ρ 31)) 5 dX2_comes_116 (GI.s g (t := (12, 0)) rfl (by decide)) rfl in_X2 (by decide) q1228 (Or.inl rfl) (fv_rc rfl (GI.m g (n := 31) rfl (by decide)) (by decide)) ?_
          refine x_aload_n 0 dX2_comes_119 rfl ?_
          refine x_get (ci := 2) (v := .int (gi h 25 13)) 13 dX2_comes_120 (GI.s g (t := (12, 0)) rfl (by decide)) rfl in_X2 (by decide) q1236 (Or.inl rfl) (fv_i rfl) ?_
          refine x_aload_n 0 dX2_comes_123 rfl ?_
          refine x_get (ci := 2) (v := .ref (mr ρ 41)) 17 dX2_comes_124 (GI.s g (t := (12, 0)) rfl (by decide)) rfl in_X2 (by decide) q1240 (Or.inl rfl) (fv_rc rfl (GI.m g (n := 41) rfl (by decide)) (by decide)) ?_
          refine x_iload_n 1 dX2_comes_127 rfl ?_
          obtain ⟨b_8, hw⟩ := hw
          refine x_iald (n := 32) (j := (Int32.toNatClampNeg p1)) dX2_comes_128 rfl (GI.s g (t := (1, 32)) rfl (by decide)) b_8 ?_
          obtain ⟨b_9, hw⟩ := hw
          refine x_iast (n := 4) (j := (Int32.toNatClampNeg (gi h 25 13))) dX2_comes_129 rfl (GI.s g (t := (1, 4)) rfl (by decide)) b_9 ?_
          refine x_aload_n 0 dX2_comes_130 rfl ?_
          refine x_get (ci := 2) (v := .ref (mr ρ 33)) 7 dX2_comes_131 (GI.s (GI.i g) (t := (12, 0)) rfl (by decide)) rfl in_X2 (by decide) q1230 (Or.inl rfl) (fv_rc rfl (GI.m (GI.i g) (n := 33) rfl (by decide)) (by decide)) ?_
          refine x_aload_n 0 dX2_comes_134 rfl ?_
          refine x_get (ci := 2) (v := .int (gi (si h 31 (Int32.toNatClampNeg (gi h 25 13)) (gi h 41 (Int32.toNatClampNeg p1))) 25 13)) 13 dX2_comes_135 (GI.s (GI.i g) (t := (12, 0)) rfl (by decide)) rfl in_X2 (by decide) q1236 (Or.inl rfl) (fv_i rfl) ?_
          refine x_aload_n 0 dX2_comes_138 rfl ?_
          refine x_get (ci := 2) (v := .ref (mr ρ 39)) 15 dX2_comes_139 (GI.s (GI.i g) (t := (12, 0)) rfl (by decide)) rfl in_X2 (by decide) q1238 (Or.inl rfl) (fv_rc rfl (GI.m (GI.i g) (n := 39) rfl (by decide)) (by decide)) ?_
          refine x_iload_n 1 dX2_comes_142 rfl ?_
          obtain ⟨b_10, hw⟩ := hw
          refine x_iald (n := 32) (j := (Int32.toNatClampNeg p1)) dX2_comes_143 rfl (GI.s (GI.i g) (t := (1, 32)) rfl (by decide)) b_10 ?_
          obtain ⟨b_11, hw⟩ := hw
          refine x_iast (n := 4) (j := (Int32.toNatClampNeg (gi (si h 31 (Int32.toNatClampNeg (gi h 25 13)) (gi h 41 (Int32.toNatClampNeg p1))) 25 13))) dX2_comes_144 rfl (GI.s (GI.i g) (t := (1, 4)) rfl (by decide)) b_11 ?_
          refine x_nmh (fun h_12 eh_12 => ?_)
          have hw := hw h_12 eh_12
          have g_13 : GI h_12 := eh_12 ▸ (GI.i (GI.i g))
          have e_14 : Ext h h_12 := eh_12 ▸ (Ext.i (Ext.i Ext.rf))
          refine x_aload_n 0 dX2_comes_145 rfl ?_
          refine x_get (ci := 2) (v := .ref (mr ρ 34)) 8 dX2_comes_146 (GI.s g_13 (t := (12, 0)) rfl (by decide)) rfl in_X2 (by decide) q1231 (Or.inl rfl) (fv_rc rfl (GI.m g_13 (n := 34) rfl (by decide)) (by decide)) ?_
          refine x_aload_n 0 dX2_comes_149 rfl ?_
          refine x_get (ci := 2) (v := .int (gi h_12 25 13)) 13 dX2_comes_150 (GI.s g_13 (t := (12, 0)) rfl (by decide)) rfl in_X2 (by decide) q1236 (Or.inl rfl) (fv_i rfl) ?_
          refine x_aload_n 0 dX2_comes_153 rfl ?_
          refine x_get (ci := 2) (v := .ref (mr ρ 40)) 16 dX2_comes_154 (GI.s g_13 (t := (12, 0)) rfl (by decide)) rfl in_X2 (by decide) q1239 (Or.inl rfl) (fv_rc rfl (GI.m g_13 (n := 40) rfl (by decide)) (by decide)) ?_
          refine x_iload_n 1 dX2_comes_157 rfl ?_
          obtain ⟨b_15, hw⟩ := hw
          refine x_iald (n := 32) (j := (Int32.toNatClampNeg p1)) dX2_comes_158 rfl (GI.s g_13 (t := (1, 32)) rfl (by decide)) b_15 ?_
          obtain ⟨b_16, hw⟩ := hw
          refine x_iast (n := 4) (j := (Int32.toNatClampNeg (gi h_12 25 13))) dX2_comes_159 rfl (GI.s g_13 (t := (1, 4)) rfl (by decide)) b_16 ?_
          refine x_aload_n 0 dX2_comes_160 rfl ?_
          refine x_get (ci := 2) (v := .ref (mr ρ 32)) 6 dX2_comes_161 (GI.s (GI.i g_13) (t := (12, 0)) rfl (by decide)) rfl in_X2 (by decide) q1229 (Or.inl rfl) (fv_rc rfl (GI.m (GI.i g_13) (n := 32) rfl (by decide)) (by decide)) ?_
          refine x_aload_n 0 dX2_comes_164 rfl ?_
          refine x_get (ci := 2) (v := .int (gi (si h_12 34 (Int32.toNatClampNeg (gi h_12 25 13)) (gi h_12 40 (Int32.toNatClampNeg p1))) 25 13)) 13 dX2_comes_165 (GI.s (GI.i g_13) (t := (12, 0)) rfl (by decide)) rfl in_X2 (by decide) q1236 (Or.inl rfl) (fv_i rfl) ?_
          refine x_aload_n 0 dX2_comes_168 rfl ?_
          refine x_get (ci := 2) (v := .ref (mr ρ 42)) 18 dX2_comes_169 (GI.s (GI.i g_13) (t := (12, 0)) rfl (by decide)) rfl in_X2 (by decide) q1241 (Or.inl rfl) (fv_rc rfl (GI.m (GI.i g_13) (n := 42) rfl (by decide)) (by decide)) ?_
          refine x_iload_n 1 dX2_comes_172 rfl ?_
          obtain ⟨b_17, hw⟩ := hw
          refine x_iald (n := 32) (j := (Int32.toNatClampNeg p1)) dX2_comes_173 rfl (GI.s (GI.i g_13) (t := (1, 32)) rfl (by decide)) b_17 ?_
          obtain ⟨b_18, hw⟩ := hw
          refine x_iast (n := 4) (j := (Int32.toNatClampNeg (gi (si h_12 34 (Int32.toNatClampNeg (gi h_12 25 13)) (gi h_12 40 (Int32.toNatClampNeg p1))) 25 13))) dX2_comes_174 rfl (GI.s (GI.i g_13) (t := (1, 4)) rfl (by decide)) b_18 ?_
          refine x_nmh (fun h_19 eh_19 => ?_)
          have hw := hw h_19 eh_19
          have g_20 : GI h_19 := eh_19 ▸ (GI.i (GI.i g_13))
          have e_21 : Ext h h_19 := eh_19 ▸ (Ext.i (Ext.i e_14))
          refine x_aload_n 0 dX2_comes_175 rfl ?_
          refine x_get (ci := 2) (v := .ref (mr ρ 35)) 9 dX2_comes_176 (GI.s g_20 (t := (12, 0)) rfl (by decide)) rfl in_X2 (by decide) q1232 (Or.inl rfl) (fv_rc rfl (GI.m g_20 (n := 35) rfl (by decide)) (by decide)) ?_
          refine x_aload_n 0 dX2_comes_179 rfl ?_
          refine x_get (ci := 2) (v := .int (gi h_19 25 13)) 13 dX2_comes_180 (GI.s g_20 (t := (12, 0)) rfl (by decide)) rfl in_X2 (by decide) q1236 (Or.inl rfl) (fv_i rfl) ?_
          refine x_iconst 0 dX2_comes_183 (by decide) ?_
          obtain ⟨b_22, hw⟩ := hw
          refine x_iast (n := 4) (j := (Int32.toNatClampNeg (gi h_19 25 13))) dX2_comes_184 rfl (GI.s g_20 (t := (1, 4)) rfl (by decide)) b_22 ?_
          refine x_aload_n 0 dX2_comes_185 rfl ?_
          refine x_dup dX2_comes_186 rfl ?_
          refine x_get (ci := 2) (v := .int (gi (si h_19 35 (Int32.toNatClampNeg (gi h_19 25 13)) 0) 25 13)) 13 dX2_comes_187 (GI.s (GI.i g_20) (t := (12, 0)) rfl (by decide)) rfl in_X2 (by decide) q1236 (Or.inl rfl) (fv_i rfl) ?_
          refine x_iconst 1 dX2_comes_190 (by decide) ?_
          refine x_iadd dX2_comes_191 ?_
          refine x_put (ci := 2) 13 dX2_comes_192 (GI.s (GI.i g_20) (t := (12, 0)) rfl (by decide)) rfl in_X2 tyX2 tyX2_ok nmX2 (by decide) q1236 (Or.inl rfl) rfl rfl rfl (isPut_i rfl) ?_
          refine x_iconst 1 dX2_comes_195 (by decide) ?_
          exact x_zret dX2_comes_196 rfl (isB.n isB_1) (Nat.le_of_ble_eq_true rfl) (Nat.le_of_ble_eq_true rfl) ⟨_, rfl, (GI.i (GI.i g_20)), (Ext.i (Ext.i e_21)), isB_1, hw⟩
        · have hw := wf_24 c_7
          refine x_iconst 0 dX2_comes_113 (by decide) ?_
          exact x_zret dX2_comes_114 rfl (isB.n isB_0) (Nat.le_of_ble_eq_true rfl) (Nat.le_of_ble_eq_true rfl) ⟨_, rfl, g, Ext.rf, isB_0, hw⟩
  · have hw := wf_59 c_2
    refine x_aload_n 0 dX2_comes_11 rfl ?_
    refine x_get (ci := 2) (v := .int (gi h 25 12)) 12 dX2_comes_12 (GI.s g (t := (12, 0)) rfl (by decide)) rfl in_X2 (by decide) q1235 (Or.inl rfl) (fv_i rfl) ?_
    refine x_bipush 24 dX2_comes_15 (by decide) ?_
    obtain ⟨wt_56, wf_57⟩ := hw
    refine x_icmp_eq 56 dX2_comes_17 (by decide) (fun c_29 => ?_) (fun c_29 => ?_)
    · have hw := wt_56 c_29
      refine x_iconst 0 dX2_comes_56 (by decide) ?_
      exact x_zret dX2_comes_57 rfl (isB.n isB_0) (Nat.le_of_ble_eq_true rfl) (Nat.le_of_ble_eq_true rfl) ⟨_, rfl, g, Ext.rf, isB_0, hw⟩
    · have hw := wf_57 c_29
      refine x_aload_n 0 dX2_comes_20 rfl ?_
      refine x_aload_n 0 dX2_comes_21 rfl ?_
      refine x_get (ci := 2) (v := .ref (mr ρ 39)) 15 dX2_comes_22 (GI.s g (t := (12, 0)) rfl (by decide)) rfl in_X2 (by decide) q1238 (Or.inl rfl) (fv_rc rfl (GI.m g (n := 39) rfl (by decide)) (by decide)) ?_
      refine x_iload_n 1 dX2_comes_25 rfl ?_
      obtain ⟨b_30, hw⟩ := hw
      refine x_iald (n := 32) (j := (Int32.toNatClampNeg p1)) dX2_comes_26 rfl (GI.s g (t := (1, 32)) rfl (by decide)) b_30 ?_
      refine x_callV (ci := 2) [.int (gi h 39 (Int32.toNatClampNeg p1))] 1 dX2_comes_27 (k_X2_isWord G g hw) (GI.s g (t := (12, 0)) rfl (by decide)) rfl q1434 q1436 qs68 q106 q1437 (by decide) rfl rfl ⟨(Nat.le_of_ble_eq_true rfl), (Nat.le_of_ble_eq_true rfl)⟩ (Nat.le_of_ble_eq_true rfl) ⟨(Nat.le_of_ble_eq_true rfl), (Nat.le_of_ble_eq_true rfl)⟩ (fun v9 h_31 hv9 => ?_) (fun _ _ _ _ _ z _ _ => False.elim z)
      obtain ⟨r_34, rfl, g_32, e_33, b_35, hw⟩ := hv9
      have hw := hw g_32 e_33
      show X ρ K_X2_comes 30 [(0, .ref (mr ρ 25)), (1, .int p1)] [.int r_34] h_31 0 0 (phB h post) psN
      obtain ⟨wt_54, wf_55⟩ := hw
      refine x_if_eq 56 dX2_comes_30 (by decide) (fun c_36 => ?_) (fun c_36 => ?_)
      · have hw := wt_54 c_36
        refine x_iconst 0 dX2_comes_56 (by decide) ?_
        exact x_zret dX2_comes_57 rfl (isB.n isB_0) (Nat.le_of_ble_eq_true rfl) (Nat.le_of_ble_eq_true rfl) ⟨_, rfl, g_32, e_33, isB_0, hw⟩
      · have hw := wf_55 c_36
        refine x_aload_n 0 dX2_comes_33 rfl ?_
        refine x_get (ci := 2) (v := .ref (mr ρ 29)) 3 dX2_comes_34 (GI.s g_32 (t := (12, 0)) rfl (by decide)) rfl in_X2 (by decide) q1226 (Or.inl rfl) (fv_rc rfl (GI.m g_32 (n := 29) rfl (by decide)) (by decide)) ?_
        refine x_aload_n 0 dX2_comes_37 rfl ?_
        refine x_get (ci := 2) (v := .ref (mr ρ 39)) 15 dX2_comes_38 (GI.s g_32 (t := (12, 0)) rfl (by decide)) rfl in_X2 (by decide) q1238 (Or.inl rfl) (fv_rc rfl (GI.m g_32 (n := 39) rfl (by decide)) (by decide)) ?_
        refine x_iload_n 1 dX2_comes_41 rfl ?_
        obtain ⟨b_37, hw⟩ := hw
        refine x_iald (n := 32) (j := (Int32.toNatClampNeg p1)) dX2_comes_42 rfl (GI.s g_32 (t := (1, 32)) rfl (by decide)) b_37 ?_
        obtain ⟨b_38, hw⟩ := hw
        refine x_iald (n := 24) (j := (Int32.toNatClampNeg (gi h_31 39 (Int32.toNatClampNeg p1)))) dX2_comes_43 rfl (GI.s g_32 (t := (1, 24)) rfl (by decide)) b_38 ?_
        obtain ⟨wt_52, wf_53⟩ := hw
        refine x_if_ne 56 dX2_comes_44 (by decide) (fun c_39 => ?_) (fun c_39 => ?_)
        · have hw := wt_52 c_39
          refine x_iconst 0 dX2_comes_56 (by decide) ?_
          exact x_zret dX2_comes_57 rfl (isB.n isB_0) (Nat.le_of_ble_eq_true rfl) (Nat.le_of_ble_eq_true rfl) ⟨_, rfl, g_32, e_33, isB_0, hw⟩
        · have hw := wf_53 c_39
          refine x_aload_n 0 dX2_comes_47 rfl ?_
          refine x_get (ci := 2) (v := .ref (mr ρ 40)) 16 dX2_comes_48 (GI.s g_32 (t := (12, 0)) rfl (by decide)) rfl in_X2 (by decide) q1239 (Or.inl rfl) (fv_rc rfl (GI.m g_32 (n := 40) rfl (by decide)) (by decide)) ?_
          refine x_iload_n 1 dX2_comes_51 rfl ?_
          obtain ⟨b_40, hw⟩ := hw
          refine x_iald (n := 32) (j := (Int32.toNatClampNeg p1)) dX2_comes_52 rfl (GI.s g_32 (t := (1, 32)) rfl (by decide)) b_40 ?_
          obtain ⟨wt_50, wf_51⟩ := hw
          refine x_if_ne 58 dX2_comes_53 (by decide) (fun c_41 => ?_) (fun c_41 => ?_)
          · have hw := wt_50 c_41
            refine x_aload_n 0 dX2_comes_58 rfl ?_
            refine x_aload_n 0 dX2_comes_59 rfl ?_
            refine x_get (ci := 2) (v := .ref (mr ρ 39)) 15 dX2_comes_60 (GI.s g_32 (t := (12, 0)) rfl (by decide)) rfl in_X2 (by decide) q1238 (Or.inl rfl) (fv_rc rfl (GI.m g_32 (n := 39) rfl (by decide)) (by decide)) ?_
            refine x_iload_n 1 dX2_comes_63 rfl ?_
            obtain ⟨b_42, hw⟩ := hw
            refine x_iald (n := 32) (j := (Int32.toNatClampNeg p1)) dX2_comes_64 rfl (GI.s g_32 (t := (1, 32)) rfl (by decide)) b_42 ?_
            refine x_aload_n 0 dX2_comes_65 rfl ?_
            refine x_get (ci := 2) (v := .ref (mr ρ 40)) 16 dX2_comes_66 (GI.s g_32 (t := (12, 0)) rfl (by decide)) rfl in_X2 (by decide) q1239 (Or.inl rfl) (fv_rc rfl (GI.m g_32 (n := 40) rfl (by decide)) (by decide)) ?_
            refine x_iload_n 1 dX2_comes_69 rfl ?_
            obtain ⟨b_43, hw⟩ := hw
            refine x_iald (n := 32) (j := (Int32.toNatClampNeg p1)) dX2_comes_70 rfl (GI.s g_32 (t := (1, 32)) rfl (by decide)) b_43 ?_
            refine x_aload_n 0 dX2_comes_71 rfl ?_
            refine x_get (ci := 2) (v := .ref (mr ρ 41)) 17 dX2_comes_72 (GI.s g_32 (t := (12, 0)) rfl (by decide)) rfl in_X2 (by decide) q1240 (Or.inl rfl) (fv_rc rfl (GI.m g_32 (n := 41) rfl (by decide)) (by decide)) ?_
            refine x_iload_n 1 dX2_comes_75 rfl ?_
            obtain ⟨b_44, hw⟩ := hw
            refine x_iald (n := 32) (j := (Int32.toNatClampNeg p1)) dX2_comes_76 rfl (GI.s g_32 (t := (1, 32)) rfl (by decide)) b_44 ?_
            refine x_callV (ci := 2) [.int (gi h_31 39 (Int32.toNatClampNeg p1)), .int (gi h_31 40 (Int32.toNatClampNeg p1)), .int (gi h_31 41 (Int32.toNatClampNeg p1))] 3 dX2_comes_77 (k_X2_comesWord G g_32 hw) (GI.s g_32 (t := (12, 0)) rfl (by decide)) rfl q1438 q1440 qs69 q106 q1441 (by decide) rfl rfl ⟨(Nat.le_of_ble_eq_true rfl), (Nat.le_of_ble_eq_true rfl)⟩ (Nat.le_of_ble_eq_true rfl) ⟨(Nat.le_of_ble_eq_true rfl), (Nat.le_of_ble_eq_true rfl)⟩ (fun v9 h_45 hv9 => ?_) (fun _ _ _ _ _ z _ _ => False.elim z)
            obtain ⟨rfl, g_46, e_47, hw⟩ := hv9
            have hw := hw g_46 e_47
            show X ρ K_X2_comes 80 [(0, .ref (mr ρ 25)), (1, .int p1)] [] h_45 0 0 (phB h post) psN
            refine x_iconst 1 dX2_comes_80 (by decide) ?_
            exact x_zret dX2_comes_81 rfl (isB.n isB_1) (Nat.le_of_ble_eq_true rfl) (Nat.le_of_ble_eq_true rfl) ⟨_, rfl, g_46, (Ext.tr e_33 e_47), isB_1, hw⟩
          · have hw := wf_51 c_41
            refine x_iconst 0 dX2_comes_56 (by decide) ?_
            exact x_zret dX2_comes_57 rfl (isB.n isB_0) (Nat.le_of_ble_eq_true rfl) (Nat.le_of_ble_eq_true rfl) ⟨_, rfl, g_32, e_33, isB_0, hw⟩

/-! BeforeTheEndModel.quiz()I -/
def w_X2_quiz_34 (post : Int32 → Hp → Prop) (K12 : Int32 → Hp → Prop) (h : Hp) : Prop := (wp_X2_statement (fun r_4 h_1 => GI h_1 → Ext h h_1 → (∀ z_7 : Int32, z_7 = ((if r_4 = 0 then 0 else 1) : Int32) → (K12 r_4 (si h_1 25 23 ((gi h_1 25 23) + z_7))))) h)
def w_X2_quiz_91 (post : Int32 → Hp → Prop) : Nat → Int32 → Int32 → Int32 → Hp → Prop
  | 0 => fun _ _ _ _ => False
  | n + 1 => fun x2 x3 x4 h => (((gi h 25 23) ≤ x4 → (post (gi h 25 23) h)) ∧ (¬ (gi h 25 23) ≤ x4 → (wp_X2_comes (fun r_5 h_2 => GI h_2 → Ext h h_2 → ((r_5 = 0 → (vp_in x4 32 ∧ (post ((-2000) - (gi (si (si h_2 25 12 x2) 25 13 x3) 44 (Int32.toNatClampNeg x4))) (si (si h_2 25 12 x2) 25 13 x3)))) ∧ (¬ r_5 = 0 → (w_X2_quiz_91 post n x2 x3 (x4 + 1) h_2)))) h x4)))
def w_X2_quiz_60 (post : Int32 → Hp → Prop) (x1 : Int32) (h : Hp) : Prop := ((¬ x1 = 0 → (∃ fu : Nat, w_X2_quiz_91 post fu (gi (si h 25 21 0) 25 12) (gi (si h 25 21 0) 25 13) 0 (si h 25 21 0))) ∧ (x1 = 0 → (post ((-1000) - (gi (si h 25 21 0) 25 22)) (si h 25 21 0))))
def w_X2_quiz_12 (post : Int32 → Hp → Prop) : Nat → Int32 → Hp → Prop
  | 0 => fun _ _ => False
  | n + 1 => fun x1 h => ((x1 = 0 → (w_X2_quiz_60 post x1 h)) ∧ (¬ x1 = 0 → (((gi h 25 22) < (gi h 25 21) → (w_X2_quiz_34 post (w_X2_quiz_12 post n) h)) ∧ (¬ (gi h 25 22) < (gi h 25 21) → ((¬ (gi h 25 23) = 0 → (w_X2_quiz_60 post x1 h)) ∧ ((gi h 25 23) = 0 → (w_X2_quiz_34 post (w_X2_quiz_12 post n) h)))))))
def wp_X2_quiz (post : Int32 → Hp → Prop) (h : Hp) : Prop := (∃ fu : Nat, w_X2_quiz_12 post fu 1 (si (si h 25 22 0) 25 23 0))
abbrev rm_X2_quiz : Room := ({ frames := 6, cells := 0, slots := 0, locals := 167 })
abbrev K_X2_quiz : Kx := ("BeforeTheEndModel", cX2_quiz, 5, (Option.some Jvm.ClassFile.FieldType.int), rm_X2_quiz, [], false)
set_option maxHeartbeats 4000000 in
theorem t_X2_quiz_34 {ρ : Rho} {h0 : Hp} {post : Int32 → Hp → Prop} {K12 : Int32 → Hp → Prop} (G : G0 ρ) (hK12 : ∀ (x1 : Int32) (h : Hp), GI h → Ext h0 h → K12 x1 h → X ρ K_X2_quiz 12 [(0, .ref (mr ρ 25)), (1, .int x1)] [] h 0 0 (phI h0 post) psN) :
    ∀ (h : Hp), GI h → Ext h0 h → w_X2_quiz_34 post K12 h → X ρ K_X2_quiz 34 [(0, .ref (mr ρ 25))] [] h 0 0 (phI h0 post) psN := by
  intro h g e hw
  refine x_aload_n 0 dX2_quiz_34 rfl ?_
  refine x_callV (ci := 2) [] 0 dX2_quiz_35 (k_X2_statement G g hw) (GI.s g (t := (12, 0)) rfl (by decide)) rfl q1396 q1398 qs60 q106 q1399 (by decide) rfl rfl ⟨(Nat.le_of_ble_eq_true rfl), (Nat.le_of_ble_eq_true rfl)⟩ (Nat.le_of_ble_eq_true rfl) ⟨(Nat.le_of_ble_eq_true rfl), (Nat.le_of_ble_eq_true rfl)⟩ (fun v9 h_1 hv9 => ?_) (fun _ _ _ _ _ z _ _ => False.elim z)
  obtain ⟨r_4, rfl, g_2, e_3, b_5, hw⟩ := hv9
  have hw := hw g_2 e_3
  show X ρ K_X2_quiz 38 [(0, .ref (mr ρ 25))] [.int r_4] h_1 0 0 (phI h0 post) psN
  refine x_istore_n (lv' := [(1, .int r_4), (0, .ref (mr ρ 25))]) dX2_quiz_38 (Nat.le_of_ble_eq_true rfl) rfl ?_
  refine x_aload_n 1 dX2_quiz_39 rfl ?_
  refine x_dup dX2_quiz_40 rfl ?_
  refine x_get (ci := 2) (v := .int (gi h_1 25 23)) 23 dX2_quiz_41 (GI.s g_2 (t := (12, 0)) rfl (by decide)) rfl in_X2 (by decide) q1246 (Or.inl rfl) (fv_i rfl) ?_
  refine x_iload_n 0 dX2_quiz_44 rfl ?_
  have kJ_8 : ∀ z_7 : Int32, z_7 = ((if r_4 = 0 then 0 else 1) : Int32) → X ρ K_X2_quiz 53 [(1, .int r_4), (0, .ref (mr ρ 25))] [.int z_7, .int (gi h_1 25 23), .ref (mr ρ 25)] h_1 0 0 (phI h0 post) psN := fun z_7 ez_7 => by
    have hw := hw z_7 ez_7
    refine x_iadd dX2_quiz_53 ?_
    refine x_put (ci := 2) 23 dX2_quiz_54 (GI.s g_2 (t := (12, 0)) rfl (by decide)) rfl in_X2 tyX2 tyX2_ok nmX2 (by decide) q1246 (Or.inl rfl) rfl rfl rfl (isPut_i rfl) ?_
    refine x_goto 12 dX2_quiz_57 (by decide) ?_
    refine X.sub [1, 0] rfl ?_
    exact hK12 r_4 (si h_1 25 23 ((gi h_1 25 23) + z_7)) (GI.i g_2) (Ext.i (Ext.tr e e_3)) hw
  refine x_if_eq 52 dX2_quiz_45 (by decide) (fun c_6 => ?_) (fun c_6 => ?_)
  · refine x_iconst 0 dX2_quiz_52 (by decide) ?_
    exact kJ_8 _ ((if_pos c_6)).symm
  · refine x_iconst 1 dX2_quiz_48 (by decide) ?_
    refine x_goto 53 dX2_quiz_49 (by decide) ?_
    exact kJ_8 _ ((if_neg c_6)).symm
set_option maxHeartbeats 4000000 in
theorem t_X2_quiz_91 {ρ : Rho} {h0 : Hp} {post : Int32 → Hp → Prop} (G : G0 ρ) :
    ∀ (n : Nat), ∀ (x2 : Int32) (x3 : Int32) (x4 : Int32) (h : Hp), GI h → Ext h0 h → w_X2_quiz_91 post n x2 x3 x4 h → X ρ K_X2_quiz 91 [(0, .ref (mr ρ 25)), (2, .int x2), (3, .int x3), (4, .int x4)] [] h 0 0 (phI h0 post) psN := by
  intro n
  induction n with
  | zero => intro x2 x3 x4 h g e hw; exact False.elim hw
  | succ n ih =>
    intro x2 x3 x4 h g e hw
    refine x_iload 3 dX2_quiz_91 rfl ?_
    refine x_aload_n 0 dX2_quiz_93 rfl ?_
    refine x_get (ci := 2) (v := .int (gi h 25 23)) 23 dX2_quiz_94 (GI.s g (t := (12, 0)) rfl (by decide)) rfl in_X2 (by decide) q1246 (Or.inl rfl) (fv_i rfl) ?_
    obtain ⟨wt_11, wf_12⟩ := hw
    refine x_icmp_ge 140 dX2_quiz_97 (by decide) (fun c_1 => ?_) (fun c_1 => ?_)
    · have hw := wt_11 c_1
      refine x_aload_n 0 dX2_quiz_140 rfl ?_
      refine x_get (ci := 2) (v := .int (gi h 25 23)) 23 dX2_quiz_141 (GI.s g (t := (12, 0)) rfl (by decide)) rfl in_X2 (by decide) q1246 (Or.inl rfl) (fv_i rfl) ?_
      exact x_iret dX2_quiz_144 rfl (Nat.le_of_ble_eq_true rfl) (Nat.le_of_ble_eq_true rfl) ⟨_, rfl, g, e, hw⟩
    · have hw := wf_12 c_1
      refine x_aload_n 0 dX2_quiz_100 rfl ?_
      refine x_iload 3 dX2_quiz_101 rfl ?_
      refine x_callV (ci := 2) [.int x4] 1 dX2_quiz_103 (k_X2_comes G g hw) (GI.s g (t := (12, 0)) rfl (by decide)) rfl q1430 q1432 qs67 q106 q1433 (by decide) rfl rfl ⟨(Nat.le_of_ble_eq_true rfl), (Nat.le_of_ble_eq_true rfl)⟩ (Nat.le_of_ble_eq_true rfl) ⟨(Nat.le_of_ble_eq_true rfl), (Nat.le_of_ble_eq_true rfl)⟩ (fun v9 h_2 hv9 => ?_) (fun _ _ _ _ _ z _ _ => False.elim z)
      obtain ⟨r_5, rfl, g_3, e_4, b_6, hw⟩ := hv9
      have hw := hw g_3 e_4
      show X ρ K_X2_quiz 106 [(0, .ref (mr ρ 25)), (2, .int x2), (3, .int x3), (4, .int x4)] [.int r_5] h_2 0 0 (phI h0 post) psN
      obtain ⟨wt_9, wf_10⟩ := hw
      refine x_if_eq 112 dX2_quiz_106 (by decide) (fun c_7 => ?_) (fun c_7 => ?_)
      · have hw := wt_9 c_7
        refine x_aload_n 0 dX2_quiz_112 rfl ?_
        refine x_iload_n 1 dX2_quiz_113 rfl ?_
        refine x_put (ci := 2) 12 dX2_quiz_114 (GI.s g_3 (t := (12, 0)) rfl (by decide)) rfl in_X2 tyX2 tyX2_ok nmX2 (by decide) q1235 (Or.inl rfl) rfl rfl rfl (isPut_i rfl) ?_
        refine x_aload_n 0 dX2_quiz_117 rfl ?_
        refine x_iload_n 2 dX2_quiz_118 rfl ?_
        refine x_put (ci := 2) 13 dX2_quiz_119 (GI.s (GI.i g_3) (t := (12, 0)) rfl (by decide)) rfl in_X2 tyX2 tyX2_ok nmX2 (by decide) q1236 (Or.inl rfl) rfl rfl rfl (isPut_i rfl) ?_
        refine x_sipush (-2000) dX2_quiz_122 (by decide) ?_
        refine x_aload_n 0 dX2_quiz_125 rfl ?_
        refine x_get (ci := 2) (v := .ref (mr ρ 44)) 20 dX2_quiz_126 (GI.s (GI.i (GI.i g_3)) (t := (12, 0)) rfl (by decide)) rfl in_X2 (by decide) q1243 (Or.inl rfl) (fv_rc rfl (GI.m (GI.i (GI.i g_3)) (n := 44) rfl (by decide)) (by decide)) ?_
        refine x_iload 3 dX2_quiz_129 rfl ?_
        obtain ⟨b_8, hw⟩ := hw
        refine x_iald (n := 32) (j := (Int32.toNatClampNeg x4)) dX2_quiz_131 rfl (GI.s (GI.i (GI.i g_3)) (t := (1, 32)) rfl (by decide)) b_8 ?_
        refine x_isub dX2_quiz_132 ?_
        exact x_iret dX2_quiz_133 rfl (Nat.le_of_ble_eq_true rfl) (Nat.le_of_ble_eq_true rfl) ⟨_, rfl, (GI.i (GI.i g_3)), (Ext.i (Ext.i (Ext.tr e e_4))), hw⟩
      · have hw := wf_10 c_7
        refine x_goto 134 dX2_quiz_109 (by decide) ?_
        refine x_iinc (v := (x4 + 1)) (lv' := [(4, .int (x4 + 1)), (0, .ref (mr ρ 25)), (2, .int x2), (3, .int x3)]) 3 dX2_quiz_134 rfl (by rfl) (Nat.le_of_ble_eq_true rfl) rfl ?_
        refine x_goto 91 dX2_quiz_137 (by decide) ?_
        refine X.sub [1, 2, 3, 0] rfl ?_
        exact ih x2 x3 (x4 + 1) h_2 g_3 (Ext.tr e e_4) hw
set_option maxHeartbeats 4000000 in
theorem t_X2_quiz_60 {ρ : Rho} {h0 : Hp} {post : Int32 → Hp → Prop} (G : G0 ρ) :
    ∀ (x1 : Int32) (h : Hp), GI h → Ext h0 h → w_X2_quiz_60 post x1 h → X ρ K_X2_quiz 60 [(0, .ref (mr ρ 25)), (1, .int x1)] [] h 0 0 (phI h0 post) psN := by
  intro x1 h g e hw
  refine x_aload_n 0 dX2_quiz_60 rfl ?_
  refine x_iconst 0 dX2_quiz_61 (by decide) ?_
  refine x_put (ci := 2) 21 dX2_quiz_62 (GI.s g (t := (12, 0)) rfl (by decide)) rfl in_X2 tyX2 tyX2_ok nmX2 (by decide) q1244 (Or.inl rfl) rfl rfl rfl (isPut_i rfl) ?_
  refine x_iload_n 1 dX2_quiz_65 rfl ?_
  obtain ⟨wt_2, wf_3⟩ := hw
  refine x_if_ne 78 dX2_quiz_66 (by decide) (fun c_1 => ?_) (fun c_1 => ?_)
  · have hw := wt_2 c_1
    refine x_aload_n 0 dX2_quiz_78 rfl ?_
    refine x_get (ci := 2) (v := .int (gi (si h 25 21 0) 25 12)) 12 dX2_quiz_79 (GI.s (GI.i g) (t := (12, 0)) rfl (by decide)) rfl in_X2 (by decide) q1235 (Or.inl rfl) (fv_i rfl) ?_
    refine x_istore_n (lv' := [(2, .int (gi (si h 25 21 0) 25 12)), (0, .ref (mr ρ 25)), (1, .int x1)]) dX2_quiz_82 (Nat.le_of_ble_eq_true rfl) rfl ?_
    refine x_aload_n 1 dX2_quiz_83 rfl ?_
    refine x_get (ci := 2) (v := .int (gi (si h 25 21 0) 25 13)) 13 dX2_quiz_84 (GI.s (GI.i g) (t := (12, 0)) rfl (by decide)) rfl in_X2 (by decide) q1236 (Or.inl rfl) (fv_i rfl) ?_
    refine x_istore_n (lv' := [(3, .int (gi (si h 25 21 0) 25 13)), (2, .int (gi (si h 25 21 0) 25 12)), (0, .ref (mr ρ 25)), (1, .int x1)]) dX2_quiz_87 (Nat.le_of_ble_eq_true rfl) rfl ?_
    refine x_iconst 0 dX2_quiz_88 (by decide) ?_
    refine x_istore (lv' := [(4, .int 0), (3, .int (gi (si h 25 21 0) 25 13)), (2, .int (gi (si h 25 21 0) 25 12)), (0, .ref (mr ρ 25)), (1, .int x1)]) dX2_quiz_89 (Nat.le_of_ble_eq_true rfl) rfl ?_
    refine X.sub [3, 2, 1, 0] rfl ?_
    obtain ⟨fu, hw⟩ := hw
    exact t_X2_quiz_91 G  fu (gi (si h 25 21 0) 25 12) (gi (si h 25 21 0) 25 13) 0 (si h 25 21 0) (GI.i g) (Ext.i e) hw
  · have hw := wf_3 c_1
    refine x_sipush (-1000) dX2_quiz_69 (by decide) ?_
    refine x_aload_n 0 dX2_quiz_72 rfl ?_
    refine x_get (ci := 2) (v := .int (gi (si h 25 21 0) 25 22)) 22 dX2_quiz_73 (GI.s (GI.i g) (t := (12, 0)) rfl (by decide)) rfl in_X2 (by decide) q1245 (Or.inl rfl) (fv_i rfl) ?_
    refine x_isub dX2_quiz_76 ?_
    exact x_iret dX2_quiz_77 rfl (Nat.le_of_ble_eq_true rfl) (Nat.le_of_ble_eq_true rfl) ⟨_, rfl, (GI.i g), (Ext.i e), hw⟩
set_option maxHeartbeats 4000000 in
theorem t_X2_quiz_12 {ρ : Rho} {h0 : Hp} {post : Int32 → Hp → Prop} (G : G0 ρ) :
    ∀ (n : Nat), ∀ (x1 : Int32) (h : Hp), GI h → Ext h0 h → w_X2_quiz_12 post n x1 h → X ρ K_X2_quiz 12 [(0, .ref (mr ρ 25)), (1, .int x1)] [] h 0 0 (phI h0 post) psN := by
  intro n
  induction n with
  | zero => intro x1 h g e hw; exact False.elim hw
  | succ n ih =>
    intro x1 h g e hw
    refine x_iload_n 1 dX2_quiz_12 rfl ?_
    obtain ⟨wt_8, wf_9⟩ := hw
    refine x_if_eq 60 dX2_quiz_13 (by decide) (fun c_1 => ?_) (fun c_1 => ?_)
    · have hw := wt_8 c_1
      exact t_X2_quiz_60 G  x1 h g e hw
    · have hw := wf_9 c_1
      refine x_aload_n 0 dX2_quiz_16 rfl ?_
      refine x_get (ci := 2) (v := .int (gi h 25 22)) 22 dX2_quiz_17 (GI.s g (t := (12, 0)) rfl (by decide)) rfl in_X2 (by decide) q1245 (Or.inl rfl) (fv_i rfl) ?_
      refine x_aload_n 0 dX2_quiz_20 rfl ?_
      refine x_get (ci := 2) (v := .int (gi h 25 21)) 21 dX2_quiz_21 (GI.s g (t := (12, 0)) rfl (by decide)) rfl in_X2 (by decide) q1244 (Or.inl rfl) (fv_i rfl) ?_
      obtain ⟨wt_6, wf_7⟩ := hw
      refine x_icmp_lt 34 dX2_quiz_24 (by decide) (fun c_2 => ?_) (fun c_2 => ?_)
      · have hw := wt_6 c_2
        refine X.sub [0] rfl ?_
        exact t_X2_quiz_34 G ih h g e hw
      · have hw := wf_7 c_2
        refine x_aload_n 0 dX2_quiz_27 rfl ?_
        refine x_get (ci := 2) (v := .int (gi h 25 23)) 23 dX2_quiz_28 (GI.s g (t := (12, 0)) rfl (by decide)) rfl in_X2 (by decide) q1246 (Or.inl rfl) (fv_i rfl) ?_
        obtain ⟨wt_4, wf_5⟩ := hw
        refine x_if_ne 60 dX2_quiz_31 (by decide) (fun c_3 => ?_) (fun c_3 => ?_)
        · have hw := wt_4 c_3
          exact t_X2_quiz_60 G  x1 h g e hw
        · have hw := wf_5 c_3
          refine X.sub [0] rfl ?_
          exact t_X2_quiz_34 G ih h g e hw
set_option maxHeartbeats 4000000 in
theorem k_X2_quiz {ρ : Rho} {h : Hp} {post : Int32 → Hp → Prop} (G : G0 ρ) (g : GI h) (hw : wp_X2_quiz post h) : Con ρ yX2_quiz (ws_ yX2_quiz cX2_quiz 5 (Option.some Jvm.ClassFile.FieldType.int)) rm_X2_quiz [.ref (mr ρ 25)] h (phI h post) psN := by
  refine con_of (own := "BeforeTheEndModel") (isI := false) (l0 := [(0, .ref (mr ρ 25))]) (by decide) rfl (fun z => by cases z) (Nat.le_of_ble_eq_true rfl) rfl (fun _ => ?_)
  show X ρ K_X2_quiz 0 [(0, .ref (mr ρ 25))] [] h 0 0 (phI h post) psN
  refine x_aload_n 0 dX2_quiz_0 rfl ?_
  refine x_iconst 0 dX2_quiz_1 (by decide) ?_
  refine x_put (ci := 2) 22 dX2_quiz_2 (GI.s g (t := (12, 0)) rfl (by decide)) rfl in_X2 tyX2 tyX2_ok nmX2 (by decide) q1245 (Or.inl rfl) rfl rfl rfl (isPut_i rfl) ?_
  refine x_aload_n 0 dX2_quiz_5 rfl ?_
  refine x_iconst 0 dX2_quiz_6 (by decide) ?_
  refine x_put (ci := 2) 23 dX2_quiz_7 (GI.s (GI.i g) (t := (12, 0)) rfl (by decide)) rfl in_X2 tyX2 tyX2_ok nmX2 (by decide) q1246 (Or.inl rfl) rfl rfl rfl (isPut_i rfl) ?_
  refine x_iconst 1 dX2_quiz_10 (by decide) ?_
  refine x_istore_n (lv' := [(1, .int 1), (0, .ref (mr ρ 25))]) dX2_quiz_11 (Nat.le_of_ble_eq_true rfl) rfl ?_
  refine X.sub [1, 0] rfl ?_
  obtain ⟨fu, hw⟩ := hw
  exact t_X2_quiz_12 G  fu 1 (si (si h 25 22 0) 25 23 0) (GI.i (GI.i g)) (Ext.i (Ext.i Ext.rf)) hw

/-! BeforeTheEnd.word(II)I -/
def wp_X0_word (post : Int32 → Hp → Prop) (h : Hp) (p1 : Int32) (p2 : Int32) : Prop := (wp_X0_act (fun r_4 h_1 => GI h_1 → Ext h h_1 → (post r_4 h_1)) h 1 p1 p2 0)
abbrev rm_X0_word : Room := ({ frames := 19, cells := 1868, slots := 13143, locals := 599 })
abbrev K_X0_word : Kx := ("BeforeTheEnd", cX0_word, 3, (Option.some Jvm.ClassFile.FieldType.int), rm_X0_word, [], false)
set_option maxHeartbeats 4000000 in
theorem k_X0_word {ρ : Rho} {h : Hp} {post : Int32 → Hp → Prop} {p1 : Int32} {p2 : Int32} (G : G0 ρ) (g : GI h) (hw : wp_X0_word post h p1 p2) : Con ρ yX0_word (ws_ yX0_word cX0_word 3 (Option.some Jvm.ClassFile.FieldType.int)) rm_X0_word [.ref (mr ρ 1), .int p1, .int p2] h (phI h post) psN := by
  refine con_of (own := "BeforeTheEnd") (isI := false) (l0 := [(0, .ref (mr ρ 1)), (1, .int p1), (2, .int p2)]) (by decide) rfl (fun z => by cases z) (Nat.le_of_ble_eq_true rfl) rfl (fun _ => ?_)
  show X ρ K_X0_word 0 [(0, .ref (mr ρ 1)), (1, .int p1), (2, .int p2)] [] h 0 0 (phI h post) psN
  refine x_aload_n 0 dX0_word_0 rfl ?_
  refine x_iconst 1 dX0_word_1 (by decide) ?_
  refine x_iload_n 1 dX0_word_2 rfl ?_
  refine x_iload_n 2 dX0_word_3 rfl ?_
  refine x_iconst 0 dX0_word_4 (by decide) ?_
  refine x_callH (ci := 0) [.int 1, .int p1, .int p2, .int 0] 4 dX0_word_5 (k_X0_act G g hw) (GI.s g (t := (10, 0)) rfl (by decide)) rfl q383 q385 qs3 q104 q386 (by decide) rfl rfl ⟨(Nat.le_of_ble_eq_true rfl), (Nat.le_of_ble_eq_true rfl)⟩ (Nat.le_of_ble_eq_true rfl) ⟨(Nat.le_of_ble_eq_true rfl), (Nat.le_of_ble_eq_true rfl)⟩ (fun v9 h_1 hv9 => ?_) (fun _ _ _ _ _ z _ _ => False.elim z)
  obtain ⟨r_4, rfl, g_2, e_3, hw⟩ := hv9
  have hw := hw g_2 e_3
  show X ρ K_X0_word 8 [(0, .ref (mr ρ 1)), (1, .int p1), (2, .int p2)] [.int r_4] h_1 1868 13143 (phI h post) psN
  exact x_iret dX0_word_8 rfl (Nat.le_of_ble_eq_true rfl) (Nat.le_of_ble_eq_true rfl) ⟨_, rfl, g_2, e_3, hw⟩

/-! BeforeTheEndModel.nexts(I)I -/
def w_X2_nexts_6 (post : Int32 → Hp → Prop) : Nat → Int32 → Int32 → Int32 → Hp → Prop
  | 0 => fun _ _ _ _ => False
  | n + 1 => fun x1 x2 x3 h => (((gi h 25 12) ≤ x3 → (post x2 h)) ∧ (¬ (gi h 25 12) ≤ x3 → (vp_in x3 24 ∧ (∀ z_4 : Int32, z_4 = ((if (gi h 27 (Int32.toNatClampNeg x3)) = x1 then 1 else 0) : Int32) → (w_X2_nexts_6 post n x1 (x2 + z_4) (x3 + 1) h)))))
def wp_X2_nexts (post : Int32 → Hp → Prop) (h : Hp) (p1 : Int32) : Prop := (∃ fu : Nat, w_X2_nexts_6 post fu p1 0 (p1 + 1) h)
abbrev rm_X2_nexts : Room := ({ frames := 1, cells := 0, slots := 0, locals := 60 })
abbrev K_X2_nexts : Kx := ("BeforeTheEndModel", cX2_nexts, 4, (Option.some Jvm.ClassFile.FieldType.int), rm_X2_nexts, [], false)
set_option maxHeartbeats 4000000 in
theorem t_X2_nexts_6 {ρ : Rho} {h0 : Hp} {post : Int32 → Hp → Prop} (G : G0 ρ) :
    ∀ (n : Nat), ∀ (x1 : Int32) (x2 : Int32) (x3 : Int32) (h : Hp), GI h → Ext h0 h → w_X2_nexts_6 post n x1 x2 x3 h → X ρ K_X2_nexts 6 [(0, .ref (mr ρ 25)), (1, .int x1), (2, .int x2), (3, .int x3)] [] h 0 0 (phI h0 post) psN := by
  intro n
  induction n with
  | zero => intro x1 x2 x3 h g e hw; exact False.elim hw
  | succ n ih =>
    intro x1 x2 x3 h g e hw
    refine x_iload_n 3 dX2_nexts_6 rfl ?_
    refine x_aload_n 0 dX2_nexts_7 rfl ?_
    refine x_get (ci := 2) (v := .int (gi h 25 12)) 12 dX2_nexts_8 (GI.s g (t := (12, 0)) rfl (by decide)) rfl in_X2 (by decide) q1235 (Or.inl rfl) (fv_i rfl) ?_
    obtain ⟨wt_6, wf_7⟩ := hw
    refine x_icmp_ge 38 dX2_nexts_11 (by decide) (fun c_1 => ?_) (fun c_1 => ?_)
    · have hw := wt_6 c_1
      refine x_iload_n 2 dX2_nexts_38 rfl ?_
      exact x_iret dX2_nexts_39 rfl (Nat.le_of_ble_eq_true rfl) (Nat.le_of_ble_eq_true rfl) ⟨_, rfl, g, e, hw⟩
    · have hw := wf_7 c_1
      refine x_iload_n 2 dX2_nexts_14 rfl ?_
      refine x_aload_n 0 dX2_nexts_15 rfl ?_
      refine x_get (ci := 2) (v := .ref (mr ρ 27)) 1 dX2_nexts_16 (GI.s g (t := (12, 0)) rfl (by decide)) rfl in_X2 (by decide) q1224 (Or.inl rfl) (fv_rc rfl (GI.m g (n := 27) rfl (by decide)) (by decide)) ?_
      refine x_iload_n 3 dX2_nexts_19 rfl ?_
      obtain ⟨b_2, hw⟩ := hw
      refine x_iald (n := 24) (j := (Int32.toNatClampNeg x3)) dX2_nexts_20 rfl (GI.s g (t := (1, 24)) rfl (by decide)) b_2 ?_
      refine x_iload_n 1 dX2_nexts_21 rfl ?_
      have kJ_5 : ∀ z_4 : Int32, z_4 = ((if (gi h 27 (Int32.toNatClampNeg x3)) = x1 then 1 else 0) : Int32) → X ρ K_X2_nexts 30 [(0, .ref (mr ρ 25)), (1, .int x1), (2, .int x2), (3, .int x3)] [.int z_4, .int x2] h 0 0 (phI h0 post) psN := fun z_4 ez_4 => by
        have hw := hw z_4 ez_4
        refine x_iadd dX2_nexts_30 ?_
        refine x_istore_n (lv' := [(2, .int (x2 + z_4)), (0, .ref (mr ρ 25)), (1, .int x1), (3, .int x3)]) dX2_nexts_31 (Nat.le_of_ble_eq_true rfl) rfl ?_
        refine x_iinc (v := (x3 + 1)) (lv' := [(3, .int (x3 + 1)), (2, .int (x2 + z_4)), (0, .ref (mr ρ 25)), (1, .int x1)]) 3 dX2_nexts_32 rfl (by rfl) (Nat.le_of_ble_eq_true rfl) rfl ?_
        refine x_goto 6 dX2_nexts_35 (by decide) ?_
        refine X.sub [2, 3, 1, 0] rfl ?_
        exact ih x1 (x2 + z_4) (x3 + 1) h g e hw
      refine x_icmp_ne 29 dX2_nexts_22 (by decide) (fun c_3 => ?_) (fun c_3 => ?_)
      · refine x_iconst 0 dX2_nexts_29 (by decide) ?_
        exact kJ_5 _ ((if_neg c_3)).symm
      · refine x_iconst 1 dX2_nexts_25 (by decide) ?_
        refine x_goto 30 dX2_nexts_26 (by decide) ?_
        exact kJ_5 _ ((if_pos c_3)).symm
set_option maxHeartbeats 4000000 in
theorem k_X2_nexts {ρ : Rho} {h : Hp} {post : Int32 → Hp → Prop} {p1 : Int32} (G : G0 ρ) (g : GI h) (hw : wp_X2_nexts post h p1) : Con ρ yX2_nexts (ws_ yX2_nexts cX2_nexts 4 (Option.some Jvm.ClassFile.FieldType.int)) rm_X2_nexts [.ref (mr ρ 25), .int p1] h (phI h post) psN := by
  refine con_of (own := "BeforeTheEndModel") (isI := false) (l0 := [(0, .ref (mr ρ 25)), (1, .int p1)]) (by decide) rfl (fun z => by cases z) (Nat.le_of_ble_eq_true rfl) rfl (fun _ => ?_)
  show X ρ K_X2_nexts 0 [(0, .ref (mr ρ 25)), (1, .int p1)] [] h 0 0 (phI h post) psN
  refine x_iconst 0 dX2_nexts_0 (by decide) ?_
  refine x_istore_n (lv' := [(2, .int 0), (0, .ref (mr ρ 25)), (1, .int p1)]) dX2_nexts_1 (Nat.le_of_ble_eq_true rfl) rfl ?_
  refine x_iload_n 2 dX2_nexts_2 rfl ?_
  refine x_iconst 1 dX2_nexts_3 (by decide) ?_
  refine x_iadd dX2_nexts_4 ?_
  refine x_istore_n (lv' := [(3, .int (p1 + 1)), (2, .int 0), (0, .ref (mr ρ 25)), (1, .int p1)]) dX2_nexts_5 (Nat.le_of_ble_eq_true rfl) rfl ?_
  refine X.sub [2, 3, 1, 0] rfl ?_
  obtain ⟨fu, hw⟩ := hw
  exact t_X2_nexts_6 G  fu p1 0 (p1 + 1) h g Ext.rf hw

/-! BeforeTheEndModel.word(II)I -/
def wp_X2_word (post : Int32 → Hp → Prop) (h : Hp) (p1 : Int32) (p2 : Int32) : Prop := (wp_X2_isWord (fun r_4 h_1 => GI h_1 → Ext h h_1 → ((¬ r_4 = 0 → (((p2.toInt < 0 ∨ 4 < p2.toInt) → (wp_X2_no (fun r_19 h_16 => GI h_16 → Ext h_1 h_16 → (post r_19 h_16)) h_1 (-2))) ∧ (p2 = 0 → (vp_in p1 24 ∧ (post (gi h_1 27 (Int32.toNatClampNeg p1)) h_1))) ∧ (p2 = 1 → (vp_in p1 24 ∧ (post (gi h_1 28 (Int32.toNatClampNeg p1)) h_1))) ∧ (p2 = 2 → (vp_in p1 24 ∧ (post (gi h_1 29 (Int32.toNatClampNeg p1)) h_1))) ∧ (p2 = 3 → (vp_in p1 24 ∧ (post (gi h_1 30 (Int32.toNatClampNeg p1)) h_1))) ∧ (p2 = 4 → (wp_X2_nexts (fun r_28 h_25 => GI h_25 → Ext h_1 h_25 → (post r_28 h_25)) h_1 p1)))) ∧ (r_4 = 0 → (wp_X2_no (fun r_33 h_30 => GI h_30 → Ext h_1 h_30 → (post r_33 h_30)) h_1 (-1))))) h p1)
abbrev rm_X2_word : Room := ({ frames := 2, cells := 0, slots := 0, locals := 83 })
abbrev K_X2_word : Kx := ("BeforeTheEndModel", cX2_word, 3, (Option.some Jvm.ClassFile.FieldType.int), rm_X2_word, [], false)
set_option maxHeartbeats 4000000 in
theorem k_X2_word {ρ : Rho} {h : Hp} {post : Int32 → Hp → Prop} {p1 : Int32} {p2 : Int32} (G : G0 ρ) (g : GI h) (hw : wp_X2_word post h p1 p2) : Con ρ yX2_word (ws_ yX2_word cX2_word 3 (Option.some Jvm.ClassFile.FieldType.int)) rm_X2_word [.ref (mr ρ 25), .int p1, .int p2] h (phI h post) psN := by
  refine con_of (own := "BeforeTheEndModel") (isI := false) (l0 := [(0, .ref (mr ρ 25)), (1, .int p1), (2, .int p2)]) (by decide) rfl (fun z => by cases z) (Nat.le_of_ble_eq_true rfl) rfl (fun _ => ?_)
  show X ρ K_X2_word 0 [(0, .ref (mr ρ 25)), (1, .int p1), (2, .int p2)] [] h 0 0 (phI h post) psN
  refine x_aload_n 0 dX2_word_0 rfl ?_
  refine x_iload_n 1 dX2_word_1 rfl ?_
  refine x_callV (ci := 2) [.int p1] 1 dX2_word_2 (k_X2_isWord G g hw) (GI.s g (t := (12, 0)) rfl (by decide)) rfl q1434 q1436 qs68 q106 q1437 (by decide) rfl rfl ⟨(Nat.le_of_ble_eq_true rfl), (Nat.le_of_ble_eq_true rfl)⟩ (Nat.le_of_ble_eq_true rfl) ⟨(Nat.le_of_ble_eq_true rfl), (Nat.le_of_ble_eq_true rfl)⟩ (fun v9 h_1 hv9 => ?_) (fun _ _ _ _ _ z _ _ => False.elim z)
  obtain ⟨r_4, rfl, g_2, e_3, b_5, hw⟩ := hv9
  have hw := hw g_2 e_3
  show X ρ K_X2_word 5 [(0, .ref (mr ρ 25)), (1, .int p1), (2, .int p2)] [.int r_4] h_1 0 0 (phI h post) psN
  obtain ⟨wt_35, wf_36⟩ := hw
  refine x_if_ne 14 dX2_word_5 (by decide) (fun c_6 => ?_) (fun c_6 => ?_)
  · have hw := wt_35 c_6
    refine x_iload_n 2 dX2_word_14 rfl ?_
    obtain ⟨wd_7, ws_8, ws_9, ws_10, ws_11, ws_12⟩ := hw
    rcases tab_or p2 0 5 (by decide) with c_15 | ⟨i_14, c_15i, c_15⟩
    · have c_15o : p2.toInt < 0 ∨ 4 < p2.toInt := by omega
      have hw := wd_7 c_15o
      refine x_tableOut 82 dX2_word_15 c_15o (by decide) ?_
      refine x_aload_n 0 dX2_word_82 rfl ?_
      refine x_bipush (-2) dX2_word_83 (by decide) ?_
      refine x_callV (ci := 2) [.int (-2)] 1 dX2_word_85 (k_X2_no G g_2 hw) (GI.s g_2 (t := (12, 0)) rfl (by decide)) rfl q1387 q1389 qs59 q106 q1390 (by decide) rfl rfl ⟨(Nat.le_of_ble_eq_true rfl), (Nat.le_of_ble_eq_true rfl)⟩ (Nat.le_of_ble_eq_true rfl) ⟨(Nat.le_of_ble_eq_true rfl), (Nat.le_of_ble_eq_true rfl)⟩ (fun v9 h_16 hv9 => ?_) (fun _ _ _ _ _ z _ _ => False.elim z)
      obtain ⟨r_19, rfl, g_17, e_18, hw⟩ := hv9
      have hw := hw g_17 e_18
      show X ρ K_X2_word 88 [(0, .ref (mr ρ 25)), (1, .int p1), (2, .int p2)] [.int r_19] h_16 0 0 (phI h post) psN
      exact x_iret dX2_word_88 rfl (Nat.le_of_ble_eq_true rfl) (Nat.le_of_ble_eq_true rfl) ⟨_, rfl, g_17, (Ext.tr e_3 e_18), hw⟩
    · match i_14, c_15i, c_15 with
      | 0, _, c_15 =>
        have c_15 : p2 = 0 := c_15
        have hw := ws_8 c_15
        refine x_tableIn (off := 33) 48 dX2_word_15 (by rw [c_15]; decide) (by rw [c_15]; decide) (by rw [c_15]; rfl) (by decide) ?_
        refine x_aload_n 0 dX2_word_48 rfl ?_
        refine x_get (ci := 2) (v := .ref (mr ρ 27)) 1 dX2_word_49 (GI.s g_2 (t := (12, 0)) rfl (by decide)) rfl in_X2 (by decide) q1224 (Or.inl rfl) (fv_rc rfl (GI.m g_2 (n := 27) rfl (by decide)) (by decide)) ?_
        refine x_iload_n 1 dX2_word_52 rfl ?_
        obtain ⟨b_21, hw⟩ := hw
        refine x_iald (n := 24) (j := (Int32.toNatClampNeg p1)) dX2_word_53 rfl (GI.s g_2 (t := (1, 24)) rfl (by decide)) b_21 ?_
        exact x_iret dX2_word_54 rfl (Nat.le_of_ble_eq_true rfl) (Nat.le_of_ble_eq_true rfl) ⟨_, rfl, g_2, e_3, hw⟩
      | 1, _, c_15 =>
        have c_15 : p2 = 1 := c_15
        have hw := ws_9 c_15
        refine x_tableIn (off := 40) 55 dX2_word_15 (by rw [c_15]; decide) (by rw [c_15]; decide) (by rw [c_15]; rfl) (by decide) ?_
        refine x_aload_n 0 dX2_word_55 rfl ?_
        refine x_get (ci := 2) (v := .ref (mr ρ 28)) 2 dX2_word_56 (GI.s g_2 (t := (12, 0)) rfl (by decide)) rfl in_X2 (by decide) q1225 (Or.inl rfl) (fv_rc rfl (GI.m g_2 (n := 28) rfl (by decide)) (by decide)) ?_
        refine x_iload_n 1 dX2_word_59 rfl ?_
        obtain ⟨b_22, hw⟩ := hw
        refine x_iald (n := 24) (j := (Int32.toNatClampNeg p1)) dX2_word_60 rfl (GI.s g_2 (t := (1, 24)) rfl (by decide)) b_22 ?_
        exact x_iret dX2_word_61 rfl (Nat.le_of_ble_eq_true rfl) (Nat.le_of_ble_eq_true rfl) ⟨_, rfl, g_2, e_3, hw⟩
      | 2, _, c_15 =>
        have c_15 : p2 = 2 := c_15
        have hw := ws_10 c_15
        refine x_tableIn (off := 47) 62 dX2_word_15 (by rw [c_15]; decide) (by rw [c_15]; decide) (by rw [c_15]; rfl) (by decide) ?_
        refine x_aload_n 0 dX2_word_62 rfl ?_
        refine x_get (ci := 2) (v := .ref (mr ρ 29)) 3 dX2_word_63 (GI.s g_2 (t := (12, 0)) rfl (by decide)) rfl in_X2 (by decide) q1226 (Or.inl rfl) (fv_rc rfl (GI.m g_2 (n := 29) rfl (by decide)) (by decide)) ?_
        refine x_iload_n 1 dX2_word_66 rfl ?_
        obtain ⟨b_23, hw⟩ := hw
        refine x_iald (n := 24) (j := (Int32.toNatClampNeg p1)) dX2_word_67 rfl (GI.s g_2 (t := (1, 24)) rfl (by decide)) b_23 ?_
        exact x_iret dX2_word_68 rfl (Nat.le_of_ble_eq_true rfl) (Nat.le_of_ble_eq_true rfl) ⟨_, rfl, g_2, e_3, hw⟩
      | 3, _, c_15 =>
        have c_15 : p2 = 3 := c_15
        have hw := ws_11 c_15
        refine x_tableIn (off := 54) 69 dX2_word_15 (by rw [c_15]; decide) (by rw [c_15]; decide) (by rw [c_15]; rfl) (by decide) ?_
        refine x_aload_n 0 dX2_word_69 rfl ?_
        refine x_get (ci := 2) (v := .ref (mr ρ 30)) 4 dX2_word_70 (GI.s g_2 (t := (12, 0)) rfl (by decide)) rfl in_X2 (by decide) q1227 (Or.inl rfl) (fv_rc rfl (GI.m g_2 (n := 30) rfl (by decide)) (by decide)) ?_
        refine x_iload_n 1 dX2_word_73 rfl ?_
        obtain ⟨b_24, hw⟩ := hw
        refine x_iald (n := 24) (j := (Int32.toNatClampNeg p1)) dX2_word_74 rfl (GI.s g_2 (t := (1, 24)) rfl (by decide)) b_24 ?_
        exact x_iret dX2_word_75 rfl (Nat.le_of_ble_eq_true rfl) (Nat.le_of_ble_eq_true rfl) ⟨_, rfl, g_2, e_3, hw⟩
      | 4, _, c_15 =>
        have c_15 : p2 = 4 := c_15
        have hw := ws_12 c_15
        refine x_tableIn (off := 61) 76 dX2_word_15 (by rw [c_15]; decide) (by rw [c_15]; decide) (by rw [c_15]; rfl) (by decide) ?_
        refine x_aload_n 0 dX2_word_76 rfl ?_
        refine x_iload_n 1 dX2_word_77 rfl ?_
        refine x_callV (ci := 2) [.int p1] 1 dX2_word_78 (k_X2_nexts G g_2 hw) (GI.s g_2 (t := (12, 0)) rfl (by decide)) rfl q1446 q1448 qs70 q106 q1449 (by decide) rfl rfl ⟨(Nat.le_of_ble_eq_true rfl), (Nat.le_of_ble_eq_true rfl)⟩ (Nat.le_of_ble_eq_true rfl) ⟨(Nat.le_of_ble_eq_true rfl), (Nat.le_of_ble_eq_true rfl)⟩ (fun v9 h_25 hv9 => ?_) (fun _ _ _ _ _ z _ _ => False.elim z)
        obtain ⟨r_28, rfl, g_26, e_27, hw⟩ := hv9
        have hw := hw g_26 e_27
        show X ρ K_X2_word 81 [(0, .ref (mr ρ 25)), (1, .int p1), (2, .int p2)] [.int r_28] h_25 0 0 (phI h post) psN
        exact x_iret dX2_word_81 rfl (Nat.le_of_ble_eq_true rfl) (Nat.le_of_ble_eq_true rfl) ⟨_, rfl, g_26, (Ext.tr e_3 e_27), hw⟩
      | i9 + 5, h9, _ => exact absurd h9 (by omega)
  · have hw := wf_36 c_6
    refine x_aload_n 0 dX2_word_8 rfl ?_
    refine x_iconst (-1) dX2_word_9 (by decide) ?_
    refine x_callV (ci := 2) [.int (-1)] 1 dX2_word_10 (k_X2_no G g_2 hw) (GI.s g_2 (t := (12, 0)) rfl (by decide)) rfl q1387 q1389 qs59 q106 q1390 (by decide) rfl rfl ⟨(Nat.le_of_ble_eq_true rfl), (Nat.le_of_ble_eq_true rfl)⟩ (Nat.le_of_ble_eq_true rfl) ⟨(Nat.le_of_ble_eq_true rfl), (Nat.le_of_ble_eq_true rfl)⟩ (fun v9 h_30 hv9 => ?_) (fun _ _ _ _ _ z _ _ => False.elim z)
    obtain ⟨r_33, rfl, g_31, e_32, hw⟩ := hv9
    have hw := hw g_31 e_32
    show X ρ K_X2_word 13 [(0, .ref (mr ρ 25)), (1, .int p1), (2, .int p2)] [.int r_33] h_30 0 0 (phI h post) psN
    exact x_iret dX2_word_13 rfl (Nat.le_of_ble_eq_true rfl) (Nat.le_of_ble_eq_true rfl) ⟨_, rfl, g_31, (Ext.tr e_3 e_32), hw⟩

/-! BeforeTheEnd.player(II)I -/
def wp_X0_player (post : Int32 → Hp → Prop) (h : Hp) (p1 : Int32) (p2 : Int32) : Prop := (wp_X0_act (fun r_4 h_1 => GI h_1 → Ext h h_1 → (post r_4 h_1)) h 2 p1 p2 0)
abbrev rm_X0_player : Room := ({ frames := 19, cells := 1868, slots := 13143, locals := 599 })
abbrev K_X0_player : Kx := ("BeforeTheEnd", cX0_player, 3, (Option.some Jvm.ClassFile.FieldType.int), rm_X0_player, [], false)
set_option maxHeartbeats 4000000 in
theorem k_X0_player {ρ : Rho} {h : Hp} {post : Int32 → Hp → Prop} {p1 : Int32} {p2 : Int32} (G : G0 ρ) (g : GI h) (hw : wp_X0_player post h p1 p2) : Con ρ yX0_player (ws_ yX0_player cX0_player 3 (Option.some Jvm.ClassFile.FieldType.int)) rm_X0_player [.ref (mr ρ 1), .int p1, .int p2] h (phI h post) psN := by
  refine con_of (own := "BeforeTheEnd") (isI := false) (l0 := [(0, .ref (mr ρ 1)), (1, .int p1), (2, .int p2)]) (by decide) rfl (fun z => by cases z) (Nat.le_of_ble_eq_true rfl) rfl (fun _ => ?_)
  show X ρ K_X0_player 0 [(0, .ref (mr ρ 1)), (1, .int p1), (2, .int p2)] [] h 0 0 (phI h post) psN
  refine x_aload_n 0 dX0_player_0 rfl ?_
  refine x_iconst 2 dX0_player_1 (by decide) ?_
  refine x_iload_n 1 dX0_player_2 rfl ?_
  refine x_iload_n 2 dX0_player_3 rfl ?_
  refine x_iconst 0 dX0_player_4 (by decide) ?_
  refine x_callH (ci := 0) [.int 2, .int p1, .int p2, .int 0] 4 dX0_player_5 (k_X0_act G g hw) (GI.s g (t := (10, 0)) rfl (by decide)) rfl q383 q385 qs3 q104 q386 (by decide) rfl rfl ⟨(Nat.le_of_ble_eq_true rfl), (Nat.le_of_ble_eq_true rfl)⟩ (Nat.le_of_ble_eq_true rfl) ⟨(Nat.le_of_ble_eq_true rfl), (Nat.le_of_ble_eq_true rfl)⟩ (fun v9 h_1 hv9 => ?_) (fun _ _ _ _ _ z _ _ => False.elim z)
  obtain ⟨r_4, rfl, g_2, e_3, hw⟩ := hv9
  have hw := hw g_2 e_3
  show X ρ K_X0_player 8 [(0, .ref (mr ρ 1)), (1, .int p1), (2, .int p2)] [.int r_4] h_1 1868 13143 (phI h post) psN
  exact x_iret dX0_player_8 rfl (Nat.le_of_ble_eq_true rfl) (Nat.le_of_ble_eq_true rfl) ⟨_, rfl, g_2, e_3, hw⟩

/-! BeforeTheEndModel.isPlayer(I)Z -/
def wp_X2_isPlayer (post : Int32 → Hp → Prop) (h : Hp) (p1 : Int32) : Prop := (∀ z_3 : Int32, z_3 = ((if p1 < 0 then 0 else (if (gi h 25 13) ≤ p1 then 0 else 1)) : Int32) → (post z_3 h))
abbrev rm_X2_isPlayer : Room := ({ frames := 1, cells := 0, slots := 0, locals := 60 })
abbrev K_X2_isPlayer : Kx := ("BeforeTheEndModel", cX2_isPlayer, 2, (Option.some Jvm.ClassFile.FieldType.boolean), rm_X2_isPlayer, [], false)
set_option maxHeartbeats 4000000 in
theorem k_X2_isPlayer {ρ : Rho} {h : Hp} {post : Int32 → Hp → Prop} {p1 : Int32} (G : G0 ρ) (g : GI h) (hw : wp_X2_isPlayer post h p1) : Con ρ yX2_isPlayer (ws_ yX2_isPlayer cX2_isPlayer 2 (Option.some Jvm.ClassFile.FieldType.boolean)) rm_X2_isPlayer [.ref (mr ρ 25), .int p1] h (phB h post) psN := by
  refine con_of (own := "BeforeTheEndModel") (isI := false) (l0 := [(0, .ref (mr ρ 25)), (1, .int p1)]) (by decide) rfl (fun z => by cases z) (Nat.le_of_ble_eq_true rfl) rfl (fun _ => ?_)
  show X ρ K_X2_isPlayer 0 [(0, .ref (mr ρ 25)), (1, .int p1)] [] h 0 0 (phB h post) psN
  refine x_iload_n 1 dX2_isPlayer_0 rfl ?_
  have kJ_4 : ∀ z_3 : Int32, z_3 = ((if p1 < 0 then 0 else (if (gi h 25 13) ≤ p1 then 0 else 1)) : Int32) → X ρ K_X2_isPlayer 17 [(0, .ref (mr ρ 25)), (1, .int p1)] [.int z_3] h 0 0 (phB h post) psN := fun z_3 ez_3 => by
    have hw := hw z_3 ez_3
    exact x_zret dX2_isPlayer_17 rfl (isB.n (Eq.mpr (congrArg isB ez_3) (isB_ite isB_0 (isB_ite isB_0 isB_1)))) (Nat.le_of_ble_eq_true rfl) (Nat.le_of_ble_eq_true rfl) ⟨_, rfl, g, Ext.rf, (Eq.mpr (congrArg isB ez_3) (isB_ite isB_0 (isB_ite isB_0 isB_1))), hw⟩
  refine x_if_lt 16 dX2_isPlayer_1 (by decide) (fun c_1 => ?_) (fun c_1 => ?_)
  · refine x_iconst 0 dX2_isPlayer_16 (by decide) ?_
    exact kJ_4 _ ((if_pos c_1)).symm
  · refine x_iload_n 1 dX2_isPlayer_4 rfl ?_
    refine x_aload_n 0 dX2_isPlayer_5 rfl ?_
    refine x_get (ci := 2) (v := .int (gi h 25 13)) 13 dX2_isPlayer_6 (GI.s g (t := (12, 0)) rfl (by decide)) rfl in_X2 (by decide) q1236 (Or.inl rfl) (fv_i rfl) ?_
    refine x_icmp_ge 16 dX2_isPlayer_9 (by decide) (fun c_2 => ?_) (fun c_2 => ?_)
    · refine x_iconst 0 dX2_isPlayer_16 (by decide) ?_
      exact kJ_4 _ (((if_neg c_1).trans (if_pos c_2))).symm
    · refine x_iconst 1 dX2_isPlayer_12 (by decide) ?_
      refine x_goto 17 dX2_isPlayer_13 (by decide) ?_
      exact kJ_4 _ (((if_neg c_1).trans (if_neg c_2))).symm

/-! BeforeTheEndModel.player(II)I -/
def wp_X2_player (post : Int32 → Hp → Prop) (h : Hp) (p1 : Int32) (p2 : Int32) : Prop := (wp_X2_isPlayer (fun r_4 h_1 => GI h_1 → Ext h h_1 → ((¬ r_4 = 0 → (((p2.toInt < 0 ∨ 4 < p2.toInt) → (wp_X2_no (fun r_19 h_16 => GI h_16 → Ext h_1 h_16 → (post r_19 h_16)) h_1 (-2))) ∧ (p2 = 0 → (vp_in p1 4 ∧ (post (gi h_1 31 (Int32.toNatClampNeg p1)) h_1))) ∧ (p2 = 1 → (vp_in p1 4 ∧ (post (gi h_1 33 (Int32.toNatClampNeg p1)) h_1))) ∧ (p2 = 2 → (vp_in p1 4 ∧ (post (gi h_1 34 (Int32.toNatClampNeg p1)) h_1))) ∧ (p2 = 3 → (vp_in p1 4 ∧ (post (gi h_1 32 (Int32.toNatClampNeg p1)) h_1))) ∧ (p2 = 4 → (vp_in p1 4 ∧ ((((gi h_1 31 (Int32.toNatClampNeg p1)) = 4 → (vp_in p1 4))) ∧ (∀ z_28 : Int32, z_28 = ((if (gi h_1 31 (Int32.toNatClampNeg p1)) = 4 then (gi h_1 35 (Int32.toNatClampNeg p1)) else 0) : Int32) → (post z_28 h_1))))))) ∧ (r_4 = 0 → (wp_X2_no (fun r_34 h_31 => GI h_31 → Ext h_1 h_31 → (post r_34 h_31)) h_1 (-1))))) h p1)
abbrev rm_X2_player : Room := ({ frames := 2, cells := 0, slots := 0, locals := 81 })
abbrev K_X2_player : Kx := ("BeforeTheEndModel", cX2_player, 3, (Option.some Jvm.ClassFile.FieldType.int), rm_X2_player, [], false)
set_option maxHeartbeats 4000000 in
theorem k_X2_player {ρ : Rho} {h : Hp} {post : Int32 → Hp → Prop} {p1 : Int32} {p2 : Int32} (G : G0 ρ) (g : GI h) (hw : wp_X2_player post h p1 p2) : Con ρ yX2_player (ws_ yX2_player cX2_player 3 (Option.some Jvm.ClassFile.FieldType.int)) rm_X2_player [.ref (mr ρ 25), .int p1, .int p2] h (phI h post) psN := by
  refine con_of (own := "BeforeTheEndModel") (isI := false) (l0 := [(0, .ref (mr ρ 25)), (1, .int p1), (2, .int p2)]) (by decide) rfl (fun z => by cases z) (Nat.le_of_ble_eq_true rfl) rfl (fun _ => ?_)
  show X ρ K_X2_player 0 [(0, .ref (mr ρ 25)), (1, .int p1), (2, .int p2)] [] h 0 0 (phI h post) psN
  refine x_aload_n 0 dX2_player_0 rfl ?_
  refine x_iload_n 1 dX2_player_1 rfl ?_
  refine x_callV (ci := 2) [.int p1] 1 dX2_player_2 (k_X2_isPlayer G g hw) (GI.s g (t := (12, 0)) rfl (by decide)) rfl q1454 q1456 qs71 q106 q1457 (by decide) rfl rfl ⟨(Nat.le_of_ble_eq_true rfl), (Nat.le_of_ble_eq_true rfl)⟩ (Nat.le_of_ble_eq_true rfl) ⟨(Nat.le_of_ble_eq_true rfl), (Nat.le_of_ble_eq_true rfl)⟩ (fun v9 h_1 hv9 => ?_) (fun _ _ _ _ _ z _ _ => False.elim z)
  obtain ⟨r_4, rfl, g_2, e_3, b_5, hw⟩ := hv9
  have hw := hw g_2 e_3
  show X ρ K_X2_player 5 [(0, .ref (mr ρ 25)), (1, .int p1), (2, .int p2)] [.int r_4] h_1 0 0 (phI h post) psN
  obtain ⟨wt_36, wf_37⟩ := hw
  refine x_if_ne 14 dX2_player_5 (by decide) (fun c_6 => ?_) (fun c_6 => ?_)
  · have hw := wt_36 c_6
    refine x_iload_n 2 dX2_player_14 rfl ?_
    obtain ⟨wd_7, ws_8, ws_9, ws_10, ws_11, ws_12⟩ := hw
    rcases tab_or p2 0 5 (by decide) with c_15 | ⟨i_14, c_15i, c_15⟩
    · have c_15o : p2.toInt < 0 ∨ 4 < p2.toInt := by omega
      have hw := wd_7 c_15o
      refine x_tableOut 97 dX2_player_15 c_15o (by decide) ?_
      refine x_aload_n 0 dX2_player_97 rfl ?_
      refine x_bipush (-2) dX2_player_98 (by decide) ?_
      refine x_callV (ci := 2) [.int (-2)] 1 dX2_player_100 (k_X2_no G g_2 hw) (GI.s g_2 (t := (12, 0)) rfl (by decide)) rfl q1387 q1389 qs59 q106 q1390 (by decide) rfl rfl ⟨(Nat.le_of_ble_eq_true rfl), (Nat.le_of_ble_eq_true rfl)⟩ (Nat.le_of_ble_eq_true rfl) ⟨(Nat.le_of_ble_eq_true rfl), (Nat.le_of_ble_eq_true rfl)⟩ (fun v9 h_16 hv9 => ?_) (fun _ _ _ _ _ z _ _ => False.elim z)
      obtain ⟨r_19, rfl, g_17, e_18, hw⟩ := hv9
      have hw := hw g_17 e_18
      show X ρ K_X2_player 103 [(0, .ref (mr ρ 25)), (1, .int p1), (2, .int p2)] [.int r_19] h_16 0 0 (phI h post) psN
      exact x_iret dX2_player_103 rfl (Nat.le_of_ble_eq_true rfl) (Nat.le_of_ble_eq_true rfl) ⟨_, rfl, g_17, (Ext.tr e_3 e_18), hw⟩
    · match i_14, c_15i, c_15 with
      | 0, _, c_15 =>
        have c_15 : p2 = 0 := c_15
        have hw := ws_8 c_15
        refine x_tableIn (off := 33) 48 dX2_player_15 (by rw [c_15]; decide) (by rw [c_15]; decide) (by rw [c_15]; rfl) (by decide) ?_
        refine x_aload_n 0 dX2_player_48 rfl ?_
        refine x_get (ci := 2) (v := .ref (mr ρ 31)) 5 dX2_player_49 (GI.s g_2 (t := (12, 0)) rfl (by decide)) rfl in_X2 (by decide) q1228 (Or.inl rfl) (fv_rc rfl (GI.m g_2 (n := 31) rfl (by decide)) (by decide)) ?_
        refine x_iload_n 1 dX2_player_52 rfl ?_
        obtain ⟨b_21, hw⟩ := hw
        refine x_iald (n := 4) (j := (Int32.toNatClampNeg p1)) dX2_player_53 rfl (GI.s g_2 (t := (1, 4)) rfl (by decide)) b_21 ?_
        exact x_iret dX2_player_54 rfl (Nat.le_of_ble_eq_true rfl) (Nat.le_of_ble_eq_true rfl) ⟨_, rfl, g_2, e_3, hw⟩
      | 1, _, c_15 =>
        have c_15 : p2 = 1 := c_15
        have hw := ws_9 c_15
        refine x_tableIn (off := 40) 55 dX2_player_15 (by rw [c_15]; decide) (by rw [c_15]; decide) (by rw [c_15]; rfl) (by decide) ?_
        refine x_aload_n 0 dX2_player_55 rfl ?_
        refine x_get (ci := 2) (v := .ref (mr ρ 33)) 7 dX2_player_56 (GI.s g_2 (t := (12, 0)) rfl (by decide)) rfl in_X2 (by decide) q1230 (Or.inl rfl) (fv_rc rfl (GI.m g_2 (n := 33) rfl (by decide)) (by decide)) ?_
        refine x_iload_n 1 dX2_player_59 rfl ?_
        obtain ⟨b_22, hw⟩ := hw
        refine x_iald (n := 4) (j := (Int32.toNatClampNeg p1)) dX2_player_60 rfl (GI.s g_2 (t := (1, 4)) rfl (by decide)) b_22 ?_
        exact x_iret dX2_player_61 rfl (Nat.le_of_ble_eq_true rfl) (Nat.le_of_ble_eq_true rfl) ⟨_, rfl, g_2, e_3, hw⟩
      | 2, _, c_15 =>
        have c_15 : p2 = 2 := c_15
        have hw := ws_10 c_15
        refine x_tableIn (off := 47) 62 dX2_player_15 (by rw [c_15]; decide) (by rw [c_15]; decide) (by rw [c_15]; rfl) (by decide) ?_
        refine x_aload_n 0 dX2_player_62 rfl ?_
        refine x_get (ci := 2) (v := .ref (mr ρ 34)) 8 dX2_player_63 (GI.s g_2 (t := (12, 0)) rfl (by decide)) rfl in_X2 (by decide) q1231 (Or.inl rfl) (fv_rc rfl (GI.m g_2 (n := 34) rfl (by decide)) (by decide)) ?_
        refine x_iload_n 1 dX2_player_66 rfl ?_
        obtain ⟨b_23, hw⟩ := hw
        refine x_iald (n := 4) (j := (Int32.toNatClampNeg p1)) dX2_player_67 rfl (GI.s g_2 (t := (1, 4)) rfl (by decide)) b_23 ?_
        exact x_iret dX2_player_68 rfl (Nat.le_of_ble_eq_true rfl) (Nat.le_of_ble_eq_true rfl) ⟨_, rfl, g_2, e_3, hw⟩
      | 3, _, c_15 =>
        have c_15 : p2 = 3 := c_15
        have hw := ws_11 c_15
        refine x_tableIn (off := 54) 69 dX2_player_15 (by rw [c_15]; decide) (by rw [c_15]; decide) (by rw [c_15]; rfl) (by decide) ?_
        refine x_aload_n 0 dX2_player_69 rfl ?_
        refine x_get (ci := 2) (v := .ref (mr ρ 32)) 6 dX2_player_70 (GI.s g_2 (t := (12, 0)) rfl (by decide)) rfl in_X2 (by decide) q1229 (Or.inl rfl) (fv_rc rfl (GI.m g_2 (n := 32) rfl (by decide)) (by decide)) ?_
        refine x_iload_n 1 dX2_player_73 rfl ?_
        obtain ⟨b_24, hw⟩ := hw
        refine x_iald (n := 4) (j := (Int32.toNatClampNeg p1)) dX2_player_74 rfl (GI.s g_2 (t := (1, 4)) rfl (by decide)) b_24 ?_
        exact x_iret dX2_player_75 rfl (Nat.le_of_ble_eq_true rfl) (Nat.le_of_ble_eq_true rfl) ⟨_, rfl, g_2, e_3, hw⟩
      | 4, _, c_15 =>
        have c_15 : p2 = 4 := c_15
        have hw := ws_12 c_15
        refine x_tableIn (off := 61) 76 dX2_player_15 (by rw [c_15]; decide) (by rw [c_15]; decide) (by rw [c_15]; rfl) (by decide) ?_
        refine x_aload_n 0 dX2_player_76 rfl ?_
        refine x_get (ci := 2) (v := .ref (mr ρ 31)) 5 dX2_player_77 (GI.s g_2 (t := (12, 0)) rfl (by decide)) rfl in_X2 (by decide) q1228 (Or.inl rfl) (fv_rc rfl (GI.m g_2 (n := 31) rfl (by decide)) (by decide)) ?_
        refine x_iload_n 1 dX2_player_80 rfl ?_
        obtain ⟨b_25, hw⟩ := hw
        refine x_iald (n := 4) (j := (Int32.toNatClampNeg p1)) dX2_player_81 rfl (GI.s g_2 (t := (1, 4)) rfl (by decide)) b_25 ?_
        refine x_iconst 4 dX2_player_82 (by decide) ?_
        obtain ⟨hO_30, hw⟩ := hw
        have kJ_29 : ∀ z_28 : Int32, z_28 = ((if (gi h_1 31 (Int32.toNatClampNeg p1)) = 4 then (gi h_1 35 (Int32.toNatClampNeg p1)) else 0) : Int32) → X ρ K_X2_player 96 [(0, .ref (mr ρ 25)), (1, .int p1), (2, .int p2)] [.int z_28] h_1 0 0 (phI h post) psN := fun z_28 ez_28 => by
          have hw := hw z_28 ez_28
          exact x_iret dX2_player_96 rfl (Nat.le_of_ble_eq_true rfl) (Nat.le_of_ble_eq_true rfl) ⟨_, rfl, g_2, e_3, hw⟩
        have hO_300 := hO_30
        refine x_icmp_ne 95 dX2_player_83 (by decide) (fun c_26 => ?_) (fun c_26 => ?_)
        · refine x_iconst 0 dX2_player_95 (by decide) ?_
          exact kJ_29 _ ((if_neg c_26)).symm
        · have hO_30_ := hO_300 c_26
          have b_27 := hO_30_
          refine x_aload_n 0 dX2_player_86 rfl ?_
          refine x_get (ci := 2) (v := .ref (mr ρ 35)) 9 dX2_player_87 (GI.s g_2 (t := (12, 0)) rfl (by decide)) rfl in_X2 (by decide) q1232 (Or.inl rfl) (fv_rc rfl (GI.m g_2 (n := 35) rfl (by decide)) (by decide)) ?_
          refine x_iload_n 1 dX2_player_90 rfl ?_
          refine x_iald (n := 4) (j := (Int32.toNatClampNeg p1)) dX2_player_91 rfl (GI.s g_2 (t := (1, 4)) rfl (by decide)) b_27 ?_
          refine x_goto 96 dX2_player_92 (by decide) ?_
          exact kJ_29 _ ((if_pos c_26)).symm
      | i9 + 5, h9, _ => exact absurd h9 (by omega)
  · have hw := wf_37 c_6
    refine x_aload_n 0 dX2_player_8 rfl ?_
    refine x_iconst (-1) dX2_player_9 (by decide) ?_
    refine x_callV (ci := 2) [.int (-1)] 1 dX2_player_10 (k_X2_no G g_2 hw) (GI.s g_2 (t := (12, 0)) rfl (by decide)) rfl q1387 q1389 qs59 q106 q1390 (by decide) rfl rfl ⟨(Nat.le_of_ble_eq_true rfl), (Nat.le_of_ble_eq_true rfl)⟩ (Nat.le_of_ble_eq_true rfl) ⟨(Nat.le_of_ble_eq_true rfl), (Nat.le_of_ble_eq_true rfl)⟩ (fun v9 h_31 hv9 => ?_) (fun _ _ _ _ _ z _ _ => False.elim z)
    obtain ⟨r_34, rfl, g_32, e_33, hw⟩ := hv9
    have hw := hw g_32 e_33
    show X ρ K_X2_player 13 [(0, .ref (mr ρ 25)), (1, .int p1), (2, .int p2)] [.int r_34] h_31 0 0 (phI h post) psN
    exact x_iret dX2_player_13 rfl (Nat.le_of_ble_eq_true rfl) (Nat.le_of_ble_eq_true rfl) ⟨_, rfl, g_32, (Ext.tr e_3 e_33), hw⟩

/-! BeforeTheEnd.whole()I -/
def wp_X0_whole (post : Int32 → Hp → Prop) (h : Hp) : Prop := (wp_X0_act (fun r_4 h_1 => GI h_1 → Ext h h_1 → (post r_4 h_1)) h 3 0 0 0)
abbrev rm_X0_whole : Room := ({ frames := 19, cells := 1868, slots := 13143, locals := 599 })
abbrev K_X0_whole : Kx := ("BeforeTheEnd", cX0_whole, 1, (Option.some Jvm.ClassFile.FieldType.int), rm_X0_whole, [], false)
set_option maxHeartbeats 4000000 in
theorem k_X0_whole {ρ : Rho} {h : Hp} {post : Int32 → Hp → Prop} (G : G0 ρ) (g : GI h) (hw : wp_X0_whole post h) : Con ρ yX0_whole (ws_ yX0_whole cX0_whole 1 (Option.some Jvm.ClassFile.FieldType.int)) rm_X0_whole [.ref (mr ρ 1)] h (phI h post) psN := by
  refine con_of (own := "BeforeTheEnd") (isI := false) (l0 := [(0, .ref (mr ρ 1))]) (by decide) rfl (fun z => by cases z) (Nat.le_of_ble_eq_true rfl) rfl (fun _ => ?_)
  show X ρ K_X0_whole 0 [(0, .ref (mr ρ 1))] [] h 0 0 (phI h post) psN
  refine x_aload_n 0 dX0_whole_0 rfl ?_
  refine x_iconst 3 dX0_whole_1 (by decide) ?_
  refine x_iconst 0 dX0_whole_2 (by decide) ?_
  refine x_iconst 0 dX0_whole_3 (by decide) ?_
  refine x_iconst 0 dX0_whole_4 (by decide) ?_
  refine x_callH (ci := 0) [.int 3, .int 0, .int 0, .int 0] 4 dX0_whole_5 (k_X0_act G g hw) (GI.s g (t := (10, 0)) rfl (by decide)) rfl q383 q385 qs3 q104 q386 (by decide) rfl rfl ⟨(Nat.le_of_ble_eq_true rfl), (Nat.le_of_ble_eq_true rfl)⟩ (Nat.le_of_ble_eq_true rfl) ⟨(Nat.le_of_ble_eq_true rfl), (Nat.le_of_ble_eq_true rfl)⟩ (fun v9 h_1 hv9 => ?_) (fun _ _ _ _ _ z _ _ => False.elim z)
  obtain ⟨r_4, rfl, g_2, e_3, hw⟩ := hv9
  have hw := hw g_2 e_3
  show X ρ K_X0_whole 8 [(0, .ref (mr ρ 1))] [.int r_4] h_1 1868 13143 (phI h post) psN
  exact x_iret dX0_whole_8 rfl (Nat.le_of_ble_eq_true rfl) (Nat.le_of_ble_eq_true rfl) ⟨_, rfl, g_2, e_3, hw⟩

/-! BeforeTheEndModel.isWhole()Z -/
def w_X2_isWhole_2 (post : Int32 → Hp → Prop) : Nat → Int32 → Hp → Prop
  | 0 => fun _ _ => False
  | n + 1 => fun x1 h => (((gi h 25 12) ≤ x1 → (post 1 h)) ∧ (¬ (gi h 25 12) ≤ x1 → (vp_in x1 24 ∧ ((¬ (gi h 29 (Int32.toNatClampNeg x1)) = 0 → (w_X2_isWhole_2 post n (x1 + 1) h)) ∧ ((gi h 29 (Int32.toNatClampNeg x1)) = 0 → (wp_X2_nexts (fun r_7 h_4 => GI h_4 → Ext h h_4 → ((¬ r_7 = 0 → (w_X2_isWhole_2 post n (x1 + 1) h_4)) ∧ (r_7 = 0 → (post 0 h_4)))) h x1))))))
def wp_X2_isWhole (post : Int32 → Hp → Prop) (h : Hp) : Prop := (∃ fu : Nat, w_X2_isWhole_2 post fu 0 h)
abbrev rm_X2_isWhole : Room := ({ frames := 2, cells := 0, slots := 0, locals := 83 })
abbrev K_X2_isWhole : Kx := ("BeforeTheEndModel", cX2_isWhole, 2, (Option.some Jvm.ClassFile.FieldType.boolean), rm_X2_isWhole, [], false)
set_option maxHeartbeats 4000000 in
theorem t_X2_isWhole_2 {ρ : Rho} {h0 : Hp} {post : Int32 → Hp → Prop} (G : G0 ρ) :
    ∀ (n : Nat), ∀ (x1 : Int32) (h : Hp), GI h → Ext h0 h → w_X2_isWhole_2 post n x1 h → X ρ K_X2_isWhole 2 [(0, .ref (mr ρ 25)), (1, .int x1)] [] h 0 0 (phB h0 post) psN := by
  intro n
  induction n with
  | zero => intro x1 h g e hw; exact False.elim hw
  | succ n ih =>
    intro x1 h g e hw
    refine x_iload_n 1 dX2_isWhole_2 rfl ?_
    refine x_aload_n 0 dX2_isWhole_3 rfl ?_
    refine x_get (ci := 2) (v := .int (gi h 25 12)) 12 dX2_isWhole_4 (GI.s g (t := (12, 0)) rfl (by decide)) rfl in_X2 (by decide) q1235 (Or.inl rfl) (fv_i rfl) ?_
    obtain ⟨wt_14, wf_15⟩ := hw
    refine x_icmp_ge 35 dX2_isWhole_7 (by decide) (fun c_1 => ?_) (fun c_1 => ?_)
    · have hw := wt_14 c_1
      refine x_iconst 1 dX2_isWhole_35 (by decide) ?_
      exact x_zret dX2_isWhole_36 rfl (isB.n isB_1) (Nat.le_of_ble_eq_true rfl) (Nat.le_of_ble_eq_true rfl) ⟨_, rfl, g, e, isB_1, hw⟩
    · have hw := wf_15 c_1
      refine x_aload_n 0 dX2_isWhole_10 rfl ?_
      refine x_get (ci := 2) (v := .ref (mr ρ 29)) 3 dX2_isWhole_11 (GI.s g (t := (12, 0)) rfl (by decide)) rfl in_X2 (by decide) q1226 (Or.inl rfl) (fv_rc rfl (GI.m g (n := 29) rfl (by decide)) (by decide)) ?_
      refine x_iload_n 1 dX2_isWhole_14 rfl ?_
      obtain ⟨b_2, hw⟩ := hw
      refine x_iald (n := 24) (j := (Int32.toNatClampNeg x1)) dX2_isWhole_15 rfl (GI.s g (t := (1, 24)) rfl (by decide)) b_2 ?_
      obtain ⟨wt_12, wf_13⟩ := hw
      refine x_if_ne 29 dX2_isWhole_16 (by decide) (fun c_3 => ?_) (fun c_3 => ?_)
      · have hw := wt_12 c_3
        refine x_iinc (v := (x1 + 1)) (lv' := [(1, .int (x1 + 1)), (0, .ref (mr ρ 25))]) 1 dX2_isWhole_29 rfl (by rfl) (Nat.le_of_ble_eq_true rfl) rfl ?_
        refine x_goto 2 dX2_isWhole_32 (by decide) ?_
        refine X.sub [1, 0] rfl ?_
        exact ih (x1 + 1) h g e hw
      · have hw := wf_13 c_3
        refine x_aload_n 0 dX2_isWhole_19 rfl ?_
        refine x_iload_n 1 dX2_isWhole_20 rfl ?_
        refine x_callV (ci := 2) [.int x1] 1 dX2_isWhole_21 (k_X2_nexts G g hw) (GI.s g (t := (12, 0)) rfl (by decide)) rfl q1446 q1448 qs70 q106 q1449 (by decide) rfl rfl ⟨(Nat.le_of_ble_eq_true rfl), (Nat.le_of_ble_eq_true rfl)⟩ (Nat.le_of_ble_eq_true rfl) ⟨(Nat.le_of_ble_eq_true rfl), (Nat.le_of_ble_eq_true rfl)⟩ (fun v9 h_4 hv9 => ?_) (fun _ _ _ _ _ z _ _ => False.elim z)
        obtain ⟨r_7, rfl, g_5, e_6, hw⟩ := hv9
        have hw := hw g_5 e_6
        show X ρ K_X2_isWhole 24 [(0, .ref (mr ρ 25)), (1, .int x1)] [.int r_7] h_4 0 0 (phB h0 post) psN
        obtain ⟨wt_10, wf_11⟩ := hw
        refine x_if_ne 29 dX2_isWhole_24 (by decide) (fun c_9 => ?_) (fun c_9 => ?_)
        · have hw := wt_10 c_9
          refine x_iinc (v := (x1 + 1)) (lv' := [(1, .int (x1 + 1)), (0, .ref (mr ρ 25))]) 1 dX2_isWhole_29 rfl (by rfl) (Nat.le_of_ble_eq_true rfl) rfl ?_
          refine x_goto 2 dX2_isWhole_32 (by decide) ?_
          refine X.sub [1, 0] rfl ?_
          exact ih (x1 + 1) h_4 g_5 (Ext.tr e e_6) hw
        · have hw := wf_11 c_9
          refine x_iconst 0 dX2_isWhole_27 (by decide) ?_
          exact x_zret dX2_isWhole_28 rfl (isB.n isB_0) (Nat.le_of_ble_eq_true rfl) (Nat.le_of_ble_eq_true rfl) ⟨_, rfl, g_5, (Ext.tr e e_6), isB_0, hw⟩
set_option maxHeartbeats 4000000 in
theorem k_X2_isWhole {ρ : Rho} {h : Hp} {post : Int32 → Hp → Prop} (G : G0 ρ) (g : GI h) (hw : wp_X2_isWhole post h) : Con ρ yX2_isWhole (ws_ yX2_isWhole cX2_isWhole 2 (Option.some Jvm.ClassFile.FieldType.boolean)) rm_X2_isWhole [.ref (mr ρ 25)] h (phB h post) psN := by
  refine con_of (own := "BeforeTheEndModel") (isI := false) (l0 := [(0, .ref (mr ρ 25))]) (by decide) rfl (fun z => by cases z) (Nat.le_of_ble_eq_true rfl) rfl (fun _ => ?_)
  show X ρ K_X2_isWhole 0 [(0, .ref (mr ρ 25))] [] h 0 0 (phB h post) psN
  refine x_iconst 0 dX2_isWhole_0 (by decide) ?_
  refine x_istore_n (lv' := [(1, .int 0), (0, .ref (mr ρ 25))]) dX2_isWhole_1 (Nat.le_of_ble_eq_true rfl) rfl ?_
  refine X.sub [1, 0] rfl ?_
  obtain ⟨fu, hw⟩ := hw
  exact t_X2_isWhole_2 G  fu 0 h g Ext.rf hw

/-! BeforeTheEndModel.whole()I -/
def wp_X2_whole (post : Int32 → Hp → Prop) (h : Hp) : Prop := (wp_X2_isWhole (fun r_4 h_1 => GI h_1 → Ext h h_1 → (∀ z_7 : Int32, z_7 = ((if r_4 = 0 then 0 else 1) : Int32) → (post z_7 h_1))) h)
abbrev rm_X2_whole : Room := ({ frames := 3, cells := 0, slots := 0, locals := 104 })
abbrev K_X2_whole : Kx := ("BeforeTheEndModel", cX2_whole, 1, (Option.some Jvm.ClassFile.FieldType.int), rm_X2_whole, [], false)
set_option maxHeartbeats 4000000 in
theorem k_X2_whole {ρ : Rho} {h : Hp} {post : Int32 → Hp → Prop} (G : G0 ρ) (g : GI h) (hw : wp_X2_whole post h) : Con ρ yX2_whole (ws_ yX2_whole cX2_whole 1 (Option.some Jvm.ClassFile.FieldType.int)) rm_X2_whole [.ref (mr ρ 25)] h (phI h post) psN := by
  refine con_of (own := "BeforeTheEndModel") (isI := false) (l0 := [(0, .ref (mr ρ 25))]) (by decide) rfl (fun z => by cases z) (Nat.le_of_ble_eq_true rfl) rfl (fun _ => ?_)
  show X ρ K_X2_whole 0 [(0, .ref (mr ρ 25))] [] h 0 0 (phI h post) psN
  refine x_aload_n 0 dX2_whole_0 rfl ?_
  refine x_callV (ci := 2) [] 0 dX2_whole_1 (k_X2_isWhole G g hw) (GI.s g (t := (12, 0)) rfl (by decide)) rfl q1462 q1464 qs72 q106 q1465 (by decide) rfl rfl ⟨(Nat.le_of_ble_eq_true rfl), (Nat.le_of_ble_eq_true rfl)⟩ (Nat.le_of_ble_eq_true rfl) ⟨(Nat.le_of_ble_eq_true rfl), (Nat.le_of_ble_eq_true rfl)⟩ (fun v9 h_1 hv9 => ?_) (fun _ _ _ _ _ z _ _ => False.elim z)
  obtain ⟨r_4, rfl, g_2, e_3, b_5, hw⟩ := hv9
  have hw := hw g_2 e_3
  show X ρ K_X2_whole 4 [(0, .ref (mr ρ 25))] [.int r_4] h_1 0 0 (phI h post) psN
  have kJ_8 : ∀ z_7 : Int32, z_7 = ((if r_4 = 0 then 0 else 1) : Int32) → X ρ K_X2_whole 12 [(0, .ref (mr ρ 25))] [.int z_7] h_1 0 0 (phI h post) psN := fun z_7 ez_7 => by
    have hw := hw z_7 ez_7
    exact x_iret dX2_whole_12 rfl (Nat.le_of_ble_eq_true rfl) (Nat.le_of_ble_eq_true rfl) ⟨_, rfl, g_2, e_3, hw⟩
  refine x_if_eq 11 dX2_whole_4 (by decide) (fun c_6 => ?_) (fun c_6 => ?_)
  · refine x_iconst 0 dX2_whole_11 (by decide) ?_
    exact kJ_8 _ ((if_pos c_6)).symm
  · refine x_iconst 1 dX2_whole_7 (by decide) ?_
    refine x_goto 12 dX2_whole_8 (by decide) ?_
    exact kJ_8 _ ((if_neg c_6)).symm

/-! BeforeTheEnd.left(I)I -/
def wp_X0_left (post : Int32 → Hp → Prop) (h : Hp) (p1 : Int32) : Prop := (wp_X0_act (fun r_4 h_1 => GI h_1 → Ext h h_1 → (post r_4 h_1)) h 4 p1 0 0)
abbrev rm_X0_left : Room := ({ frames := 19, cells := 1868, slots := 13143, locals := 599 })
abbrev K_X0_left : Kx := ("BeforeTheEnd", cX0_left, 2, (Option.some Jvm.ClassFile.FieldType.int), rm_X0_left, [], false)
set_option maxHeartbeats 4000000 in
theorem k_X0_left {ρ : Rho} {h : Hp} {post : Int32 → Hp → Prop} {p1 : Int32} (G : G0 ρ) (g : GI h) (hw : wp_X0_left post h p1) : Con ρ yX0_left (ws_ yX0_left cX0_left 2 (Option.some Jvm.ClassFile.FieldType.int)) rm_X0_left [.ref (mr ρ 1), .int p1] h (phI h post) psN := by
  refine con_of (own := "BeforeTheEnd") (isI := false) (l0 := [(0, .ref (mr ρ 1)), (1, .int p1)]) (by decide) rfl (fun z => by cases z) (Nat.le_of_ble_eq_true rfl) rfl (fun _ => ?_)
  show X ρ K_X0_left 0 [(0, .ref (mr ρ 1)), (1, .int p1)] [] h 0 0 (phI h post) psN
  refine x_aload_n 0 dX0_left_0 rfl ?_
  refine x_iconst 4 dX0_left_1 (by decide) ?_
  refine x_iload_n 1 dX0_left_2 rfl ?_
  refine x_iconst 0 dX0_left_3 (by decide) ?_
  refine x_iconst 0 dX0_left_4 (by decide) ?_
  refine x_callH (ci := 0) [.int 4, .int p1, .int 0, .int 0] 4 dX0_left_5 (k_X0_act G g hw) (GI.s g (t := (10, 0)) rfl (by decide)) rfl q383 q385 qs3 q104 q386 (by decide) rfl rfl ⟨(Nat.le_of_ble_eq_true rfl), (Nat.le_of_ble_eq_true rfl)⟩ (Nat.le_of_ble_eq_true rfl) ⟨(Nat.le_of_ble_eq_true rfl), (Nat.le_of_ble_eq_true rfl)⟩ (fun v9 h_1 hv9 => ?_) (fun _ _ _ _ _ z _ _ => False.elim z)
  obtain ⟨r_4, rfl, g_2, e_3, hw⟩ := hv9
  have hw := hw g_2 e_3
  show X ρ K_X0_left 8 [(0, .ref (mr ρ 1)), (1, .int p1)] [.int r_4] h_1 1868 13143 (phI h post) psN
  exact x_iret dX0_left_8 rfl (Nat.le_of_ble_eq_true rfl) (Nat.le_of_ble_eq_true rfl) ⟨_, rfl, g_2, e_3, hw⟩

/-! BeforeTheEndModel.isBehind(II)Z -/
def w_X2_isBehind_2 (post : Int32 → Hp → Prop) : Nat → Int32 → Int32 → Hp → Prop
  | 0 => fun _ _ _ => False
  | n + 1 => fun x2 x3 h => ((x3 ≤ x2 → (∀ z_3 : Int32, z_3 = ((if x3 = x2 then 1 else 0) : Int32) → (post z_3 h))) ∧ (¬ x3 ≤ x2 → (vp_in x3 24 ∧ (∀ x3_6 : Int32, x3_6 = (gi h 27 (Int32.toNatClampNeg x3)) → (w_X2_isBehind_2 post n x2 x3_6 h)))))
def wp_X2_isBehind (post : Int32 → Hp → Prop) (h : Hp) (p1 : Int32) (p2 : Int32) : Prop := (∃ fu : Nat, w_X2_isBehind_2 post fu p2 p1 h)
abbrev rm_X2_isBehind : Room := ({ frames := 1, cells := 0, slots := 0, locals := 60 })
abbrev K_X2_isBehind : Kx := ("BeforeTheEndModel", cX2_isBehind, 4, (Option.some Jvm.ClassFile.FieldType.boolean), rm_X2_isBehind, [], false)
set_option maxHeartbeats 4000000 in
theorem t_X2_isBehind_2 {ρ : Rho} {h0 : Hp} {post : Int32 → Hp → Prop} (G : G0 ρ) :
    ∀ (n : Nat), ∀ (x2 : Int32) (x3 : Int32) (h : Hp), GI h → Ext h0 h → w_X2_isBehind_2 post n x2 x3 h → X ρ K_X2_isBehind 2 [(0, .ref (mr ρ 25)), (2, .int x2), (3, .int x3)] [] h 0 0 (phB h0 post) psN := by
  intro n
  induction n with
  | zero => intro x2 x3 h g e hw; exact False.elim hw
  | succ n ih =>
    intro x2 x3 h g e hw
    refine x_iload_n 2 dX2_isBehind_2 rfl ?_
    refine x_iload_n 1 dX2_isBehind_3 rfl ?_
    obtain ⟨wt_7, wf_8⟩ := hw
    refine x_icmp_le 17 dX2_isBehind_4 (by decide) (fun c_1 => ?_) (fun c_1 => ?_)
    · have hw := wt_7 c_1
      refine x_iload_n 2 dX2_isBehind_17 rfl ?_
      refine x_iload_n 1 dX2_isBehind_18 rfl ?_
      have kJ_4 : ∀ z_3 : Int32, z_3 = ((if x3 = x2 then 1 else 0) : Int32) → X ρ K_X2_isBehind 27 [(0, .ref (mr ρ 25)), (2, .int x2), (3, .int x3)] [.int z_3] h 0 0 (phB h0 post) psN := fun z_3 ez_3 => by
        have hw := hw z_3 ez_3
        exact x_zret dX2_isBehind_27 rfl (isB.n (Eq.mpr (congrArg isB ez_3) (isB_ite isB_1 isB_0))) (Nat.le_of_ble_eq_true rfl) (Nat.le_of_ble_eq_true rfl) ⟨_, rfl, g, e, (Eq.mpr (congrArg isB ez_3) (isB_ite isB_1 isB_0)), hw⟩
      refine x_icmp_ne 26 dX2_isBehind_19 (by decide) (fun c_2 => ?_) (fun c_2 => ?_)
      · refine x_iconst 0 dX2_isBehind_26 (by decide) ?_
        exact kJ_4 _ ((if_neg c_2)).symm
      · refine x_iconst 1 dX2_isBehind_22 (by decide) ?_
        refine x_goto 27 dX2_isBehind_23 (by decide) ?_
        exact kJ_4 _ ((if_pos c_2)).symm
    · have hw := wf_8 c_1
      refine x_aload_n 0 dX2_isBehind_7 rfl ?_
      refine x_get (ci := 2) (v := .ref (mr ρ 27)) 1 dX2_isBehind_8 (GI.s g (t := (12, 0)) rfl (by decide)) rfl in_X2 (by decide) q1224 (Or.inl rfl) (fv_rc rfl (GI.m g (n := 27) rfl (by decide)) (by decide)) ?_
      refine x_iload_n 2 dX2_isBehind_11 rfl ?_
      obtain ⟨b_5, hw⟩ := hw
      refine x_iald (n := 24) (j := (Int32.toNatClampNeg x3)) dX2_isBehind_12 rfl (GI.s g (t := (1, 24)) rfl (by decide)) b_5 ?_
      refine x_nmi (fun x3_6 ex3_6 => ?_)
      have hw := hw x3_6 ex3_6
      refine x_istore_n (lv' := [(3, .int x3_6), (0, .ref (mr ρ 25)), (2, .int x2)]) dX2_isBehind_13 (Nat.le_of_ble_eq_true rfl) rfl ?_
      refine x_goto 2 dX2_isBehind_14 (by decide) ?_
      refine X.sub [1, 2, 0] rfl ?_
      exact ih x2 x3_6 h g e hw
set_option maxHeartbeats 4000000 in
theorem k_X2_isBehind {ρ : Rho} {h : Hp} {post : Int32 → Hp → Prop} {p1 : Int32} {p2 : Int32} (G : G0 ρ) (g : GI h) (hw : wp_X2_isBehind post h p1 p2) : Con ρ yX2_isBehind (ws_ yX2_isBehind cX2_isBehind 4 (Option.some Jvm.ClassFile.FieldType.boolean)) rm_X2_isBehind [.ref (mr ρ 25), .int p1, .int p2] h (phB h post) psN := by
  refine con_of (own := "BeforeTheEndModel") (isI := false) (l0 := [(0, .ref (mr ρ 25)), (1, .int p1), (2, .int p2)]) (by decide) rfl (fun z => by cases z) (Nat.le_of_ble_eq_true rfl) rfl (fun _ => ?_)
  show X ρ K_X2_isBehind 0 [(0, .ref (mr ρ 25)), (1, .int p1), (2, .int p2)] [] h 0 0 (phB h post) psN
  refine x_iload_n 1 dX2_isBehind_0 rfl ?_
  refine x_istore_n (lv' := [(3, .int p1), (0, .ref (mr ρ 25)), (1, .int p1), (2, .int p2)]) dX2_isBehind_1 (Nat.le_of_ble_eq_true rfl) rfl ?_
  refine X.sub [1, 3, 0] rfl ?_
  obtain ⟨fu, hw⟩ := hw
  exact t_X2_isBehind_2 G  fu p2 p1 h g Ext.rf hw

/-! BeforeTheEndModel.left(I)I -/
def w_X2_left_18 (post : Int32 → Hp → Prop) : Nat → Int32 → Int32 → Int32 → Hp → Prop
  | 0 => fun _ _ _ _ => False
  | n + 1 => fun x1 x2 x3 h => (((gi h 25 12) ≤ x3 → (post x2 h)) ∧ (¬ (gi h 25 12) ≤ x3 → (vp_in x3 24 ∧ (((gi h 29 (Int32.toNatClampNeg x3)) = 0 → (w_X2_left_18 post n x1 (x2 ||| 0) (x3 + 1) h)) ∧ (¬ (gi h 29 (Int32.toNatClampNeg x3)) = 0 → (wp_X2_isBehind (fun r_7 h_4 => GI h_4 → Ext h h_4 → (((¬ r_7 = 0 → (vp_in x3 24))) ∧ (∀ z_11 : Int32, z_11 = ((if r_7 = 0 then 0 else (1 <<< ((gi h_4 29 (Int32.toNatClampNeg x3)) &&& 31))) : Int32) → (w_X2_left_18 post n x1 (x2 ||| z_11) (x3 + 1) h_4)))) h x3 x1))))))
def wp_X2_left (post : Int32 → Hp → Prop) (h : Hp) (p1 : Int32) : Prop := (wp_X2_isWord (fun r_4 h_1 => GI h_1 → Ext h h_1 → ((¬ r_4 = 0 → (∃ fu : Nat, w_X2_left_18 post fu p1 0 p1 h_1)) ∧ (r_4 = 0 → (wp_X2_no (fun r_10 h_7 => GI h_7 → Ext h_1 h_7 → (post r_10 h_7)) h_1 (-1))))) h p1)
abbrev rm_X2_left : Room := ({ frames := 2, cells := 0, slots := 0, locals := 83 })
abbrev K_X2_left : Kx := ("BeforeTheEndModel", cX2_left, 4, (Option.some Jvm.ClassFile.FieldType.int), rm_X2_left, [], false)
set_option maxHeartbeats 4000000 in
theorem t_X2_left_18 {ρ : Rho} {h0 : Hp} {post : Int32 → Hp → Prop} (G : G0 ρ) :
    ∀ (n : Nat), ∀ (x1 : Int32) (x2 : Int32) (x3 : Int32) (h : Hp), GI h → Ext h0 h → w_X2_left_18 post n x1 x2 x3 h → X ρ K_X2_left 18 [(0, .ref (mr ρ 25)), (1, .int x1), (2, .int x2), (3, .int x3)] [] h 0 0 (phI h0 post) psN := by
  intro n
  induction n with
  | zero => intro x1 x2 x3 h g e hw; exact False.elim hw
  | succ n ih =>
    intro x1 x2 x3 h g e hw
    refine x_iload_n 3 dX2_left_18 rfl ?_
    refine x_aload_n 0 dX2_left_19 rfl ?_
    refine x_get (ci := 2) (v := .int (gi h 25 12)) 12 dX2_left_20 (GI.s g (t := (12, 0)) rfl (by decide)) rfl in_X2 (by decide) q1235 (Or.inl rfl) (fv_i rfl) ?_
    obtain ⟨wt_16, wf_17⟩ := hw
    refine x_icmp_ge 65 dX2_left_23 (by decide) (fun c_1 => ?_) (fun c_1 => ?_)
    · have hw := wt_16 c_1
      refine x_iload_n 2 dX2_left_65 rfl ?_
      exact x_iret dX2_left_66 rfl (Nat.le_of_ble_eq_true rfl) (Nat.le_of_ble_eq_true rfl) ⟨_, rfl, g, e, hw⟩
    · have hw := wf_17 c_1
      refine x_iload_n 2 dX2_left_26 rfl ?_
      refine x_aload_n 0 dX2_left_27 rfl ?_
      refine x_get (ci := 2) (v := .ref (mr ρ 29)) 3 dX2_left_28 (GI.s g (t := (12, 0)) rfl (by decide)) rfl in_X2 (by decide) q1226 (Or.inl rfl) (fv_rc rfl (GI.m g (n := 29) rfl (by decide)) (by decide)) ?_
      refine x_iload_n 3 dX2_left_31 rfl ?_
      obtain ⟨b_2, hw⟩ := hw
      refine x_iald (n := 24) (j := (Int32.toNatClampNeg x3)) dX2_left_32 rfl (GI.s g (t := (1, 24)) rfl (by decide)) b_2 ?_
      obtain ⟨wt_14, wf_15⟩ := hw
      refine x_if_eq 56 dX2_left_33 (by decide) (fun c_3 => ?_) (fun c_3 => ?_)
      · have hw := wt_14 c_3
        refine x_iconst 0 dX2_left_56 (by decide) ?_
        refine x_ior dX2_left_57 ?_
        refine x_istore_n (lv' := [(2, .int (x2 ||| 0)), (0, .ref (mr ρ 25)), (1, .int x1), (3, .int x3)]) dX2_left_58 (Nat.le_of_ble_eq_true rfl) rfl ?_
        refine x_iinc (v := (x3 + 1)) (lv' := [(3, .int (x3 + 1)), (2, .int (x2 ||| 0)), (0, .ref (mr ρ 25)), (1, .int x1)]) 3 dX2_left_59 rfl (by rfl) (Nat.le_of_ble_eq_true rfl) rfl ?_
        refine x_goto 18 dX2_left_62 (by decide) ?_
        refine X.sub [2, 3, 1, 0] rfl ?_
        exact ih x1 (x2 ||| 0) (x3 + 1) h g e hw
      · have hw := wf_15 c_3
        refine x_aload_n 0 dX2_left_36 rfl ?_
        refine x_iload_n 3 dX2_left_37 rfl ?_
        refine x_iload_n 1 dX2_left_38 rfl ?_
        refine x_callV (ci := 2) [.int x3, .int x1] 2 dX2_left_39 (k_X2_isBehind G g hw) (GI.s g (t := (12, 0)) rfl (by decide)) rfl q1470 q1472 qs73 q106 q1473 (by decide) rfl rfl ⟨(Nat.le_of_ble_eq_true rfl), (Nat.le_of_ble_eq_true rfl)⟩ (Nat.le_of_ble_eq_true rfl) ⟨(Nat.le_of_ble_eq_true rfl), (Nat.le_of_ble_eq_true rfl)⟩ (fun v9 h_4 hv9 => ?_) (fun _ _ _ _ _ z _ _ => False.elim z)
        obtain ⟨r_7, rfl, g_5, e_6, b_8, hw⟩ := hv9
        have hw := hw g_5 e_6
        show X ρ K_X2_left 42 [(0, .ref (mr ρ 25)), (1, .int x1), (2, .int x2), (3, .int x3)] [.int r_7, .int x2] h_4 0 0 (phI h0 post) psN
        obtain ⟨hO_13, hw⟩ := hw
        have kJ_12 : ∀ z_11 : Int32, z_11 = ((if r_7 = 0 then 0 else (1 <<< ((gi h_4 29 (Int32.toNatClampNeg x3)) &&& 31))) : Int32) → X ρ K_X2_left 57 [(0, .ref (mr ρ 25)), (1, .int x1), (2, .int x2), (3, .int x3)] [.int z_11, .int x2] h_4 0 0 (phI h0 post) psN := fun z_11 ez_11 => by
          have hw := hw z_11 ez_11
          refine x_ior dX2_left_57 ?_
          refine x_istore_n (lv' := [(2, .int (x2 ||| z_11)), (0, .ref (mr ρ 25)), (1, .int x1), (3, .int x3)]) dX2_left_58 (Nat.le_of_ble_eq_true rfl) rfl ?_
          refine x_iinc (v := (x3 + 1)) (lv' := [(3, .int (x3 + 1)), (2, .int (x2 ||| z_11)), (0, .ref (mr ρ 25)), (1, .int x1)]) 3 dX2_left_59 rfl (by rfl) (Nat.le_of_ble_eq_true rfl) rfl ?_
          refine x_goto 18 dX2_left_62 (by decide) ?_
          refine X.sub [2, 3, 1, 0] rfl ?_
          exact ih x1 (x2 ||| z_11) (x3 + 1) h_4 g_5 (Ext.tr e e_6) hw
        have hO_130 := hO_13
        refine x_if_eq 56 dX2_left_42 (by decide) (fun c_9 => ?_) (fun c_9 => ?_)
        · refine x_iconst 0 dX2_left_56 (by decide) ?_
          exact kJ_12 _ ((if_pos c_9)).symm
        · have hO_13_ := hO_130 c_9
          have b_10 := hO_13_
          refine x_iconst 1 dX2_left_45 (by decide) ?_
          refine x_aload_n 0 dX2_left_46 rfl ?_
          refine x_get (ci := 2) (v := .ref (mr ρ 29)) 3 dX2_left_47 (GI.s g_5 (t := (12, 0)) rfl (by decide)) rfl in_X2 (by decide) q1226 (Or.inl rfl) (fv_rc rfl (GI.m g_5 (n := 29) rfl (by decide)) (by decide)) ?_
          refine x_iload_n 3 dX2_left_50 rfl ?_
          refine x_iald (n := 24) (j := (Int32.toNatClampNeg x3)) dX2_left_51 rfl (GI.s g_5 (t := (1, 24)) rfl (by decide)) b_10 ?_
          refine x_ishl dX2_left_52 ?_
          refine x_goto 57 dX2_left_53 (by decide) ?_
          exact kJ_12 _ ((if_neg c_9)).symm
set_option maxHeartbeats 4000000 in
theorem k_X2_left {ρ : Rho} {h : Hp} {post : Int32 → Hp → Prop} {p1 : Int32} (G : G0 ρ) (g : GI h) (hw : wp_X2_left post h p1) : Con ρ yX2_left (ws_ yX2_left cX2_left 4 (Option.some Jvm.ClassFile.FieldType.int)) rm_X2_left [.ref (mr ρ 25), .int p1] h (phI h post) psN := by
  refine con_of (own := "BeforeTheEndModel") (isI := false) (l0 := [(0, .ref (mr ρ 25)), (1, .int p1)]) (by decide) rfl (fun z => by cases z) (Nat.le_of_ble_eq_true rfl) rfl (fun _ => ?_)
  show X ρ K_X2_left 0 [(0, .ref (mr ρ 25)), (1, .int p1)] [] h 0 0 (phI h post) psN
  refine x_aload_n 0 dX2_left_0 rfl ?_
  refine x_iload_n 1 dX2_left_1 rfl ?_
  refine x_callV (ci := 2) [.int p1] 1 dX2_left_2 (k_X2_isWord G g hw) (GI.s g (t := (12, 0)) rfl (by decide)) rfl q1434 q1436 qs68 q106 q1437 (by decide) rfl rfl ⟨(Nat.le_of_ble_eq_true rfl), (Nat.le_of_ble_eq_true rfl)⟩ (Nat.le_of_ble_eq_true rfl) ⟨(Nat.le_of_ble_eq_true rfl), (Nat.le_of_ble_eq_true rfl)⟩ (fun v9 h_1 hv9 => ?_) (fun _ _ _ _ _ z _ _ => False.elim z)
  obtain ⟨r_4, rfl, g_2, e_3, b_5, hw⟩ := hv9
  have hw := hw g_2 e_3
  show X ρ K_X2_left 5 [(0, .ref (mr ρ 25)), (1, .int p1)] [.int r_4] h_1 0 0 (phI h post) psN
  obtain ⟨wt_12, wf_13⟩ := hw
  refine x_if_ne 14 dX2_left_5 (by decide) (fun c_6 => ?_) (fun c_6 => ?_)
  · have hw := wt_12 c_6
    refine x_iconst 0 dX2_left_14 (by decide) ?_
    refine x_istore_n (lv' := [(2, .int 0), (0, .ref (mr ρ 25)), (1, .int p1)]) dX2_left_15 (Nat.le_of_ble_eq_true rfl) rfl ?_
    refine x_iload_n 2 dX2_left_16 rfl ?_
    refine x_istore_n (lv' := [(3, .int p1), (2, .int 0), (0, .ref (mr ρ 25)), (1, .int p1)]) dX2_left_17 (Nat.le_of_ble_eq_true rfl) rfl ?_
    refine X.sub [2, 3, 1, 0] rfl ?_
    obtain ⟨fu, hw⟩ := hw
    exact t_X2_left_18 G  fu p1 0 p1 h_1 g_2 e_3 hw
  · have hw := wf_13 c_6
    refine x_aload_n 0 dX2_left_8 rfl ?_
    refine x_iconst (-1) dX2_left_9 (by decide) ?_
    refine x_callV (ci := 2) [.int (-1)] 1 dX2_left_10 (k_X2_no G g_2 hw) (GI.s g_2 (t := (12, 0)) rfl (by decide)) rfl q1387 q1389 qs59 q106 q1390 (by decide) rfl rfl ⟨(Nat.le_of_ble_eq_true rfl), (Nat.le_of_ble_eq_true rfl)⟩ (Nat.le_of_ble_eq_true rfl) ⟨(Nat.le_of_ble_eq_true rfl), (Nat.le_of_ble_eq_true rfl)⟩ (fun v9 h_7 hv9 => ?_) (fun _ _ _ _ _ z _ _ => False.elim z)
    obtain ⟨r_10, rfl, g_8, e_9, hw⟩ := hv9
    have hw := hw g_8 e_9
    show X ρ K_X2_left 13 [(0, .ref (mr ρ 25)), (1, .int p1)] [.int r_10] h_7 0 0 (phI h post) psN
    exact x_iret dX2_left_13 rfl (Nat.le_of_ble_eq_true rfl) (Nat.le_of_ble_eq_true rfl) ⟨_, rfl, g_8, (Ext.tr e_3 e_9), hw⟩

/-! BeforeTheEnd.mustBePart(I)V -/
def wp_X0_mustBePart (post : Hp → Prop) (px : Nat → Hp → Prop) (h : Hp) (p1 : Int32) : Prop := (wp_X0_in (fun r_4 h_1 => GI h_1 → Ext h h_1 → (wp_X0_must (fun h_6 => GI h_6 → Ext h_1 h_6 → (post h_6)) px h_1 r_4 (-2))) h (Int32.toInt64 p1) 0 1)
abbrev rm_X0_mustBePart : Room := ({ frames := 10, cells := 1, slots := 7, locals := 242 })
abbrev K_X0_mustBePart : Kx := ("BeforeTheEnd", cX0_mustBePart, 1, (Option.none : Option Jvm.ClassFile.FieldType), rm_X0_mustBePart, [], false)
set_option maxHeartbeats 4000000 in
theorem k_X0_mustBePart {ρ : Rho} {h : Hp} {post : Hp → Prop} {px : Nat → Hp → Prop} {p1 : Int32} (G : G0 ρ) (g : GI h) (hw : wp_X0_mustBePart post px h p1) : Con ρ yX0_mustBePart (ws_ yX0_mustBePart cX0_mustBePart 1 (Option.none : Option Jvm.ClassFile.FieldType)) rm_X0_mustBePart [.int p1] h (phV h post) (psX h px) := by
  refine con_of (own := "BeforeTheEnd") (isI := false) (l0 := [(0, .int p1)]) (by decide) rfl (fun z => by cases z) (Nat.le_of_ble_eq_true rfl) rfl (fun _ => ?_)
  show X ρ K_X0_mustBePart 0 [(0, .int p1)] [] h 0 0 (phV h post) (psX h px)
  refine x_iload_n 0 dX0_mustBePart_0 rfl ?_
  refine x_i2l dX0_mustBePart_1 ?_
  refine x_lconst 0 dX0_mustBePart_2 (by decide) ?_
  refine x_lconst 1 dX0_mustBePart_3 (by decide) ?_
  refine x_callS [.long (Int32.toInt64 p1), .long 0, .long 1] 3 dX0_mustBePart_4 (k_X0_in G g hw) q745 q464 q104 q465 (by decide) rfl rfl ⟨(Nat.le_of_ble_eq_true rfl), (Nat.le_of_ble_eq_true rfl)⟩ (Nat.le_of_ble_eq_true rfl) ⟨(Nat.le_of_ble_eq_true rfl), (Nat.le_of_ble_eq_true rfl)⟩ (fun v9 h_1 hv9 => ?_) (fun _ _ _ _ _ z _ _ => False.elim z)
  obtain ⟨r_4, rfl, g_2, e_3, b_5, hw⟩ := hv9
  have hw := hw g_2 e_3
  show X ρ K_X0_mustBePart 7 [(0, .int p1)] [.int r_4] h_1 0 0 (phV h post) (psX h px)
  refine x_bipush (-2) dX0_mustBePart_7 (by decide) ?_
  refine x_callS [.int r_4, .int (-2)] 2 dX0_mustBePart_9 (k_X0_must G g_2 hw) q294 q295 q104 q296 (by decide) rfl rfl ⟨(Nat.le_of_ble_eq_true rfl), (Nat.le_of_ble_eq_true rfl)⟩ (Nat.le_of_ble_eq_true rfl) ⟨(Nat.le_of_ble_eq_true rfl), (Nat.le_of_ble_eq_true rfl)⟩ (fun v9 h_6 hv9 => ?_) (fun q9 h9 ci9 n9 x9 hx9 hs9 hc9 => xt_out hs9 hc9 (fun z hz => by cases hz) (Nat.le_of_ble_eq_true rfl) (Nat.le_of_ble_eq_true rfl) ⟨hx9.1, Ext.tr e_3 hx9.2.1, hx9.2.2⟩)
  obtain ⟨rfl, g_7, e_8, hw⟩ := hv9
  have hw := hw g_7 e_8
  show X ρ K_X0_mustBePart 12 [(0, .int p1)] [] h_6 1 7 (phV h post) (psX h px)
  exact x_vret dX0_mustBePart_12 rfl (Nat.le_of_ble_eq_true rfl) (Nat.le_of_ble_eq_true rfl) ⟨rfl, g_7, (Ext.tr e_3 e_8), hw⟩

/-! BeforeTheEnd.partTold(JJI)J -/
def wp_X0_partTold (post : Int64 → Hp → Prop) (h : Hp) (p1 : Int64) (p2 : Int64) (p3 : Int32) : Prop := ((¬ p1 = 0 → (wp_X0_divisor (fun r_5 h_2 => GI h_2 → Ext h h_2 → (((¬ p3 = 0 → (¬ r_5 = 0)) ∧ (p3 = 0 → (¬ r_5 = 0))) ∧ (∀ z_10 : Int64, z_10 = ((if p3 = 0 then (p1 / r_5) else (p2 / r_5)) : Int64) → (post z_10 h_2)))) h (if 0 < p1 then p1 else -p1) p2)) ∧ (p1 = 0 → (post (Int32.toInt64 p3) h)))
abbrev rm_X0_partTold : Room := ({ frames := 2, cells := 0, slots := 0, locals := 89 })
abbrev K_X0_partTold : Kx := ("BeforeTheEnd", cX0_partTold, 7, (Option.some Jvm.ClassFile.FieldType.long), rm_X0_partTold, [], false)
set_option maxHeartbeats 4000000 in
theorem k_X0_partTold {ρ : Rho} {h : Hp} {post : Int64 → Hp → Prop} {p1 : Int64} {p2 : Int64} {p3 : Int32} (G : G0 ρ) (g : GI h) (hw : wp_X0_partTold post h p1 p2 p3) : Con ρ yX0_partTold (ws_ yX0_partTold cX0_partTold 7 (Option.some Jvm.ClassFile.FieldType.long)) rm_X0_partTold [.long p1, .long p2, .int p3] h (phL h post) psN := by
  refine con_of (own := "BeforeTheEnd") (isI := false) (l0 := [(0, .long p1), (2, .long p2), (4, .int p3)]) (by decide) rfl (fun z => by cases z) (Nat.le_of_ble_eq_true rfl) rfl (fun _ => ?_)
  show X ρ K_X0_partTold 0 [(0, .long p1), (2, .long p2), (4, .int p3)] [] h 0 0 (phL h post) psN
  refine x_lload_n 0 dX0_partTold_0 rfl ?_
  refine x_lconst 0 dX0_partTold_1 (by decide) ?_
  obtain ⟨wt_13, wf_14⟩ := hw
  refine x_lif_ne 10 dX0_partTold_2 dX0_partTold_3 (by decide) (fun c_1 => ?_) (fun c_1 => ?_)
  · have hw := wt_13 c_1
    refine x_lload_n 0 dX0_partTold_10 rfl ?_
    refine x_mabsl dX0_partTold_11 q1089 q1090 q118 q1091 (Nat.le_of_ble_eq_true rfl) (Nat.le_of_ble_eq_true rfl) (Nat.le_of_ble_eq_true rfl) (Nat.le_of_ble_eq_true rfl) ?_
    refine x_lload_n 1 dX0_partTold_14 rfl ?_
    refine x_callS [.long (if 0 < p1 then p1 else -p1), .long p2] 2 dX0_partTold_15 (k_X0_divisor G g hw) q1092 q822 q104 q823 (by decide) rfl rfl ⟨(Nat.le_of_ble_eq_true rfl), (Nat.le_of_ble_eq_true rfl)⟩ (Nat.le_of_ble_eq_true rfl) ⟨(Nat.le_of_ble_eq_true rfl), (Nat.le_of_ble_eq_true rfl)⟩ (fun v9 h_2 hv9 => ?_) (fun _ _ _ _ _ z _ _ => False.elim z)
    obtain ⟨r_5, rfl, g_3, e_4, hw⟩ := hv9
    have hw := hw g_3 e_4
    show X ρ K_X0_partTold 18 [(0, .long p1), (2, .long p2), (4, .int p3)] [.long r_5] h_2 0 0 (phL h post) psN
    refine x_lstore (lv' := [(5, .long r_5), (0, .long p1), (2, .long p2), (4, .int p3)]) dX0_partTold_18 (Nat.le_of_ble_eq_true rfl) rfl ?_
    refine x_iload 3 dX0_partTold_20 rfl ?_
    obtain ⟨hO_12, hw⟩ := hw
    have kJ_11 : ∀ z_10 : Int64, z_10 = ((if p3 = 0 then (p1 / r_5) else (p2 / r_5)) : Int64) → X ρ K_X0_partTold 36 [(5, .long r_5), (0, .long p1), (2, .long p2), (4, .int p3)] [.long z_10] h_2 0 0 (phL h post) psN := fun z_10 ez_10 => by
      have hw := hw z_10 ez_10
      exact x_lret dX0_partTold_36 rfl (Nat.le_of_ble_eq_true rfl) (Nat.le_of_ble_eq_true rfl) ⟨_, rfl, g_3, e_4, hw⟩
    obtain ⟨hO_120, hO_121⟩ := hO_12
    refine x_if_ne 32 dX0_partTold_22 (by decide) (fun c_7 => ?_) (fun c_7 => ?_)
    · have hO_12_ := hO_120 c_7
      have b_8 := hO_12_
      refine x_lload_n 2 dX0_partTold_32 rfl ?_
      refine x_lload 0 dX0_partTold_33 rfl ?_
      refine x_ldiv dX0_partTold_35 b_8 ?_
      exact kJ_11 _ ((if_neg c_7)).symm
    · have hO_12_ := hO_121 c_7
      have b_9 := hO_12_
      refine x_lload_n 1 dX0_partTold_25 rfl ?_
      refine x_lload 0 dX0_partTold_26 rfl ?_
      refine x_ldiv dX0_partTold_28 b_9 ?_
      refine x_goto 36 dX0_partTold_29 (by decide) ?_
      exact kJ_11 _ ((if_pos c_7)).symm
  · have hw := wf_14 c_1
    refine x_iload 2 dX0_partTold_6 rfl ?_
    refine x_i2l dX0_partTold_8 ?_
    exact x_lret dX0_partTold_9 rfl (Nat.le_of_ble_eq_true rfl) (Nat.le_of_ble_eq_true rfl) ⟨_, rfl, g, Ext.rf, hw⟩

/-! BeforeTheEnd.chanceTold(III)J -/
def w_X0_chanceTold_59 (post : Int64 → Hp → Prop) (z0 : Int32) (z2 : Int64) (h : Hp) : Prop := (wp_X0_refuse (fun r_4 h_1 => GI h_1 → Ext h h_1 → (post (z2 - (Int32.toInt64 r_4)) h_1)) h z0)
def w_X0_chanceTold_48 (post : Int64 → Hp → Prop) (z0 : Nat) (h : Hp) : Prop := (wv_X3_number_isEx (fun r_4 h_1 => GI h_1 → Ext h h_1 → (w_X0_chanceTold_59 post r_4 4000000000000000000 h_1)) h z0)
def wp_X0_chanceTold (post : Int64 → Hp → Prop) (h : Hp) (p1 : Int32) (p2 : Int32) (p3 : Int32) : Prop := (wp_X0_mustBeWord (fun h_1 => GI h_1 → Ext h h_1 → (wp_X0_in (fun r_12 h_9 => GI h_9 → Ext h_1 h_9 → (wp_X0_must (fun h_14 => GI h_14 → Ext h_9 h_14 → (wp_X0_mustBePart (fun h_22 => GI h_22 → Ext h_14 h_22 → (wp_X0_mustBeWhole (fun h_30 => GI h_30 → Ext h_22 h_30 → (wp_X1_unitsOf (fun r_41 h_38 => GI h_38 → Ext h_30 h_38 → (wp_X1_units (fun r_46 h_43 => GI h_43 → Ext h_38 h_43 → (wp_X0_partTold (fun r_51 h_48 => GI h_48 → Ext h_43 h_48 → (post r_51 h_48)) h_43 r_41 r_46 p3)) h_38 (gr h_38 1 1) p1)) h_30 (gr h_30 1 1) p1 p2)) (fun q_35 h_30x => GI h_30x → Ext h_22 h_30x → (isEx h_30x q_35 ∧ (w_X0_chanceTold_48 post q_35 h_30x))) h_22)) (fun q_27 h_22x => GI h_22x → Ext h_14 h_22x → (isEx h_22x q_27 ∧ (w_X0_chanceTold_48 post q_27 h_22x))) h_14 p3)) (fun q_19 h_14x => GI h_14x → Ext h_9 h_14x → (isEx h_14x q_19 ∧ (w_X0_chanceTold_48 post q_19 h_14x))) h_9 r_12 (-1))) h_1 (Int32.toInt64 p2) 1 9)) (fun q_6 h_1x => GI h_1x → Ext h h_1x → (isEx h_1x q_6 ∧ (w_X0_chanceTold_48 post q_6 h_1x))) h p1)
abbrev rm_X0_chanceTold : Room := ({ frames := 12, cells := 4, slots := 28, locals := 284 })
abbrev K_X0_chanceTold : Kx := ("BeforeTheEnd", cX0_chanceTold, 5, (Option.some Jvm.ClassFile.FieldType.long), rm_X0_chanceTold, [(0, 47, 48, 343)], false)
set_option maxHeartbeats 4000000 in
theorem t_X0_chanceTold_59 {ρ : Rho} {h0 : Hp} {post : Int64 → Hp → Prop} (G : G0 ρ) :
    ∀ (z0 : Int32) (z2 : Int64) (h : Hp), GI h → Ext h0 h → w_X0_chanceTold_59 post z0 z2 h → X ρ K_X0_chanceTold 59 [] [.int z0, .ref (mr ρ 1), .long z2] h 4 28 (phL h0 post) psN := by
  intro z0 z2 h g e hw
  refine x_callV (ci := 0) [.int z0] 1 dX0_chanceTold_59 (k_X0_refuse G g hw) (GI.s g (t := (10, 0)) rfl (by decide)) rfl q375 q377 qs2 q104 q378 (by decide) rfl rfl ⟨(Nat.le_of_ble_eq_true rfl), (Nat.le_of_ble_eq_true rfl)⟩ (Nat.le_of_ble_eq_true rfl) ⟨(Nat.le_of_ble_eq_true rfl), (Nat.le_of_ble_eq_true rfl)⟩ (fun v9 h_1 hv9 => ?_) (fun _ _ _ _ _ z _ _ => False.elim z)
  obtain ⟨r_4, rfl, g_2, e_3, hw⟩ := hv9
  have hw := hw g_2 e_3
  show X ρ K_X0_chanceTold 62 [] [.int r_4, .long z2] h_1 4 28 (phL h0 post) psN
  refine x_i2l dX0_chanceTold_62 ?_
  refine x_lsub dX0_chanceTold_63 ?_
  exact x_lret dX0_chanceTold_64 rfl (Nat.le_of_ble_eq_true rfl) (Nat.le_of_ble_eq_true rfl) ⟨_, rfl, g_2, (Ext.tr e e_3), hw⟩
set_option maxHeartbeats 4000000 in
theorem t_X0_chanceTold_48 {ρ : Rho} {h0 : Hp} {post : Int64 → Hp → Prop} (G : G0 ρ) :
    ∀ (z0 : Nat) (h : Hp), GI h → Ext h0 h → isEx h z0 → w_X0_chanceTold_48 post z0 h → X ρ K_X0_chanceTold 48 [(0, .ref (mr ρ 1))] [.ref (mr ρ z0)] h 4 28 (phL h0 post) psN := by
  intro z0 h g e fz0 hw
  refine x_astore (lv' := [(4, .ref (mr ρ z0)), (0, .ref (mr ρ 1))]) dX0_chanceTold_48 (Nat.le_of_ble_eq_true rfl) rfl ?_
  refine x_ldc2 dX0_chanceTold_50 q1093 ?_
  refine x_aload_n 1 dX0_chanceTold_53 rfl ?_
  refine x_aload 0 dX0_chanceTold_54 rfl ?_
  have kk_8 : ∀ (v9 : Option Value) (h_1 : Hp), (phI h (fun r_4 h_1 => GI h_1 → Ext h h_1 → (w_X0_chanceTold_59 post r_4 4000000000000000000 h_1))) v9 h_1 → X ρ K_X0_chanceTold 59 [(4, .ref (mr ρ z0)), (0, .ref (mr ρ 1))] (v9.toList ++ [.ref (mr ρ 1), .long 4000000000000000000]) h_1 4 28 (phL h0 post) psN := by
    intro v9 h_1 hv9
    obtain ⟨r_4, rfl, g_2, e_3, hw⟩ := hv9
    have hw := hw g_2 e_3
    show X ρ K_X0_chanceTold 59 [(4, .ref (mr ρ z0)), (0, .ref (mr ρ 1))] [.int r_4, .ref (mr ρ 1), .long 4000000000000000000] h_1 4 28 (phL h0 post) psN
    refine X.sub [] rfl ?_
    exact t_X0_chanceTold_59 G  r_4 4000000000000000000 h_1 g_2 (Ext.tr e e_3) hw
  obtain ⟨wc_6, wc_7⟩ := hw
  rcases fz0 with fc9 | fc9
  · exact x_callA (ci := 3) (x0 := ⟨"BeforeTheEnd$Refusal", "number", "()I"⟩) (owner := "BeforeTheEnd$Refusal") [] 0 dX0_chanceTold_56 (k_X4_number_c3 G g fc9 (wc_6 fc9)) fc9 rfl (lw_U q366 q368 q372 q373 q111 q374) q367 (by decide) rfl rfl ⟨(Nat.le_of_ble_eq_true rfl), (Nat.le_of_ble_eq_true rfl)⟩ (Nat.le_of_ble_eq_true rfl) ⟨(Nat.le_of_ble_eq_true rfl), (Nat.le_of_ble_eq_true rfl)⟩ kk_8 (fun _ _ _ _ _ z _ _ => False.elim z)
  · exact x_callA (ci := 5) (x0 := ⟨"BeforeTheEnd$Refusal", "number", "()I"⟩) (owner := "BeforeTheEnd$Refusal") [] 0 dX0_chanceTold_56 (k_X6_number_c5 G g fc9 (wc_7 fc9)) fc9 rfl (lw_U q366 q368 q369 q370 q113 q371) q367 (by decide) rfl rfl ⟨(Nat.le_of_ble_eq_true rfl), (Nat.le_of_ble_eq_true rfl)⟩ (Nat.le_of_ble_eq_true rfl) ⟨(Nat.le_of_ble_eq_true rfl), (Nat.le_of_ble_eq_true rfl)⟩ kk_8 (fun _ _ _ _ _ z _ _ => False.elim z)
set_option maxHeartbeats 4000000 in
theorem k_X0_chanceTold {ρ : Rho} {h : Hp} {post : Int64 → Hp → Prop} {p1 : Int32} {p2 : Int32} {p3 : Int32} (G : G0 ρ) (g : GI h) (hw : wp_X0_chanceTold post h p1 p2 p3) : Con ρ yX0_chanceTold (wsW_ yX0_chanceTold cX0_chanceTold 5 (Option.some Jvm.ClassFile.FieldType.long) [(0, 47, 48, 343)]) rm_X0_chanceTold [.ref (mr ρ 1), .int p1, .int p2, .int p3] h (phL h post) psN := by
  refine con_ofH (own := "BeforeTheEnd") (l0 := [(0, .ref (mr ρ 1)), (1, .int p1), (2, .int p2), (3, .int p3)]) (by decide) rfl q1082 (Nat.le_of_ble_eq_true rfl) rfl (fun _ => ?_)
  show X ρ K_X0_chanceTold 0 [(0, .ref (mr ρ 1)), (1, .int p1), (2, .int p2), (3, .int p3)] [] h 0 0 (phL h post) psN
  refine x_aload_n 0 dX0_chanceTold_0 rfl ?_
  refine x_iload_n 1 dX0_chanceTold_1 rfl ?_
  refine x_callV (ci := 0) [.int p1] 1 dX0_chanceTold_2 (k_X0_mustBeWord G g hw) (GI.s g (t := (10, 0)) rfl (by decide)) rfl q738 q740 qs15 q104 q741 (by decide) rfl rfl ⟨(Nat.le_of_ble_eq_true rfl), (Nat.le_of_ble_eq_true rfl)⟩ (Nat.le_of_ble_eq_true rfl) ⟨(Nat.le_of_ble_eq_true rfl), (Nat.le_of_ble_eq_true rfl)⟩ (fun v9 h_1 hv9 => ?_) (fun q_6 h_1x ci9 n9 x9 hx9 hs9 hc9 => ?_)
  · obtain ⟨rfl, g_2, e_3, hw⟩ := hv9
    have hw := hw g_2 e_3
    show X ρ K_X0_chanceTold 5 [(0, .ref (mr ρ 1)), (1, .int p1), (2, .int p2), (3, .int p3)] [] h_1 1 7 (phL h post) psN
    refine x_iload_n 2 dX0_chanceTold_5 rfl ?_
    refine x_i2l dX0_chanceTold_6 ?_
    refine x_lconst 1 dX0_chanceTold_7 (by decide) ?_
    refine x_ldc2 dX0_chanceTold_8 q1028 ?_
    refine x_callS [.long (Int32.toInt64 p2), .long 1, .long 9] 3 dX0_chanceTold_11 (k_X0_in G g_2 hw) q745 q464 q104 q465 (by decide) rfl rfl ⟨(Nat.le_of_ble_eq_true rfl), (Nat.le_of_ble_eq_true rfl)⟩ (Nat.le_of_ble_eq_true rfl) ⟨(Nat.le_of_ble_eq_true rfl), (Nat.le_of_ble_eq_true rfl)⟩ (fun v9 h_9 hv9 => ?_) (fun _ _ _ _ _ z _ _ => False.elim z)
    obtain ⟨r_12, rfl, g_10, e_11, b_13, hw⟩ := hv9
    have hw := hw g_10 e_11
    show X ρ K_X0_chanceTold 14 [(0, .ref (mr ρ 1)), (1, .int p1), (2, .int p2), (3, .int p3)] [.int r_12] h_9 1 7 (phL h post) psN
    refine x_iconst (-1) dX0_chanceTold_14 (by decide) ?_
    refine x_callS [.int r_12, .int (-1)] 2 dX0_chanceTold_15 (k_X0_must G g_10 hw) q294 q295 q104 q296 (by decide) rfl rfl ⟨(Nat.le_of_ble_eq_true rfl), (Nat.le_of_ble_eq_true rfl)⟩ (Nat.le_of_ble_eq_true rfl) ⟨(Nat.le_of_ble_eq_true rfl), (Nat.le_of_ble_eq_true rfl)⟩ (fun v9 h_14 hv9 => ?_) (fun q_19 h_14x ci9 n9 x9 hx9 hs9 hc9 => ?_)
    · obtain ⟨rfl, g_15, e_16, hw⟩ := hv9
      have hw := hw g_15 e_16
      show X ρ K_X0_chanceTold 18 [(0, .ref (mr ρ 1)), (1, .int p1), (2, .int p2), (3, .int p3)] [] h_14 2 14 (phL h post) psN
      refine x_iload_n 3 dX0_chanceTold_18 rfl ?_
      refine x_callS [.int p3] 1 dX0_chanceTold_19 (k_X0_mustBePart G g_15 hw) q1083 q1084 q104 q1085 (by decide) rfl rfl ⟨(Nat.le_of_ble_eq_true rfl), (Nat.le_of_ble_eq_true rfl)⟩ (Nat.le_of_ble_eq_true rfl) ⟨(Nat.le_of_ble_eq_true rfl), (Nat.le_of_ble_eq_true rfl)⟩ (fun v9 h_22 hv9 => ?_) (fun q_27 h_22x ci9 n9 x9 hx9 hs9 hc9 => ?_)
      · obtain ⟨rfl, g_23, e_24, hw⟩ := hv9
        have hw := hw g_23 e_24
        show X ρ K_X0_chanceTold 22 [(0, .ref (mr ρ 1)), (1, .int p1), (2, .int p2), (3, .int p3)] [] h_22 3 21 (phL h post) psN
        refine x_aload_n 0 dX0_chanceTold_22 rfl ?_
        refine x_callV (ci := 0) [] 0 dX0_chanceTold_23 (k_X0_mustBeWhole G g_23 hw) (GI.s g_23 (t := (10, 0)) rfl (by decide)) rfl q801 q803 qs18 q104 q804 (by decide) rfl rfl ⟨(Nat.le_of_ble_eq_true rfl), (Nat.le_of_ble_eq_true rfl)⟩ (Nat.le_of_ble_eq_true rfl) ⟨(Nat.le_of_ble_eq_true rfl), (Nat.le_of_ble_eq_true rfl)⟩ (fun v9 h_30 hv9 => ?_) (fun q_35 h_30x ci9 n9 x9 hx9 hs9 hc9 => ?_)
        · obtain ⟨rfl, g_31, e_32, hw⟩ := hv9
          have hw := hw g_31 e_32
          show X ρ K_X0_chanceTold 26 [(0, .ref (mr ρ 1)), (1, .int p1), (2, .int p2), (3, .int p3)] [] h_30 4 28 (phL h post) psN
          refine x_aload_n 0 dX0_chanceTold_26 rfl ?_
          refine x_get (ci := 0) (v := .ref (mr ρ (gr h_30 1 1))) 1 dX0_chanceTold_27 (GI.s g_31 (t := (10, 0)) rfl (by decide)) rfl in_X0 (by decide) q188 (Or.inl rfl) (fv_rc rfl rfl (isTree.nz (GI.t g_31) (GI.live g_31))) ?_
          refine x_iload_n 1 dX0_chanceTold_30 rfl ?_
          refine x_iload_n 2 dX0_chanceTold_31 rfl ?_
          refine x_callV (ci := 1) [.int p1, .int p2] 2 dX0_chanceTold_32 (k_X1_unitsOf G g_31 (GI.t g_31) hw) (isTree.s (GI.t g_31)) rfl q809 q810 q811 q105 q812 (by decide) rfl rfl ⟨(Nat.le_of_ble_eq_true rfl), (Nat.le_of_ble_eq_true rfl)⟩ (Nat.le_of_ble_eq_true rfl) ⟨(Nat.le_of_ble_eq_true rfl), (Nat.le_of_ble_eq_true rfl)⟩ (fun v9 h_38 hv9 => ?_) (fun _ _ _ _ _ z _ _ => False.elim z)
          obtain ⟨r_41, rfl, g_39, e_40, hw⟩ := hv9
          have hw := hw g_39 e_40
          show X ρ K_X0_chanceTold 35 [(0, .ref (mr ρ 1)), (1, .int p1), (2, .int p2), (3, .int p3)] [.long r_41] h_38 4 28 (phL h post) psN
          refine x_aload_n 0 dX0_chanceTold_35 rfl ?_
          refine x_get (ci := 0) (v := .ref (mr ρ (gr h_38 1 1))) 1 dX0_chanceTold_36 (GI.s g_39 (t := (10, 0)) rfl (by decide)) rfl in_X0 (by decide) q188 (Or.inl rfl) (fv_rc rfl rfl (isTree.nz (GI.t g_39) (GI.live g_39))) ?_
          refine x_iload_n 1 dX0_chanceTold_39 rfl ?_
          refine x_callV (ci := 1) [.int p1] 1 dX0_chanceTold_40 (k_X1_units G g_39 (GI.t g_39) hw) (isTree.s (GI.t g_39)) rfl q872 q873 q874 q105 q875 (by decide) rfl rfl ⟨(Nat.le_of_ble_eq_true rfl), (Nat.le_of_ble_eq_true rfl)⟩ (Nat.le_of_ble_eq_true rfl) ⟨(Nat.le_of_ble_eq_true rfl), (Nat.le_of_ble_eq_true rfl)⟩ (fun v9 h_43 hv9 => ?_) (fun _ _ _ _ _ z _ _ => False.elim z)
          obtain ⟨r_46, rfl, g_44, e_45, hw⟩ := hv9
          have hw := hw g_44 e_45
          show X ρ K_X0_chanceTold 43 [(0, .ref (mr ρ 1)), (1, .int p1), (2, .int p2), (3, .int p3)] [.long r_46, .long r_41] h_43 4 28 (phL h post) psN
          refine x_iload_n 3 dX0_chanceTold_43 rfl ?_
          refine x_callS [.long r_41, .long r_46, .int p3] 3 dX0_chanceTold_44 (k_X0_partTold G g_44 hw) q1086 q1087 q104 q1088 (by decide) rfl rfl ⟨(Nat.le_of_ble_eq_true rfl), (Nat.le_of_ble_eq_true rfl)⟩ (Nat.le_of_ble_eq_true rfl) ⟨(Nat.le_of_ble_eq_true rfl), (Nat.le_of_ble_eq_true rfl)⟩ (fun v9 h_48 hv9 => ?_) (fun _ _ _ _ _ z _ _ => False.elim z)
          obtain ⟨r_51, rfl, g_49, e_50, hw⟩ := hv9
          have hw := hw g_49 e_50
          show X ρ K_X0_chanceTold 47 [(0, .ref (mr ρ 1)), (1, .int p1), (2, .int p2), (3, .int p3)] [.long r_51] h_48 4 28 (phL h post) psN
          exact x_lret dX0_chanceTold_47 rfl (Nat.le_of_ble_eq_true rfl) (Nat.le_of_ble_eq_true rfl) ⟨_, rfl, g_49, (Ext.tr (Ext.tr (Ext.tr (Ext.tr (Ext.tr (Ext.tr (Ext.tr e_3 e_11) e_16) e_24) e_32) e_40) e_45) e_50), hw⟩
        · obtain ⟨g_36, e_37, hw⟩ := hx9
          have hw := hw g_36 e_37
          obtain ⟨hE8, hw⟩ := hw
          have kH9 : X ρ K_X0_chanceTold 48 [(0, .ref (mr ρ 1)), (1, .int p1), (2, .int p2), (3, .int p3)] [.ref (mr ρ q_35)] h_30x 4 28 (phL h post) psN := by
            have hE9 := hE8
            refine X.sub [0] rfl ?_
            exact t_X0_chanceTold_48 G  q_35 h_30x g_36 (Ext.tr (Ext.tr (Ext.tr (Ext.tr e_3 e_11) e_16) e_24) e_37) hE9 hw
          rcases hE8 with hE9 | hE9
          · refine xt_catch 0 47 48 343 hE9 (ci := 3) (x := (RX4, T3n, 2)) rfl rfl (by decide) (by decide) q289 q1726 ?_
            exact kH9
          · refine xt_catch 0 47 48 343 hE9 (ci := 5) (x := (RX6, T5n, 2)) rfl rfl (by decide) (by decide) q289 q1725 ?_
            exact kH9
      · obtain ⟨g_28, e_29, hw⟩ := hx9
        have hw := hw g_28 e_29
        obtain ⟨hE8, hw⟩ := hw
        have kH9 : X ρ K_X0_chanceTold 48 [(0, .ref (mr ρ 1)), (1, .int p1), (2, .int p2), (3, .int p3)] [.ref (mr ρ q_27)] h_22x 3 21 (phL h post) psN := by
          have hE9 := hE8
          refine X.widen (k := 4) (n := 28) (Nat.le_of_ble_eq_true rfl) (Nat.le_of_ble_eq_true rfl) ?_
          refine X.sub [0] rfl ?_
          exact t_X0_chanceTold_48 G  q_27 h_22x g_28 (Ext.tr (Ext.tr (Ext.tr e_3 e_11) e_16) e_29) hE9 hw
        rcases hE8 with hE9 | hE9
        · refine xt_catch 0 47 48 343 hE9 (ci := 3) (x := (RX4, T3n, 2)) rfl rfl (by decide) (by decide) q289 q1726 ?_
          exact kH9
        · refine xt_catch 0 47 48 343 hE9 (ci := 5) (x := (RX6, T5n, 2)) rfl rfl (by decide) (by decide) q289 q1725 ?_
          exact kH9
    · obtain ⟨g_20, e_21, hw⟩ := hx9
      have hw := hw g_20 e_21
      obtain ⟨hE8, hw⟩ := hw
      have kH9 : X ρ K_X0_chanceTold 48 [(0, .ref (mr ρ 1)), (1, .int p1), (2, .int p2), (3, .int p3)] [.ref (mr ρ q_19)] h_14x 2 14 (phL h post) psN := by
        have hE9 := hE8
        refine X.widen (k := 4) (n := 28) (Nat.le_of_ble_eq_true rfl) (Nat.le_of_ble_eq_true rfl) ?_
        refine X.sub [0] rfl ?_
        exact t_X0_chanceTold_48 G  q_19 h_14x g_20 (Ext.tr (Ext.tr e_3 e_11) e_21) hE9 hw
      rcases hE8 with hE9 | hE9
      · refine xt_catch 0 47 48 343 hE9 (ci := 3) (x := (RX4, T3n, 2)) rfl rfl (by decide) (by decide) q289 q1726 ?_
        exact kH9
      · refine xt_catch 0 47 48 343 hE9 (ci := 5) (x := (RX6, T5n, 2)) rfl rfl (by decide) (by decide) q289 q1725 ?_
        exact kH9
  · obtain ⟨g_7, e_8, hw⟩ := hx9
    have hw := hw g_7 e_8
    obtain ⟨hE8, hw⟩ := hw
    have kH9 : X ρ K_X0_chanceTold 48 [(0, .ref (mr ρ 1)), (1, .int p1), (2, .int p2), (3, .int p3)] [.ref (mr ρ q_6)] h_1x 1 7 (phL h post) psN := by
      have hE9 := hE8
      refine X.widen (k := 4) (n := 28) (Nat.le_of_ble_eq_true rfl) (Nat.le_of_ble_eq_true rfl) ?_
      refine X.sub [0] rfl ?_
      exact t_X0_chanceTold_48 G  q_6 h_1x g_7 e_8 hE9 hw
    rcases hE8 with hE9 | hE9
    · refine xt_catch 0 47 48 343 hE9 (ci := 3) (x := (RX4, T3n, 2)) rfl rfl (by decide) (by decide) q289 q1726 ?_
      exact kH9
    · refine xt_catch 0 47 48 343 hE9 (ci := 5) (x := (RX6, T5n, 2)) rfl rfl (by decide) (by decide) q289 q1725 ?_
      exact kH9

/-! BeforeTheEnd.chance(III)J -/
def wp_X0_chance (post : Int64 → Hp → Prop) (h : Hp) (p1 : Int32) (p2 : Int32) (p3 : Int32) : Prop := (wp_X0_chanceTold (fun r_4 h_1 => GI h_1 → Ext h h_1 → (post r_4 h_1)) h p1 p2 p3)
abbrev rm_X0_chance : Room := ({ frames := 13, cells := 4, slots := 28, locals := 308 })
abbrev K_X0_chance : Kx := ("BeforeTheEnd", cX0_chance, 4, (Option.some Jvm.ClassFile.FieldType.long), rm_X0_chance, [], false)
set_option maxHeartbeats 4000000 in
theorem k_X0_chance {ρ : Rho} {h : Hp} {post : Int64 → Hp → Prop} {p1 : Int32} {p2 : Int32} {p3 : Int32} (G : G0 ρ) (g : GI h) (hw : wp_X0_chance post h p1 p2 p3) : Con ρ yX0_chance (ws_ yX0_chance cX0_chance 4 (Option.some Jvm.ClassFile.FieldType.long)) rm_X0_chance [.ref (mr ρ 1), .int p1, .int p2, .int p3] h (phL h post) psN := by
  refine con_of (own := "BeforeTheEnd") (isI := false) (l0 := [(0, .ref (mr ρ 1)), (1, .int p1), (2, .int p2), (3, .int p3)]) (by decide) rfl (fun z => by cases z) (Nat.le_of_ble_eq_true rfl) rfl (fun _ => ?_)
  show X ρ K_X0_chance 0 [(0, .ref (mr ρ 1)), (1, .int p1), (2, .int p2), (3, .int p3)] [] h 0 0 (phL h post) psN
  refine x_aload_n 0 dX0_chance_0 rfl ?_
  refine x_iload_n 1 dX0_chance_1 rfl ?_
  refine x_iload_n 2 dX0_chance_2 rfl ?_
  refine x_iload_n 3 dX0_chance_3 rfl ?_
  refine x_callH (ci := 0) [.int p1, .int p2, .int p3] 3 dX0_chance_4 (k_X0_chanceTold G g hw) (GI.s g (t := (10, 0)) rfl (by decide)) rfl q1079 q1081 qs55 q104 q1082 (by decide) rfl rfl ⟨(Nat.le_of_ble_eq_true rfl), (Nat.le_of_ble_eq_true rfl)⟩ (Nat.le_of_ble_eq_true rfl) ⟨(Nat.le_of_ble_eq_true rfl), (Nat.le_of_ble_eq_true rfl)⟩ (fun v9 h_1 hv9 => ?_) (fun _ _ _ _ _ z _ _ => False.elim z)
  obtain ⟨r_4, rfl, g_2, e_3, hw⟩ := hv9
  have hw := hw g_2 e_3
  show X ρ K_X0_chance 7 [(0, .ref (mr ρ 1)), (1, .int p1), (2, .int p2), (3, .int p3)] [.long r_4] h_1 4 28 (phL h post) psN
  exact x_lret dX0_chance_7 rfl (Nat.le_of_ble_eq_true rfl) (Nat.le_of_ble_eq_true rfl) ⟨_, rfl, g_2, e_3, hw⟩

/-! BeforeTheEndModel.noLong(I)J -/
def wp_X2_noLong (post : Int64 → Hp → Prop) (h : Hp) (p1 : Int32) : Prop := (vp_in (-p1) 7 ∧ (vp_in (-p1) 7 ∧ (post (4000000000000000000 - (Int32.toInt64 p1)) (si h 26 (Int32.toNatClampNeg (-p1)) ((gi h 26 (Int32.toNatClampNeg (-p1))) + 1)))))
abbrev rm_X2_noLong : Room := ({ frames := 1, cells := 0, slots := 0, locals := 60 })
abbrev K_X2_noLong : Kx := ("BeforeTheEndModel", cX2_noLong, 2, (Option.some Jvm.ClassFile.FieldType.long), rm_X2_noLong, [], false)
set_option maxHeartbeats 4000000 in
theorem k_X2_noLong {ρ : Rho} {h : Hp} {post : Int64 → Hp → Prop} {p1 : Int32} (G : G0 ρ) (g : GI h) (hw : wp_X2_noLong post h p1) : Con ρ yX2_noLong (ws_ yX2_noLong cX2_noLong 2 (Option.some Jvm.ClassFile.FieldType.long)) rm_X2_noLong [.ref (mr ρ 25), .int p1] h (phL h post) psN := by
  refine con_of (own := "BeforeTheEndModel") (isI := false) (l0 := [(0, .ref (mr ρ 25)), (1, .int p1)]) (by decide) rfl (fun z => by cases z) (Nat.le_of_ble_eq_true rfl) rfl (fun _ => ?_)
  show X ρ K_X2_noLong 0 [(0, .ref (mr ρ 25)), (1, .int p1)] [] h 0 0 (phL h post) psN
  refine x_aload_n 0 dX2_noLong_0 rfl ?_
  refine x_get (ci := 2) (v := .ref (mr ρ 26)) 0 dX2_noLong_1 (GI.s g (t := (12, 0)) rfl (by decide)) rfl in_X2 (by decide) q1223 (Or.inl rfl) (fv_rc rfl (GI.m g (n := 26) rfl (by decide)) (by decide)) ?_
  refine x_iload_n 1 dX2_noLong_4 rfl ?_
  refine x_ineg dX2_noLong_5 ?_
  refine x_dup2 dX2_noLong_6 rfl rfl ?_
  obtain ⟨b_1, hw⟩ := hw
  refine x_iald (n := 7) (j := (Int32.toNatClampNeg (-p1))) dX2_noLong_7 rfl (GI.s g (t := (1, 7)) rfl (by decide)) b_1 ?_
  refine x_iconst 1 dX2_noLong_8 (by decide) ?_
  refine x_iadd dX2_noLong_9 ?_
  obtain ⟨b_2, hw⟩ := hw
  refine x_iast (n := 7) (j := (Int32.toNatClampNeg (-p1))) dX2_noLong_10 rfl (GI.s g (t := (1, 7)) rfl (by decide)) b_2 ?_
  refine x_ldc2 dX2_noLong_11 q1482 ?_
  refine x_iload_n 1 dX2_noLong_14 rfl ?_
  refine x_i2l dX2_noLong_15 ?_
  refine x_lsub dX2_noLong_16 ?_
  exact x_lret dX2_noLong_17 rfl (Nat.le_of_ble_eq_true rfl) (Nat.le_of_ble_eq_true rfl) ⟨_, rfl, (GI.i g), (Ext.i Ext.rf), hw⟩

/-! BeforeTheEndModel.sumOf(I)I -/
def w_X2_sumOf_6 (post : Int32 → Hp → Prop) : Nat → Int32 → Int32 → Int32 → Hp → Prop
  | 0 => fun _ _ _ _ => False
  | n + 1 => fun x1 x2 x3 h => (((gi h 25 12) ≤ x3 → (post x2 h)) ∧ (¬ (gi h 25 12) ≤ x3 → (vp_in x3 24 ∧ ((((gi h 27 (Int32.toNatClampNeg x3)) = x1 → (vp_in x3 24))) ∧ (∀ z_5 : Int32, z_5 = ((if (gi h 27 (Int32.toNatClampNeg x3)) = x1 then (gi h 28 (Int32.toNatClampNeg x3)) else 0) : Int32) → (w_X2_sumOf_6 post n x1 (x2 + z_5) (x3 + 1) h))))))
def wp_X2_sumOf (post : Int32 → Hp → Prop) (h : Hp) (p1 : Int32) : Prop := (∃ fu : Nat, w_X2_sumOf_6 post fu p1 0 (p1 + 1) h)
abbrev rm_X2_sumOf : Room := ({ frames := 1, cells := 0, slots := 0, locals := 60 })
abbrev K_X2_sumOf : Kx := ("BeforeTheEndModel", cX2_sumOf, 4, (Option.some Jvm.ClassFile.FieldType.int), rm_X2_sumOf, [], false)
set_option maxHeartbeats 4000000 in
theorem t_X2_sumOf_6 {ρ : Rho} {h0 : Hp} {post : Int32 → Hp → Prop} (G : G0 ρ) :
    ∀ (n : Nat), ∀ (x1 : Int32) (x2 : Int32) (x3 : Int32) (h : Hp), GI h → Ext h0 h → w_X2_sumOf_6 post n x1 x2 x3 h → X ρ K_X2_sumOf 6 [(0, .ref (mr ρ 25)), (1, .int x1), (2, .int x2), (3, .int x3)] [] h 0 0 (phI h0 post) psN := by
  intro n
  induction n with
  | zero => intro x1 x2 x3 h g e hw; exact False.elim hw
  | succ n ih =>
    intro x1 x2 x3 h g e hw
    refine x_iload_n 3 dX2_sumOf_6 rfl ?_
    refine x_aload_n 0 dX2_sumOf_7 rfl ?_
    refine x_get (ci := 2) (v := .int (gi h 25 12)) 12 dX2_sumOf_8 (GI.s g (t := (12, 0)) rfl (by decide)) rfl in_X2 (by decide) q1235 (Or.inl rfl) (fv_i rfl) ?_
    obtain ⟨wt_8, wf_9⟩ := hw
    refine x_icmp_ge 43 dX2_sumOf_11 (by decide) (fun c_1 => ?_) (fun c_1 => ?_)
    · have hw := wt_8 c_1
      refine x_iload_n 2 dX2_sumOf_43 rfl ?_
      exact x_iret dX2_sumOf_44 rfl (Nat.le_of_ble_eq_true rfl) (Nat.le_of_ble_eq_true rfl) ⟨_, rfl, g, e, hw⟩
    · have hw := wf_9 c_1
      refine x_iload_n 2 dX2_sumOf_14 rfl ?_
      refine x_aload_n 0 dX2_sumOf_15 rfl ?_
      refine x_get (ci := 2) (v := .ref (mr ρ 27)) 1 dX2_sumOf_16 (GI.s g (t := (12, 0)) rfl (by decide)) rfl in_X2 (by decide) q1224 (Or.inl rfl) (fv_rc rfl (GI.m g (n := 27) rfl (by decide)) (by decide)) ?_
      refine x_iload_n 3 dX2_sumOf_19 rfl ?_
      obtain ⟨b_2, hw⟩ := hw
      refine x_iald (n := 24) (j := (Int32.toNatClampNeg x3)) dX2_sumOf_20 rfl (GI.s g (t := (1, 24)) rfl (by decide)) b_2 ?_
      refine x_iload_n 1 dX2_sumOf_21 rfl ?_
      obtain ⟨hO_7, hw⟩ := hw
      have kJ_6 : ∀ z_5 : Int32, z_5 = ((if (gi h 27 (Int32.toNatClampNeg x3)) = x1 then (gi h 28 (Int32.toNatClampNeg x3)) else 0) : Int32) → X ρ K_X2_sumOf 35 [(0, .ref (mr ρ 25)), (1, .int x1), (2, .int x2), (3, .int x3)] [.int z_5, .int x2] h 0 0 (phI h0 post) psN := fun z_5 ez_5 => by
        have hw := hw z_5 ez_5
        refine x_iadd dX2_sumOf_35 ?_
        refine x_istore_n (lv' := [(2, .int (x2 + z_5)), (0, .ref (mr ρ 25)), (1, .int x1), (3, .int x3)]) dX2_sumOf_36 (Nat.le_of_ble_eq_true rfl) rfl ?_
        refine x_iinc (v := (x3 + 1)) (lv' := [(3, .int (x3 + 1)), (2, .int (x2 + z_5)), (0, .ref (mr ρ 25)), (1, .int x1)]) 3 dX2_sumOf_37 rfl (by rfl) (Nat.le_of_ble_eq_true rfl) rfl ?_
        refine x_goto 6 dX2_sumOf_40 (by decide) ?_
        refine X.sub [2, 3, 1, 0] rfl ?_
        exact ih x1 (x2 + z_5) (x3 + 1) h g e hw
      have hO_70 := hO_7
      refine x_icmp_ne 34 dX2_sumOf_22 (by decide) (fun c_3 => ?_) (fun c_3 => ?_)
      · refine x_iconst 0 dX2_sumOf_34 (by decide) ?_
        exact kJ_6 _ ((if_neg c_3)).symm
      · have hO_7_ := hO_70 c_3
        have b_4 := hO_7_
        refine x_aload_n 0 dX2_sumOf_25 rfl ?_
        refine x_get (ci := 2) (v := .ref (mr ρ 28)) 2 dX2_sumOf_26 (GI.s g (t := (12, 0)) rfl (by decide)) rfl in_X2 (by decide) q1225 (Or.inl rfl) (fv_rc rfl (GI.m g (n := 28) rfl (by decide)) (by decide)) ?_
        refine x_iload_n 3 dX2_sumOf_29 rfl ?_
        refine x_iald (n := 24) (j := (Int32.toNatClampNeg x3)) dX2_sumOf_30 rfl (GI.s g (t := (1, 24)) rfl (by decide)) b_4 ?_
        refine x_goto 35 dX2_sumOf_31 (by decide) ?_
        exact kJ_6 _ ((if_pos c_3)).symm
set_option maxHeartbeats 4000000 in
theorem k_X2_sumOf {ρ : Rho} {h : Hp} {post : Int32 → Hp → Prop} {p1 : Int32} (G : G0 ρ) (g : GI h) (hw : wp_X2_sumOf post h p1) : Con ρ yX2_sumOf (ws_ yX2_sumOf cX2_sumOf 4 (Option.some Jvm.ClassFile.FieldType.int)) rm_X2_sumOf [.ref (mr ρ 25), .int p1] h (phI h post) psN := by
  refine con_of (own := "BeforeTheEndModel") (isI := false) (l0 := [(0, .ref (mr ρ 25)), (1, .int p1)]) (by decide) rfl (fun z => by cases z) (Nat.le_of_ble_eq_true rfl) rfl (fun _ => ?_)
  show X ρ K_X2_sumOf 0 [(0, .ref (mr ρ 25)), (1, .int p1)] [] h 0 0 (phI h post) psN
  refine x_iconst 0 dX2_sumOf_0 (by decide) ?_
  refine x_istore_n (lv' := [(2, .int 0), (0, .ref (mr ρ 25)), (1, .int p1)]) dX2_sumOf_1 (Nat.le_of_ble_eq_true rfl) rfl ?_
  refine x_iload_n 2 dX2_sumOf_2 rfl ?_
  refine x_iconst 1 dX2_sumOf_3 (by decide) ?_
  refine x_iadd dX2_sumOf_4 ?_
  refine x_istore_n (lv' := [(3, .int (p1 + 1)), (2, .int 0), (0, .ref (mr ρ 25)), (1, .int p1)]) dX2_sumOf_5 (Nat.le_of_ble_eq_true rfl) rfl ?_
  refine X.sub [2, 3, 1, 0] rfl ?_
  obtain ⟨fu, hw⟩ := hw
  exact t_X2_sumOf_6 G  fu p1 0 (p1 + 1) h g Ext.rf hw
