/-! THE WALK, printed by wip/D-93865w/gen/main.py -/
set_option maxRecDepth 100000
/-! BeforeTheEnd.runTo(I)V -/
def w_X0_runTo_54 (post : Hp → Prop) : Nat → Int32 → Int32 → Int32 → Hp → Prop
  | 0 => fun _ _ _ _ => False
  | n + 1 => fun x1 x2 x3 h => (vp_in x1 24 ∧ (((gi h ((gr h 1 1) + 4) (Int32.toNatClampNeg x1)) < x3 → (post h)) ∧ (¬ (gi h ((gr h 1 1) + 4) (Int32.toNatClampNeg x1)) < x3 → ((¬ x2 = 0 → (post h)) ∧ (x2 = 0 → (wp_X1_on (fun r_7 h_4 => GI h_4 → Ext h h_4 → (wp_X0_quickest (fun r_12 h_9 => GI h_9 → Ext h_4 h_9 → ((¬ r_12 = (-9) → (∀ z_16 : Int32, z_16 = ((if (gi h_9 1 17) = (-9) then r_12 else (gi h_9 1 18)) : Int32) → (∀ z_18 : Int32, z_18 = ((if (gi (si h_9 1 18 z_16) 1 17) = (-9) then r_7 else (gi (si h_9 1 18 z_16) 1 17)) : Int32) → (vp_in r_12 4 ∧ (isPl (si (si h_9 1 18 z_16) 1 17 z_18) (gr (si (si h_9 1 18 z_16) 1 17 z_18) 10 (Int32.toNatClampNeg r_12)) ∧ (wp_X0_guessOf (fun r_24 h_21 => GI h_21 → Ext (si (si h_9 1 18 z_16) 1 17 z_18) h_21 → (vp_in x1 24 ∧ ((¬ r_24 = (gi h_21 ((gr h_21 1 1) + 3) (Int32.toNatClampNeg x1)) → (vp_in r_12 4 ∧ (vp_in r_12 4 ∧ (vp_in r_12 4 ∧ (∀ h_31 : Hp, h_31 = (si (si (si h_21 18 (Int32.toNatClampNeg r_12) ((gi h_21 18 (Int32.toNatClampNeg r_12)) - (gi h_21 11 1))) 19 (Int32.toNatClampNeg r_12) 1) 1 19 ((gi (si (si h_21 18 (Int32.toNatClampNeg r_12) ((gi h_21 18 (Int32.toNatClampNeg r_12)) - (gi h_21 11 1))) 19 (Int32.toNatClampNeg r_12) 1) 1 19) + 1)) → (∀ z_35 : Int32, z_35 = ((if (gi h_31 11 3) = 0 then 1 else 0) : Int32) → (∀ z_37 : Int32, z_37 = ((if r_7 = x1 then 0 else 1) : Int32) → (w_X0_runTo_54 post n x1 z_35 (x3 + z_37) h_31)))))))) ∧ (r_24 = (gi h_21 ((gr h_21 1 1) + 3) (Int32.toNatClampNeg x1)) → (vp_in r_12 4 ∧ (vp_in x1 24 ∧ (vp_in r_12 4 ∧ (∀ h_43 : Hp, h_43 = (si (si h_21 1 16 r_12) 18 (Int32.toNatClampNeg r_12) ((gi (si h_21 1 16 r_12) 18 (Int32.toNatClampNeg r_12)) + ((gi (si h_21 1 16 r_12) 11 0) + ((gi (si h_21 1 16 r_12) 11 2) * ((gi (si h_21 1 16 r_12) ((gr (si h_21 1 16 r_12) 1 1) + 4) (Int32.toNatClampNeg x1)) - x3))))) → (w_X0_runTo_54 post n x1 1 x3 h_43))))))))) (si (si h_9 1 18 z_16) 1 17 z_18) (gi (si (si h_9 1 18 z_16) 1 17 z_18) (gr (si (si h_9 1 18 z_16) 1 17 z_18) 10 (Int32.toNatClampNeg r_12)) 2) r_7)))))) ∧ (r_12 = (-9) → (w_X0_runTo_54 post n x1 x2 (x3 + 1) h_9)))) h_4 r_7)) h (gr h 1 1) x1 x3))))))
def w_X0_runTo_25 (post : Hp → Prop) : Nat → Int32 → Int32 → Hp → Prop
  | 0 => fun _ _ _ => False
  | n + 1 => fun x1 x2 h => ((4 ≤ x2 → (∃ fu : Nat, w_X0_runTo_54 post fu x1 0 1 h)) ∧ (¬ 4 ≤ x2 → (vp_in x2 4 ∧ (vp_in x2 4 ∧ (w_X0_runTo_25 post n x1 (x2 + 1) (si (si h 18 (Int32.toNatClampNeg x2) 0) 19 (Int32.toNatClampNeg x2) 0))))))
def wp_X0_runTo (post : Hp → Prop) (h : Hp) (p1 : Int32) : Prop := (∃ fu : Nat, w_X0_runTo_25 post fu p1 0 (si (si (si (si h 1 16 (-9)) 1 17 (-9)) 1 18 (-9)) 1 19 0))
abbrev rm_X0_runTo : Room := ({ frames := 11, cells := 0, slots := 0, locals := 311 })
abbrev K_X0_runTo : Kx := ("BeforeTheEnd", cX0_runTo, 6, (Option.none : Option Jvm.ClassFile.FieldType), rm_X0_runTo, [], false)
set_option maxHeartbeats 4000000 in
theorem t_X0_runTo_54 {ρ : Rho} {h0 : Hp} {post : Hp → Prop} (G : G0 ρ) :
    ∀ (n : Nat), ∀ (x1 : Int32) (x2 : Int32) (x3 : Int32) (h : Hp), GI h → Ext h0 h → w_X0_runTo_54 post n x1 x2 x3 h → X ρ K_X0_runTo 54 [(0, .ref (mr ρ 1)), (1, .int x1), (2, .int x2), (3, .int x3)] [] h 0 0 (phV h0 post) psN := by
  intro n
  induction n with
  | zero => intro x1 x2 x3 h g e hw; exact False.elim hw
  | succ n ih =>
    intro x1 x2 x3 h g e hw
    refine x_iload_n 3 dX0_runTo_54 rfl ?_
    refine x_aload_n 0 dX0_runTo_55 rfl ?_
    refine x_get (ci := 0) (v := .ref (mr ρ (gr h 1 1))) 1 dX0_runTo_56 (GI.s g (t := (10, 0)) rfl (by decide)) rfl in_X0 (by decide) q188 (Or.inl rfl) (fv_rc rfl rfl (isTree.nz (GI.t g) (GI.live g))) ?_
    refine x_getN (ci := 1) (v := .ref (mr ρ ((gr h 1 1) + 4))) 4 dX0_runTo_59 (isTree.s (GI.t g)) rfl in_X1 (by decide) q155 (Or.inl rfl) (fv_rc rfl (isTree.p (GI.t g) 4 (by decide) (by decide)) (Nat.succ_ne_zero _)) ?_
    refine x_iload_n 1 dX0_runTo_62 rfl ?_
    obtain ⟨b_1, hw⟩ := hw
    refine x_iald (n := 24) (j := (Int32.toNatClampNeg x1)) dX0_runTo_63 rfl (isTree.a (GI.t g) 4 (by decide) (by decide)) b_1 ?_
    obtain ⟨wt_54, wf_55⟩ := hw
    refine x_icmp_gt 287 dX0_runTo_64 (by decide) (fun c_2 => ?_) (fun c_2 => ?_)
    · have hw := wt_54 c_2
      exact x_vret dX0_runTo_287 rfl (Nat.le_of_ble_eq_true rfl) (Nat.le_of_ble_eq_true rfl) ⟨rfl, g, e, hw⟩
    · have hw := wf_55 c_2
      refine x_iload_n 2 dX0_runTo_67 rfl ?_
      obtain ⟨wt_52, wf_53⟩ := hw
      refine x_if_ne 287 dX0_runTo_68 (by decide) (fun c_3 => ?_) (fun c_3 => ?_)
      · have hw := wt_52 c_3
        exact x_vret dX0_runTo_287 rfl (Nat.le_of_ble_eq_true rfl) (Nat.le_of_ble_eq_true rfl) ⟨rfl, g, e, hw⟩
      · have hw := wf_53 c_3
        refine x_aload_n 0 dX0_runTo_71 rfl ?_
        refine x_get (ci := 0) (v := .ref (mr ρ (gr h 1 1))) 1 dX0_runTo_72 (GI.s g (t := (10, 0)) rfl (by decide)) rfl in_X0 (by decide) q188 (Or.inl rfl) (fv_rc rfl rfl (isTree.nz (GI.t g) (GI.live g))) ?_
        refine x_iload_n 1 dX0_runTo_75 rfl ?_
        refine x_iload_n 3 dX0_runTo_76 rfl ?_
        refine x_callV (ci := 1) [.int x1, .int x3] 2 dX0_runTo_77 (k_X1_on G g (GI.t g) hw) (isTree.s (GI.t g)) rfl q925 q926 q927 q105 q928 (by decide) rfl rfl ⟨(Nat.le_of_ble_eq_true rfl), (Nat.le_of_ble_eq_true rfl)⟩ (Nat.le_of_ble_eq_true rfl) ⟨(Nat.le_of_ble_eq_true rfl), (Nat.le_of_ble_eq_true rfl)⟩ (fun v9 h_4 hv9 => ?_) (fun _ _ _ _ _ z _ _ => False.elim z)
        obtain ⟨r_7, rfl, g_5, e_6, hw⟩ := hv9
        have hw := hw g_5 e_6
        show X ρ K_X0_runTo 80 [(0, .ref (mr ρ 1)), (1, .int x1), (2, .int x2), (3, .int x3)] [.int r_7] h_4 0 0 (phV h0 post) psN
        refine x_istore (lv' := [(4, .int r_7), (0, .ref (mr ρ 1)), (1, .int x1), (2, .int x2), (3, .int x3)]) dX0_runTo_80 (Nat.le_of_ble_eq_true rfl) rfl ?_
        refine x_aload_n 1 dX0_runTo_82 rfl ?_
        refine x_iload 0 dX0_runTo_83 rfl ?_
        refine x_callV (ci := 0) [.int r_7] 1 dX0_runTo_85 (k_X0_quickest G g_5 hw) (GI.s g_5 (t := (10, 0)) rfl (by decide)) rfl q929 q931 qs31 q104 q932 (by decide) rfl rfl ⟨(Nat.le_of_ble_eq_true rfl), (Nat.le_of_ble_eq_true rfl)⟩ (Nat.le_of_ble_eq_true rfl) ⟨(Nat.le_of_ble_eq_true rfl), (Nat.le_of_ble_eq_true rfl)⟩ (fun v9 h_9 hv9 => ?_) (fun _ _ _ _ _ z _ _ => False.elim z)
        obtain ⟨r_12, rfl, g_10, e_11, hw⟩ := hv9
        have hw := hw g_10 e_11
        show X ρ K_X0_runTo 88 [(4, .int r_7), (0, .ref (mr ρ 1)), (1, .int x1), (2, .int x2), (3, .int x3)] [.int r_12] h_9 0 0 (phV h0 post) psN
        refine x_istore (lv' := [(5, .int r_12), (4, .int r_7), (0, .ref (mr ρ 1)), (1, .int x1), (2, .int x2), (3, .int x3)]) dX0_runTo_88 (Nat.le_of_ble_eq_true rfl) rfl ?_
        refine x_iload 0 dX0_runTo_90 rfl ?_
        refine x_bipush (-9) dX0_runTo_92 (by decide) ?_
        obtain ⟨wt_50, wf_51⟩ := hw
        refine x_icmp_ne 103 dX0_runTo_94 (by decide) (fun c_14 => ?_) (fun c_14 => ?_)
        · have hw := wt_50 c_14
          refine x_aload_n 2 dX0_runTo_103 rfl ?_
          refine x_aload_n 2 dX0_runTo_104 rfl ?_
          refine x_get (ci := 0) (v := .int (gi h_9 1 17)) 17 dX0_runTo_105 (GI.s g_10 (t := (10, 0)) rfl (by decide)) rfl in_X0 (by decide) q206 (Or.inl rfl) (fv_i rfl) ?_
          refine x_bipush (-9) dX0_runTo_108 (by decide) ?_
          have kJ_49 : ∀ z_16 : Int32, z_16 = ((if (gi h_9 1 17) = (-9) then r_12 else (gi h_9 1 18)) : Int32) → X ρ K_X0_runTo 122 [(5, .int r_12), (4, .int r_7), (0, .ref (mr ρ 1)), (1, .int x1), (2, .int x2), (3, .int x3)] [.int z_16, .ref (mr ρ 1)] h_9 0 0 (phV h0 post) psN := fun z_16 ez_16 => by
            have hw := hw z_16 ez_16
            refine x_put (ci := 0) 18 dX0_runTo_122 (GI.s g_10 (t := (10, 0)) rfl (by decide)) rfl in_X0 tyX0 tyX0_ok nmX0 (by decide) q207 (Or.inl rfl) rfl rfl rfl (isPut_i rfl) ?_
            refine x_aload_n 2 dX0_runTo_125 rfl ?_
            refine x_aload_n 2 dX0_runTo_126 rfl ?_
            refine x_get (ci := 0) (v := .int (gi (si h_9 1 18 z_16) 1 17)) 17 dX0_runTo_127 (GI.s (GI.i g_10) (t := (10, 0)) rfl (by decide)) rfl in_X0 (by decide) q206 (Or.inl rfl) (fv_i rfl) ?_
            refine x_bipush (-9) dX0_runTo_130 (by decide) ?_
            have kJ_48 : ∀ z_18 : Int32, z_18 = ((if (gi (si h_9 1 18 z_16) 1 17) = (-9) then r_7 else (gi (si h_9 1 18 z_16) 1 17)) : Int32) → X ρ K_X0_runTo 144 [(5, .int r_12), (4, .int r_7), (0, .ref (mr ρ 1)), (1, .int x1), (2, .int x2), (3, .int x3)] [.int z_18, .ref (mr ρ 1)] (si h_9 1 18 z_16) 0 0 (phV h0 post) psN := fun z_18 ez_18 => by
              have hw := hw z_18 ez_18
              refine x_put (ci := 0) 17 dX0_runTo_144 (GI.s (GI.i g_10) (t := (10, 0)) rfl (by decide)) rfl in_X0 tyX0 tyX0_ok nmX0 (by decide) q206 (Or.inl rfl) rfl rfl rfl (isPut_i rfl) ?_
              refine x_aload_n 2 dX0_runTo_147 rfl ?_
              refine x_aload_n 2 dX0_runTo_148 rfl ?_
              refine x_get (ci := 0) (v := .ref (mr ρ 10)) 2 dX0_runTo_149 (GI.s (GI.i (GI.i g_10)) (t := (10, 0)) rfl (by decide)) rfl in_X0 (by decide) q189 (Or.inl rfl) (fv_rc rfl (GI.x (GI.i (GI.i g_10)) (n := 10) rfl (by decide)) (by decide)) ?_
              refine x_iload 0 dX0_runTo_152 rfl ?_
              obtain ⟨b_19, hw⟩ := hw
              obtain ⟨b_20, hw⟩ := hw
              refine x_aald5 (n := 4) (j := (Int32.toNatClampNeg r_12)) dX0_runTo_154 rfl (GI.s (GI.i (GI.i g_10)) (t := (5, 4)) rfl (by decide)) b_19 ?_
              refine x_nn (isPl.nz b_20 (Live.i (Live.i (GI.live g_10)))) ?_
              refine x_getP 2 (by decide) dX0_runTo_155 b_20 q622 ?_
              refine x_iload 1 dX0_runTo_158 rfl ?_
              refine x_callV (ci := 0) [.int (gi (si (si h_9 1 18 z_16) 1 17 z_18) (gr (si (si h_9 1 18 z_16) 1 17 z_18) 10 (Int32.toNatClampNeg r_12)) 2), .int r_7] 2 dX0_runTo_160 (k_X0_guessOf G (GI.i (GI.i g_10)) hw) (GI.s (GI.i (GI.i g_10)) (t := (10, 0)) rfl (by decide)) rfl q805 q807 qs19 q104 q808 (by decide) rfl rfl ⟨(Nat.le_of_ble_eq_true rfl), (Nat.le_of_ble_eq_true rfl)⟩ (Nat.le_of_ble_eq_true rfl) ⟨(Nat.le_of_ble_eq_true rfl), (Nat.le_of_ble_eq_true rfl)⟩ (fun v9 h_21 hv9 => ?_) (fun _ _ _ _ _ z _ _ => False.elim z)
              obtain ⟨r_24, rfl, g_22, e_23, hw⟩ := hv9
              have hw := hw g_22 e_23
              show X ρ K_X0_runTo 163 [(5, .int r_12), (4, .int r_7), (0, .ref (mr ρ 1)), (1, .int x1), (2, .int x2), (3, .int x3)] [.int r_24] h_21 0 0 (phV h0 post) psN
              refine x_aload_n 2 dX0_runTo_163 rfl ?_
              refine x_get (ci := 0) (v := .ref (mr ρ (gr h_21 1 1))) 1 dX0_runTo_164 (GI.s g_22 (t := (10, 0)) rfl (by decide)) rfl in_X0 (by decide) q188 (Or.inl rfl) (fv_rc rfl rfl (isTree.nz (GI.t g_22) (GI.live g_22))) ?_
              refine x_getN (ci := 1) (v := .ref (mr ρ ((gr h_21 1 1) + 3))) 3 dX0_runTo_167 (isTree.s (GI.t g_22)) rfl in_X1 (by decide) q153 (Or.inl rfl) (fv_rc rfl (isTree.p (GI.t g_22) 3 (by decide) (by decide)) (Nat.succ_ne_zero _)) ?_
              refine x_iload_n 3 dX0_runTo_170 rfl ?_
              obtain ⟨b_26, hw⟩ := hw
              refine x_iald (n := 24) (j := (Int32.toNatClampNeg x1)) dX0_runTo_171 rfl (isTree.a (GI.t g_22) 3 (by decide) (by decide)) b_26 ?_
              obtain ⟨wt_46, wf_47⟩ := hw
              refine x_icmp_ne 221 dX0_runTo_172 (by decide) (fun c_27 => ?_) (fun c_27 => ?_)
              · have hw := wt_46 c_27
                refine x_aload_n 2 dX0_runTo_221 rfl ?_
                refine x_get (ci := 0) (v := .ref (mr ρ 18)) 20 dX0_runTo_222 (GI.s g_22 (t := (10, 0)) rfl (by decide)) rfl in_X0 (by decide) q209 (Or.inl rfl) (fv_rc rfl (GI.x g_22 (n := 18) rfl (by decide)) (by decide)) ?_
                refine x_iload 0 dX0_runTo_225 rfl ?_
                refine x_dup2 dX0_runTo_227 rfl rfl ?_
                obtain ⟨b_28, hw⟩ := hw
                refine x_iald (n := 4) (j := (Int32.toNatClampNeg r_12)) dX0_runTo_228 rfl (GI.s g_22 (t := (1, 4)) rfl (by decide)) b_28 ?_
                refine x_aload_n 2 dX0_runTo_229 rfl ?_
                refine x_get (ci := 0) (v := .ref (mr ρ 11)) 4 dX0_runTo_230 (GI.s g_22 (t := (10, 0)) rfl (by decide)) rfl in_X0 (by decide) q191 (Or.inl rfl) (fv_rc rfl (GI.x g_22 (n := 11) rfl (by decide)) (by decide)) ?_
                refine x_iconst 1 dX0_runTo_233 (by decide) ?_
                refine x_iald (n := 4) (j := 1) dX0_runTo_234 (by decide) (GI.s g_22 (t := (1, 4)) rfl (by decide)) (by unfold vp_in; decide) ?_
                refine x_isub dX0_runTo_235 ?_
                obtain ⟨b_29, hw⟩ := hw
                refine x_iast (n := 4) (j := (Int32.toNatClampNeg r_12)) dX0_runTo_236 rfl (GI.s g_22 (t := (1, 4)) rfl (by decide)) b_29 ?_
                refine x_aload_n 2 dX0_runTo_237 rfl ?_
                refine x_get (ci := 0) (v := .ref (mr ρ 19)) 21 dX0_runTo_238 (GI.s (GI.i g_22) (t := (10, 0)) rfl (by decide)) rfl in_X0 (by decide) q210 (Or.inl rfl) (fv_rc rfl (GI.x (GI.i g_22) (n := 19) rfl (by decide)) (by decide)) ?_
                refine x_iload 0 dX0_runTo_241 rfl ?_
                refine x_iconst 1 dX0_runTo_243 (by decide) ?_
                obtain ⟨b_30, hw⟩ := hw
                refine x_zast (n := 4) (j := (Int32.toNatClampNeg r_12)) dX0_runTo_244 rfl (GI.s (GI.i g_22) (t := (4, 4)) rfl (by decide)) b_30 (isB.n isB_1) ?_
                refine x_aload_n 2 dX0_runTo_245 rfl ?_
                refine x_dup dX0_runTo_246 rfl ?_
                refine x_get (ci := 0) (v := .int (gi (si (si h_21 18 (Int32.toNatClampNeg r_12) ((gi h_21 18 (Int32.toNatClampNeg r_12)) - (gi h_21 11 1))) 19 (Int32.toNatClampNeg r_12) 1) 1 19)) 19 dX0_runTo_247 (GI.s (GI.i (GI.i g_22)) (t := (10, 0)) rfl (by decide)) rfl in_X0 (by decide) q208 (Or.inl rfl) (fv_i rfl) ?_
                refine x_iconst 1 dX0_runTo_250 (by decide) ?_
                refine x_iadd dX0_runTo_251 ?_
                refine x_put (ci := 0) 19 dX0_runTo_252 (GI.s (GI.i (GI.i g_22)) (t := (10, 0)) rfl (by decide)) rfl in_X0 tyX0 tyX0_ok nmX0 (by decide) q208 (Or.inl rfl) rfl rfl rfl (isPut_i rfl) ?_
                refine x_nmh (fun h_31 eh_31 => ?_)
                have hw := hw h_31 eh_31
                have g_32 : GI h_31 := eh_31 ▸ (GI.i (GI.i (GI.i g_22)))
                have e_33 : Ext h0 h_31 := eh_31 ▸ (Ext.i (Ext.i (Ext.i (Ext.tr (Ext.i (Ext.i (Ext.tr (Ext.tr e e_6) e_11))) e_23))))
                refine x_aload_n 2 dX0_runTo_255 rfl ?_
                refine x_get (ci := 0) (v := .ref (mr ρ 11)) 4 dX0_runTo_256 (GI.s g_32 (t := (10, 0)) rfl (by decide)) rfl in_X0 (by decide) q191 (Or.inl rfl) (fv_rc rfl (GI.x g_32 (n := 11) rfl (by decide)) (by decide)) ?_
                refine x_iconst 3 dX0_runTo_259 (by decide) ?_
                refine x_iald (n := 4) (j := 3) dX0_runTo_260 (by decide) (GI.s g_32 (t := (1, 4)) rfl (by decide)) (by unfold vp_in; decide) ?_
                have kJ_39 : ∀ z_35 : Int32, z_35 = ((if (gi h_31 11 3) = 0 then 1 else 0) : Int32) → X ρ K_X0_runTo 269 [(5, .int r_12), (4, .int r_7), (0, .ref (mr ρ 1)), (1, .int x1), (2, .int x2), (3, .int x3)] [.int z_35] h_31 0 0 (phV h0 post) psN := fun z_35 ez_35 => by
                  have hw := hw z_35 ez_35
                  refine x_istore_n (lv' := [(2, .int z_35), (5, .int r_12), (4, .int r_7), (0, .ref (mr ρ 1)), (1, .int x1), (3, .int x3)]) dX0_runTo_269 (Nat.le_of_ble_eq_true rfl) rfl ?_
                  refine x_iload_n 5 dX0_runTo_270 rfl ?_
                  refine x_iload 2 dX0_runTo_271 rfl ?_
                  refine x_iload_n 4 dX0_runTo_273 rfl ?_
                  have kJ_38 : ∀ z_37 : Int32, z_37 = ((if r_7 = x1 then 0 else 1) : Int32) → X ρ K_X0_runTo 282 [(2, .int z_35), (5, .int r_12), (4, .int r_7), (0, .ref (mr ρ 1)), (1, .int x1), (3, .int x3)] [.int z_37, .int x3] h_31 0 0 (phV h0 post) psN := fun z_37 ez_37 => by
                    have hw := hw z_37 ez_37
                    refine x_iadd dX0_runTo_282 ?_
                    refine x_istore_n (lv' := [(3, .int (x3 + z_37)), (2, .int z_35), (5, .int r_12), (4, .int r_7), (0, .ref (mr ρ 1)), (1, .int x1)]) dX0_runTo_283 (Nat.le_of_ble_eq_true rfl) rfl ?_
                    refine x_goto 54 dX0_runTo_284 (by decide) ?_
                    refine X.sub [4, 5, 1, 0] rfl ?_
                    exact ih x1 z_35 (x3 + z_37) h_31 g_32 e_33 hw
                  refine x_icmp_ne 281 dX0_runTo_274 (by decide) (fun c_36 => ?_) (fun c_36 => ?_)
                  · refine x_iconst 1 dX0_runTo_281 (by decide) ?_
                    exact kJ_38 _ ((if_neg c_36)).symm
                  · refine x_iconst 0 dX0_runTo_277 (by decide) ?_
                    refine x_goto 282 dX0_runTo_278 (by decide) ?_
                    exact kJ_38 _ ((if_pos c_36)).symm
                refine x_if_ne 268 dX0_runTo_261 (by decide) (fun c_34 => ?_) (fun c_34 => ?_)
                · refine x_iconst 0 dX0_runTo_268 (by decide) ?_
                  exact kJ_39 _ ((if_neg c_34)).symm
                · refine x_iconst 1 dX0_runTo_264 (by decide) ?_
                  refine x_goto 269 dX0_runTo_265 (by decide) ?_
                  exact kJ_39 _ ((if_pos c_34)).symm
              · have hw := wf_47 c_27
                refine x_aload_n 2 dX0_runTo_175 rfl ?_
                refine x_iload 0 dX0_runTo_176 rfl ?_
                refine x_put (ci := 0) 16 dX0_runTo_178 (GI.s g_22 (t := (10, 0)) rfl (by decide)) rfl in_X0 tyX0 tyX0_ok nmX0 (by decide) q205 (Or.inl rfl) rfl rfl rfl (isPut_i rfl) ?_
                refine x_aload_n 2 dX0_runTo_181 rfl ?_
                refine x_get (ci := 0) (v := .ref (mr ρ 18)) 20 dX0_runTo_182 (GI.s (GI.i g_22) (t := (10, 0)) rfl (by decide)) rfl in_X0 (by decide) q209 (Or.inl rfl) (fv_rc rfl (GI.x (GI.i g_22) (n := 18) rfl (by decide)) (by decide)) ?_
                refine x_iload 0 dX0_runTo_185 rfl ?_
                refine x_dup2 dX0_runTo_187 rfl rfl ?_
                obtain ⟨b_40, hw⟩ := hw
                refine x_iald (n := 4) (j := (Int32.toNatClampNeg r_12)) dX0_runTo_188 rfl (GI.s (GI.i g_22) (t := (1, 4)) rfl (by decide)) b_40 ?_
                refine x_aload_n 2 dX0_runTo_189 rfl ?_
                refine x_get (ci := 0) (v := .ref (mr ρ 11)) 4 dX0_runTo_190 (GI.s (GI.i g_22) (t := (10, 0)) rfl (by decide)) rfl in_X0 (by decide) q191 (Or.inl rfl) (fv_rc rfl (GI.x (GI.i g_22) (n := 11) rfl (by decide)) (by decide)) ?_
                refine x_iconst 0 dX0_runTo_193 (by decide) ?_
                refine x_iald (n := 4) (j := 0) dX0_runTo_194 (by decide) (GI.s (GI.i g_22) (t := (1, 4)) rfl (by decide)) (by unfold vp_in; decide) ?_
                refine x_aload_n 2 dX0_runTo_195 rfl ?_
                refine x_get (ci := 0) (v := .ref (mr ρ 11)) 4 dX0_runTo_196 (GI.s (GI.i g_22) (t := (10, 0)) rfl (by decide)) rfl in_X0 (by decide) q191 (Or.inl rfl) (fv_rc rfl (GI.x (GI.i g_22) (n := 11) rfl (by decide)) (by decide)) ?_
                refine x_iconst 2 dX0_runTo_199 (by decide) ?_
                refine x_iald (n := 4) (j := 2) dX0_runTo_200 (by decide) (GI.s (GI.i g_22) (t := (1, 4)) rfl (by decide)) (by unfold vp_in; decide) ?_
                refine x_aload_n 2 dX0_runTo_201 rfl ?_
                refine x_get (ci := 0) (v := .ref (mr ρ (gr (si h_21 1 16 r_12) 1 1))) 1 dX0_runTo_202 (GI.s (GI.i g_22) (t := (10, 0)) rfl (by decide)) rfl in_X0 (by decide) q188 (Or.inl rfl) (fv_rc rfl rfl (isTree.nz (GI.t (GI.i g_22)) (Live.i (GI.live g_22)))) ?_
                refine x_getN (ci := 1) (v := .ref (mr ρ ((gr (si h_21 1 16 r_12) 1 1) + 4))) 4 dX0_runTo_205 (isTree.s (GI.t (GI.i g_22))) rfl in_X1 (by decide) q155 (Or.inl rfl) (fv_rc rfl (isTree.p (GI.t (GI.i g_22)) 4 (by decide) (by decide)) (Nat.succ_ne_zero _)) ?_
                refine x_iload_n 3 dX0_runTo_208 rfl ?_
                obtain ⟨b_41, hw⟩ := hw
                refine x_iald (n := 24) (j := (Int32.toNatClampNeg x1)) dX0_runTo_209 rfl (isTree.a (GI.t (GI.i g_22)) 4 (by decide) (by decide)) b_41 ?_
                refine x_iload_n 5 dX0_runTo_210 rfl ?_
                refine x_isub dX0_runTo_211 ?_
                refine x_imul dX0_runTo_212 ?_
                refine x_iadd dX0_runTo_213 ?_
                refine x_iadd dX0_runTo_214 ?_
                obtain ⟨b_42, hw⟩ := hw
                refine x_iast (n := 4) (j := (Int32.toNatClampNeg r_12)) dX0_runTo_215 rfl (GI.s (GI.i g_22) (t := (1, 4)) rfl (by decide)) b_42 ?_
                refine x_nmh (fun h_43 eh_43 => ?_)
                have hw := hw h_43 eh_43
                have g_44 : GI h_43 := eh_43 ▸ (GI.i (GI.i g_22))
                have e_45 : Ext h0 h_43 := eh_43 ▸ (Ext.i (Ext.i (Ext.tr (Ext.i (Ext.i (Ext.tr (Ext.tr e e_6) e_11))) e_23)))
                refine x_iconst 1 dX0_runTo_216 (by decide) ?_
                refine x_istore_n (lv' := [(2, .int 1), (5, .int r_12), (4, .int r_7), (0, .ref (mr ρ 1)), (1, .int x1), (3, .int x3)]) dX0_runTo_217 (Nat.le_of_ble_eq_true rfl) rfl ?_
                refine x_goto 284 dX0_runTo_218 (by decide) ?_
                refine x_goto 54 dX0_runTo_284 (by decide) ?_
                refine X.sub [3, 4, 0, 5] rfl ?_
                exact ih x1 1 x3 h_43 g_44 e_45 hw
            refine x_icmp_ne 140 dX0_runTo_132 (by decide) (fun c_17 => ?_) (fun c_17 => ?_)
            · refine x_aload_n 2 dX0_runTo_140 rfl ?_
              refine x_get (ci := 0) (v := .int (gi (si h_9 1 18 z_16) 1 17)) 17 dX0_runTo_141 (GI.s (GI.i g_10) (t := (10, 0)) rfl (by decide)) rfl in_X0 (by decide) q206 (Or.inl rfl) (fv_i rfl) ?_
              exact kJ_48 _ ((if_neg c_17)).symm
            · refine x_iload 1 dX0_runTo_135 rfl ?_
              refine x_goto 144 dX0_runTo_137 (by decide) ?_
              exact kJ_48 _ ((if_pos c_17)).symm
          refine x_icmp_ne 118 dX0_runTo_110 (by decide) (fun c_15 => ?_) (fun c_15 => ?_)
          · refine x_aload_n 2 dX0_runTo_118 rfl ?_
            refine x_get (ci := 0) (v := .int (gi h_9 1 18)) 18 dX0_runTo_119 (GI.s g_10 (t := (10, 0)) rfl (by decide)) rfl in_X0 (by decide) q207 (Or.inl rfl) (fv_i rfl) ?_
            exact kJ_49 _ ((if_neg c_15)).symm
          · refine x_iload 0 dX0_runTo_113 rfl ?_
            refine x_goto 122 dX0_runTo_115 (by decide) ?_
            exact kJ_49 _ ((if_pos c_15)).symm
        · have hw := wf_51 c_14
          refine x_iinc (v := (x3 + 1)) (lv' := [(3, .int (x3 + 1)), (5, .int r_12), (4, .int r_7), (0, .ref (mr ρ 1)), (1, .int x1), (2, .int x2)]) 5 dX0_runTo_97 rfl (by rfl) (Nat.le_of_ble_eq_true rfl) rfl ?_
          refine x_goto 284 dX0_runTo_100 (by decide) ?_
          refine x_goto 54 dX0_runTo_284 (by decide) ?_
          refine X.sub [3, 4, 5, 0] rfl ?_
          exact ih x1 x2 (x3 + 1) h_9 g_10 (Ext.tr (Ext.tr e e_6) e_11) hw
set_option maxHeartbeats 4000000 in
theorem t_X0_runTo_25 {ρ : Rho} {h0 : Hp} {post : Hp → Prop} (G : G0 ρ) :
    ∀ (n : Nat), ∀ (x1 : Int32) (x2 : Int32) (h : Hp), GI h → Ext h0 h → w_X0_runTo_25 post n x1 x2 h → X ρ K_X0_runTo 25 [(0, .ref (mr ρ 1)), (1, .int x1), (2, .int x2)] [] h 0 0 (phV h0 post) psN := by
  intro n
  induction n with
  | zero => intro x1 x2 h g e hw; exact False.elim hw
  | succ n ih =>
    intro x1 x2 h g e hw
    refine x_iload_n 2 dX0_runTo_25 rfl ?_
    refine x_iconst 4 dX0_runTo_26 (by decide) ?_
    obtain ⟨wt_4, wf_5⟩ := hw
    refine x_icmp_ge 50 dX0_runTo_27 (by decide) (fun c_1 => ?_) (fun c_1 => ?_)
    · have hw := wt_4 c_1
      refine x_iconst 0 dX0_runTo_50 (by decide) ?_
      refine x_istore_n (lv' := [(2, .int 0), (0, .ref (mr ρ 1)), (1, .int x1)]) dX0_runTo_51 (Nat.le_of_ble_eq_true rfl) rfl ?_
      refine x_iconst 1 dX0_runTo_52 (by decide) ?_
      refine x_istore_n (lv' := [(3, .int 1), (2, .int 0), (0, .ref (mr ρ 1)), (1, .int x1)]) dX0_runTo_53 (Nat.le_of_ble_eq_true rfl) rfl ?_
      refine X.sub [2, 3, 1, 0] rfl ?_
      obtain ⟨fu, hw⟩ := hw
      exact t_X0_runTo_54 G  fu x1 0 1 h g e hw
    · have hw := wf_5 c_1
      refine x_aload_n 0 dX0_runTo_30 rfl ?_
      refine x_get (ci := 0) (v := .ref (mr ρ 18)) 20 dX0_runTo_31 (GI.s g (t := (10, 0)) rfl (by decide)) rfl in_X0 (by decide) q209 (Or.inl rfl) (fv_rc rfl (GI.x g (n := 18) rfl (by decide)) (by decide)) ?_
      refine x_iload_n 2 dX0_runTo_34 rfl ?_
      refine x_iconst 0 dX0_runTo_35 (by decide) ?_
      obtain ⟨b_2, hw⟩ := hw
      refine x_iast (n := 4) (j := (Int32.toNatClampNeg x2)) dX0_runTo_36 rfl (GI.s g (t := (1, 4)) rfl (by decide)) b_2 ?_
      refine x_aload_n 0 dX0_runTo_37 rfl ?_
      refine x_get (ci := 0) (v := .ref (mr ρ 19)) 21 dX0_runTo_38 (GI.s (GI.i g) (t := (10, 0)) rfl (by decide)) rfl in_X0 (by decide) q210 (Or.inl rfl) (fv_rc rfl (GI.x (GI.i g) (n := 19) rfl (by decide)) (by decide)) ?_
      refine x_iload_n 2 dX0_runTo_41 rfl ?_
      refine x_iconst 0 dX0_runTo_42 (by decide) ?_
      obtain ⟨b_3, hw⟩ := hw
      refine x_zast (n := 4) (j := (Int32.toNatClampNeg x2)) dX0_runTo_43 rfl (GI.s (GI.i g) (t := (4, 4)) rfl (by decide)) b_3 (isB.n isB_0) ?_
      refine x_iinc (v := (x2 + 1)) (lv' := [(2, .int (x2 + 1)), (0, .ref (mr ρ 1)), (1, .int x1)]) 2 dX0_runTo_44 rfl (by rfl) (Nat.le_of_ble_eq_true rfl) rfl ?_
      refine x_goto 25 dX0_runTo_47 (by decide) ?_
      refine X.sub [1, 2, 0] rfl ?_
      exact ih x1 (x2 + 1) (si (si h 18 (Int32.toNatClampNeg x2) 0) 19 (Int32.toNatClampNeg x2) 0) (GI.i (GI.i g)) (Ext.i (Ext.i e)) hw
set_option maxHeartbeats 4000000 in
theorem k_X0_runTo {ρ : Rho} {h : Hp} {post : Hp → Prop} {p1 : Int32} (G : G0 ρ) (g : GI h) (hw : wp_X0_runTo post h p1) : Con ρ yX0_runTo (ws_ yX0_runTo cX0_runTo 6 (Option.none : Option Jvm.ClassFile.FieldType)) rm_X0_runTo [.ref (mr ρ 1), .int p1] h (phV h post) psN := by
  refine con_of (own := "BeforeTheEnd") (isI := false) (l0 := [(0, .ref (mr ρ 1)), (1, .int p1)]) (by decide) rfl (fun z => by cases z) (Nat.le_of_ble_eq_true rfl) rfl (fun _ => ?_)
  show X ρ K_X0_runTo 0 [(0, .ref (mr ρ 1)), (1, .int p1)] [] h 0 0 (phV h post) psN
  refine x_aload_n 0 dX0_runTo_0 rfl ?_
  refine x_bipush (-9) dX0_runTo_1 (by decide) ?_
  refine x_put (ci := 0) 16 dX0_runTo_3 (GI.s g (t := (10, 0)) rfl (by decide)) rfl in_X0 tyX0 tyX0_ok nmX0 (by decide) q205 (Or.inl rfl) rfl rfl rfl (isPut_i rfl) ?_
  refine x_aload_n 0 dX0_runTo_6 rfl ?_
  refine x_bipush (-9) dX0_runTo_7 (by decide) ?_
  refine x_put (ci := 0) 17 dX0_runTo_9 (GI.s (GI.i g) (t := (10, 0)) rfl (by decide)) rfl in_X0 tyX0 tyX0_ok nmX0 (by decide) q206 (Or.inl rfl) rfl rfl rfl (isPut_i rfl) ?_
  refine x_aload_n 0 dX0_runTo_12 rfl ?_
  refine x_bipush (-9) dX0_runTo_13 (by decide) ?_
  refine x_put (ci := 0) 18 dX0_runTo_15 (GI.s (GI.i (GI.i g)) (t := (10, 0)) rfl (by decide)) rfl in_X0 tyX0 tyX0_ok nmX0 (by decide) q207 (Or.inl rfl) rfl rfl rfl (isPut_i rfl) ?_
  refine x_aload_n 0 dX0_runTo_18 rfl ?_
  refine x_iconst 0 dX0_runTo_19 (by decide) ?_
  refine x_put (ci := 0) 19 dX0_runTo_20 (GI.s (GI.i (GI.i (GI.i g))) (t := (10, 0)) rfl (by decide)) rfl in_X0 tyX0 tyX0_ok nmX0 (by decide) q208 (Or.inl rfl) rfl rfl rfl (isPut_i rfl) ?_
  refine x_iconst 0 dX0_runTo_23 (by decide) ?_
  refine x_istore_n (lv' := [(2, .int 0), (0, .ref (mr ρ 1)), (1, .int p1)]) dX0_runTo_24 (Nat.le_of_ble_eq_true rfl) rfl ?_
  refine X.sub [1, 2, 0] rfl ?_
  obtain ⟨fu, hw⟩ := hw
  exact t_X0_runTo_25 G  fu p1 0 (si (si (si (si h 1 16 (-9)) 1 17 (-9)) 1 18 (-9)) 1 19 0) (GI.i (GI.i (GI.i (GI.i g)))) (Ext.i (Ext.i (Ext.i (Ext.i Ext.rf)))) hw

/-! BeforeTheEnd.runTold(II)I -/
def wp_X0_runTold (post : Int32 → Hp → Prop) (px : Nat → Hp → Prop) (h : Hp) (p1 : Int32) (p2 : Int32) : Prop := (wp_X0_in (fun r_4 h_1 => GI h_1 → Ext h h_1 → ((r_4 = 0 → (wp_X0_must (fun h_7 => GI h_7 → Ext h_1 h_7 → (wp_X0_in (fun r_15 h_12 => GI h_12 → Ext h_7 h_12 → (wp_X0_must (fun h_17 => GI h_17 → Ext h_12 h_17 → (wp_X0_mustBeWhole (fun h_22 => GI h_22 → Ext h_17 h_22 → (wp_X0_runTo (fun h_27 => GI h_27 → Ext h_22 h_27 → (∀ z_34 : Int32, z_34 = ((if p2 = 0 then (gi h_27 1 16) else (if p2 = 1 then (gi h_27 1 17) else (gi h_27 1 19))) : Int32) → (post z_34 h_27))) h_22 p1)) px h_17)) px h_12 r_15 (-2))) h_7 (Int32.toInt64 p2) 0 2)) px h_1 0 (-1))) ∧ (¬ r_4 = 0 → (wp_X1_isEnd (fun r_39 h_36 => GI h_36 → Ext h_1 h_36 → (∀ z_42 : Int32, z_42 = ((if r_39 = 0 then 0 else 1) : Int32) → (wp_X0_must (fun h_43 => GI h_43 → Ext h_36 h_43 → (wp_X0_in (fun r_51 h_48 => GI h_48 → Ext h_43 h_48 → (wp_X0_must (fun h_53 => GI h_53 → Ext h_48 h_53 → (wp_X0_mustBeWhole (fun h_58 => GI h_58 → Ext h_53 h_58 → (wp_X0_runTo (fun h_63 => GI h_63 → Ext h_58 h_63 → (∀ z_70 : Int32, z_70 = ((if p2 = 0 then (gi h_63 1 16) else (if p2 = 1 then (gi h_63 1 17) else (gi h_63 1 19))) : Int32) → (post z_70 h_63))) h_58 p1)) px h_53)) px h_48 r_51 (-2))) h_43 (Int32.toInt64 p2) 0 2)) px h_36 z_42 (-1)))) h_1 (gr h_1 1 1) p1)))) h (Int32.toInt64 p1) 1 (Int32.toInt64 ((gi h (gr h 1 1) 0) - 1)))
abbrev rm_X0_runTold : Room := ({ frames := 12, cells := 3, slots := 21, locals := 336 })
abbrev K_X0_runTold : Kx := ("BeforeTheEnd", cX0_runTold, 3, (Option.some Jvm.ClassFile.FieldType.int), rm_X0_runTold, [], false)
set_option maxHeartbeats 4000000 in
theorem k_X0_runTold {ρ : Rho} {h : Hp} {post : Int32 → Hp → Prop} {px : Nat → Hp → Prop} {p1 : Int32} {p2 : Int32} (G : G0 ρ) (g : GI h) (hw : wp_X0_runTold post px h p1 p2) : Con ρ yX0_runTold (ws_ yX0_runTold cX0_runTold 3 (Option.some Jvm.ClassFile.FieldType.int)) rm_X0_runTold [.ref (mr ρ 1), .int p1, .int p2] h (phI h post) (psX h px) := by
  refine con_of (own := "BeforeTheEnd") (isI := false) (l0 := [(0, .ref (mr ρ 1)), (1, .int p1), (2, .int p2)]) (by decide) rfl (fun z => by cases z) (Nat.le_of_ble_eq_true rfl) rfl (fun _ => ?_)
  show X ρ K_X0_runTold 0 [(0, .ref (mr ρ 1)), (1, .int p1), (2, .int p2)] [] h 0 0 (phI h post) (psX h px)
  refine x_iload_n 1 dX0_runTold_0 rfl ?_
  refine x_i2l dX0_runTold_1 ?_
  refine x_lconst 1 dX0_runTold_2 (by decide) ?_
  refine x_aload_n 0 dX0_runTold_3 rfl ?_
  refine x_get (ci := 0) (v := .ref (mr ρ (gr h 1 1))) 1 dX0_runTold_4 (GI.s g (t := (10, 0)) rfl (by decide)) rfl in_X0 (by decide) q188 (Or.inl rfl) (fv_rc rfl rfl (isTree.nz (GI.t g) (GI.live g))) ?_
  refine x_getN (ci := 1) (v := .int (gi h (gr h 1 1) 0)) 0 dX0_runTold_7 (isTree.s (GI.t g)) rfl in_X1 (by decide) q147 (Or.inl rfl) (fv_i rfl) ?_
  refine x_iconst 1 dX0_runTold_10 (by decide) ?_
  refine x_isub dX0_runTold_11 ?_
  refine x_i2l dX0_runTold_12 ?_
  refine x_callS [.long (Int32.toInt64 p1), .long 1, .long (Int32.toInt64 ((gi h (gr h 1 1) 0) - 1))] 3 dX0_runTold_13 (k_X0_in G g hw) q745 q464 q104 q465 (by decide) rfl rfl ⟨(Nat.le_of_ble_eq_true rfl), (Nat.le_of_ble_eq_true rfl)⟩ (Nat.le_of_ble_eq_true rfl) ⟨(Nat.le_of_ble_eq_true rfl), (Nat.le_of_ble_eq_true rfl)⟩ (fun v9 h_1 hv9 => ?_) (fun _ _ _ _ _ z _ _ => False.elim z)
  obtain ⟨r_4, rfl, g_2, e_3, b_5, hw⟩ := hv9
  have hw := hw g_2 e_3
  show X ρ K_X0_runTold 16 [(0, .ref (mr ρ 1)), (1, .int p1), (2, .int p2)] [.int r_4] h_1 0 0 (phI h post) (psX h px)
  obtain ⟨wt_73, wf_74⟩ := hw
  refine x_if_eq 34 dX0_runTold_16 (by decide) (fun c_6 => ?_) (fun c_6 => ?_)
  · have hw := wt_73 c_6
    refine x_iconst 0 dX0_runTold_34 (by decide) ?_
    refine x_iconst (-1) dX0_runTold_35 (by decide) ?_
    refine x_callS [.int 0, .int (-1)] 2 dX0_runTold_36 (k_X0_must G g_2 hw) q294 q295 q104 q296 (by decide) rfl rfl ⟨(Nat.le_of_ble_eq_true rfl), (Nat.le_of_ble_eq_true rfl)⟩ (Nat.le_of_ble_eq_true rfl) ⟨(Nat.le_of_ble_eq_true rfl), (Nat.le_of_ble_eq_true rfl)⟩ (fun v9 h_7 hv9 => ?_) (fun q9 h9 ci9 n9 x9 hx9 hs9 hc9 => xt_out hs9 hc9 (fun z hz => by cases hz) (Nat.le_of_ble_eq_true rfl) (Nat.le_of_ble_eq_true rfl) ⟨hx9.1, Ext.tr e_3 hx9.2.1, hx9.2.2⟩)
    obtain ⟨rfl, g_8, e_9, hw⟩ := hv9
    have hw := hw g_8 e_9
    show X ρ K_X0_runTold 39 [(0, .ref (mr ρ 1)), (1, .int p1), (2, .int p2)] [] h_7 1 7 (phI h post) (psX h px)
    refine x_iload_n 2 dX0_runTold_39 rfl ?_
    refine x_i2l dX0_runTold_40 ?_
    refine x_lconst 0 dX0_runTold_41 (by decide) ?_
    refine x_ldc2 dX0_runTold_42 q920 ?_
    refine x_callS [.long (Int32.toInt64 p2), .long 0, .long 2] 3 dX0_runTold_45 (k_X0_in G g_8 hw) q745 q464 q104 q465 (by decide) rfl rfl ⟨(Nat.le_of_ble_eq_true rfl), (Nat.le_of_ble_eq_true rfl)⟩ (Nat.le_of_ble_eq_true rfl) ⟨(Nat.le_of_ble_eq_true rfl), (Nat.le_of_ble_eq_true rfl)⟩ (fun v9 h_12 hv9 => ?_) (fun _ _ _ _ _ z _ _ => False.elim z)
    obtain ⟨r_15, rfl, g_13, e_14, b_16, hw⟩ := hv9
    have hw := hw g_13 e_14
    show X ρ K_X0_runTold 48 [(0, .ref (mr ρ 1)), (1, .int p1), (2, .int p2)] [.int r_15] h_12 1 7 (phI h post) (psX h px)
    refine x_bipush (-2) dX0_runTold_48 (by decide) ?_
    refine x_callS [.int r_15, .int (-2)] 2 dX0_runTold_50 (k_X0_must G g_13 hw) q294 q295 q104 q296 (by decide) rfl rfl ⟨(Nat.le_of_ble_eq_true rfl), (Nat.le_of_ble_eq_true rfl)⟩ (Nat.le_of_ble_eq_true rfl) ⟨(Nat.le_of_ble_eq_true rfl), (Nat.le_of_ble_eq_true rfl)⟩ (fun v9 h_17 hv9 => ?_) (fun q9 h9 ci9 n9 x9 hx9 hs9 hc9 => xt_out hs9 hc9 (fun z hz => by cases hz) (Nat.le_of_ble_eq_true rfl) (Nat.le_of_ble_eq_true rfl) ⟨hx9.1, Ext.tr (Ext.tr (Ext.tr e_3 e_9) e_14) hx9.2.1, hx9.2.2⟩)
    obtain ⟨rfl, g_18, e_19, hw⟩ := hv9
    have hw := hw g_18 e_19
    show X ρ K_X0_runTold 53 [(0, .ref (mr ρ 1)), (1, .int p1), (2, .int p2)] [] h_17 2 14 (phI h post) (psX h px)
    refine x_aload_n 0 dX0_runTold_53 rfl ?_
    refine x_callV (ci := 0) [] 0 dX0_runTold_54 (k_X0_mustBeWhole G g_18 hw) (GI.s g_18 (t := (10, 0)) rfl (by decide)) rfl q801 q803 qs18 q104 q804 (by decide) rfl rfl ⟨(Nat.le_of_ble_eq_true rfl), (Nat.le_of_ble_eq_true rfl)⟩ (Nat.le_of_ble_eq_true rfl) ⟨(Nat.le_of_ble_eq_true rfl), (Nat.le_of_ble_eq_true rfl)⟩ (fun v9 h_22 hv9 => ?_) (fun q9 h9 ci9 n9 x9 hx9 hs9 hc9 => xt_out hs9 hc9 (fun z hz => by cases hz) (Nat.le_of_ble_eq_true rfl) (Nat.le_of_ble_eq_true rfl) ⟨hx9.1, Ext.tr (Ext.tr (Ext.tr (Ext.tr e_3 e_9) e_14) e_19) hx9.2.1, hx9.2.2⟩)
    obtain ⟨rfl, g_23, e_24, hw⟩ := hv9
    have hw := hw g_23 e_24
    show X ρ K_X0_runTold 57 [(0, .ref (mr ρ 1)), (1, .int p1), (2, .int p2)] [] h_22 3 21 (phI h post) (psX h px)
    refine x_aload_n 0 dX0_runTold_57 rfl ?_
    refine x_iload_n 1 dX0_runTold_58 rfl ?_
    refine x_callV (ci := 0) [.int p1] 1 dX0_runTold_59 (k_X0_runTo G g_23 hw) (GI.s g_23 (t := (10, 0)) rfl (by decide)) rfl q921 q923 qs30 q104 q924 (by decide) rfl rfl ⟨(Nat.le_of_ble_eq_true rfl), (Nat.le_of_ble_eq_true rfl)⟩ (Nat.le_of_ble_eq_true rfl) ⟨(Nat.le_of_ble_eq_true rfl), (Nat.le_of_ble_eq_true rfl)⟩ (fun v9 h_27 hv9 => ?_) (fun _ _ _ _ _ z _ _ => False.elim z)
    obtain ⟨rfl, g_28, e_29, hw⟩ := hv9
    have hw := hw g_28 e_29
    show X ρ K_X0_runTold 62 [(0, .ref (mr ρ 1)), (1, .int p1), (2, .int p2)] [] h_27 3 21 (phI h post) (psX h px)
    refine x_iload_n 2 dX0_runTold_62 rfl ?_
    have kJ_35 : ∀ z_34 : Int32, z_34 = ((if p2 = 0 then (gi h_27 1 16) else (if p2 = 1 then (gi h_27 1 17) else (gi h_27 1 19))) : Int32) → X ρ K_X0_runTold 89 [(0, .ref (mr ρ 1)), (1, .int p1), (2, .int p2)] [.int z_34] h_27 3 21 (phI h post) (psX h px) := fun z_34 ez_34 => by
      have hw := hw z_34 ez_34
      exact x_iret dX0_runTold_89 rfl (Nat.le_of_ble_eq_true rfl) (Nat.le_of_ble_eq_true rfl) ⟨_, rfl, g_28, (Ext.tr (Ext.tr (Ext.tr (Ext.tr (Ext.tr e_3 e_9) e_14) e_19) e_24) e_29), hw⟩
    refine x_if_ne 73 dX0_runTold_63 (by decide) (fun c_32 => ?_) (fun c_32 => ?_)
    · refine x_iload_n 2 dX0_runTold_73 rfl ?_
      refine x_iconst 1 dX0_runTold_74 (by decide) ?_
      refine x_icmp_ne 85 dX0_runTold_75 (by decide) (fun c_33 => ?_) (fun c_33 => ?_)
      · refine x_aload_n 0 dX0_runTold_85 rfl ?_
        refine x_get (ci := 0) (v := .int (gi h_27 1 19)) 19 dX0_runTold_86 (GI.s g_28 (t := (10, 0)) rfl (by decide)) rfl in_X0 (by decide) q208 (Or.inl rfl) (fv_i rfl) ?_
        exact kJ_35 _ (((if_neg c_32).trans (if_neg c_33))).symm
      · refine x_aload_n 0 dX0_runTold_78 rfl ?_
        refine x_get (ci := 0) (v := .int (gi h_27 1 17)) 17 dX0_runTold_79 (GI.s g_28 (t := (10, 0)) rfl (by decide)) rfl in_X0 (by decide) q206 (Or.inl rfl) (fv_i rfl) ?_
        refine x_goto 89 dX0_runTold_82 (by decide) ?_
        exact kJ_35 _ (((if_neg c_32).trans (if_pos c_33))).symm
    · refine x_aload_n 0 dX0_runTold_66 rfl ?_
      refine x_get (ci := 0) (v := .int (gi h_27 1 16)) 16 dX0_runTold_67 (GI.s g_28 (t := (10, 0)) rfl (by decide)) rfl in_X0 (by decide) q205 (Or.inl rfl) (fv_i rfl) ?_
      refine x_goto 89 dX0_runTold_70 (by decide) ?_
      exact kJ_35 _ ((if_pos c_32)).symm
  · have hw := wf_74 c_6
    refine x_aload_n 0 dX0_runTold_19 rfl ?_
    refine x_get (ci := 0) (v := .ref (mr ρ (gr h_1 1 1))) 1 dX0_runTold_20 (GI.s g_2 (t := (10, 0)) rfl (by decide)) rfl in_X0 (by decide) q188 (Or.inl rfl) (fv_rc rfl rfl (isTree.nz (GI.t g_2) (GI.live g_2))) ?_
    refine x_iload_n 1 dX0_runTold_23 rfl ?_
    refine x_callV (ci := 1) [.int p1] 1 dX0_runTold_24 (k_X1_isEnd G g_2 (GI.t g_2) hw) (isTree.s (GI.t g_2)) rfl q870 q723 q724 q105 q725 (by decide) rfl rfl ⟨(Nat.le_of_ble_eq_true rfl), (Nat.le_of_ble_eq_true rfl)⟩ (Nat.le_of_ble_eq_true rfl) ⟨(Nat.le_of_ble_eq_true rfl), (Nat.le_of_ble_eq_true rfl)⟩ (fun v9 h_36 hv9 => ?_) (fun _ _ _ _ _ z _ _ => False.elim z)
    obtain ⟨r_39, rfl, g_37, e_38, b_40, hw⟩ := hv9
    have hw := hw g_37 e_38
    show X ρ K_X0_runTold 27 [(0, .ref (mr ρ 1)), (1, .int p1), (2, .int p2)] [.int r_39] h_36 0 0 (phI h post) (psX h px)
    have kJ_72 : ∀ z_42 : Int32, z_42 = ((if r_39 = 0 then 0 else 1) : Int32) → X ρ K_X0_runTold 35 [(0, .ref (mr ρ 1)), (1, .int p1), (2, .int p2)] [.int z_42] h_36 0 0 (phI h post) (psX h px) := fun z_42 ez_42 => by
      have hw := hw z_42 ez_42
      refine x_iconst (-1) dX0_runTold_35 (by decide) ?_
      refine x_callS [.int z_42, .int (-1)] 2 dX0_runTold_36 (k_X0_must G g_37 hw) q294 q295 q104 q296 (by decide) rfl rfl ⟨(Nat.le_of_ble_eq_true rfl), (Nat.le_of_ble_eq_true rfl)⟩ (Nat.le_of_ble_eq_true rfl) ⟨(Nat.le_of_ble_eq_true rfl), (Nat.le_of_ble_eq_true rfl)⟩ (fun v9 h_43 hv9 => ?_) (fun q9 h9 ci9 n9 x9 hx9 hs9 hc9 => xt_out hs9 hc9 (fun z hz => by cases hz) (Nat.le_of_ble_eq_true rfl) (Nat.le_of_ble_eq_true rfl) ⟨hx9.1, Ext.tr (Ext.tr e_3 e_38) hx9.2.1, hx9.2.2⟩)
      obtain ⟨rfl, g_44, e_45, hw⟩ := hv9
      have hw := hw g_44 e_45
      show X ρ K_X0_runTold 39 [(0, .ref (mr ρ 1)), (1, .int p1), (2, .int p2)] [] h_43 1 7 (phI h post) (psX h px)
      refine x_iload_n 2 dX0_runTold_39 rfl ?_
      refine x_i2l dX0_runTold_40 ?_
      refine x_lconst 0 dX0_runTold_41 (by decide) ?_
      refine x_ldc2 dX0_runTold_42 q920 ?_
      refine x_callS [.long (Int32.toInt64 p2), .long 0, .long 2] 3 dX0_runTold_45 (k_X0_in G g_44 hw) q745 q464 q104 q465 (by decide) rfl rfl ⟨(Nat.le_of_ble_eq_true rfl), (Nat.le_of_ble_eq_true rfl)⟩ (Nat.le_of_ble_eq_true rfl) ⟨(Nat.le_of_ble_eq_true rfl), (Nat.le_of_ble_eq_true rfl)⟩ (fun v9 h_48 hv9 => ?_) (fun _ _ _ _ _ z _ _ => False.elim z)
      obtain ⟨r_51, rfl, g_49, e_50, b_52, hw⟩ := hv9
      have hw := hw g_49 e_50
      show X ρ K_X0_runTold 48 [(0, .ref (mr ρ 1)), (1, .int p1), (2, .int p2)] [.int r_51] h_48 1 7 (phI h post) (psX h px)
      refine x_bipush (-2) dX0_runTold_48 (by decide) ?_
      refine x_callS [.int r_51, .int (-2)] 2 dX0_runTold_50 (k_X0_must G g_49 hw) q294 q295 q104 q296 (by decide) rfl rfl ⟨(Nat.le_of_ble_eq_true rfl), (Nat.le_of_ble_eq_true rfl)⟩ (Nat.le_of_ble_eq_true rfl) ⟨(Nat.le_of_ble_eq_true rfl), (Nat.le_of_ble_eq_true rfl)⟩ (fun v9 h_53 hv9 => ?_) (fun q9 h9 ci9 n9 x9 hx9 hs9 hc9 => xt_out hs9 hc9 (fun z hz => by cases hz) (Nat.le_of_ble_eq_true rfl) (Nat.le_of_ble_eq_true rfl) ⟨hx9.1, Ext.tr (Ext.tr (Ext.tr (Ext.tr e_3 e_38) e_45) e_50) hx9.2.1, hx9.2.2⟩)
      obtain ⟨rfl, g_54, e_55, hw⟩ := hv9
      have hw := hw g_54 e_55
      show X ρ K_X0_runTold 53 [(0, .ref (mr ρ 1)), (1, .int p1), (2, .int p2)] [] h_53 2 14 (phI h post) (psX h px)
      refine x_aload_n 0 dX0_runTold_53 rfl ?_
      refine x_callV (ci := 0) [] 0 dX0_runTold_54 (k_X0_mustBeWhole G g_54 hw) (GI.s g_54 (t := (10, 0)) rfl (by decide)) rfl q801 q803 qs18 q104 q804 (by decide) rfl rfl ⟨(Nat.le_of_ble_eq_true rfl), (Nat.le_of_ble_eq_true rfl)⟩ (Nat.le_of_ble_eq_true rfl) ⟨(Nat.le_of_ble_eq_true rfl), (Nat.le_of_ble_eq_true rfl)⟩ (fun v9 h_58 hv9 => ?_) (fun q9 h9 ci9 n9 x9 hx9 hs9 hc9 => xt_out hs9 hc9 (fun z hz => by cases hz) (Nat.le_of_ble_eq_true rfl) (Nat.le_of_ble_eq_true rfl) ⟨hx9.1, Ext.tr (Ext.tr (Ext.tr (Ext.tr (Ext.tr e_3 e_38) e_45) e_50) e_55) hx9.2.1, hx9.2.2⟩)
      obtain ⟨rfl, g_59, e_60, hw⟩ := hv9
      have hw := hw g_59 e_60
      show X ρ K_X0_runTold 57 [(0, .ref (mr ρ 1)), (1, .int p1), (2, .int p2)] [] h_58 3 21 (phI h post) (psX h px)
      refine x_aload_n 0 dX0_runTold_57 rfl ?_
      refine x_iload_n 1 dX0_runTold_58 rfl ?_
      refine x_callV (ci := 0) [.int p1] 1 dX0_runTold_59 (k_X0_runTo G g_59 hw) (GI.s g_59 (t := (10, 0)) rfl (by decide)) rfl q921 q923 qs30 q104 q924 (by decide) rfl rfl ⟨(Nat.le_of_ble_eq_true rfl), (Nat.le_of_ble_eq_true rfl)⟩ (Nat.le_of_ble_eq_true rfl) ⟨(Nat.le_of_ble_eq_true rfl), (Nat.le_of_ble_eq_true rfl)⟩ (fun v9 h_63 hv9 => ?_) (fun _ _ _ _ _ z _ _ => False.elim z)
      obtain ⟨rfl, g_64, e_65, hw⟩ := hv9
      have hw := hw g_64 e_65
      show X ρ K_X0_runTold 62 [(0, .ref (mr ρ 1)), (1, .int p1), (2, .int p2)] [] h_63 3 21 (phI h post) (psX h px)
      refine x_iload_n 2 dX0_runTold_62 rfl ?_
      have kJ_71 : ∀ z_70 : Int32, z_70 = ((if p2 = 0 then (gi h_63 1 16) else (if p2 = 1 then (gi h_63 1 17) else (gi h_63 1 19))) : Int32) → X ρ K_X0_runTold 89 [(0, .ref (mr ρ 1)), (1, .int p1), (2, .int p2)] [.int z_70] h_63 3 21 (phI h post) (psX h px) := fun z_70 ez_70 => by
        have hw := hw z_70 ez_70
        exact x_iret dX0_runTold_89 rfl (Nat.le_of_ble_eq_true rfl) (Nat.le_of_ble_eq_true rfl) ⟨_, rfl, g_64, (Ext.tr (Ext.tr (Ext.tr (Ext.tr (Ext.tr (Ext.tr e_3 e_38) e_45) e_50) e_55) e_60) e_65), hw⟩
      refine x_if_ne 73 dX0_runTold_63 (by decide) (fun c_68 => ?_) (fun c_68 => ?_)
      · refine x_iload_n 2 dX0_runTold_73 rfl ?_
        refine x_iconst 1 dX0_runTold_74 (by decide) ?_
        refine x_icmp_ne 85 dX0_runTold_75 (by decide) (fun c_69 => ?_) (fun c_69 => ?_)
        · refine x_aload_n 0 dX0_runTold_85 rfl ?_
          refine x_get (ci := 0) (v := .int (gi h_63 1 19)) 19 dX0_runTold_86 (GI.s g_64 (t := (10, 0)) rfl (by decide)) rfl in_X0 (by decide) q208 (Or.inl rfl) (fv_i rfl) ?_
          exact kJ_71 _ (((if_neg c_68).trans (if_neg c_69))).symm
        · refine x_aload_n 0 dX0_runTold_78 rfl ?_
          refine x_get (ci := 0) (v := .int (gi h_63 1 17)) 17 dX0_runTold_79 (GI.s g_64 (t := (10, 0)) rfl (by decide)) rfl in_X0 (by decide) q206 (Or.inl rfl) (fv_i rfl) ?_
          refine x_goto 89 dX0_runTold_82 (by decide) ?_
          exact kJ_71 _ (((if_neg c_68).trans (if_pos c_69))).symm
      · refine x_aload_n 0 dX0_runTold_66 rfl ?_
        refine x_get (ci := 0) (v := .int (gi h_63 1 16)) 16 dX0_runTold_67 (GI.s g_64 (t := (10, 0)) rfl (by decide)) rfl in_X0 (by decide) q205 (Or.inl rfl) (fv_i rfl) ?_
        refine x_goto 89 dX0_runTold_70 (by decide) ?_
        exact kJ_71 _ ((if_pos c_68)).symm
    refine x_if_eq 34 dX0_runTold_27 (by decide) (fun c_41 => ?_) (fun c_41 => ?_)
    · refine x_iconst 0 dX0_runTold_34 (by decide) ?_
      exact kJ_72 _ ((if_pos c_41)).symm
    · refine x_iconst 1 dX0_runTold_30 (by decide) ?_
      refine x_goto 35 dX0_runTold_31 (by decide) ?_
      exact kJ_72 _ ((if_neg c_41)).symm

/-! BeforeTheEnd.ones(I)I -/
def w_X0_ones_4 (post : Int32 → Hp → Prop) : Nat → Int32 → Int32 → Hp → Prop
  | 0 => fun _ _ _ => False
  | n + 1 => fun x1 x2 h => ((x2 = 0 → (post x1 h)) ∧ (¬ x2 = 0 → (w_X0_ones_4 post n (x1 + 1) (x2 &&& (x2 - 1)) h)))
def wp_X0_ones (post : Int32 → Hp → Prop) (h : Hp) (p1 : Int32) : Prop := (∃ fu : Nat, w_X0_ones_4 post fu 0 p1 h)
abbrev rm_X0_ones : Room := ({ frames := 1, cells := 0, slots := 0, locals := 60 })
abbrev K_X0_ones : Kx := ("BeforeTheEnd", cX0_ones, 3, (Option.some Jvm.ClassFile.FieldType.int), rm_X0_ones, [], false)
set_option maxHeartbeats 4000000 in
theorem t_X0_ones_4 {ρ : Rho} {h0 : Hp} {post : Int32 → Hp → Prop} (G : G0 ρ) :
    ∀ (n : Nat), ∀ (x1 : Int32) (x2 : Int32) (h : Hp), GI h → Ext h0 h → w_X0_ones_4 post n x1 x2 h → X ρ K_X0_ones 4 [(1, .int x1), (2, .int x2)] [] h 0 0 (phI h0 post) psN := by
  intro n
  induction n with
  | zero => intro x1 x2 h g e hw; exact False.elim hw
  | succ n ih =>
    intro x1 x2 h g e hw
    refine x_iload_n 1 dX0_ones_4 rfl ?_
    obtain ⟨wt_2, wf_3⟩ := hw
    refine x_if_eq 20 dX0_ones_5 (by decide) (fun c_1 => ?_) (fun c_1 => ?_)
    · have hw := wt_2 c_1
      refine x_iload_n 0 dX0_ones_20 rfl ?_
      exact x_iret dX0_ones_21 rfl (Nat.le_of_ble_eq_true rfl) (Nat.le_of_ble_eq_true rfl) ⟨_, rfl, g, e, hw⟩
    · have hw := wf_3 c_1
      refine x_iinc (v := (x1 + 1)) (lv' := [(1, .int (x1 + 1)), (2, .int x2)]) 0 dX0_ones_8 rfl (by rfl) (Nat.le_of_ble_eq_true rfl) rfl ?_
      refine x_iload_n 1 dX0_ones_11 rfl ?_
      refine x_iload_n 1 dX0_ones_12 rfl ?_
      refine x_iconst 1 dX0_ones_13 (by decide) ?_
      refine x_isub dX0_ones_14 ?_
      refine x_iand dX0_ones_15 ?_
      refine x_istore_n (lv' := [(2, .int (x2 &&& (x2 - 1))), (1, .int (x1 + 1))]) dX0_ones_16 (Nat.le_of_ble_eq_true rfl) rfl ?_
      refine x_goto 4 dX0_ones_17 (by decide) ?_
      refine X.sub [1, 0] rfl ?_
      exact ih (x1 + 1) (x2 &&& (x2 - 1)) h g e hw
set_option maxHeartbeats 4000000 in
theorem k_X0_ones {ρ : Rho} {h : Hp} {post : Int32 → Hp → Prop} {p1 : Int32} (G : G0 ρ) (g : GI h) (hw : wp_X0_ones post h p1) : Con ρ yX0_ones (ws_ yX0_ones cX0_ones 3 (Option.some Jvm.ClassFile.FieldType.int)) rm_X0_ones [.int p1] h (phI h post) psN := by
  refine con_of (own := "BeforeTheEnd") (isI := false) (l0 := [(0, .int p1)]) (by decide) rfl (fun z => by cases z) (Nat.le_of_ble_eq_true rfl) rfl (fun _ => ?_)
  show X ρ K_X0_ones 0 [(0, .int p1)] [] h 0 0 (phI h post) psN
  refine x_iconst 0 dX0_ones_0 (by decide) ?_
  refine x_istore_n (lv' := [(1, .int 0), (0, .int p1)]) dX0_ones_1 (Nat.le_of_ble_eq_true rfl) rfl ?_
  refine x_iload_n 1 dX0_ones_2 rfl ?_
  refine x_istore_n (lv' := [(2, .int p1), (1, .int 0), (0, .int p1)]) dX0_ones_3 (Nat.le_of_ble_eq_true rfl) rfl ?_
  refine X.sub [1, 0] rfl ?_
  obtain ⟨fu, hw⟩ := hw
  exact t_X0_ones_4 G  fu 0 p1 h g Ext.rf hw

/-! BeforeTheEnd.runAll()V -/
def w_X0_runAll_132 (post : Hp → Prop) (K39 : Int32 → Hp → Prop) : Nat → Int32 → Int64 → Int32 → Hp → Prop
  | 0 => fun _ _ _ _ => False
  | n + 1 => fun x1 x2 x4 h => (((gi h 1 3) ≤ x4 → (K39 (x1 + 1) h)) ∧ (¬ (gi h 1 3) ≤ x4 → (vp_in x4 4 ∧ (∀ z_4 : Int64, z_4 = ((if (gi h 1 16) = x4 then x2 else 0) : Int64) → (vp_in x4 4 ∧ (vp_in x4 4 ∧ (vp_in x4 4 ∧ (vp_in x4 4 ∧ (∀ h_9 : Hp, h_9 = (sl (sl h 20 (Int32.toNatClampNeg x4) ((gl h 20 (Int32.toNatClampNeg x4)) + z_4)) 21 (Int32.toNatClampNeg x4) ((gl (sl h 20 (Int32.toNatClampNeg x4) ((gl h 20 (Int32.toNatClampNeg x4)) + z_4)) 21 (Int32.toNatClampNeg x4)) + (x2 * (Int32.toInt64 (gi (sl h 20 (Int32.toNatClampNeg x4) ((gl h 20 (Int32.toNatClampNeg x4)) + z_4)) 18 (Int32.toNatClampNeg x4)))))) → (w_X0_runAll_132 post K39 n x1 x2 (x4 + 1) h_9))))))))))
def w_X0_runAll_39 (post : Hp → Prop) : Nat → Int32 → Hp → Prop
  | 0 => fun _ _ => False
  | n + 1 => fun x1 h => (((gi h (gr h 1 1) 0) ≤ x1 → (post h)) ∧ (¬ (gi h (gr h 1 1) 0) ≤ x1 → (wp_X1_isEnd (fun r_5 h_2 => GI h_2 → Ext h h_2 → ((r_5 = 0 → (w_X0_runAll_39 post n (x1 + 1) h_2)) ∧ (¬ r_5 = 0 → (wp_X0_runTo (fun h_8 => GI h_8 → Ext h_2 h_8 → (wp_X1_units (fun r_16 h_13 => GI h_13 → Ext h_8 h_13 → (∀ z_19 : Int64, z_19 = ((if (gi h_13 1 16) = (-9) then r_16 else 0) : Int64) → (∀ z_22 : Int64, z_22 = ((if (gi (sl h_13 1 24 ((gl h_13 1 24) + z_19)) 1 17) = (-9) then r_16 else (if (gi (sl h_13 1 24 ((gl h_13 1 24) + z_19)) 1 17) = x1 then r_16 else 0)) : Int64) → (∃ fu : Nat, w_X0_runAll_132 post (w_X0_runAll_39 post n) fu x1 r_16 0 (sl (sl h_13 1 24 ((gl h_13 1 24) + z_19)) 1 25 ((gl (sl h_13 1 24 ((gl h_13 1 24) + z_19)) 1 25) + z_22)))))) h_8 (gr h_8 1 1) x1)) h_2 x1)))) h (gr h 1 1) x1)))
def w_X0_runAll_12 (post : Hp → Prop) : Nat → Int32 → Hp → Prop
  | 0 => fun _ _ => False
  | n + 1 => fun x1 h => ((4 ≤ x1 → (∃ fu : Nat, w_X0_runAll_39 post fu 1 h)) ∧ (¬ 4 ≤ x1 → (vp_in x1 4 ∧ (vp_in x1 4 ∧ (w_X0_runAll_12 post n (x1 + 1) (sl (sl h 20 (Int32.toNatClampNeg x1) 0) 21 (Int32.toNatClampNeg x1) 0))))))
def wp_X0_runAll (post : Hp → Prop) (h : Hp) : Prop := (∃ fu : Nat, w_X0_runAll_12 post fu 0 (sl (sl h 1 24 0) 1 25 0))
abbrev rm_X0_runAll : Room := ({ frames := 12, cells := 0, slots := 0, locals := 336 })
abbrev K_X0_runAll : Kx := ("BeforeTheEnd", cX0_runAll, 5, (Option.none : Option Jvm.ClassFile.FieldType), rm_X0_runAll, [], false)
set_option maxHeartbeats 4000000 in
theorem t_X0_runAll_132 {ρ : Rho} {h0 : Hp} {post : Hp → Prop} {K39 : Int32 → Hp → Prop} (G : G0 ρ) (hK39 : ∀ (x1 : Int32) (h : Hp), GI h → Ext h0 h → K39 x1 h → X ρ K_X0_runAll 39 [(0, .ref (mr ρ 1)), (1, .int x1)] [] h 0 0 (phV h0 post) psN) :
    ∀ (n : Nat), ∀ (x1 : Int32) (x2 : Int64) (x4 : Int32) (h : Hp), GI h → Ext h0 h → w_X0_runAll_132 post K39 n x1 x2 x4 h → X ρ K_X0_runAll 132 [(0, .ref (mr ρ 1)), (1, .int x1), (2, .long x2), (4, .int x4)] [] h 0 0 (phV h0 post) psN := by
  intro n
  induction n with
  | zero => intro x1 x2 x4 h g e hw; exact False.elim hw
  | succ n ih =>
    intro x1 x2 x4 h g e hw
    refine x_iload 3 dX0_runAll_132 rfl ?_
    refine x_aload_n 0 dX0_runAll_134 rfl ?_
    refine x_get (ci := 0) (v := .int (gi h 1 3)) 3 dX0_runAll_135 (GI.s g (t := (10, 0)) rfl (by decide)) rfl in_X0 (by decide) q190 (Or.inl rfl) (fv_i rfl) ?_
    obtain ⟨wt_13, wf_14⟩ := hw
    refine x_icmp_ge 191 dX0_runAll_138 (by decide) (fun c_1 => ?_) (fun c_1 => ?_)
    · have hw := wt_13 c_1
      refine x_iinc (v := (x1 + 1)) (lv' := [(1, .int (x1 + 1)), (0, .ref (mr ρ 1)), (2, .long x2), (4, .int x4)]) 1 dX0_runAll_191 rfl (by rfl) (Nat.le_of_ble_eq_true rfl) rfl ?_
      refine x_goto 39 dX0_runAll_194 (by decide) ?_
      refine X.sub [1, 0] rfl ?_
      exact hK39 (x1 + 1) h g e hw
    · have hw := wf_14 c_1
      refine x_aload_n 0 dX0_runAll_141 rfl ?_
      refine x_get (ci := 0) (v := .ref (mr ρ 20)) 22 dX0_runAll_142 (GI.s g (t := (10, 0)) rfl (by decide)) rfl in_X0 (by decide) q211 (Or.inl rfl) (fv_rc rfl (GI.x g (n := 20) rfl (by decide)) (by decide)) ?_
      refine x_iload 3 dX0_runAll_145 rfl ?_
      refine x_dup2 dX0_runAll_147 rfl rfl ?_
      obtain ⟨b_2, hw⟩ := hw
      refine x_lald (n := 4) (j := (Int32.toNatClampNeg x4)) dX0_runAll_148 rfl (GI.s g (t := (2, 4)) rfl (by decide)) b_2 ?_
      refine x_aload_n 0 dX0_runAll_149 rfl ?_
      refine x_get (ci := 0) (v := .int (gi h 1 16)) 16 dX0_runAll_150 (GI.s g (t := (10, 0)) rfl (by decide)) rfl in_X0 (by decide) q205 (Or.inl rfl) (fv_i rfl) ?_
      refine x_iload 3 dX0_runAll_153 rfl ?_
      have kJ_12 : ∀ z_4 : Int64, z_4 = ((if (gi h 1 16) = x4 then x2 else 0) : Int64) → X ρ K_X0_runAll 163 [(0, .ref (mr ρ 1)), (1, .int x1), (2, .long x2), (4, .int x4)] [.long z_4, .long (gl h 20 (Int32.toNatClampNeg x4)), .int x4, .ref (mr ρ 20)] h 0 0 (phV h0 post) psN := fun z_4 ez_4 => by
        have hw := hw z_4 ez_4
        refine x_ladd dX0_runAll_163 ?_
        obtain ⟨b_5, hw⟩ := hw
        refine x_last (n := 4) (j := (Int32.toNatClampNeg x4)) dX0_runAll_164 rfl (GI.s g (t := (2, 4)) rfl (by decide)) b_5 ?_
        refine x_aload_n 0 dX0_runAll_165 rfl ?_
        refine x_get (ci := 0) (v := .ref (mr ρ 21)) 23 dX0_runAll_166 (GI.s (GI.l g) (t := (10, 0)) rfl (by decide)) rfl in_X0 (by decide) q212 (Or.inl rfl) (fv_rc rfl (GI.x (GI.l g) (n := 21) rfl (by decide)) (by decide)) ?_
        refine x_iload 3 dX0_runAll_169 rfl ?_
        refine x_dup2 dX0_runAll_171 rfl rfl ?_
        obtain ⟨b_6, hw⟩ := hw
        refine x_lald (n := 4) (j := (Int32.toNatClampNeg x4)) dX0_runAll_172 rfl (GI.s (GI.l g) (t := (2, 4)) rfl (by decide)) b_6 ?_
        refine x_lload_n 2 dX0_runAll_173 rfl ?_
        refine x_aload_n 0 dX0_runAll_174 rfl ?_
        refine x_get (ci := 0) (v := .ref (mr ρ 18)) 20 dX0_runAll_175 (GI.s (GI.l g) (t := (10, 0)) rfl (by decide)) rfl in_X0 (by decide) q209 (Or.inl rfl) (fv_rc rfl (GI.x (GI.l g) (n := 18) rfl (by decide)) (by decide)) ?_
        refine x_iload 3 dX0_runAll_178 rfl ?_
        obtain ⟨b_7, hw⟩ := hw
        refine x_iald (n := 4) (j := (Int32.toNatClampNeg x4)) dX0_runAll_180 rfl (GI.s (GI.l g) (t := (1, 4)) rfl (by decide)) b_7 ?_
        refine x_i2l dX0_runAll_181 ?_
        refine x_lmul dX0_runAll_182 ?_
        refine x_ladd dX0_runAll_183 ?_
        obtain ⟨b_8, hw⟩ := hw
        refine x_last (n := 4) (j := (Int32.toNatClampNeg x4)) dX0_runAll_184 rfl (GI.s (GI.l g) (t := (2, 4)) rfl (by decide)) b_8 ?_
        refine x_nmh (fun h_9 eh_9 => ?_)
        have hw := hw h_9 eh_9
        have g_10 : GI h_9 := eh_9 ▸ (GI.l (GI.l g))
        have e_11 : Ext h0 h_9 := eh_9 ▸ (Ext.l (Ext.l e))
        refine x_iinc (v := (x4 + 1)) (lv' := [(4, .int (x4 + 1)), (0, .ref (mr ρ 1)), (1, .int x1), (2, .long x2)]) 3 dX0_runAll_185 rfl (by rfl) (Nat.le_of_ble_eq_true rfl) rfl ?_
        refine x_goto 132 dX0_runAll_188 (by decide) ?_
        refine X.sub [1, 2, 3, 0] rfl ?_
        exact ih x1 x2 (x4 + 1) h_9 g_10 e_11 hw
      refine x_icmp_ne 162 dX0_runAll_155 (by decide) (fun c_3 => ?_) (fun c_3 => ?_)
      · refine x_lconst 0 dX0_runAll_162 (by decide) ?_
        exact kJ_12 _ ((if_neg c_3)).symm
      · refine x_lload_n 2 dX0_runAll_158 rfl ?_
        refine x_goto 163 dX0_runAll_159 (by decide) ?_
        exact kJ_12 _ ((if_pos c_3)).symm
set_option maxHeartbeats 4000000 in
theorem t_X0_runAll_39 {ρ : Rho} {h0 : Hp} {post : Hp → Prop} (G : G0 ρ) :
    ∀ (n : Nat), ∀ (x1 : Int32) (h : Hp), GI h → Ext h0 h → w_X0_runAll_39 post n x1 h → X ρ K_X0_runAll 39 [(0, .ref (mr ρ 1)), (1, .int x1)] [] h 0 0 (phV h0 post) psN := by
  intro n
  induction n with
  | zero => intro x1 h g e hw; exact False.elim hw
  | succ n ih =>
    intro x1 h g e hw
    refine x_iload_n 1 dX0_runAll_39 rfl ?_
    refine x_aload_n 0 dX0_runAll_40 rfl ?_
    refine x_get (ci := 0) (v := .ref (mr ρ (gr h 1 1))) 1 dX0_runAll_41 (GI.s g (t := (10, 0)) rfl (by decide)) rfl in_X0 (by decide) q188 (Or.inl rfl) (fv_rc rfl rfl (isTree.nz (GI.t g) (GI.live g))) ?_
    refine x_getN (ci := 1) (v := .int (gi h (gr h 1 1) 0)) 0 dX0_runAll_44 (isTree.s (GI.t g)) rfl in_X1 (by decide) q147 (Or.inl rfl) (fv_i rfl) ?_
    obtain ⟨wt_27, wf_28⟩ := hw
    refine x_icmp_ge 197 dX0_runAll_47 (by decide) (fun c_1 => ?_) (fun c_1 => ?_)
    · have hw := wt_27 c_1
      exact x_vret dX0_runAll_197 rfl (Nat.le_of_ble_eq_true rfl) (Nat.le_of_ble_eq_true rfl) ⟨rfl, g, e, hw⟩
    · have hw := wf_28 c_1
      refine x_aload_n 0 dX0_runAll_50 rfl ?_
      refine x_get (ci := 0) (v := .ref (mr ρ (gr h 1 1))) 1 dX0_runAll_51 (GI.s g (t := (10, 0)) rfl (by decide)) rfl in_X0 (by decide) q188 (Or.inl rfl) (fv_rc rfl rfl (isTree.nz (GI.t g) (GI.live g))) ?_
      refine x_iload_n 1 dX0_runAll_54 rfl ?_
      refine x_callV (ci := 1) [.int x1] 1 dX0_runAll_55 (k_X1_isEnd G g (GI.t g) hw) (isTree.s (GI.t g)) rfl q870 q723 q724 q105 q725 (by decide) rfl rfl ⟨(Nat.le_of_ble_eq_true rfl), (Nat.le_of_ble_eq_true rfl)⟩ (Nat.le_of_ble_eq_true rfl) ⟨(Nat.le_of_ble_eq_true rfl), (Nat.le_of_ble_eq_true rfl)⟩ (fun v9 h_2 hv9 => ?_) (fun _ _ _ _ _ z _ _ => False.elim z)
      obtain ⟨r_5, rfl, g_3, e_4, b_6, hw⟩ := hv9
      have hw := hw g_3 e_4
      show X ρ K_X0_runAll 58 [(0, .ref (mr ρ 1)), (1, .int x1)] [.int r_5] h_2 0 0 (phV h0 post) psN
      obtain ⟨wt_25, wf_26⟩ := hw
      refine x_if_eq 191 dX0_runAll_58 (by decide) (fun c_7 => ?_) (fun c_7 => ?_)
      · have hw := wt_25 c_7
        refine x_iinc (v := (x1 + 1)) (lv' := [(1, .int (x1 + 1)), (0, .ref (mr ρ 1))]) 1 dX0_runAll_191 rfl (by rfl) (Nat.le_of_ble_eq_true rfl) rfl ?_
        refine x_goto 39 dX0_runAll_194 (by decide) ?_
        refine X.sub [1, 0] rfl ?_
        exact ih (x1 + 1) h_2 g_3 (Ext.tr e e_4) hw
      · have hw := wf_26 c_7
        refine x_aload_n 0 dX0_runAll_61 rfl ?_
        refine x_iload_n 1 dX0_runAll_62 rfl ?_
        refine x_callV (ci := 0) [.int x1] 1 dX0_runAll_63 (k_X0_runTo G g_3 hw) (GI.s g_3 (t := (10, 0)) rfl (by decide)) rfl q921 q923 qs30 q104 q924 (by decide) rfl rfl ⟨(Nat.le_of_ble_eq_true rfl), (Nat.le_of_ble_eq_true rfl)⟩ (Nat.le_of_ble_eq_true rfl) ⟨(Nat.le_of_ble_eq_true rfl), (Nat.le_of_ble_eq_true rfl)⟩ (fun v9 h_8 hv9 => ?_) (fun _ _ _ _ _ z _ _ => False.elim z)
        obtain ⟨rfl, g_9, e_10, hw⟩ := hv9
        have hw := hw g_9 e_10
        show X ρ K_X0_runAll 66 [(0, .ref (mr ρ 1)), (1, .int x1)] [] h_8 0 0 (phV h0 post) psN
        refine x_aload_n 0 dX0_runAll_66 rfl ?_
        refine x_get (ci := 0) (v := .ref (mr ρ (gr h_8 1 1))) 1 dX0_runAll_67 (GI.s g_9 (t := (10, 0)) rfl (by decide)) rfl in_X0 (by decide) q188 (Or.inl rfl) (fv_rc rfl rfl (isTree.nz (GI.t g_9) (GI.live g_9))) ?_
        refine x_iload_n 1 dX0_runAll_70 rfl ?_
        refine x_callV (ci := 1) [.int x1] 1 dX0_runAll_71 (k_X1_units G g_9 (GI.t g_9) hw) (isTree.s (GI.t g_9)) rfl q872 q873 q874 q105 q875 (by decide) rfl rfl ⟨(Nat.le_of_ble_eq_true rfl), (Nat.le_of_ble_eq_true rfl)⟩ (Nat.le_of_ble_eq_true rfl) ⟨(Nat.le_of_ble_eq_true rfl), (Nat.le_of_ble_eq_true rfl)⟩ (fun v9 h_13 hv9 => ?_) (fun _ _ _ _ _ z _ _ => False.elim z)
        obtain ⟨r_16, rfl, g_14, e_15, hw⟩ := hv9
        have hw := hw g_14 e_15
        show X ρ K_X0_runAll 74 [(0, .ref (mr ρ 1)), (1, .int x1)] [.long r_16] h_13 0 0 (phV h0 post) psN
        refine x_lstore_n (lv' := [(2, .long r_16), (0, .ref (mr ρ 1)), (1, .int x1)]) dX0_runAll_74 (Nat.le_of_ble_eq_true rfl) rfl ?_
        refine x_aload_n 1 dX0_runAll_75 rfl ?_
        refine x_dup dX0_runAll_76 rfl ?_
        refine x_get (ci := 0) (v := .long (gl h_13 1 24)) 24 dX0_runAll_77 (GI.s g_14 (t := (10, 0)) rfl (by decide)) rfl in_X0 (by decide) q213 (Or.inl rfl) (fv_l rfl) ?_
        refine x_aload_n 1 dX0_runAll_80 rfl ?_
        refine x_get (ci := 0) (v := .int (gi h_13 1 16)) 16 dX0_runAll_81 (GI.s g_14 (t := (10, 0)) rfl (by decide)) rfl in_X0 (by decide) q205 (Or.inl rfl) (fv_i rfl) ?_
        refine x_bipush (-9) dX0_runAll_84 (by decide) ?_
        have kJ_24 : ∀ z_19 : Int64, z_19 = ((if (gi h_13 1 16) = (-9) then r_16 else 0) : Int64) → X ρ K_X0_runAll 94 [(2, .long r_16), (0, .ref (mr ρ 1)), (1, .int x1)] [.long z_19, .long (gl h_13 1 24), .ref (mr ρ 1)] h_13 0 0 (phV h0 post) psN := fun z_19 ez_19 => by
          have hw := hw z_19 ez_19
          refine x_ladd dX0_runAll_94 ?_
          refine x_put (ci := 0) 24 dX0_runAll_95 (GI.s g_14 (t := (10, 0)) rfl (by decide)) rfl in_X0 tyX0 tyX0_ok nmX0 (by decide) q213 (Or.inl rfl) rfl rfl rfl (isPut_l rfl) ?_
          refine x_aload_n 1 dX0_runAll_98 rfl ?_
          refine x_dup dX0_runAll_99 rfl ?_
          refine x_get (ci := 0) (v := .long (gl (sl h_13 1 24 ((gl h_13 1 24) + z_19)) 1 25)) 25 dX0_runAll_100 (GI.s (GI.l g_14) (t := (10, 0)) rfl (by decide)) rfl in_X0 (by decide) q214 (Or.inl rfl) (fv_l rfl) ?_
          refine x_aload_n 1 dX0_runAll_103 rfl ?_
          refine x_get (ci := 0) (v := .int (gi (sl h_13 1 24 ((gl h_13 1 24) + z_19)) 1 17)) 17 dX0_runAll_104 (GI.s (GI.l g_14) (t := (10, 0)) rfl (by decide)) rfl in_X0 (by decide) q206 (Or.inl rfl) (fv_i rfl) ?_
          refine x_bipush (-9) dX0_runAll_107 (by decide) ?_
          have kJ_23 : ∀ z_22 : Int64, z_22 = ((if (gi (sl h_13 1 24 ((gl h_13 1 24) + z_19)) 1 17) = (-9) then r_16 else (if (gi (sl h_13 1 24 ((gl h_13 1 24) + z_19)) 1 17) = x1 then r_16 else 0)) : Int64) → X ρ K_X0_runAll 125 [(2, .long r_16), (0, .ref (mr ρ 1)), (1, .int x1)] [.long z_22, .long (gl (sl h_13 1 24 ((gl h_13 1 24) + z_19)) 1 25), .ref (mr ρ 1)] (sl h_13 1 24 ((gl h_13 1 24) + z_19)) 0 0 (phV h0 post) psN := fun z_22 ez_22 => by
            have hw := hw z_22 ez_22
            refine x_ladd dX0_runAll_125 ?_
            refine x_put (ci := 0) 25 dX0_runAll_126 (GI.s (GI.l g_14) (t := (10, 0)) rfl (by decide)) rfl in_X0 tyX0 tyX0_ok nmX0 (by decide) q214 (Or.inl rfl) rfl rfl rfl (isPut_l rfl) ?_
            refine x_iconst 0 dX0_runAll_129 (by decide) ?_
            refine x_istore (lv' := [(4, .int 0), (2, .long r_16), (0, .ref (mr ρ 1)), (1, .int x1)]) dX0_runAll_130 (Nat.le_of_ble_eq_true rfl) rfl ?_
            refine X.sub [2, 3, 1, 0] rfl ?_
            obtain ⟨fu, hw⟩ := hw
            exact t_X0_runAll_132 G ih fu x1 r_16 0 (sl (sl h_13 1 24 ((gl h_13 1 24) + z_19)) 1 25 ((gl (sl h_13 1 24 ((gl h_13 1 24) + z_19)) 1 25) + z_22)) (GI.l (GI.l g_14)) (Ext.l (Ext.l (Ext.tr (Ext.tr (Ext.tr e e_4) e_10) e_15))) hw
          refine x_icmp_eq 120 dX0_runAll_109 (by decide) (fun c_20 => ?_) (fun c_20 => ?_)
          · refine x_lload_n 0 dX0_runAll_120 rfl ?_
            refine x_goto 125 dX0_runAll_121 (by decide) ?_
            exact kJ_23 _ ((if_pos c_20)).symm
          · refine x_aload_n 1 dX0_runAll_112 rfl ?_
            refine x_get (ci := 0) (v := .int (gi (sl h_13 1 24 ((gl h_13 1 24) + z_19)) 1 17)) 17 dX0_runAll_113 (GI.s (GI.l g_14) (t := (10, 0)) rfl (by decide)) rfl in_X0 (by decide) q206 (Or.inl rfl) (fv_i rfl) ?_
            refine x_iload_n 2 dX0_runAll_116 rfl ?_
            refine x_icmp_ne 124 dX0_runAll_117 (by decide) (fun c_21 => ?_) (fun c_21 => ?_)
            · refine x_lconst 0 dX0_runAll_124 (by decide) ?_
              exact kJ_23 _ (((if_neg c_20).trans (if_neg c_21))).symm
            · refine x_lload_n 0 dX0_runAll_120 rfl ?_
              refine x_goto 125 dX0_runAll_121 (by decide) ?_
              exact kJ_23 _ (((if_neg c_20).trans (if_pos c_21))).symm
        refine x_icmp_ne 93 dX0_runAll_86 (by decide) (fun c_18 => ?_) (fun c_18 => ?_)
        · refine x_lconst 0 dX0_runAll_93 (by decide) ?_
          exact kJ_24 _ ((if_neg c_18)).symm
        · refine x_lload_n 0 dX0_runAll_89 rfl ?_
          refine x_goto 94 dX0_runAll_90 (by decide) ?_
          exact kJ_24 _ ((if_pos c_18)).symm
set_option maxHeartbeats 4000000 in
theorem t_X0_runAll_12 {ρ : Rho} {h0 : Hp} {post : Hp → Prop} (G : G0 ρ) :
    ∀ (n : Nat), ∀ (x1 : Int32) (h : Hp), GI h → Ext h0 h → w_X0_runAll_12 post n x1 h → X ρ K_X0_runAll 12 [(0, .ref (mr ρ 1)), (1, .int x1)] [] h 0 0 (phV h0 post) psN := by
  intro n
  induction n with
  | zero => intro x1 h g e hw; exact False.elim hw
  | succ n ih =>
    intro x1 h g e hw
    refine x_iload_n 1 dX0_runAll_12 rfl ?_
    refine x_iconst 4 dX0_runAll_13 (by decide) ?_
    obtain ⟨wt_4, wf_5⟩ := hw
    refine x_icmp_ge 37 dX0_runAll_14 (by decide) (fun c_1 => ?_) (fun c_1 => ?_)
    · have hw := wt_4 c_1
      refine x_iconst 1 dX0_runAll_37 (by decide) ?_
      refine x_istore_n (lv' := [(1, .int 1), (0, .ref (mr ρ 1))]) dX0_runAll_38 (Nat.le_of_ble_eq_true rfl) rfl ?_
      refine X.sub [1, 0] rfl ?_
      obtain ⟨fu, hw⟩ := hw
      exact t_X0_runAll_39 G  fu 1 h g e hw
    · have hw := wf_5 c_1
      refine x_aload_n 0 dX0_runAll_17 rfl ?_
      refine x_get (ci := 0) (v := .ref (mr ρ 20)) 22 dX0_runAll_18 (GI.s g (t := (10, 0)) rfl (by decide)) rfl in_X0 (by decide) q211 (Or.inl rfl) (fv_rc rfl (GI.x g (n := 20) rfl (by decide)) (by decide)) ?_
      refine x_iload_n 1 dX0_runAll_21 rfl ?_
      refine x_lconst 0 dX0_runAll_22 (by decide) ?_
      obtain ⟨b_2, hw⟩ := hw
      refine x_last (n := 4) (j := (Int32.toNatClampNeg x1)) dX0_runAll_23 rfl (GI.s g (t := (2, 4)) rfl (by decide)) b_2 ?_
      refine x_aload_n 0 dX0_runAll_24 rfl ?_
      refine x_get (ci := 0) (v := .ref (mr ρ 21)) 23 dX0_runAll_25 (GI.s (GI.l g) (t := (10, 0)) rfl (by decide)) rfl in_X0 (by decide) q212 (Or.inl rfl) (fv_rc rfl (GI.x (GI.l g) (n := 21) rfl (by decide)) (by decide)) ?_
      refine x_iload_n 1 dX0_runAll_28 rfl ?_
      refine x_lconst 0 dX0_runAll_29 (by decide) ?_
      obtain ⟨b_3, hw⟩ := hw
      refine x_last (n := 4) (j := (Int32.toNatClampNeg x1)) dX0_runAll_30 rfl (GI.s (GI.l g) (t := (2, 4)) rfl (by decide)) b_3 ?_
      refine x_iinc (v := (x1 + 1)) (lv' := [(1, .int (x1 + 1)), (0, .ref (mr ρ 1))]) 1 dX0_runAll_31 rfl (by rfl) (Nat.le_of_ble_eq_true rfl) rfl ?_
      refine x_goto 12 dX0_runAll_34 (by decide) ?_
      refine X.sub [1, 0] rfl ?_
      exact ih (x1 + 1) (sl (sl h 20 (Int32.toNatClampNeg x1) 0) 21 (Int32.toNatClampNeg x1) 0) (GI.l (GI.l g)) (Ext.l (Ext.l e)) hw
set_option maxHeartbeats 4000000 in
theorem k_X0_runAll {ρ : Rho} {h : Hp} {post : Hp → Prop} (G : G0 ρ) (g : GI h) (hw : wp_X0_runAll post h) : Con ρ yX0_runAll (ws_ yX0_runAll cX0_runAll 5 (Option.none : Option Jvm.ClassFile.FieldType)) rm_X0_runAll [.ref (mr ρ 1)] h (phV h post) psN := by
  refine con_of (own := "BeforeTheEnd") (isI := false) (l0 := [(0, .ref (mr ρ 1))]) (by decide) rfl (fun z => by cases z) (Nat.le_of_ble_eq_true rfl) rfl (fun _ => ?_)
  show X ρ K_X0_runAll 0 [(0, .ref (mr ρ 1))] [] h 0 0 (phV h post) psN
  refine x_aload_n 0 dX0_runAll_0 rfl ?_
  refine x_lconst 0 dX0_runAll_1 (by decide) ?_
  refine x_put (ci := 0) 24 dX0_runAll_2 (GI.s g (t := (10, 0)) rfl (by decide)) rfl in_X0 tyX0 tyX0_ok nmX0 (by decide) q213 (Or.inl rfl) rfl rfl rfl (isPut_l rfl) ?_
  refine x_aload_n 0 dX0_runAll_5 rfl ?_
  refine x_lconst 0 dX0_runAll_6 (by decide) ?_
  refine x_put (ci := 0) 25 dX0_runAll_7 (GI.s (GI.l g) (t := (10, 0)) rfl (by decide)) rfl in_X0 tyX0 tyX0_ok nmX0 (by decide) q214 (Or.inl rfl) rfl rfl rfl (isPut_l rfl) ?_
  refine x_iconst 0 dX0_runAll_10 (by decide) ?_
  refine x_istore_n (lv' := [(1, .int 0), (0, .ref (mr ρ 1))]) dX0_runAll_11 (Nat.le_of_ble_eq_true rfl) rfl ?_
  refine X.sub [1, 0] rfl ?_
  obtain ⟨fu, hw⟩ := hw
  exact t_X0_runAll_12 G  fu 0 (sl (sl h 1 24 0) 1 25 0) (GI.l (GI.l g)) (Ext.l (Ext.l Ext.rf)) hw

/-! BeforeTheEnd.replyOf(II)I -/
def w_X0_replyOf_60 (post : Int32 → Hp → Prop) (K45 : Int32 → Int32 → Nat → Nat → Int32 → Int64 → Int32 → Hp → Prop) : Nat → Int32 → Int32 → Nat → Nat → Int32 → Int64 → Int32 → Int32 → Hp → Prop
  | 0 => fun _ _ _ _ _ _ _ _ _ => False
  | n + 1 => fun x1 x2 x3 x4 x5 x6 x8 x9 h => ((x8 < x9 → (K45 x1 x2 x3 x4 x5 x6 (x8 + 1) h)) ∧ (¬ x8 < x9 → (∀ z_3 : Int32, z_3 = ((if x8 = 0 then 0 else (1 <<< (x8 &&& 31))) : Int32) → (∀ z_5 : Int32, z_5 = ((if x9 = 0 then 0 else (1 <<< (x9 &&& 31))) : Int32) → (wp_X0_ones (fun r_9 h_6 => GI h_6 → Ext h h_6 → (∀ z_14 : Int32, z_14 = ((if x2 < r_9 then 0 else (if x9 = x8 then (if x8 = 0 then 1 else 0) else 1)) : Int32) → ((z_14 = 0 → (w_X0_replyOf_60 post K45 n x1 x2 x3 x4 x5 x6 x8 (x9 + 1) h_6)) ∧ (¬ z_14 = 0 → (wp_X0_runAll (fun h_16 => GI h_16 → Ext (si h_6 x4 3 (z_3 ||| z_5)) h_16 → (vp_in x1 4 ∧ (∀ x12_22 : Int64, x12_22 = (gl h_16 21 (Int32.toNatClampNeg x1)) → (∀ z_24 : Int32, z_24 = ((if x8 = 0 then 1 else 0) : Int32) → (wp_X0_ones (fun r_28 h_25 => GI h_25 → Ext h_16 h_25 → (wp_X0_ones (fun r_33 h_30 => GI h_30 → Ext h_25 h_30 → ((r_28 < r_33 → ((¬ z_24 = 0 → (w_X0_replyOf_60 post K45 n x1 x2 x3 x4 (z_3 ||| z_5) x12_22 x8 (x9 + 1) h_30)) ∧ (z_24 = 0 → ((x6 < x12_22 → (w_X0_replyOf_60 post K45 n x1 x2 x3 x4 (z_3 ||| z_5) x12_22 x8 (x9 + 1) h_30)) ∧ (¬ x6 < x12_22 → ((¬ x12_22 = x6 → (w_X0_replyOf_60 post K45 n x1 x2 x3 x4 x5 x6 x8 (x9 + 1) h_30)) ∧ (x12_22 = x6 → (w_X0_replyOf_60 post K45 n x1 x2 x3 x4 (z_3 ||| z_5) x12_22 x8 (x9 + 1) h_30)))))))) ∧ (¬ r_28 < r_33 → (wp_X0_ones (fun r_49 h_46 => GI h_46 → Ext h_30 h_46 → (wp_X0_ones (fun r_54 h_51 => GI h_51 → Ext h_46 h_51 → (∀ z_58 : Int32, z_58 = ((if r_49 = r_54 then (if x5 ≤ (z_3 ||| z_5) then 0 else 1) else 0) : Int32) → ((¬ z_24 = 0 → (w_X0_replyOf_60 post K45 n x1 x2 x3 x4 (z_3 ||| z_5) x12_22 x8 (x9 + 1) h_51)) ∧ (z_24 = 0 → ((x6 < x12_22 → (w_X0_replyOf_60 post K45 n x1 x2 x3 x4 (z_3 ||| z_5) x12_22 x8 (x9 + 1) h_51)) ∧ (¬ x6 < x12_22 → ((¬ x12_22 = x6 → (w_X0_replyOf_60 post K45 n x1 x2 x3 x4 x5 x6 x8 (x9 + 1) h_51)) ∧ (x12_22 = x6 → ((z_58 = 0 → (w_X0_replyOf_60 post K45 n x1 x2 x3 x4 x5 x6 x8 (x9 + 1) h_51)) ∧ (¬ z_58 = 0 → (w_X0_replyOf_60 post K45 n x1 x2 x3 x4 (z_3 ||| z_5) x12_22 x8 (x9 + 1) h_51))))))))))) h_46 x5)) h_30 (z_3 ||| z_5))))) h_25 x5)) h_16 (z_3 ||| z_5)))))) (si h_6 x4 3 (z_3 ||| z_5))))))) h (z_3 ||| z_5))))))
def w_X0_replyOf_45 (post : Int32 → Hp → Prop) : Nat → Int32 → Int32 → Nat → Nat → Int32 → Int64 → Int32 → Hp → Prop
  | 0 => fun _ _ _ _ _ _ _ _ => False
  | n + 1 => fun x1 x2 x3 x4 x5 x6 x8 h => (((gi h (gr h 1 1) 0) ≤ x8 → (vp_in x1 4 ∧ (post x5 (sr h 10 (Int32.toNatClampNeg x1) x3)))) ∧ (¬ (gi h (gr h 1 1) 0) ≤ x8 → (∃ fu : Nat, w_X0_replyOf_60 post (w_X0_replyOf_45 post n) fu x1 x2 x3 x4 x5 x6 x8 0 h)))
def wp_X0_replyOf (post : Int32 → Hp → Prop) (h : Hp) (p1 : Int32) (p2 : Int32) : Prop := (vp_in p1 4 ∧ (isPl h (gr h 10 (Int32.toNatClampNeg p1)) ∧ (wp_X15_init_c12 (fun h_3 => GI h_3 → Ext (al h (22, 0)) h_3 → (vp_in p1 4 ∧ (∃ fu : Nat, w_X0_replyOf_45 post fu p1 p2 (gr h 10 (Int32.toNatClampNeg p1)) (sz h + 1) 0 0 0 (sr h_3 10 (Int32.toNatClampNeg p1) (sz h + 1))))) (al h (22, 0)) (sz h + 1) (gi (al h (22, 0)) (gr h 10 (Int32.toNatClampNeg p1)) 0) (gi (al h (22, 0)) (gr h 10 (Int32.toNatClampNeg p1)) 1) (gi (al h (22, 0)) (gr h 10 (Int32.toNatClampNeg p1)) 2))))
abbrev rm_X0_replyOf : Room := ({ frames := 13, cells := 1, slots := 4, locals := 360 })
abbrev K_X0_replyOf : Kx := ("BeforeTheEnd", cX0_replyOf, 16, (Option.some Jvm.ClassFile.FieldType.int), rm_X0_replyOf, [], false)
set_option maxHeartbeats 4000000 in
theorem t_X0_replyOf_60 {ρ : Rho} {h0 : Hp} {post : Int32 → Hp → Prop} {K45 : Int32 → Int32 → Nat → Nat → Int32 → Int64 → Int32 → Hp → Prop} (G : G0 ρ) (hK45 : ∀ (x1 : Int32) (x2 : Int32) (x3 : Nat) (x4 : Nat) (x5 : Int32) (x6 : Int64) (x8 : Int32) (h : Hp), GI h → Ext h0 h → isPl h x3 → sh h x4 = (22, 0) → K45 x1 x2 x3 x4 x5 x6 x8 h → X ρ K_X0_replyOf 45 [(0, .ref (mr ρ 1)), (1, .int x1), (2, .int x2), (3, .ref (mr ρ x3)), (4, .ref (mr ρ x4)), (5, .int x5), (6, .long x6), (8, .int x8)] [] h 1 4 (phI h0 post) psN) :
    ∀ (n : Nat), ∀ (x1 : Int32) (x2 : Int32) (x3 : Nat) (x4 : Nat) (x5 : Int32) (x6 : Int64) (x8 : Int32) (x9 : Int32) (h : Hp), GI h → Ext h0 h → isPl h x3 → sh h x4 = (22, 0) → w_X0_replyOf_60 post K45 n x1 x2 x3 x4 x5 x6 x8 x9 h → X ρ K_X0_replyOf 60 [(0, .ref (mr ρ 1)), (1, .int x1), (2, .int x2), (3, .ref (mr ρ x3)), (4, .ref (mr ρ x4)), (5, .int x5), (6, .long x6), (8, .int x8), (9, .int x9)] [] h 1 4 (phI h0 post) psN := by
  intro n
  induction n with
  | zero => intro x1 x2 x3 x4 x5 x6 x8 x9 h g e fx3 fx4 hw; exact False.elim hw
  | succ n ih =>
    intro x1 x2 x3 x4 x5 x6 x8 x9 h g e fx3 fx4 hw
    refine x_iload 8 dX0_replyOf_60 rfl ?_
    refine x_iload 7 dX0_replyOf_62 rfl ?_
    obtain ⟨wt_80, wf_81⟩ := hw
    refine x_icmp_gt 240 dX0_replyOf_64 (by decide) (fun c_1 => ?_) (fun c_1 => ?_)
    · have hw := wt_80 c_1
      refine x_iinc (v := (x8 + 1)) (lv' := [(8, .int (x8 + 1)), (0, .ref (mr ρ 1)), (1, .int x1), (2, .int x2), (3, .ref (mr ρ x3)), (4, .ref (mr ρ x4)), (5, .int x5), (6, .long x6), (9, .int x9)]) 7 dX0_replyOf_240 rfl (by rfl) (Nat.le_of_ble_eq_true rfl) rfl ?_
      refine x_goto 45 dX0_replyOf_243 (by decide) ?_
      refine X.sub [1, 2, 3, 4, 5, 6, 7, 0] rfl ?_
      exact hK45 x1 x2 x3 x4 x5 x6 (x8 + 1) h g e fx3 fx4 hw
    · have hw := wf_81 c_1
      refine x_iload 7 dX0_replyOf_67 rfl ?_
      have kJ_79 : ∀ z_3 : Int32, z_3 = ((if x8 = 0 then 0 else (1 <<< (x8 &&& 31))) : Int32) → X ρ K_X0_replyOf 80 [(0, .ref (mr ρ 1)), (1, .int x1), (2, .int x2), (3, .ref (mr ρ x3)), (4, .ref (mr ρ x4)), (5, .int x5), (6, .long x6), (8, .int x8), (9, .int x9)] [.int z_3] h 1 4 (phI h0 post) psN := fun z_3 ez_3 => by
        have hw := hw z_3 ez_3
        refine x_iload 8 dX0_replyOf_80 rfl ?_
        have kJ_78 : ∀ z_5 : Int32, z_5 = ((if x9 = 0 then 0 else (1 <<< (x9 &&& 31))) : Int32) → X ρ K_X0_replyOf 93 [(0, .ref (mr ρ 1)), (1, .int x1), (2, .int x2), (3, .ref (mr ρ x3)), (4, .ref (mr ρ x4)), (5, .int x5), (6, .long x6), (8, .int x8), (9, .int x9)] [.int z_5, .int z_3] h 1 4 (phI h0 post) psN := fun z_5 ez_5 => by
          have hw := hw z_5 ez_5
          refine x_ior dX0_replyOf_93 ?_
          refine x_istore (lv' := [(10, .int (z_3 ||| z_5)), (0, .ref (mr ρ 1)), (1, .int x1), (2, .int x2), (3, .ref (mr ρ x3)), (4, .ref (mr ρ x4)), (5, .int x5), (6, .long x6), (8, .int x8), (9, .int x9)]) dX0_replyOf_94 (Nat.le_of_ble_eq_true rfl) rfl ?_
          refine x_iload 0 dX0_replyOf_96 rfl ?_
          refine x_callS [.int (z_3 ||| z_5)] 1 dX0_replyOf_98 (k_X0_ones G g hw) q938 q939 q104 q940 (by decide) rfl rfl ⟨(Nat.le_of_ble_eq_true rfl), (Nat.le_of_ble_eq_true rfl)⟩ (Nat.le_of_ble_eq_true rfl) ⟨(Nat.le_of_ble_eq_true rfl), (Nat.le_of_ble_eq_true rfl)⟩ (fun v9 h_6 hv9 => ?_) (fun _ _ _ _ _ z _ _ => False.elim z)
          obtain ⟨r_9, rfl, g_7, e_8, hw⟩ := hv9
          have hw := hw g_7 e_8
          show X ρ K_X0_replyOf 101 [(10, .int (z_3 ||| z_5)), (0, .ref (mr ρ 1)), (1, .int x1), (2, .int x2), (3, .ref (mr ρ x3)), (4, .ref (mr ρ x4)), (5, .int x5), (6, .long x6), (8, .int x8), (9, .int x9)] [.int r_9] h_6 1 4 (phI h0 post) psN
          refine x_iload_n 3 dX0_replyOf_101 rfl ?_
          have kJ_77 : ∀ z_14 : Int32, z_14 = ((if x2 < r_9 then 0 else (if x9 = x8 then (if x8 = 0 then 1 else 0) else 1)) : Int32) → X ρ K_X0_replyOf 122 [(10, .int (z_3 ||| z_5)), (0, .ref (mr ρ 1)), (1, .int x1), (2, .int x2), (3, .ref (mr ρ x3)), (4, .ref (mr ρ x4)), (5, .int x5), (6, .long x6), (8, .int x8), (9, .int x9)] [.int z_14] h_6 1 4 (phI h0 post) psN := fun z_14 ez_14 => by
            have hw := hw z_14 ez_14
            refine x_istore (lv' := [(11, .int z_14), (10, .int (z_3 ||| z_5)), (0, .ref (mr ρ 1)), (1, .int x1), (2, .int x2), (3, .ref (mr ρ x3)), (4, .ref (mr ρ x4)), (5, .int x5), (6, .long x6), (8, .int x8), (9, .int x9)]) dX0_replyOf_122 (Nat.le_of_ble_eq_true rfl) rfl ?_
            refine x_iload 0 dX0_replyOf_124 rfl ?_
            obtain ⟨wt_75, wf_76⟩ := hw
            refine x_if_eq 234 dX0_replyOf_126 (by decide) (fun c_15 => ?_) (fun c_15 => ?_)
            · have hw := wt_75 c_15
              refine x_iinc (v := (x9 + 1)) (lv' := [(9, .int (x9 + 1)), (11, .int z_14), (10, .int (z_3 ||| z_5)), (0, .ref (mr ρ 1)), (1, .int x1), (2, .int x2), (3, .ref (mr ρ x3)), (4, .ref (mr ρ x4)), (5, .int x5), (6, .long x6), (8, .int x8)]) 10 dX0_replyOf_234 rfl (by rfl) (Nat.le_of_ble_eq_true rfl) rfl ?_
              refine x_goto 60 dX0_replyOf_237 (by decide) ?_
              refine X.sub [3, 4, 5, 6, 7, 8, 9, 10, 0] rfl ?_
              exact ih x1 x2 x3 x4 x5 x6 x8 (x9 + 1) h_6 g_7 (Ext.tr e e_8) (isPl.ext fx3 e_8) (Ext.s e_8 fx4 (by decide)) hw
            · have hw := wf_76 c_15
              refine x_aload 6 dX0_replyOf_129 rfl ?_
              refine x_iload 1 dX0_replyOf_131 rfl ?_
              refine x_putN (ci := 12) 3 dX0_replyOf_133 (Ext.s e_8 fx4 (by decide)) rfl in_X15 tyX15 tyX15_ok nmX15 (by decide) q667 (Or.inl rfl) rfl rfl rfl (isPut_i rfl) ?_
              refine x_aload_n 2 dX0_replyOf_136 rfl ?_
              refine x_callV (ci := 0) [] 0 dX0_replyOf_137 (k_X0_runAll G (GI.i g_7) hw) (GI.s (GI.i g_7) (t := (10, 0)) rfl (by decide)) rfl q941 q943 qs33 q104 q944 (by decide) rfl rfl ⟨(Nat.le_of_ble_eq_true rfl), (Nat.le_of_ble_eq_true rfl)⟩ (Nat.le_of_ble_eq_true rfl) ⟨(Nat.le_of_ble_eq_true rfl), (Nat.le_of_ble_eq_true rfl)⟩ (fun v9 h_16 hv9 => ?_) (fun _ _ _ _ _ z _ _ => False.elim z)
              obtain ⟨rfl, g_17, e_18, hw⟩ := hv9
              have hw := hw g_17 e_18
              show X ρ K_X0_replyOf 140 [(11, .int z_14), (10, .int (z_3 ||| z_5)), (0, .ref (mr ρ 1)), (1, .int x1), (2, .int x2), (3, .ref (mr ρ x3)), (4, .ref (mr ρ x4)), (5, .int x5), (6, .long x6), (8, .int x8), (9, .int x9)] [] h_16 1 4 (phI h0 post) psN
              refine x_aload_n 2 dX0_replyOf_140 rfl ?_
              refine x_get (ci := 0) (v := .ref (mr ρ 21)) 23 dX0_replyOf_141 (GI.s g_17 (t := (10, 0)) rfl (by decide)) rfl in_X0 (by decide) q212 (Or.inl rfl) (fv_rc rfl (GI.x g_17 (n := 21) rfl (by decide)) (by decide)) ?_
              refine x_iload_n 3 dX0_replyOf_144 rfl ?_
              obtain ⟨b_21, hw⟩ := hw
              refine x_lald (n := 4) (j := (Int32.toNatClampNeg x1)) dX0_replyOf_145 rfl (GI.s g_17 (t := (2, 4)) rfl (by decide)) b_21 ?_
              refine x_nml (fun x12_22 ex12_22 => ?_)
              have hw := hw x12_22 ex12_22
              refine x_lstore (lv' := [(12, .long x12_22), (11, .int z_14), (10, .int (z_3 ||| z_5)), (0, .ref (mr ρ 1)), (1, .int x1), (2, .int x2), (3, .ref (mr ρ x3)), (4, .ref (mr ρ x4)), (5, .int x5), (6, .long x6), (8, .int x8), (9, .int x9)]) dX0_replyOf_146 (Nat.le_of_ble_eq_true rfl) rfl ?_
              refine x_iload 10 dX0_replyOf_148 rfl ?_
              have kJ_74 : ∀ z_24 : Int32, z_24 = ((if x8 = 0 then 1 else 0) : Int32) → X ρ K_X0_replyOf 158 [(12, .long x12_22), (11, .int z_14), (10, .int (z_3 ||| z_5)), (0, .ref (mr ρ 1)), (1, .int x1), (2, .int x2), (3, .ref (mr ρ x3)), (4, .ref (mr ρ x4)), (5, .int x5), (6, .long x6), (8, .int x8), (9, .int x9)] [.int z_24] h_16 1 4 (phI h0 post) psN := fun z_24 ez_24 => by
                have hw := hw z_24 ez_24
                refine x_istore (lv' := [(14, .int z_24), (12, .long x12_22), (11, .int z_14), (10, .int (z_3 ||| z_5)), (0, .ref (mr ρ 1)), (1, .int x1), (2, .int x2), (3, .ref (mr ρ x3)), (4, .ref (mr ρ x4)), (5, .int x5), (6, .long x6), (8, .int x8), (9, .int x9)]) dX0_replyOf_158 (Nat.le_of_ble_eq_true rfl) rfl ?_
                refine x_iload 3 dX0_replyOf_160 rfl ?_
                refine x_callS [.int (z_3 ||| z_5)] 1 dX0_replyOf_162 (k_X0_ones G g_17 hw) q938 q939 q104 q940 (by decide) rfl rfl ⟨(Nat.le_of_ble_eq_true rfl), (Nat.le_of_ble_eq_true rfl)⟩ (Nat.le_of_ble_eq_true rfl) ⟨(Nat.le_of_ble_eq_true rfl), (Nat.le_of_ble_eq_true rfl)⟩ (fun v9 h_25 hv9 => ?_) (fun _ _ _ _ _ z _ _ => False.elim z)
                obtain ⟨r_28, rfl, g_26, e_27, hw⟩ := hv9
                have hw := hw g_26 e_27
                show X ρ K_X0_replyOf 165 [(14, .int z_24), (12, .long x12_22), (11, .int z_14), (10, .int (z_3 ||| z_5)), (0, .ref (mr ρ 1)), (1, .int x1), (2, .int x2), (3, .ref (mr ρ x3)), (4, .ref (mr ρ x4)), (5, .int x5), (6, .long x6), (8, .int x8), (9, .int x9)] [.int r_28] h_25 1 4 (phI h0 post) psN
                refine x_iload 9 dX0_replyOf_165 rfl ?_
                refine x_callS [.int x5] 1 dX0_replyOf_167 (k_X0_ones G g_26 hw) q938 q939 q104 q940 (by decide) rfl rfl ⟨(Nat.le_of_ble_eq_true rfl), (Nat.le_of_ble_eq_true rfl)⟩ (Nat.le_of_ble_eq_true rfl) ⟨(Nat.le_of_ble_eq_true rfl), (Nat.le_of_ble_eq_true rfl)⟩ (fun v9 h_30 hv9 => ?_) (fun _ _ _ _ _ z _ _ => False.elim z)
                obtain ⟨r_33, rfl, g_31, e_32, hw⟩ := hv9
                have hw := hw g_31 e_32
                show X ρ K_X0_replyOf 170 [(14, .int z_24), (12, .long x12_22), (11, .int z_14), (10, .int (z_3 ||| z_5)), (0, .ref (mr ρ 1)), (1, .int x1), (2, .int x2), (3, .ref (mr ρ x3)), (4, .ref (mr ρ x4)), (5, .int x5), (6, .long x6), (8, .int x8), (9, .int x9)] [.int r_33, .int r_28] h_30 1 4 (phI h0 post) psN
                obtain ⟨wt_72, wf_73⟩ := hw
                refine x_icmp_lt 193 dX0_replyOf_170 (by decide) (fun c_35 => ?_) (fun c_35 => ?_)
                · have hw := wt_72 c_35
                  refine x_iconst 1 dX0_replyOf_193 (by decide) ?_
                  refine x_goto 198 dX0_replyOf_194 (by decide) ?_
                  refine x_istore (lv' := [(15, .int 1), (14, .int z_24), (12, .long x12_22), (11, .int z_14), (10, .int (z_3 ||| z_5)), (0, .ref (mr ρ 1)), (1, .int x1), (2, .int x2), (3, .ref (mr ρ x3)), (4, .ref (mr ρ x4)), (5, .int x5), (6, .long x6), (8, .int x8), (9, .int x9)]) dX0_replyOf_198 (Nat.le_of_ble_eq_true rfl) rfl ?_
                  refine x_iload 1 dX0_replyOf_200 rfl ?_
                  obtain ⟨wt_44, wf_45⟩ := hw
                  refine x_if_ne 226 dX0_replyOf_202 (by decide) (fun c_36 => ?_) (fun c_36 => ?_)
                  · have hw := wt_44 c_36
                    refine x_iload 4 dX0_replyOf_226 rfl ?_
                    refine x_istore (lv' := [(5, .int (z_3 ||| z_5)), (15, .int 1), (14, .int z_24), (12, .long x12_22), (11, .int z_14), (10, .int (z_3 ||| z_5)), (0, .ref (mr ρ 1)), (1, .int x1), (2, .int x2), (3, .ref (mr ρ x3)), (4, .ref (mr ρ x4)), (6, .long x6), (8, .int x8), (9, .int x9)]) dX0_replyOf_228 (Nat.le_of_ble_eq_true rfl) rfl ?_
                    refine x_lload 3 dX0_replyOf_230 rfl ?_
                    refine x_lstore (lv' := [(6, .long x12_22), (5, .int (z_3 ||| z_5)), (15, .int 1), (14, .int z_24), (12, .long x12_22), (11, .int z_14), (10, .int (z_3 ||| z_5)), (0, .ref (mr ρ 1)), (1, .int x1), (2, .int x2), (3, .ref (mr ρ x3)), (4, .ref (mr ρ x4)), (8, .int x8), (9, .int x9)]) dX0_replyOf_232 (Nat.le_of_ble_eq_true rfl) rfl ?_
                    refine x_iinc (v := (x9 + 1)) (lv' := [(9, .int (x9 + 1)), (6, .long x12_22), (5, .int (z_3 ||| z_5)), (15, .int 1), (14, .int z_24), (12, .long x12_22), (11, .int z_14), (10, .int (z_3 ||| z_5)), (0, .ref (mr ρ 1)), (1, .int x1), (2, .int x2), (3, .ref (mr ρ x3)), (4, .ref (mr ρ x4)), (8, .int x8)]) 13 dX0_replyOf_234 rfl (by rfl) (Nat.le_of_ble_eq_true rfl) rfl ?_
                    refine x_goto 60 dX0_replyOf_237 (by decide) ?_
                    refine X.sub [8, 9, 10, 11, 12, 2, 1, 13, 0] rfl ?_
                    exact ih x1 x2 x3 x4 (z_3 ||| z_5) x12_22 x8 (x9 + 1) h_30 g_31 (Ext.tr (Ext.tr (Ext.tr (Ext.i (Ext.tr e e_8)) e_18) e_27) e_32) (isPl.ext (isPl.ext (isPl.ext (isPl.ext fx3 e_8) e_18) e_27) e_32) (Ext.s e_32 (Ext.s e_27 (Ext.s e_18 (Ext.s e_8 fx4 (by decide)) (by decide)) (by decide)) (by decide)) hw
                  · have hw := wf_45 c_36
                    refine x_lload 2 dX0_replyOf_205 rfl ?_
                    refine x_lload 11 dX0_replyOf_207 rfl ?_
                    obtain ⟨wt_42, wf_43⟩ := hw
                    refine x_lif_gt 226 dX0_replyOf_209 dX0_replyOf_210 (by decide) (fun c_37 => ?_) (fun c_37 => ?_)
                    · have hw := wt_42 c_37
                      refine x_iload 4 dX0_replyOf_226 rfl ?_
                      refine x_istore (lv' := [(5, .int (z_3 ||| z_5)), (15, .int 1), (14, .int z_24), (12, .long x12_22), (11, .int z_14), (10, .int (z_3 ||| z_5)), (0, .ref (mr ρ 1)), (1, .int x1), (2, .int x2), (3, .ref (mr ρ x3)), (4, .ref (mr ρ x4)), (6, .long x6), (8, .int x8), (9, .int x9)]) dX0_replyOf_228 (Nat.le_of_ble_eq_true rfl) rfl ?_
                      refine x_lload 3 dX0_replyOf_230 rfl ?_
                      refine x_lstore (lv' := [(6, .long x12_22), (5, .int (z_3 ||| z_5)), (15, .int 1), (14, .int z_24), (12, .long x12_22), (11, .int z_14), (10, .int (z_3 ||| z_5)), (0, .ref (mr ρ 1)), (1, .int x1), (2, .int x2), (3, .ref (mr ρ x3)), (4, .ref (mr ρ x4)), (8, .int x8), (9, .int x9)]) dX0_replyOf_232 (Nat.le_of_ble_eq_true rfl) rfl ?_
                      refine x_iinc (v := (x9 + 1)) (lv' := [(9, .int (x9 + 1)), (6, .long x12_22), (5, .int (z_3 ||| z_5)), (15, .int 1), (14, .int z_24), (12, .long x12_22), (11, .int z_14), (10, .int (z_3 ||| z_5)), (0, .ref (mr ρ 1)), (1, .int x1), (2, .int x2), (3, .ref (mr ρ x3)), (4, .ref (mr ρ x4)), (8, .int x8)]) 13 dX0_replyOf_234 rfl (by rfl) (Nat.le_of_ble_eq_true rfl) rfl ?_
                      refine x_goto 60 dX0_replyOf_237 (by decide) ?_
                      refine X.sub [8, 9, 10, 11, 12, 2, 1, 13, 0] rfl ?_
                      exact ih x1 x2 x3 x4 (z_3 ||| z_5) x12_22 x8 (x9 + 1) h_30 g_31 (Ext.tr (Ext.tr (Ext.tr (Ext.i (Ext.tr e e_8)) e_18) e_27) e_32) (isPl.ext (isPl.ext (isPl.ext (isPl.ext fx3 e_8) e_18) e_27) e_32) (Ext.s e_32 (Ext.s e_27 (Ext.s e_18 (Ext.s e_8 fx4 (by decide)) (by decide)) (by decide)) (by decide)) hw
                    · have hw := wf_43 c_37
                      refine x_lload 2 dX0_replyOf_213 rfl ?_
                      refine x_lload 11 dX0_replyOf_215 rfl ?_
                      obtain ⟨wt_40, wf_41⟩ := hw
                      refine x_lif_ne 234 dX0_replyOf_217 dX0_replyOf_218 (by decide) (fun c_38 => ?_) (fun c_38 => ?_)
                      · have hw := wt_40 c_38
                        refine x_iinc (v := (x9 + 1)) (lv' := [(9, .int (x9 + 1)), (15, .int 1), (14, .int z_24), (12, .long x12_22), (11, .int z_14), (10, .int (z_3 ||| z_5)), (0, .ref (mr ρ 1)), (1, .int x1), (2, .int x2), (3, .ref (mr ρ x3)), (4, .ref (mr ρ x4)), (5, .int x5), (6, .long x6), (8, .int x8)]) 13 dX0_replyOf_234 rfl (by rfl) (Nat.le_of_ble_eq_true rfl) rfl ?_
                        refine x_goto 60 dX0_replyOf_237 (by decide) ?_
                        refine X.sub [6, 7, 8, 9, 10, 11, 12, 13, 0] rfl ?_
                        exact ih x1 x2 x3 x4 x5 x6 x8 (x9 + 1) h_30 g_31 (Ext.tr (Ext.tr (Ext.tr (Ext.i (Ext.tr e e_8)) e_18) e_27) e_32) (isPl.ext (isPl.ext (isPl.ext (isPl.ext fx3 e_8) e_18) e_27) e_32) (Ext.s e_32 (Ext.s e_27 (Ext.s e_18 (Ext.s e_8 fx4 (by decide)) (by decide)) (by decide)) (by decide)) hw
                      · have hw := wf_41 c_38
                        refine x_iload 0 dX0_replyOf_221 rfl ?_
                        refine x_if_eq 234 dX0_replyOf_223 (by decide) (fun c_39 => absurd c_39 (by decide)) (fun _ => ?_)
                        refine x_iload 4 dX0_replyOf_226 rfl ?_
                        refine x_istore (lv' := [(5, .int (z_3 ||| z_5)), (15, .int 1), (14, .int z_24), (12, .long x12_22), (11, .int z_14), (10, .int (z_3 ||| z_5)), (0, .ref (mr ρ 1)), (1, .int x1), (2, .int x2), (3, .ref (mr ρ x3)), (4, .ref (mr ρ x4)), (6, .long x6), (8, .int x8), (9, .int x9)]) dX0_replyOf_228 (Nat.le_of_ble_eq_true rfl) rfl ?_
                        refine x_lload 3 dX0_replyOf_230 rfl ?_
                        refine x_lstore (lv' := [(6, .long x12_22), (5, .int (z_3 ||| z_5)), (15, .int 1), (14, .int z_24), (12, .long x12_22), (11, .int z_14), (10, .int (z_3 ||| z_5)), (0, .ref (mr ρ 1)), (1, .int x1), (2, .int x2), (3, .ref (mr ρ x3)), (4, .ref (mr ρ x4)), (8, .int x8), (9, .int x9)]) dX0_replyOf_232 (Nat.le_of_ble_eq_true rfl) rfl ?_
                        refine x_iinc (v := (x9 + 1)) (lv' := [(9, .int (x9 + 1)), (6, .long x12_22), (5, .int (z_3 ||| z_5)), (15, .int 1), (14, .int z_24), (12, .long x12_22), (11, .int z_14), (10, .int (z_3 ||| z_5)), (0, .ref (mr ρ 1)), (1, .int x1), (2, .int x2), (3, .ref (mr ρ x3)), (4, .ref (mr ρ x4)), (8, .int x8)]) 13 dX0_replyOf_234 rfl (by rfl) (Nat.le_of_ble_eq_true rfl) rfl ?_
                        refine x_goto 60 dX0_replyOf_237 (by decide) ?_
                        refine X.sub [8, 9, 10, 11, 12, 2, 1, 13, 0] rfl ?_
                        exact ih x1 x2 x3 x4 (z_3 ||| z_5) x12_22 x8 (x9 + 1) h_30 g_31 (Ext.tr (Ext.tr (Ext.tr (Ext.i (Ext.tr e e_8)) e_18) e_27) e_32) (isPl.ext (isPl.ext (isPl.ext (isPl.ext fx3 e_8) e_18) e_27) e_32) (Ext.s e_32 (Ext.s e_27 (Ext.s e_18 (Ext.s e_8 fx4 (by decide)) (by decide)) (by decide)) (by decide)) hw
                · have hw := wf_73 c_35
                  refine x_iload 3 dX0_replyOf_173 rfl ?_
                  refine x_callS [.int (z_3 ||| z_5)] 1 dX0_replyOf_175 (k_X0_ones G g_31 hw) q938 q939 q104 q940 (by decide) rfl rfl ⟨(Nat.le_of_ble_eq_true rfl), (Nat.le_of_ble_eq_true rfl)⟩ (Nat.le_of_ble_eq_true rfl) ⟨(Nat.le_of_ble_eq_true rfl), (Nat.le_of_ble_eq_true rfl)⟩ (fun v9 h_46 hv9 => ?_) (fun _ _ _ _ _ z _ _ => False.elim z)
                  obtain ⟨r_49, rfl, g_47, e_48, hw⟩ := hv9
                  have hw := hw g_47 e_48
                  show X ρ K_X0_replyOf 178 [(14, .int z_24), (12, .long x12_22), (11, .int z_14), (10, .int (z_3 ||| z_5)), (0, .ref (mr ρ 1)), (1, .int x1), (2, .int x2), (3, .ref (mr ρ x3)), (4, .ref (mr ρ x4)), (5, .int x5), (6, .long x6), (8, .int x8), (9, .int x9)] [.int r_49] h_46 1 4 (phI h0 post) psN
                  refine x_iload 9 dX0_replyOf_178 rfl ?_
                  refine x_callS [.int x5] 1 dX0_replyOf_180 (k_X0_ones G g_47 hw) q938 q939 q104 q940 (by decide) rfl rfl ⟨(Nat.le_of_ble_eq_true rfl), (Nat.le_of_ble_eq_true rfl)⟩ (Nat.le_of_ble_eq_true rfl) ⟨(Nat.le_of_ble_eq_true rfl), (Nat.le_of_ble_eq_true rfl)⟩ (fun v9 h_51 hv9 => ?_) (fun _ _ _ _ _ z _ _ => False.elim z)
                  obtain ⟨r_54, rfl, g_52, e_53, hw⟩ := hv9
                  have hw := hw g_52 e_53
                  show X ρ K_X0_replyOf 183 [(14, .int z_24), (12, .long x12_22), (11, .int z_14), (10, .int (z_3 ||| z_5)), (0, .ref (mr ρ 1)), (1, .int x1), (2, .int x2), (3, .ref (mr ρ x3)), (4, .ref (mr ρ x4)), (5, .int x5), (6, .long x6), (8, .int x8), (9, .int x9)] [.int r_54, .int r_49] h_51 1 4 (phI h0 post) psN
                  have kJ_71 : ∀ z_58 : Int32, z_58 = ((if r_49 = r_54 then (if x5 ≤ (z_3 ||| z_5) then 0 else 1) else 0) : Int32) → X ρ K_X0_replyOf 198 [(14, .int z_24), (12, .long x12_22), (11, .int z_14), (10, .int (z_3 ||| z_5)), (0, .ref (mr ρ 1)), (1, .int x1), (2, .int x2), (3, .ref (mr ρ x3)), (4, .ref (mr ρ x4)), (5, .int x5), (6, .long x6), (8, .int x8), (9, .int x9)] [.int z_58] h_51 1 4 (phI h0 post) psN := fun z_58 ez_58 => by
                    have hw := hw z_58 ez_58
                    refine x_istore (lv' := [(15, .int z_58), (14, .int z_24), (12, .long x12_22), (11, .int z_14), (10, .int (z_3 ||| z_5)), (0, .ref (mr ρ 1)), (1, .int x1), (2, .int x2), (3, .ref (mr ρ x3)), (4, .ref (mr ρ x4)), (5, .int x5), (6, .long x6), (8, .int x8), (9, .int x9)]) dX0_replyOf_198 (Nat.le_of_ble_eq_true rfl) rfl ?_
                    refine x_iload 1 dX0_replyOf_200 rfl ?_
                    obtain ⟨wt_69, wf_70⟩ := hw
                    refine x_if_ne 226 dX0_replyOf_202 (by decide) (fun c_59 => ?_) (fun c_59 => ?_)
                    · have hw := wt_69 c_59
                      refine x_iload 4 dX0_replyOf_226 rfl ?_
                      refine x_istore (lv' := [(5, .int (z_3 ||| z_5)), (15, .int z_58), (14, .int z_24), (12, .long x12_22), (11, .int z_14), (10, .int (z_3 ||| z_5)), (0, .ref (mr ρ 1)), (1, .int x1), (2, .int x2), (3, .ref (mr ρ x3)), (4, .ref (mr ρ x4)), (6, .long x6), (8, .int x8), (9, .int x9)]) dX0_replyOf_228 (Nat.le_of_ble_eq_true rfl) rfl ?_
                      refine x_lload 3 dX0_replyOf_230 rfl ?_
                      refine x_lstore (lv' := [(6, .long x12_22), (5, .int (z_3 ||| z_5)), (15, .int z_58), (14, .int z_24), (12, .long x12_22), (11, .int z_14), (10, .int (z_3 ||| z_5)), (0, .ref (mr ρ 1)), (1, .int x1), (2, .int x2), (3, .ref (mr ρ x3)), (4, .ref (mr ρ x4)), (8, .int x8), (9, .int x9)]) dX0_replyOf_232 (Nat.le_of_ble_eq_true rfl) rfl ?_
                      refine x_iinc (v := (x9 + 1)) (lv' := [(9, .int (x9 + 1)), (6, .long x12_22), (5, .int (z_3 ||| z_5)), (15, .int z_58), (14, .int z_24), (12, .long x12_22), (11, .int z_14), (10, .int (z_3 ||| z_5)), (0, .ref (mr ρ 1)), (1, .int x1), (2, .int x2), (3, .ref (mr ρ x3)), (4, .ref (mr ρ x4)), (8, .int x8)]) 13 dX0_replyOf_234 rfl (by rfl) (Nat.le_of_ble_eq_true rfl) rfl ?_
                      refine x_goto 60 dX0_replyOf_237 (by decide) ?_
                      refine X.sub [8, 9, 10, 11, 12, 2, 1, 13, 0] rfl ?_
                      exact ih x1 x2 x3 x4 (z_3 ||| z_5) x12_22 x8 (x9 + 1) h_51 g_52 (Ext.tr (Ext.tr (Ext.tr (Ext.tr (Ext.tr (Ext.i (Ext.tr e e_8)) e_18) e_27) e_32) e_48) e_53) (isPl.ext (isPl.ext (isPl.ext (isPl.ext (isPl.ext (isPl.ext fx3 e_8) e_18) e_27) e_32) e_48) e_53) (Ext.s e_53 (Ext.s e_48 (Ext.s e_32 (Ext.s e_27 (Ext.s e_18 (Ext.s e_8 fx4 (by decide)) (by decide)) (by decide)) (by decide)) (by decide)) (by decide)) hw
                    · have hw := wf_70 c_59
                      refine x_lload 2 dX0_replyOf_205 rfl ?_
                      refine x_lload 11 dX0_replyOf_207 rfl ?_
                      obtain ⟨wt_67, wf_68⟩ := hw
                      refine x_lif_gt 226 dX0_replyOf_209 dX0_replyOf_210 (by decide) (fun c_60 => ?_) (fun c_60 => ?_)
                      · have hw := wt_67 c_60
                        refine x_iload 4 dX0_replyOf_226 rfl ?_
                        refine x_istore (lv' := [(5, .int (z_3 ||| z_5)), (15, .int z_58), (14, .int z_24), (12, .long x12_22), (11, .int z_14), (10, .int (z_3 ||| z_5)), (0, .ref (mr ρ 1)), (1, .int x1), (2, .int x2), (3, .ref (mr ρ x3)), (4, .ref (mr ρ x4)), (6, .long x6), (8, .int x8), (9, .int x9)]) dX0_replyOf_228 (Nat.le_of_ble_eq_true rfl) rfl ?_
                        refine x_lload 3 dX0_replyOf_230 rfl ?_
                        refine x_lstore (lv' := [(6, .long x12_22), (5, .int (z_3 ||| z_5)), (15, .int z_58), (14, .int z_24), (12, .long x12_22), (11, .int z_14), (10, .int (z_3 ||| z_5)), (0, .ref (mr ρ 1)), (1, .int x1), (2, .int x2), (3, .ref (mr ρ x3)), (4, .ref (mr ρ x4)), (8, .int x8), (9, .int x9)]) dX0_replyOf_232 (Nat.le_of_ble_eq_true rfl) rfl ?_
                        refine x_iinc (v := (x9 + 1)) (lv' := [(9, .int (x9 + 1)), (6, .long x12_22), (5, .int (z_3 ||| z_5)), (15, .int z_58), (14, .int z_24), (12, .long x12_22), (11, .int z_14), (10, .int (z_3 ||| z_5)), (0, .ref (mr ρ 1)), (1, .int x1), (2, .int x2), (3, .ref (mr ρ x3)), (4, .ref (mr ρ x4)), (8, .int x8)]) 13 dX0_replyOf_234 rfl (by rfl) (Nat.le_of_ble_eq_true rfl) rfl ?_
                        refine x_goto 60 dX0_replyOf_237 (by decide) ?_
                        refine X.sub [8, 9, 10, 11, 12, 2, 1, 13, 0] rfl ?_
                        exact ih x1 x2 x3 x4 (z_3 ||| z_5) x12_22 x8 (x9 + 1) h_51 g_52 (Ext.tr (Ext.tr (Ext.tr (Ext.tr (Ext.tr (Ext.i (Ext.tr e e_8)) e_18) e_27) e_32) e_48) e_53) (isPl.ext (isPl.ext (isPl.ext (isPl.ext (isPl.ext (isPl.ext fx3 e_8) e_18) e_27) e_32) e_48) e_53) (Ext.s e_53 (Ext.s e_48 (Ext.s e_32 (Ext.s e_27 (Ext.s e_18 (Ext.s e_8 fx4 (by decide)) (by decide)) (by decide)) (by decide)) (by decide)) (by decide)) hw
                      · have hw := wf_68 c_60
                        refine x_lload 2 dX0_replyOf_213 rfl ?_
                        refine x_lload 11 dX0_replyOf_215 rfl ?_
                        obtain ⟨wt_65, wf_66⟩ := hw
                        refine x_lif_ne 234 dX0_replyOf_217 dX0_replyOf_218 (by decide) (fun c_61 => ?_) (fun c_61 => ?_)
                        · have hw := wt_65 c_61
                          refine x_iinc (v := (x9 + 1)) (lv' := [(9, .int (x9 + 1)), (15, .int z_58), (14, .int z_24), (12, .long x12_22), (11, .int z_14), (10, .int (z_3 ||| z_5)), (0, .ref (mr ρ 1)), (1, .int x1), (2, .int x2), (3, .ref (mr ρ x3)), (4, .ref (mr ρ x4)), (5, .int x5), (6, .long x6), (8, .int x8)]) 13 dX0_replyOf_234 rfl (by rfl) (Nat.le_of_ble_eq_true rfl) rfl ?_
                          refine x_goto 60 dX0_replyOf_237 (by decide) ?_
                          refine X.sub [6, 7, 8, 9, 10, 11, 12, 13, 0] rfl ?_
                          exact ih x1 x2 x3 x4 x5 x6 x8 (x9 + 1) h_51 g_52 (Ext.tr (Ext.tr (Ext.tr (Ext.tr (Ext.tr (Ext.i (Ext.tr e e_8)) e_18) e_27) e_32) e_48) e_53) (isPl.ext (isPl.ext (isPl.ext (isPl.ext (isPl.ext (isPl.ext fx3 e_8) e_18) e_27) e_32) e_48) e_53) (Ext.s e_53 (Ext.s e_48 (Ext.s e_32 (Ext.s e_27 (Ext.s e_18 (Ext.s e_8 fx4 (by decide)) (by decide)) (by decide)) (by decide)) (by decide)) (by decide)) hw
                        · have hw := wf_66 c_61
                          refine x_iload 0 dX0_replyOf_221 rfl ?_
                          obtain ⟨wt_63, wf_64⟩ := hw
                          refine x_if_eq 234 dX0_replyOf_223 (by decide) (fun c_62 => ?_) (fun c_62 => ?_)
                          · have hw := wt_63 c_62
                            refine x_iinc (v := (x9 + 1)) (lv' := [(9, .int (x9 + 1)), (15, .int z_58), (14, .int z_24), (12, .long x12_22), (11, .int z_14), (10, .int (z_3 ||| z_5)), (0, .ref (mr ρ 1)), (1, .int x1), (2, .int x2), (3, .ref (mr ρ x3)), (4, .ref (mr ρ x4)), (5, .int x5), (6, .long x6), (8, .int x8)]) 13 dX0_replyOf_234 rfl (by rfl) (Nat.le_of_ble_eq_true rfl) rfl ?_
                            refine x_goto 60 dX0_replyOf_237 (by decide) ?_
                            refine X.sub [6, 7, 8, 9, 10, 11, 12, 13, 0] rfl ?_
                            exact ih x1 x2 x3 x4 x5 x6 x8 (x9 + 1) h_51 g_52 (Ext.tr (Ext.tr (Ext.tr (Ext.tr (Ext.tr (Ext.i (Ext.tr e e_8)) e_18) e_27) e_32) e_48) e_53) (isPl.ext (isPl.ext (isPl.ext (isPl.ext (isPl.ext (isPl.ext fx3 e_8) e_18) e_27) e_32) e_48) e_53) (Ext.s e_53 (Ext.s e_48 (Ext.s e_32 (Ext.s e_27 (Ext.s e_18 (Ext.s e_8 fx4 (by decide)) (by decide)) (by decide)) (by decide)) (by decide)) (by decide)) hw
                          · have hw := wf_64 c_62
                            refine x_iload 4 dX0_replyOf_226 rfl ?_
                            refine x_istore (lv' := [(5, .int (z_3 ||| z_5)), (15, .int z_58), (14, .int z_24), (12, .long x12_22), (11, .int z_14), (10, .int (z_3 ||| z_5)), (0, .ref (mr ρ 1)), (1, .int x1), (2, .int x2), (3, .ref (mr ρ x3)), (4, .ref (mr ρ x4)), (6, .long x6), (8, .int x8), (9, .int x9)]) dX0_replyOf_228 (Nat.le_of_ble_eq_true rfl) rfl ?_
                            refine x_lload 3 dX0_replyOf_230 rfl ?_
                            refine x_lstore (lv' := [(6, .long x12_22), (5, .int (z_3 ||| z_5)), (15, .int z_58), (14, .int z_24), (12, .long x12_22), (11, .int z_14), (10, .int (z_3 ||| z_5)), (0, .ref (mr ρ 1)), (1, .int x1), (2, .int x2), (3, .ref (mr ρ x3)), (4, .ref (mr ρ x4)), (8, .int x8), (9, .int x9)]) dX0_replyOf_232 (Nat.le_of_ble_eq_true rfl) rfl ?_
                            refine x_iinc (v := (x9 + 1)) (lv' := [(9, .int (x9 + 1)), (6, .long x12_22), (5, .int (z_3 ||| z_5)), (15, .int z_58), (14, .int z_24), (12, .long x12_22), (11, .int z_14), (10, .int (z_3 ||| z_5)), (0, .ref (mr ρ 1)), (1, .int x1), (2, .int x2), (3, .ref (mr ρ x3)), (4, .ref (mr ρ x4)), (8, .int x8)]) 13 dX0_replyOf_234 rfl (by rfl) (Nat.le_of_ble_eq_true rfl) rfl ?_
                            refine x_goto 60 dX0_replyOf_237 (by decide) ?_
                            refine X.sub [8, 9, 10, 11, 12, 2, 1, 13, 0] rfl ?_
                            exact ih x1 x2 x3 x4 (z_3 ||| z_5) x12_22 x8 (x9 + 1) h_51 g_52 (Ext.tr (Ext.tr (Ext.tr (Ext.tr (Ext.tr (Ext.i (Ext.tr e e_8)) e_18) e_27) e_32) e_48) e_53) (isPl.ext (isPl.ext (isPl.ext (isPl.ext (isPl.ext (isPl.ext fx3 e_8) e_18) e_27) e_32) e_48) e_53) (Ext.s e_53 (Ext.s e_48 (Ext.s e_32 (Ext.s e_27 (Ext.s e_18 (Ext.s e_8 fx4 (by decide)) (by decide)) (by decide)) (by decide)) (by decide)) (by decide)) hw
                  refine x_icmp_ne 197 dX0_replyOf_183 (by decide) (fun c_56 => ?_) (fun c_56 => ?_)
                  · refine x_iconst 0 dX0_replyOf_197 (by decide) ?_
                    exact kJ_71 _ ((if_neg c_56)).symm
                  · refine x_iload 3 dX0_replyOf_186 rfl ?_
                    refine x_iload 9 dX0_replyOf_188 rfl ?_
                    refine x_icmp_ge 197 dX0_replyOf_190 (by decide) (fun c_57 => ?_) (fun c_57 => ?_)
                    · refine x_iconst 0 dX0_replyOf_197 (by decide) ?_
                      exact kJ_71 _ (((if_pos c_56).trans (if_pos c_57))).symm
                    · refine x_iconst 1 dX0_replyOf_193 (by decide) ?_
                      refine x_goto 198 dX0_replyOf_194 (by decide) ?_
                      exact kJ_71 _ (((if_pos c_56).trans (if_neg c_57))).symm
              refine x_if_ne 157 dX0_replyOf_150 (by decide) (fun c_23 => ?_) (fun c_23 => ?_)
              · refine x_iconst 0 dX0_replyOf_157 (by decide) ?_
                exact kJ_74 _ ((if_neg c_23)).symm
              · refine x_iconst 1 dX0_replyOf_153 (by decide) ?_
                refine x_goto 158 dX0_replyOf_154 (by decide) ?_
                exact kJ_74 _ ((if_pos c_23)).symm
          refine x_icmp_gt 121 dX0_replyOf_102 (by decide) (fun c_11 => ?_) (fun c_11 => ?_)
          · refine x_iconst 0 dX0_replyOf_121 (by decide) ?_
            exact kJ_77 _ ((if_pos c_11)).symm
          · refine x_iload 9 dX0_replyOf_105 rfl ?_
            refine x_iload 8 dX0_replyOf_107 rfl ?_
            refine x_icmp_ne 117 dX0_replyOf_109 (by decide) (fun c_12 => ?_) (fun c_12 => ?_)
            · refine x_iconst 1 dX0_replyOf_117 (by decide) ?_
              refine x_goto 122 dX0_replyOf_118 (by decide) ?_
              exact kJ_77 _ (((if_neg c_11).trans (if_neg c_12))).symm
            · refine x_iload 8 dX0_replyOf_112 rfl ?_
              refine x_if_ne 121 dX0_replyOf_114 (by decide) (fun c_13 => ?_) (fun c_13 => ?_)
              · refine x_iconst 0 dX0_replyOf_121 (by decide) ?_
                exact kJ_77 _ (((if_neg c_11).trans ((if_pos c_12).trans (if_neg c_13)))).symm
              · refine x_iconst 1 dX0_replyOf_117 (by decide) ?_
                refine x_goto 122 dX0_replyOf_118 (by decide) ?_
                exact kJ_77 _ (((if_neg c_11).trans ((if_pos c_12).trans (if_pos c_13)))).symm
        refine x_if_ne 89 dX0_replyOf_82 (by decide) (fun c_4 => ?_) (fun c_4 => ?_)
        · refine x_iconst 1 dX0_replyOf_89 (by decide) ?_
          refine x_iload 8 dX0_replyOf_90 rfl ?_
          refine x_ishl dX0_replyOf_92 ?_
          exact kJ_78 _ ((if_neg c_4)).symm
        · refine x_iconst 0 dX0_replyOf_85 (by decide) ?_
          refine x_goto 93 dX0_replyOf_86 (by decide) ?_
          exact kJ_78 _ ((if_pos c_4)).symm
      refine x_if_ne 76 dX0_replyOf_69 (by decide) (fun c_2 => ?_) (fun c_2 => ?_)
      · refine x_iconst 1 dX0_replyOf_76 (by decide) ?_
        refine x_iload 7 dX0_replyOf_77 rfl ?_
        refine x_ishl dX0_replyOf_79 ?_
        exact kJ_79 _ ((if_neg c_2)).symm
      · refine x_iconst 0 dX0_replyOf_72 (by decide) ?_
        refine x_goto 80 dX0_replyOf_73 (by decide) ?_
        exact kJ_79 _ ((if_pos c_2)).symm
set_option maxHeartbeats 4000000 in
theorem t_X0_replyOf_45 {ρ : Rho} {h0 : Hp} {post : Int32 → Hp → Prop} (G : G0 ρ) :
    ∀ (n : Nat), ∀ (x1 : Int32) (x2 : Int32) (x3 : Nat) (x4 : Nat) (x5 : Int32) (x6 : Int64) (x8 : Int32) (h : Hp), GI h → Ext h0 h → isPl h x3 → sh h x4 = (22, 0) → w_X0_replyOf_45 post n x1 x2 x3 x4 x5 x6 x8 h → X ρ K_X0_replyOf 45 [(0, .ref (mr ρ 1)), (1, .int x1), (2, .int x2), (3, .ref (mr ρ x3)), (4, .ref (mr ρ x4)), (5, .int x5), (6, .long x6), (8, .int x8)] [] h 1 4 (phI h0 post) psN := by
  intro n
  induction n with
  | zero => intro x1 x2 x3 x4 x5 x6 x8 h g e fx3 fx4 hw; exact False.elim hw
  | succ n ih =>
    intro x1 x2 x3 x4 x5 x6 x8 h g e fx3 fx4 hw
    refine x_iload 7 dX0_replyOf_45 rfl ?_
    refine x_aload_n 0 dX0_replyOf_47 rfl ?_
    refine x_get (ci := 0) (v := .ref (mr ρ (gr h 1 1))) 1 dX0_replyOf_48 (GI.s g (t := (10, 0)) rfl (by decide)) rfl in_X0 (by decide) q188 (Or.inl rfl) (fv_rc rfl rfl (isTree.nz (GI.t g) (GI.live g))) ?_
    refine x_getN (ci := 1) (v := .int (gi h (gr h 1 1) 0)) 0 dX0_replyOf_51 (isTree.s (GI.t g)) rfl in_X1 (by decide) q147 (Or.inl rfl) (fv_i rfl) ?_
    obtain ⟨wt_3, wf_4⟩ := hw
    refine x_icmp_ge 246 dX0_replyOf_54 (by decide) (fun c_1 => ?_) (fun c_1 => ?_)
    · have hw := wt_3 c_1
      refine x_aload_n 0 dX0_replyOf_246 rfl ?_
      refine x_get (ci := 0) (v := .ref (mr ρ 10)) 2 dX0_replyOf_247 (GI.s g (t := (10, 0)) rfl (by decide)) rfl in_X0 (by decide) q189 (Or.inl rfl) (fv_rc rfl (GI.x g (n := 10) rfl (by decide)) (by decide)) ?_
      refine x_iload_n 1 dX0_replyOf_250 rfl ?_
      refine x_aload_n 3 dX0_replyOf_251 rfl ?_
      obtain ⟨b_2, hw⟩ := hw
      refine x_aastisPl (n := 4) (j := (Int32.toNatClampNeg x1)) dX0_replyOf_252 rfl (GI.s g (t := (5, 4)) rfl (by decide)) fx3 b_2 ?_
      refine x_iload 5 dX0_replyOf_253 rfl ?_
      exact x_iret dX0_replyOf_255 rfl (Nat.le_of_ble_eq_true rfl) (Nat.le_of_ble_eq_true rfl) ⟨_, rfl, (GI.r g (GI.s g (t := (5, 4)) rfl (by decide)) (by decide) (by decide) (by decide)), (Ext.r e (GI.s g (t := (5, 4)) rfl (by decide)) (by decide) (by decide)), hw⟩
    · have hw := wf_4 c_1
      refine x_iconst 0 dX0_replyOf_57 (by decide) ?_
      refine x_istore (lv' := [(9, .int 0), (0, .ref (mr ρ 1)), (1, .int x1), (2, .int x2), (3, .ref (mr ρ x3)), (4, .ref (mr ρ x4)), (5, .int x5), (6, .long x6), (8, .int x8)]) dX0_replyOf_58 (Nat.le_of_ble_eq_true rfl) rfl ?_
      refine X.sub [1, 2, 3, 4, 5, 6, 7, 8, 0] rfl ?_
      obtain ⟨fu, hw⟩ := hw
      exact t_X0_replyOf_60 G ih fu x1 x2 x3 x4 x5 x6 x8 0 h g e fx3 fx4 hw
set_option maxHeartbeats 4000000 in
theorem k_X0_replyOf {ρ : Rho} {h : Hp} {post : Int32 → Hp → Prop} {p1 : Int32} {p2 : Int32} (G : G0 ρ) (g : GI h) (hw : wp_X0_replyOf post h p1 p2) : Con ρ yX0_replyOf (ws_ yX0_replyOf cX0_replyOf 16 (Option.some Jvm.ClassFile.FieldType.int)) rm_X0_replyOf [.ref (mr ρ 1), .int p1, .int p2] h (phI h post) psN := by
  refine con_of (own := "BeforeTheEnd") (isI := false) (l0 := [(0, .ref (mr ρ 1)), (1, .int p1), (2, .int p2)]) (by decide) rfl (fun z => by cases z) (Nat.le_of_ble_eq_true rfl) rfl (fun _ => ?_)
  show X ρ K_X0_replyOf 0 [(0, .ref (mr ρ 1)), (1, .int p1), (2, .int p2)] [] h 0 0 (phI h post) psN
  refine x_aload_n 0 dX0_replyOf_0 rfl ?_
  refine x_get (ci := 0) (v := .ref (mr ρ 10)) 2 dX0_replyOf_1 (GI.s g (t := (10, 0)) rfl (by decide)) rfl in_X0 (by decide) q189 (Or.inl rfl) (fv_rc rfl (GI.x g (n := 10) rfl (by decide)) (by decide)) ?_
  refine x_iload_n 1 dX0_replyOf_4 rfl ?_
  obtain ⟨b_1, hw⟩ := hw
  obtain ⟨b_2, hw⟩ := hw
  refine x_aald5 (n := 4) (j := (Int32.toNatClampNeg p1)) dX0_replyOf_5 rfl (GI.s g (t := (5, 4)) rfl (by decide)) b_1 ?_
  refine x_nn (isPl.nz b_2 (GI.live g)) ?_
  refine x_astore_n (lv' := [(3, .ref (mr ρ (gr h 10 (Int32.toNatClampNeg p1)))), (0, .ref (mr ρ 1)), (1, .int p1), (2, .int p2)]) dX0_replyOf_6 (Nat.le_of_ble_eq_true rfl) rfl ?_
  refine x_new (ci := 12) (n := 4) dX0_replyOf_7 rfl in_X15 tyX15_ok df_X15 q660 q661 q128 (Nat.le_of_ble_eq_true rfl) (Nat.le_of_ble_eq_true rfl) ?_
  refine x_dup dX0_replyOf_10 rfl ?_
  refine x_aload_n 0 dX0_replyOf_11 rfl ?_
  refine x_getP 0 (by decide) dX0_replyOf_12 (isPl.w b_2 (GI.live g)) q607 ?_
  refine x_aload_n 0 dX0_replyOf_15 rfl ?_
  refine x_getP 1 (by decide) dX0_replyOf_16 (isPl.w b_2 (GI.live g)) q616 ?_
  refine x_aload_n 0 dX0_replyOf_19 rfl ?_
  refine x_getP 2 (by decide) dX0_replyOf_20 (isPl.w b_2 (GI.live g)) q622 ?_
  refine x_callI [.int (gi (al h (22, 0)) (gr h 10 (Int32.toNatClampNeg p1)) 0), .int (gi (al h (22, 0)) (gr h 10 (Int32.toNatClampNeg p1)) 1), .int (gi (al h (22, 0)) (gr h 10 (Int32.toNatClampNeg p1)) 2)] 3 dX0_replyOf_23 (k_X15_init_c12 G (GI.w g) sh_new hw) q662 q663 q128 q664 rfl (by decide) rfl rfl ⟨(Nat.le_of_ble_eq_true rfl), (Nat.le_of_ble_eq_true rfl)⟩ (Nat.le_of_ble_eq_true rfl) ⟨(Nat.le_of_ble_eq_true rfl), (Nat.le_of_ble_eq_true rfl)⟩ (fun v9 h_3 hv9 => ?_) (fun _ _ _ _ _ z _ _ => False.elim z)
  obtain ⟨rfl, g_4, e_5, hw⟩ := hv9
  have hw := hw g_4 e_5
  show X ρ K_X0_replyOf 26 [(3, .ref (mr ρ (gr h 10 (Int32.toNatClampNeg p1)))), (0, .ref (mr ρ 1)), (1, .int p1), (2, .int p2)] [.ref (mr ρ (sz h + 1))] h_3 1 4 (phI h post) psN
  refine x_astore (lv' := [(4, .ref (mr ρ (sz h + 1))), (3, .ref (mr ρ (gr h 10 (Int32.toNatClampNeg p1)))), (0, .ref (mr ρ 1)), (1, .int p1), (2, .int p2)]) dX0_replyOf_26 (Nat.le_of_ble_eq_true rfl) rfl ?_
  refine x_aload_n 2 dX0_replyOf_28 rfl ?_
  refine x_get (ci := 0) (v := .ref (mr ρ 10)) 2 dX0_replyOf_29 (GI.s g_4 (t := (10, 0)) rfl (by decide)) rfl in_X0 (by decide) q189 (Or.inl rfl) (fv_rc rfl (GI.x g_4 (n := 10) rfl (by decide)) (by decide)) ?_
  refine x_iload_n 3 dX0_replyOf_32 rfl ?_
  refine x_aload 0 dX0_replyOf_33 rfl ?_
  obtain ⟨b_8, hw⟩ := hw
  refine x_aast (n := 4) (j := (Int32.toNatClampNeg p1)) (ci := 12) dX0_replyOf_35 rfl (GI.s g_4 (t := (5, 4)) rfl (by decide)) (by decide) (by decide) rfl (Ext.s e_5 sh_new (by decide)) rfl rfl q1734 b_8 ?_
  refine x_iconst 0 dX0_replyOf_36 (by decide) ?_
  refine x_istore (lv' := [(5, .int 0), (4, .ref (mr ρ (sz h + 1))), (3, .ref (mr ρ (gr h 10 (Int32.toNatClampNeg p1)))), (0, .ref (mr ρ 1)), (1, .int p1), (2, .int p2)]) dX0_replyOf_37 (Nat.le_of_ble_eq_true rfl) rfl ?_
  refine x_lconst 0 dX0_replyOf_39 (by decide) ?_
  refine x_lstore (lv' := [(6, .long 0), (5, .int 0), (4, .ref (mr ρ (sz h + 1))), (3, .ref (mr ρ (gr h 10 (Int32.toNatClampNeg p1)))), (0, .ref (mr ρ 1)), (1, .int p1), (2, .int p2)]) dX0_replyOf_40 (Nat.le_of_ble_eq_true rfl) rfl ?_
  refine x_iconst 0 dX0_replyOf_42 (by decide) ?_
  refine x_istore (lv' := [(8, .int 0), (6, .long 0), (5, .int 0), (4, .ref (mr ρ (sz h + 1))), (3, .ref (mr ρ (gr h 10 (Int32.toNatClampNeg p1)))), (0, .ref (mr ρ 1)), (1, .int p1), (2, .int p2)]) dX0_replyOf_43 (Nat.le_of_ble_eq_true rfl) rfl ?_
  refine X.sub [5, 6, 7, 4, 3, 2, 1, 0] rfl ?_
  obtain ⟨fu, hw⟩ := hw
  exact t_X0_replyOf_45 G  fu p1 p2 (gr h 10 (Int32.toNatClampNeg p1)) (sz h + 1) 0 0 0 (sr h_3 10 (Int32.toNatClampNeg p1) (sz h + 1)) (GI.r g_4 (GI.s g_4 (t := (5, 4)) rfl (by decide)) (by decide) (by decide) (by decide)) (Ext.r (Ext.tr (Ext.w Ext.rf (GI.live g)) e_5) (GI.s g_4 (t := (5, 4)) rfl (by decide)) (by decide) (by decide)) (isPl.r (isPl.ext (isPl.w b_2 (GI.live g)) e_5)) (Ext.s e_5 sh_new (by decide)) hw

/-! BeforeTheEnd.restOf(II)I -/
def w_X0_restOf_24 (post : Int32 → Hp → Prop) : Nat → Int32 → Int32 → Nat → Nat → Int32 → Hp → Prop
  | 0 => fun _ _ _ _ _ _ => False
  | n + 1 => fun x1 x2 x3 x4 x5 h => ((10 < x5 → (post (-9) h)) ∧ (¬ 10 < x5 → (wp_X0_replyOf (fun r_5 h_2 => GI h_2 → Ext h h_2 → (wp_X0_replyOf (fun r_10 h_7 => GI h_7 → Ext (si h_2 x3 3 r_5) h_7 → ((¬ (gi h x3 3) = (gi (si h_7 x4 3 r_10) x3 3) → (w_X0_restOf_24 post n x1 x2 x3 x4 (x5 + 1) (si h_7 x4 3 r_10))) ∧ ((gi h x3 3) = (gi (si h_7 x4 3 r_10) x3 3) → ((¬ (gi h x4 3) = (gi (si h_7 x4 3 r_10) x4 3) → (w_X0_restOf_24 post n x1 x2 x3 x4 (x5 + 1) (si h_7 x4 3 r_10))) ∧ ((gi h x4 3) = (gi (si h_7 x4 3 r_10) x4 3) → (post x5 (si h_7 x4 3 r_10))))))) (si h_2 x3 3 r_5) x2 2)) h x1 2)))
def wp_X0_restOf (post : Int32 → Hp → Prop) (h : Hp) (p1 : Int32) (p2 : Int32) : Prop := (vp_in p1 4 ∧ (isPl h (gr h 10 (Int32.toNatClampNeg p1)) ∧ (isTP h (gr h 10 (Int32.toNatClampNeg p1)) ∧ (vp_in p2 4 ∧ (isPl h (gr h 10 (Int32.toNatClampNeg p2)) ∧ (isTP h (gr h 10 (Int32.toNatClampNeg p2)) ∧ (w_X0_restOf_24 post 11 p1 p2 (gr h 10 (Int32.toNatClampNeg p1)) (gr h 10 (Int32.toNatClampNeg p2)) 1 h)))))))
abbrev rm_X0_restOf : Room := ({ frames := 14, cells := 22, slots := 88, locals := 395 })
abbrev K_X0_restOf : Kx := ("BeforeTheEnd", cX0_restOf, 8, (Option.some Jvm.ClassFile.FieldType.int), rm_X0_restOf, [], false)
set_option maxHeartbeats 4000000 in
theorem t_X0_restOf_24 {ρ : Rho} {h0 : Hp} {post : Int32 → Hp → Prop} (G : G0 ρ) :
    ∀ (n : Nat), n ≤ 11 → ∀ (x1 : Int32) (x2 : Int32) (x3 : Nat) (x4 : Nat) (x5 : Int32) (h : Hp), GI h → Ext h0 h → isTP h x3 → isTP h x4 → w_X0_restOf_24 post n x1 x2 x3 x4 x5 h → X ρ K_X0_restOf 24 [(0, .ref (mr ρ 1)), (1, .int x1), (2, .int x2), (3, .ref (mr ρ x3)), (4, .ref (mr ρ x4)), (5, .int x5)] [] h (0 + (11 - n) * 2) (0 + (11 - n) * 8) (phI h0 post) psN := by
  intro n
  induction n with
  | zero => intro hn x1 x2 x3 x4 x5 h g e fx3 fx4 hw; exact False.elim hw
  | succ n ih =>
    intro hn x1 x2 x3 x4 x5 h g e fx3 fx4 hw
    refine x_iload 5 dX0_restOf_24 rfl ?_
    refine x_bipush 10 dX0_restOf_26 (by decide) ?_
    obtain ⟨wt_18, wf_19⟩ := hw
    refine x_icmp_gt 93 dX0_restOf_28 (by decide) (fun c_1 => ?_) (fun c_1 => ?_)
    · have hw := wt_18 c_1
      refine x_bipush (-9) dX0_restOf_93 (by decide) ?_
      exact x_iret dX0_restOf_95 rfl (show 0 + (11 - (n + 1)) * 2 ≤ 22 by omega) (show 0 + (11 - (n + 1)) * 8 ≤ 88 by omega) ⟨_, rfl, g, e, hw⟩
    · have hw := wf_19 c_1
      refine x_aload_n 3 dX0_restOf_31 rfl ?_
      refine x_getTPN dX0_restOf_32 fx3 q667 ?_
      refine x_istore (lv' := [(6, .int (gi h x3 3)), (0, .ref (mr ρ 1)), (1, .int x1), (2, .int x2), (3, .ref (mr ρ x3)), (4, .ref (mr ρ x4)), (5, .int x5)]) dX0_restOf_35 (Nat.le_of_ble_eq_true rfl) rfl ?_
      refine x_aload 5 dX0_restOf_37 rfl ?_
      refine x_getTPN dX0_restOf_39 fx4 q667 ?_
      refine x_istore (lv' := [(7, .int (gi h x4 3)), (6, .int (gi h x3 3)), (0, .ref (mr ρ 1)), (1, .int x1), (2, .int x2), (3, .ref (mr ρ x3)), (4, .ref (mr ρ x4)), (5, .int x5)]) dX0_restOf_42 (Nat.le_of_ble_eq_true rfl) rfl ?_
      refine x_aload_n 5 dX0_restOf_44 rfl ?_
      refine x_aload_n 2 dX0_restOf_45 rfl ?_
      refine x_iload_n 3 dX0_restOf_46 rfl ?_
      refine x_iconst 2 dX0_restOf_47 (by decide) ?_
      refine x_callV (ci := 0) [.int x1, .int 2] 2 dX0_restOf_48 (k_X0_replyOf G g hw) (GI.s g (t := (10, 0)) rfl (by decide)) rfl q934 q936 qs32 q104 q937 (by decide) rfl rfl ⟨(Nat.le_of_ble_eq_true rfl), (Nat.le_of_ble_eq_true rfl)⟩ (Nat.le_of_ble_eq_true rfl) ⟨(show 0 + (11 - (n + 1)) * 2 + 1 ≤ 22 by omega), (show 0 + (11 - (n + 1)) * 8 + 4 ≤ 88 by omega)⟩ (fun v9 h_2 hv9 => ?_) (fun _ _ _ _ _ z _ _ => False.elim z)
      obtain ⟨r_5, rfl, g_3, e_4, hw⟩ := hv9
      have hw := hw g_3 e_4
      show X ρ K_X0_restOf 51 [(7, .int (gi h x4 3)), (6, .int (gi h x3 3)), (0, .ref (mr ρ 1)), (1, .int x1), (2, .int x2), (3, .ref (mr ρ x3)), (4, .ref (mr ρ x4)), (5, .int x5)] [.int r_5, .ref (mr ρ x3)] h_2 (0 + (11 - (n + 1)) * 2 + 1) (0 + (11 - (n + 1)) * 8 + 4) (phI h0 post) psN
      refine x_putTPN dX0_restOf_51 (isTP.ext fx3 e_4) q667 ?_
      refine x_aload 6 dX0_restOf_54 rfl ?_
      refine x_aload_n 2 dX0_restOf_56 rfl ?_
      refine x_iload_n 4 dX0_restOf_57 rfl ?_
      refine x_iconst 2 dX0_restOf_58 (by decide) ?_
      refine x_callV (ci := 0) [.int x2, .int 2] 2 dX0_restOf_59 (k_X0_replyOf G (GI.i g_3) hw) (GI.s (GI.i g_3) (t := (10, 0)) rfl (by decide)) rfl q934 q936 qs32 q104 q937 (by decide) rfl rfl ⟨(Nat.le_of_ble_eq_true rfl), (Nat.le_of_ble_eq_true rfl)⟩ (Nat.le_of_ble_eq_true rfl) ⟨(show 0 + (11 - (n + 1)) * 2 + 1 + 1 ≤ 22 by omega), (show 0 + (11 - (n + 1)) * 8 + 4 + 4 ≤ 88 by omega)⟩ (fun v9 h_7 hv9 => ?_) (fun _ _ _ _ _ z _ _ => False.elim z)
      obtain ⟨r_10, rfl, g_8, e_9, hw⟩ := hv9
      have hw := hw g_8 e_9
      show X ρ K_X0_restOf 62 [(7, .int (gi h x4 3)), (6, .int (gi h x3 3)), (0, .ref (mr ρ 1)), (1, .int x1), (2, .int x2), (3, .ref (mr ρ x3)), (4, .ref (mr ρ x4)), (5, .int x5)] [.int r_10, .ref (mr ρ x4)] h_7 (0 + (11 - (n + 1)) * 2 + 1 + 1) (0 + (11 - (n + 1)) * 8 + 4 + 4) (phI h0 post) psN
      refine x_putTPN dX0_restOf_62 (isTP.ext (isTP.ext fx4 e_4) e_9) q667 ?_
      refine x_iload 1 dX0_restOf_65 rfl ?_
      refine x_aload_n 5 dX0_restOf_67 rfl ?_
      refine x_getTPN dX0_restOf_68 (isTP.ext (isTP.ext fx3 e_4) e_9) q667 ?_
      obtain ⟨wt_16, wf_17⟩ := hw
      refine x_icmp_ne 87 dX0_restOf_71 (by decide) (fun c_12 => ?_) (fun c_12 => ?_)
      · have hw := wt_16 c_12
        refine x_iinc (v := (x5 + 1)) (lv' := [(5, .int (x5 + 1)), (7, .int (gi h x4 3)), (6, .int (gi h x3 3)), (0, .ref (mr ρ 1)), (1, .int x1), (2, .int x2), (3, .ref (mr ρ x3)), (4, .ref (mr ρ x4))]) 7 dX0_restOf_87 rfl (by rfl) (Nat.le_of_ble_eq_true rfl) rfl ?_
        refine x_goto 24 dX0_restOf_90 (by decide) ?_
        refine X.widen (k := 0 + (11 - n) * 2) (n := 0 + (11 - n) * 8) (show 0 + (11 - (n + 1)) * 2 + 1 + 1 ≤ 0 + (11 - n) * 2 by omega) (show 0 + (11 - (n + 1)) * 8 + 4 + 4 ≤ 0 + (11 - n) * 8 by omega) ?_
        refine X.sub [3, 4, 5, 6, 7, 0] rfl ?_
        exact ih (by omega) x1 x2 x3 x4 (x5 + 1) (si h_7 x4 3 r_10) (GI.i g_8) (Ext.i (Ext.tr (Ext.i (Ext.tr e e_4)) e_9)) (isTP.ext (isTP.ext fx3 e_4) e_9) (isTP.ext (isTP.ext fx4 e_4) e_9) hw
      · have hw := wf_17 c_12
        refine x_iload 0 dX0_restOf_74 rfl ?_
        refine x_aload 6 dX0_restOf_76 rfl ?_
        refine x_getTPN dX0_restOf_78 (isTP.ext (isTP.ext fx4 e_4) e_9) q667 ?_
        obtain ⟨wt_14, wf_15⟩ := hw
        refine x_icmp_ne 87 dX0_restOf_81 (by decide) (fun c_13 => ?_) (fun c_13 => ?_)
        · have hw := wt_14 c_13
          refine x_iinc (v := (x5 + 1)) (lv' := [(5, .int (x5 + 1)), (7, .int (gi h x4 3)), (6, .int (gi h x3 3)), (0, .ref (mr ρ 1)), (1, .int x1), (2, .int x2), (3, .ref (mr ρ x3)), (4, .ref (mr ρ x4))]) 7 dX0_restOf_87 rfl (by rfl) (Nat.le_of_ble_eq_true rfl) rfl ?_
          refine x_goto 24 dX0_restOf_90 (by decide) ?_
          refine X.widen (k := 0 + (11 - n) * 2) (n := 0 + (11 - n) * 8) (show 0 + (11 - (n + 1)) * 2 + 1 + 1 ≤ 0 + (11 - n) * 2 by omega) (show 0 + (11 - (n + 1)) * 8 + 4 + 4 ≤ 0 + (11 - n) * 8 by omega) ?_
          refine X.sub [3, 4, 5, 6, 7, 0] rfl ?_
          exact ih (by omega) x1 x2 x3 x4 (x5 + 1) (si h_7 x4 3 r_10) (GI.i g_8) (Ext.i (Ext.tr (Ext.i (Ext.tr e e_4)) e_9)) (isTP.ext (isTP.ext fx3 e_4) e_9) (isTP.ext (isTP.ext fx4 e_4) e_9) hw
        · have hw := wf_15 c_13
          refine x_iload 7 dX0_restOf_84 rfl ?_
          exact x_iret dX0_restOf_86 rfl (show 0 + (11 - (n + 1)) * 2 + 1 + 1 ≤ 22 by omega) (show 0 + (11 - (n + 1)) * 8 + 4 + 4 ≤ 88 by omega) ⟨_, rfl, (GI.i g_8), (Ext.i (Ext.tr (Ext.i (Ext.tr e e_4)) e_9)), hw⟩
set_option maxHeartbeats 4000000 in
theorem k_X0_restOf {ρ : Rho} {h : Hp} {post : Int32 → Hp → Prop} {p1 : Int32} {p2 : Int32} (G : G0 ρ) (g : GI h) (hw : wp_X0_restOf post h p1 p2) : Con ρ yX0_restOf (ws_ yX0_restOf cX0_restOf 8 (Option.some Jvm.ClassFile.FieldType.int)) rm_X0_restOf [.ref (mr ρ 1), .int p1, .int p2] h (phI h post) psN := by
  refine con_of (own := "BeforeTheEnd") (isI := false) (l0 := [(0, .ref (mr ρ 1)), (1, .int p1), (2, .int p2)]) (by decide) rfl (fun z => by cases z) (Nat.le_of_ble_eq_true rfl) rfl (fun _ => ?_)
  show X ρ K_X0_restOf 0 [(0, .ref (mr ρ 1)), (1, .int p1), (2, .int p2)] [] h 0 0 (phI h post) psN
  refine x_aload_n 0 dX0_restOf_0 rfl ?_
  refine x_get (ci := 0) (v := .ref (mr ρ 10)) 2 dX0_restOf_1 (GI.s g (t := (10, 0)) rfl (by decide)) rfl in_X0 (by decide) q189 (Or.inl rfl) (fv_rc rfl (GI.x g (n := 10) rfl (by decide)) (by decide)) ?_
  refine x_iload_n 1 dX0_restOf_4 rfl ?_
  obtain ⟨b_1, hw⟩ := hw
  obtain ⟨b_2, hw⟩ := hw
  refine x_aald5 (n := 4) (j := (Int32.toNatClampNeg p1)) dX0_restOf_5 rfl (GI.s g (t := (5, 4)) rfl (by decide)) b_1 ?_
  refine x_nn (isPl.nz b_2 (GI.live g)) ?_
  obtain ⟨b_3, hw⟩ := hw
  refine x_castTP dX0_restOf_6 b_3 q660 ?_
  refine x_astore_n (lv' := [(3, .ref (mr ρ (gr h 10 (Int32.toNatClampNeg p1)))), (0, .ref (mr ρ 1)), (1, .int p1), (2, .int p2)]) dX0_restOf_9 (Nat.le_of_ble_eq_true rfl) rfl ?_
  refine x_aload_n 1 dX0_restOf_10 rfl ?_
  refine x_get (ci := 0) (v := .ref (mr ρ 10)) 2 dX0_restOf_11 (GI.s g (t := (10, 0)) rfl (by decide)) rfl in_X0 (by decide) q189 (Or.inl rfl) (fv_rc rfl (GI.x g (n := 10) rfl (by decide)) (by decide)) ?_
  refine x_iload_n 3 dX0_restOf_14 rfl ?_
  obtain ⟨b_4, hw⟩ := hw
  obtain ⟨b_5, hw⟩ := hw
  refine x_aald5 (n := 4) (j := (Int32.toNatClampNeg p2)) dX0_restOf_15 rfl (GI.s g (t := (5, 4)) rfl (by decide)) b_4 ?_
  refine x_nn (isPl.nz b_5 (GI.live g)) ?_
  obtain ⟨b_6, hw⟩ := hw
  refine x_castTP dX0_restOf_16 b_6 q660 ?_
  refine x_astore (lv' := [(4, .ref (mr ρ (gr h 10 (Int32.toNatClampNeg p2)))), (3, .ref (mr ρ (gr h 10 (Int32.toNatClampNeg p1)))), (0, .ref (mr ρ 1)), (1, .int p1), (2, .int p2)]) dX0_restOf_19 (Nat.le_of_ble_eq_true rfl) rfl ?_
  refine x_iconst 1 dX0_restOf_21 (by decide) ?_
  refine x_istore (lv' := [(5, .int 1), (4, .ref (mr ρ (gr h 10 (Int32.toNatClampNeg p2)))), (3, .ref (mr ρ (gr h 10 (Int32.toNatClampNeg p1)))), (0, .ref (mr ρ 1)), (1, .int p1), (2, .int p2)]) dX0_restOf_22 (Nat.le_of_ble_eq_true rfl) rfl ?_
  refine X.widen (k := 0 + (11 - 11) * 2) (n := 0 + (11 - 11) * 8) (show 0 ≤ 0 + (11 - 11) * 2 by omega) (show 0 ≤ 0 + (11 - 11) * 8 by omega) ?_
  refine X.sub [3, 4, 5, 2, 1, 0] rfl ?_
  exact t_X0_restOf_24 G  11 (Nat.le_refl _) p1 p2 (gr h 10 (Int32.toNatClampNeg p1)) (gr h 10 (Int32.toNatClampNeg p2)) 1 h g Ext.rf b_3 b_6 hw
