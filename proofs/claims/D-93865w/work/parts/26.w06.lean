/-! THE WALK, printed by wip/D-93865w/gen/main.py -/
set_option maxRecDepth 100000
/-! BeforeTheEnd.restTold(II)I -/
def w_X0_restTold_46 (post : Int32 → Hp → Prop) (px : Nat → Hp → Prop) (x1 : Int32) (x2 : Int32) (z0 : Int32) (h : Hp) : Prop := (∀ z_2 : Int32, z_2 = ((if z0 = 4 then 1 else 0) : Int32) → (wp_X0_must (fun h_3 => GI h_3 → Ext h h_3 → (wp_X0_mustBeWhole (fun h_8 => GI h_8 → Ext h_3 h_8 → (wp_X0_restOf (fun r_16 h_13 => GI h_13 → Ext h_8 h_13 → (post r_16 h_13)) h_8 x1 x2)) px h_3)) px h z_2 (-2)))
def w_X0_restTold_33 (post : Int32 → Hp → Prop) (px : Nat → Hp → Prop) (x1 : Int32) (x2 : Int32) (z0 : Int32) (h : Hp) : Prop := ((¬ z0 = 4 → (wp_X0_must (fun h_2 => GI h_2 → Ext h h_2 → (wp_X0_mustBeWhole (fun h_7 => GI h_7 → Ext h_2 h_7 → (wp_X0_restOf (fun r_15 h_12 => GI h_12 → Ext h_7 h_12 → (post r_15 h_12)) h_7 x1 x2)) px h_2)) px h 0 (-2))) ∧ (z0 = 4 → (vp_in x2 4 ∧ (isPl h (gr h 10 (Int32.toNatClampNeg x2)) ∧ (wv_X10_kind_isPl (fun r_22 h_19 => GI h_19 → Ext h h_19 → (w_X0_restTold_46 post px x1 x2 r_22 h_19)) h (gr h 10 (Int32.toNatClampNeg x2)))))))
def wp_X0_restTold (post : Int32 → Hp → Prop) (px : Nat → Hp → Prop) (h : Hp) (p1 : Int32) (p2 : Int32) : Prop := (wp_X0_mustBePlayer (fun h_1 => GI h_1 → Ext h h_1 → (wp_X0_mustBePlayer (fun h_6 => GI h_6 → Ext h_1 h_6 → (∀ z_12 : Int32, z_12 = ((if p1 = p2 then 0 else 1) : Int32) → (wp_X0_must (fun h_13 => GI h_13 → Ext h_6 h_13 → (vp_in p1 4 ∧ (isPl h_13 (gr h_13 10 (Int32.toNatClampNeg p1)) ∧ (wv_X10_kind_isPl (fun r_23 h_20 => GI h_20 → Ext h_13 h_20 → (w_X0_restTold_33 post px p1 p2 r_23 h_20)) h_13 (gr h_13 10 (Int32.toNatClampNeg p1)))))) px h_6 z_12 (-1)))) px h_1 p2)) px h p1)
abbrev rm_X0_restTold : Room := ({ frames := 15, cells := 27, slots := 123, locals := 422 })
abbrev K_X0_restTold : Kx := ("BeforeTheEnd", cX0_restTold, 3, (Option.some Jvm.ClassFile.FieldType.int), rm_X0_restTold, [], false)
set_option maxHeartbeats 4000000 in
theorem t_X0_restTold_46 {ρ : Rho} {h0 : Hp} {post : Int32 → Hp → Prop} {px : Nat → Hp → Prop} (G : G0 ρ) :
    ∀ (x1 : Int32) (x2 : Int32) (z0 : Int32) (h : Hp), GI h → Ext h0 h → w_X0_restTold_46 post px x1 x2 z0 h → X ρ K_X0_restTold 46 [(0, .ref (mr ρ 1)), (1, .int x1), (2, .int x2)] [.int z0] h 3 21 (phI h0 post) (psX h0 px) := by
  intro x1 x2 z0 h g e hw
  refine x_iconst 4 dX0_restTold_46 (by decide) ?_
  have kJ_18 : ∀ z_2 : Int32, z_2 = ((if z0 = 4 then 1 else 0) : Int32) → X ρ K_X0_restTold 55 [(0, .ref (mr ρ 1)), (1, .int x1), (2, .int x2)] [.int z_2] h 3 21 (phI h0 post) (psX h0 px) := fun z_2 ez_2 => by
    have hw := hw z_2 ez_2
    refine x_bipush (-2) dX0_restTold_55 (by decide) ?_
    refine x_callS [.int z_2, .int (-2)] 2 dX0_restTold_57 (k_X0_must G g hw) q294 q295 q104 q296 (by decide) rfl rfl ⟨(Nat.le_of_ble_eq_true rfl), (Nat.le_of_ble_eq_true rfl)⟩ (Nat.le_of_ble_eq_true rfl) ⟨(Nat.le_of_ble_eq_true rfl), (Nat.le_of_ble_eq_true rfl)⟩ (fun v9 h_3 hv9 => ?_) (fun q9 h9 ci9 n9 x9 hx9 hs9 hc9 => xt_out hs9 hc9 (fun z hz => by cases hz) (Nat.le_of_ble_eq_true rfl) (Nat.le_of_ble_eq_true rfl) ⟨hx9.1, Ext.tr e hx9.2.1, hx9.2.2⟩)
    obtain ⟨rfl, g_4, e_5, hw⟩ := hv9
    have hw := hw g_4 e_5
    show X ρ K_X0_restTold 60 [(0, .ref (mr ρ 1)), (1, .int x1), (2, .int x2)] [] h_3 4 28 (phI h0 post) (psX h0 px)
    refine x_aload_n 0 dX0_restTold_60 rfl ?_
    refine x_callV (ci := 0) [] 0 dX0_restTold_61 (k_X0_mustBeWhole G g_4 hw) (GI.s g_4 (t := (10, 0)) rfl (by decide)) rfl q801 q803 qs18 q104 q804 (by decide) rfl rfl ⟨(Nat.le_of_ble_eq_true rfl), (Nat.le_of_ble_eq_true rfl)⟩ (Nat.le_of_ble_eq_true rfl) ⟨(Nat.le_of_ble_eq_true rfl), (Nat.le_of_ble_eq_true rfl)⟩ (fun v9 h_8 hv9 => ?_) (fun q9 h9 ci9 n9 x9 hx9 hs9 hc9 => xt_out hs9 hc9 (fun z hz => by cases hz) (Nat.le_of_ble_eq_true rfl) (Nat.le_of_ble_eq_true rfl) ⟨hx9.1, Ext.tr (Ext.tr e e_5) hx9.2.1, hx9.2.2⟩)
    obtain ⟨rfl, g_9, e_10, hw⟩ := hv9
    have hw := hw g_9 e_10
    show X ρ K_X0_restTold 64 [(0, .ref (mr ρ 1)), (1, .int x1), (2, .int x2)] [] h_8 5 35 (phI h0 post) (psX h0 px)
    refine x_aload_n 0 dX0_restTold_64 rfl ?_
    refine x_iload_n 1 dX0_restTold_65 rfl ?_
    refine x_iload_n 2 dX0_restTold_66 rfl ?_
    refine x_callV (ci := 0) [.int x1, .int x2] 2 dX0_restTold_67 (k_X0_restOf G g_9 hw) (GI.s g_9 (t := (10, 0)) rfl (by decide)) rfl q949 q951 qs35 q104 q952 (by decide) rfl rfl ⟨(Nat.le_of_ble_eq_true rfl), (Nat.le_of_ble_eq_true rfl)⟩ (Nat.le_of_ble_eq_true rfl) ⟨(Nat.le_of_ble_eq_true rfl), (Nat.le_of_ble_eq_true rfl)⟩ (fun v9 h_13 hv9 => ?_) (fun _ _ _ _ _ z _ _ => False.elim z)
    obtain ⟨r_16, rfl, g_14, e_15, hw⟩ := hv9
    have hw := hw g_14 e_15
    show X ρ K_X0_restTold 70 [(0, .ref (mr ρ 1)), (1, .int x1), (2, .int x2)] [.int r_16] h_13 27 123 (phI h0 post) (psX h0 px)
    exact x_iret dX0_restTold_70 rfl (Nat.le_of_ble_eq_true rfl) (Nat.le_of_ble_eq_true rfl) ⟨_, rfl, g_14, (Ext.tr (Ext.tr (Ext.tr e e_5) e_10) e_15), hw⟩
  refine x_icmp_ne 54 dX0_restTold_47 (by decide) (fun c_1 => ?_) (fun c_1 => ?_)
  · refine x_iconst 0 dX0_restTold_54 (by decide) ?_
    exact kJ_18 _ ((if_neg c_1)).symm
  · refine x_iconst 1 dX0_restTold_50 (by decide) ?_
    refine x_goto 55 dX0_restTold_51 (by decide) ?_
    exact kJ_18 _ ((if_pos c_1)).symm
set_option maxHeartbeats 4000000 in
theorem t_X0_restTold_33 {ρ : Rho} {h0 : Hp} {post : Int32 → Hp → Prop} {px : Nat → Hp → Prop} (G : G0 ρ) :
    ∀ (x1 : Int32) (x2 : Int32) (z0 : Int32) (h : Hp), GI h → Ext h0 h → w_X0_restTold_33 post px x1 x2 z0 h → X ρ K_X0_restTold 33 [(0, .ref (mr ρ 1)), (1, .int x1), (2, .int x2)] [.int z0] h 3 21 (phI h0 post) (psX h0 px) := by
  intro x1 x2 z0 h g e hw
  refine x_iconst 4 dX0_restTold_33 (by decide) ?_
  obtain ⟨wt_31, wf_32⟩ := hw
  refine x_icmp_ne 54 dX0_restTold_34 (by decide) (fun c_1 => ?_) (fun c_1 => ?_)
  · have hw := wt_31 c_1
    refine x_iconst 0 dX0_restTold_54 (by decide) ?_
    refine x_bipush (-2) dX0_restTold_55 (by decide) ?_
    refine x_callS [.int 0, .int (-2)] 2 dX0_restTold_57 (k_X0_must G g hw) q294 q295 q104 q296 (by decide) rfl rfl ⟨(Nat.le_of_ble_eq_true rfl), (Nat.le_of_ble_eq_true rfl)⟩ (Nat.le_of_ble_eq_true rfl) ⟨(Nat.le_of_ble_eq_true rfl), (Nat.le_of_ble_eq_true rfl)⟩ (fun v9 h_2 hv9 => ?_) (fun q9 h9 ci9 n9 x9 hx9 hs9 hc9 => xt_out hs9 hc9 (fun z hz => by cases hz) (Nat.le_of_ble_eq_true rfl) (Nat.le_of_ble_eq_true rfl) ⟨hx9.1, Ext.tr e hx9.2.1, hx9.2.2⟩)
    obtain ⟨rfl, g_3, e_4, hw⟩ := hv9
    have hw := hw g_3 e_4
    show X ρ K_X0_restTold 60 [(0, .ref (mr ρ 1)), (1, .int x1), (2, .int x2)] [] h_2 4 28 (phI h0 post) (psX h0 px)
    refine x_aload_n 0 dX0_restTold_60 rfl ?_
    refine x_callV (ci := 0) [] 0 dX0_restTold_61 (k_X0_mustBeWhole G g_3 hw) (GI.s g_3 (t := (10, 0)) rfl (by decide)) rfl q801 q803 qs18 q104 q804 (by decide) rfl rfl ⟨(Nat.le_of_ble_eq_true rfl), (Nat.le_of_ble_eq_true rfl)⟩ (Nat.le_of_ble_eq_true rfl) ⟨(Nat.le_of_ble_eq_true rfl), (Nat.le_of_ble_eq_true rfl)⟩ (fun v9 h_7 hv9 => ?_) (fun q9 h9 ci9 n9 x9 hx9 hs9 hc9 => xt_out hs9 hc9 (fun z hz => by cases hz) (Nat.le_of_ble_eq_true rfl) (Nat.le_of_ble_eq_true rfl) ⟨hx9.1, Ext.tr (Ext.tr e e_4) hx9.2.1, hx9.2.2⟩)
    obtain ⟨rfl, g_8, e_9, hw⟩ := hv9
    have hw := hw g_8 e_9
    show X ρ K_X0_restTold 64 [(0, .ref (mr ρ 1)), (1, .int x1), (2, .int x2)] [] h_7 5 35 (phI h0 post) (psX h0 px)
    refine x_aload_n 0 dX0_restTold_64 rfl ?_
    refine x_iload_n 1 dX0_restTold_65 rfl ?_
    refine x_iload_n 2 dX0_restTold_66 rfl ?_
    refine x_callV (ci := 0) [.int x1, .int x2] 2 dX0_restTold_67 (k_X0_restOf G g_8 hw) (GI.s g_8 (t := (10, 0)) rfl (by decide)) rfl q949 q951 qs35 q104 q952 (by decide) rfl rfl ⟨(Nat.le_of_ble_eq_true rfl), (Nat.le_of_ble_eq_true rfl)⟩ (Nat.le_of_ble_eq_true rfl) ⟨(Nat.le_of_ble_eq_true rfl), (Nat.le_of_ble_eq_true rfl)⟩ (fun v9 h_12 hv9 => ?_) (fun _ _ _ _ _ z _ _ => False.elim z)
    obtain ⟨r_15, rfl, g_13, e_14, hw⟩ := hv9
    have hw := hw g_13 e_14
    show X ρ K_X0_restTold 70 [(0, .ref (mr ρ 1)), (1, .int x1), (2, .int x2)] [.int r_15] h_12 27 123 (phI h0 post) (psX h0 px)
    exact x_iret dX0_restTold_70 rfl (Nat.le_of_ble_eq_true rfl) (Nat.le_of_ble_eq_true rfl) ⟨_, rfl, g_13, (Ext.tr (Ext.tr (Ext.tr e e_4) e_9) e_14), hw⟩
  · have hw := wf_32 c_1
    refine x_aload_n 0 dX0_restTold_37 rfl ?_
    refine x_get (ci := 0) (v := .ref (mr ρ 10)) 2 dX0_restTold_38 (GI.s g (t := (10, 0)) rfl (by decide)) rfl in_X0 (by decide) q189 (Or.inl rfl) (fv_rc rfl (GI.x g (n := 10) rfl (by decide)) (by decide)) ?_
    refine x_iload_n 2 dX0_restTold_41 rfl ?_
    obtain ⟨b_17, hw⟩ := hw
    obtain ⟨b_18, hw⟩ := hw
    refine x_aald5 (n := 4) (j := (Int32.toNatClampNeg x2)) dX0_restTold_42 rfl (GI.s g (t := (5, 4)) rfl (by decide)) b_17 ?_
    refine x_nn (isPl.nz b_18 (GI.live g)) ?_
    have kk_30 : ∀ (v9 : Option Value) (h_19 : Hp), (phI h (fun r_22 h_19 => GI h_19 → Ext h h_19 → (w_X0_restTold_46 post px x1 x2 r_22 h_19))) v9 h_19 → X ρ K_X0_restTold 46 [(0, .ref (mr ρ 1)), (1, .int x1), (2, .int x2)] (v9.toList ++ []) h_19 3 21 (phI h0 post) (psX h0 px) := by
      intro v9 h_19 hv9
      obtain ⟨r_22, rfl, g_20, e_21, hw⟩ := hv9
      have hw := hw g_20 e_21
      show X ρ K_X0_restTold 46 [(0, .ref (mr ρ 1)), (1, .int x1), (2, .int x2)] [.int r_22] h_19 3 21 (phI h0 post) (psX h0 px)
      exact t_X0_restTold_46 G  x1 x2 r_22 h_19 g_20 (Ext.tr e e_21) hw
    obtain ⟨wc_24, wc_25, wc_26, wc_27, wc_28, wc_29⟩ := hw
    rcases b_18 with fc9 | fc9 | fc9 | fc9 | fc9 | fc9
    · exact x_callA (ci := 8) (x0 := ⟨"BeforeTheEnd$Player", "kind", "()I"⟩) (owner := "BeforeTheEnd$Player") [] 0 dX0_restTold_43 (k_X11_kind_c8 G g fc9 (wc_24 fc9)) fc9 rfl (lw_U q755 q757 q764 q765 q124 q766) q756 (by decide) rfl rfl ⟨(Nat.le_of_ble_eq_true rfl), (Nat.le_of_ble_eq_true rfl)⟩ (Nat.le_of_ble_eq_true rfl) ⟨(Nat.le_of_ble_eq_true rfl), (Nat.le_of_ble_eq_true rfl)⟩ kk_30 (fun _ _ _ _ _ z _ _ => False.elim z)
    · exact x_callA (ci := 9) (x0 := ⟨"BeforeTheEnd$Player", "kind", "()I"⟩) (owner := "BeforeTheEnd$Player") [] 0 dX0_restTold_43 (k_X12_kind_c9 G g fc9 (wc_25 fc9)) fc9 rfl (lw_U q755 q757 q770 q771 q125 q772) q756 (by decide) rfl rfl ⟨(Nat.le_of_ble_eq_true rfl), (Nat.le_of_ble_eq_true rfl)⟩ (Nat.le_of_ble_eq_true rfl) ⟨(Nat.le_of_ble_eq_true rfl), (Nat.le_of_ble_eq_true rfl)⟩ kk_30 (fun _ _ _ _ _ z _ _ => False.elim z)
    · exact x_callA (ci := 10) (x0 := ⟨"BeforeTheEnd$Player", "kind", "()I"⟩) (owner := "BeforeTheEnd$Player") [] 0 dX0_restTold_43 (k_X13_kind_c10 G g fc9 (wc_26 fc9)) fc9 rfl (lw_U q755 q757 q761 q762 q126 q763) q756 (by decide) rfl rfl ⟨(Nat.le_of_ble_eq_true rfl), (Nat.le_of_ble_eq_true rfl)⟩ (Nat.le_of_ble_eq_true rfl) ⟨(Nat.le_of_ble_eq_true rfl), (Nat.le_of_ble_eq_true rfl)⟩ kk_30 (fun _ _ _ _ _ z _ _ => False.elim z)
    · exact x_callA (ci := 11) (x0 := ⟨"BeforeTheEnd$Player", "kind", "()I"⟩) (owner := "BeforeTheEnd$Player") [] 0 dX0_restTold_43 (k_X14_kind_c11 G g fc9 (wc_27 fc9)) fc9 rfl (lw_U q755 q757 q767 q768 q127 q769) q756 (by decide) rfl rfl ⟨(Nat.le_of_ble_eq_true rfl), (Nat.le_of_ble_eq_true rfl)⟩ (Nat.le_of_ble_eq_true rfl) ⟨(Nat.le_of_ble_eq_true rfl), (Nat.le_of_ble_eq_true rfl)⟩ kk_30 (fun _ _ _ _ _ z _ _ => False.elim z)
    · exact x_callA (ci := 12) (x0 := ⟨"BeforeTheEnd$Player", "kind", "()I"⟩) (owner := "BeforeTheEnd$Player") [] 0 dX0_restTold_43 (k_X15_kind_c12 G g fc9 (wc_28 fc9)) fc9 rfl (lw_U q755 q757 q773 q774 q128 q775) q756 (by decide) rfl rfl ⟨(Nat.le_of_ble_eq_true rfl), (Nat.le_of_ble_eq_true rfl)⟩ (Nat.le_of_ble_eq_true rfl) ⟨(Nat.le_of_ble_eq_true rfl), (Nat.le_of_ble_eq_true rfl)⟩ kk_30 (fun _ _ _ _ _ z _ _ => False.elim z)
    · exact x_callA (ci := 13) (x0 := ⟨"BeforeTheEnd$Player", "kind", "()I"⟩) (owner := "BeforeTheEnd$Player") [] 0 dX0_restTold_43 (k_X16_kind_c13 G g fc9 (wc_29 fc9)) fc9 rfl (lw_U q755 q757 q758 q759 q129 q760) q756 (by decide) rfl rfl ⟨(Nat.le_of_ble_eq_true rfl), (Nat.le_of_ble_eq_true rfl)⟩ (Nat.le_of_ble_eq_true rfl) ⟨(Nat.le_of_ble_eq_true rfl), (Nat.le_of_ble_eq_true rfl)⟩ kk_30 (fun _ _ _ _ _ z _ _ => False.elim z)
set_option maxHeartbeats 4000000 in
theorem k_X0_restTold {ρ : Rho} {h : Hp} {post : Int32 → Hp → Prop} {px : Nat → Hp → Prop} {p1 : Int32} {p2 : Int32} (G : G0 ρ) (g : GI h) (hw : wp_X0_restTold post px h p1 p2) : Con ρ yX0_restTold (ws_ yX0_restTold cX0_restTold 3 (Option.some Jvm.ClassFile.FieldType.int)) rm_X0_restTold [.ref (mr ρ 1), .int p1, .int p2] h (phI h post) (psX h px) := by
  refine con_of (own := "BeforeTheEnd") (isI := false) (l0 := [(0, .ref (mr ρ 1)), (1, .int p1), (2, .int p2)]) (by decide) rfl (fun z => by cases z) (Nat.le_of_ble_eq_true rfl) rfl (fun _ => ?_)
  show X ρ K_X0_restTold 0 [(0, .ref (mr ρ 1)), (1, .int p1), (2, .int p2)] [] h 0 0 (phI h post) (psX h px)
  refine x_aload_n 0 dX0_restTold_0 rfl ?_
  refine x_iload_n 1 dX0_restTold_1 rfl ?_
  refine x_callV (ci := 0) [.int p1] 1 dX0_restTold_2 (k_X0_mustBePlayer G g hw) (GI.s g (t := (10, 0)) rfl (by decide)) rfl q751 q753 qs17 q104 q754 (by decide) rfl rfl ⟨(Nat.le_of_ble_eq_true rfl), (Nat.le_of_ble_eq_true rfl)⟩ (Nat.le_of_ble_eq_true rfl) ⟨(Nat.le_of_ble_eq_true rfl), (Nat.le_of_ble_eq_true rfl)⟩ (fun v9 h_1 hv9 => ?_) (fun q9 h9 ci9 n9 x9 hx9 hs9 hc9 => xt_out hs9 hc9 (fun z hz => by cases hz) (Nat.le_of_ble_eq_true rfl) (Nat.le_of_ble_eq_true rfl) ⟨hx9.1, Ext.tr Ext.rf hx9.2.1, hx9.2.2⟩)
  obtain ⟨rfl, g_2, e_3, hw⟩ := hv9
  have hw := hw g_2 e_3
  show X ρ K_X0_restTold 5 [(0, .ref (mr ρ 1)), (1, .int p1), (2, .int p2)] [] h_1 1 7 (phI h post) (psX h px)
  refine x_aload_n 0 dX0_restTold_5 rfl ?_
  refine x_iload_n 2 dX0_restTold_6 rfl ?_
  refine x_callV (ci := 0) [.int p2] 1 dX0_restTold_7 (k_X0_mustBePlayer G g_2 hw) (GI.s g_2 (t := (10, 0)) rfl (by decide)) rfl q751 q753 qs17 q104 q754 (by decide) rfl rfl ⟨(Nat.le_of_ble_eq_true rfl), (Nat.le_of_ble_eq_true rfl)⟩ (Nat.le_of_ble_eq_true rfl) ⟨(Nat.le_of_ble_eq_true rfl), (Nat.le_of_ble_eq_true rfl)⟩ (fun v9 h_6 hv9 => ?_) (fun q9 h9 ci9 n9 x9 hx9 hs9 hc9 => xt_out hs9 hc9 (fun z hz => by cases hz) (Nat.le_of_ble_eq_true rfl) (Nat.le_of_ble_eq_true rfl) ⟨hx9.1, Ext.tr e_3 hx9.2.1, hx9.2.2⟩)
  obtain ⟨rfl, g_7, e_8, hw⟩ := hv9
  have hw := hw g_7 e_8
  show X ρ K_X0_restTold 10 [(0, .ref (mr ρ 1)), (1, .int p1), (2, .int p2)] [] h_6 2 14 (phI h post) (psX h px)
  refine x_iload_n 1 dX0_restTold_10 rfl ?_
  refine x_iload_n 2 dX0_restTold_11 rfl ?_
  have kJ_32 : ∀ z_12 : Int32, z_12 = ((if p1 = p2 then 0 else 1) : Int32) → X ρ K_X0_restTold 20 [(0, .ref (mr ρ 1)), (1, .int p1), (2, .int p2)] [.int z_12] h_6 2 14 (phI h post) (psX h px) := fun z_12 ez_12 => by
    have hw := hw z_12 ez_12
    refine x_iconst (-1) dX0_restTold_20 (by decide) ?_
    refine x_callS [.int z_12, .int (-1)] 2 dX0_restTold_21 (k_X0_must G g_7 hw) q294 q295 q104 q296 (by decide) rfl rfl ⟨(Nat.le_of_ble_eq_true rfl), (Nat.le_of_ble_eq_true rfl)⟩ (Nat.le_of_ble_eq_true rfl) ⟨(Nat.le_of_ble_eq_true rfl), (Nat.le_of_ble_eq_true rfl)⟩ (fun v9 h_13 hv9 => ?_) (fun q9 h9 ci9 n9 x9 hx9 hs9 hc9 => xt_out hs9 hc9 (fun z hz => by cases hz) (Nat.le_of_ble_eq_true rfl) (Nat.le_of_ble_eq_true rfl) ⟨hx9.1, Ext.tr (Ext.tr e_3 e_8) hx9.2.1, hx9.2.2⟩)
    obtain ⟨rfl, g_14, e_15, hw⟩ := hv9
    have hw := hw g_14 e_15
    show X ρ K_X0_restTold 24 [(0, .ref (mr ρ 1)), (1, .int p1), (2, .int p2)] [] h_13 3 21 (phI h post) (psX h px)
    refine x_aload_n 0 dX0_restTold_24 rfl ?_
    refine x_get (ci := 0) (v := .ref (mr ρ 10)) 2 dX0_restTold_25 (GI.s g_14 (t := (10, 0)) rfl (by decide)) rfl in_X0 (by decide) q189 (Or.inl rfl) (fv_rc rfl (GI.x g_14 (n := 10) rfl (by decide)) (by decide)) ?_
    refine x_iload_n 1 dX0_restTold_28 rfl ?_
    obtain ⟨b_18, hw⟩ := hw
    obtain ⟨b_19, hw⟩ := hw
    refine x_aald5 (n := 4) (j := (Int32.toNatClampNeg p1)) dX0_restTold_29 rfl (GI.s g_14 (t := (5, 4)) rfl (by decide)) b_18 ?_
    refine x_nn (isPl.nz b_19 (GI.live g_14)) ?_
    have kk_31 : ∀ (v9 : Option Value) (h_20 : Hp), (phI h_13 (fun r_23 h_20 => GI h_20 → Ext h_13 h_20 → (w_X0_restTold_33 post px p1 p2 r_23 h_20))) v9 h_20 → X ρ K_X0_restTold 33 [(0, .ref (mr ρ 1)), (1, .int p1), (2, .int p2)] (v9.toList ++ []) h_20 3 21 (phI h post) (psX h px) := by
      intro v9 h_20 hv9
      obtain ⟨r_23, rfl, g_21, e_22, hw⟩ := hv9
      have hw := hw g_21 e_22
      show X ρ K_X0_restTold 33 [(0, .ref (mr ρ 1)), (1, .int p1), (2, .int p2)] [.int r_23] h_20 3 21 (phI h post) (psX h px)
      exact t_X0_restTold_33 G  p1 p2 r_23 h_20 g_21 (Ext.tr (Ext.tr (Ext.tr e_3 e_8) e_15) e_22) hw
    obtain ⟨wc_25, wc_26, wc_27, wc_28, wc_29, wc_30⟩ := hw
    rcases b_19 with fc9 | fc9 | fc9 | fc9 | fc9 | fc9
    · exact x_callA (ci := 8) (x0 := ⟨"BeforeTheEnd$Player", "kind", "()I"⟩) (owner := "BeforeTheEnd$Player") [] 0 dX0_restTold_30 (k_X11_kind_c8 G g_14 fc9 (wc_25 fc9)) fc9 rfl (lw_U q755 q757 q764 q765 q124 q766) q756 (by decide) rfl rfl ⟨(Nat.le_of_ble_eq_true rfl), (Nat.le_of_ble_eq_true rfl)⟩ (Nat.le_of_ble_eq_true rfl) ⟨(Nat.le_of_ble_eq_true rfl), (Nat.le_of_ble_eq_true rfl)⟩ kk_31 (fun _ _ _ _ _ z _ _ => False.elim z)
    · exact x_callA (ci := 9) (x0 := ⟨"BeforeTheEnd$Player", "kind", "()I"⟩) (owner := "BeforeTheEnd$Player") [] 0 dX0_restTold_30 (k_X12_kind_c9 G g_14 fc9 (wc_26 fc9)) fc9 rfl (lw_U q755 q757 q770 q771 q125 q772) q756 (by decide) rfl rfl ⟨(Nat.le_of_ble_eq_true rfl), (Nat.le_of_ble_eq_true rfl)⟩ (Nat.le_of_ble_eq_true rfl) ⟨(Nat.le_of_ble_eq_true rfl), (Nat.le_of_ble_eq_true rfl)⟩ kk_31 (fun _ _ _ _ _ z _ _ => False.elim z)
    · exact x_callA (ci := 10) (x0 := ⟨"BeforeTheEnd$Player", "kind", "()I"⟩) (owner := "BeforeTheEnd$Player") [] 0 dX0_restTold_30 (k_X13_kind_c10 G g_14 fc9 (wc_27 fc9)) fc9 rfl (lw_U q755 q757 q761 q762 q126 q763) q756 (by decide) rfl rfl ⟨(Nat.le_of_ble_eq_true rfl), (Nat.le_of_ble_eq_true rfl)⟩ (Nat.le_of_ble_eq_true rfl) ⟨(Nat.le_of_ble_eq_true rfl), (Nat.le_of_ble_eq_true rfl)⟩ kk_31 (fun _ _ _ _ _ z _ _ => False.elim z)
    · exact x_callA (ci := 11) (x0 := ⟨"BeforeTheEnd$Player", "kind", "()I"⟩) (owner := "BeforeTheEnd$Player") [] 0 dX0_restTold_30 (k_X14_kind_c11 G g_14 fc9 (wc_28 fc9)) fc9 rfl (lw_U q755 q757 q767 q768 q127 q769) q756 (by decide) rfl rfl ⟨(Nat.le_of_ble_eq_true rfl), (Nat.le_of_ble_eq_true rfl)⟩ (Nat.le_of_ble_eq_true rfl) ⟨(Nat.le_of_ble_eq_true rfl), (Nat.le_of_ble_eq_true rfl)⟩ kk_31 (fun _ _ _ _ _ z _ _ => False.elim z)
    · exact x_callA (ci := 12) (x0 := ⟨"BeforeTheEnd$Player", "kind", "()I"⟩) (owner := "BeforeTheEnd$Player") [] 0 dX0_restTold_30 (k_X15_kind_c12 G g_14 fc9 (wc_29 fc9)) fc9 rfl (lw_U q755 q757 q773 q774 q128 q775) q756 (by decide) rfl rfl ⟨(Nat.le_of_ble_eq_true rfl), (Nat.le_of_ble_eq_true rfl)⟩ (Nat.le_of_ble_eq_true rfl) ⟨(Nat.le_of_ble_eq_true rfl), (Nat.le_of_ble_eq_true rfl)⟩ kk_31 (fun _ _ _ _ _ z _ _ => False.elim z)
    · exact x_callA (ci := 13) (x0 := ⟨"BeforeTheEnd$Player", "kind", "()I"⟩) (owner := "BeforeTheEnd$Player") [] 0 dX0_restTold_30 (k_X16_kind_c13 G g_14 fc9 (wc_30 fc9)) fc9 rfl (lw_U q755 q757 q758 q759 q129 q760) q756 (by decide) rfl rfl ⟨(Nat.le_of_ble_eq_true rfl), (Nat.le_of_ble_eq_true rfl)⟩ (Nat.le_of_ble_eq_true rfl) ⟨(Nat.le_of_ble_eq_true rfl), (Nat.le_of_ble_eq_true rfl)⟩ kk_31 (fun _ _ _ _ _ z _ _ => False.elim z)
  refine x_icmp_eq 19 dX0_restTold_12 (by decide) (fun c_11 => ?_) (fun c_11 => ?_)
  · refine x_iconst 0 dX0_restTold_19 (by decide) ?_
    exact kJ_32 _ ((if_pos c_11)).symm
  · refine x_iconst 1 dX0_restTold_15 (by decide) ?_
    refine x_goto 20 dX0_restTold_16 (by decide) ?_
    exact kJ_32 _ ((if_neg c_11)).symm

/-! BeforeTheEnd.wrongFor(I)I -/
def w_X0_wrongFor_85 (post : Int32 → Hp → Prop) (x2 : Int32) (x3 : Int32) (h : Hp) : Prop := (post x3 (si (si h 11 1 x2) 1 0 ((gi (si h 11 1 x2) 1 0) + 1)))
def w_X0_wrongFor_13 (post : Int32 → Hp → Prop) : Nat → Int32 → Int32 → Int32 → Int32 → Hp → Prop
  | 0 => fun _ _ _ _ _ => False
  | n + 1 => fun x1 x2 x3 x4 h => ((20 < x4 → (w_X0_wrongFor_85 post x2 x3 h)) ∧ (¬ 20 < x4 → ((¬ x3 = (-9) → (w_X0_wrongFor_85 post x2 x3 h)) ∧ (x3 = (-9) → (wp_X0_runAll (fun h_3 => GI h_3 → Ext (si (si h 11 1 x4) 1 0 ((gi (si h 11 1 x4) 1 0) + 1)) h_3 → (wp_X1_units (fun r_11 h_8 => GI h_8 → Ext h_3 h_8 → (((100 * (gl h_3 1 25)) < ((Int32.toInt64 x1) * r_11) → (w_X0_wrongFor_13 post n x1 x2 (-9) (x4 + 1) h_8)) ∧ (¬ (100 * (gl h_3 1 25)) < ((Int32.toInt64 x1) * r_11) → (w_X0_wrongFor_13 post n x1 x2 x4 (x4 + 1) h_8)))) h_3 (gr h_3 1 1) 0)) (si (si h 11 1 x4) 1 0 ((gi (si h 11 1 x4) 1 0) + 1)))))))
def wp_X0_wrongFor (post : Int32 → Hp → Prop) (h : Hp) (p1 : Int32) : Prop := (∃ fu : Nat, w_X0_wrongFor_13 post fu p1 (gi h 11 1) (-9) 0 h)
abbrev rm_X0_wrongFor : Room := ({ frames := 13, cells := 0, slots := 0, locals := 360 })
abbrev K_X0_wrongFor : Kx := ("BeforeTheEnd", cX0_wrongFor, 5, (Option.some Jvm.ClassFile.FieldType.int), rm_X0_wrongFor, [], false)
set_option maxHeartbeats 4000000 in
theorem t_X0_wrongFor_85 {ρ : Rho} {h0 : Hp} {post : Int32 → Hp → Prop} (G : G0 ρ) :
    ∀ (x2 : Int32) (x3 : Int32) (h : Hp), GI h → Ext h0 h → w_X0_wrongFor_85 post x2 x3 h → X ρ K_X0_wrongFor 85 [(0, .ref (mr ρ 1)), (2, .int x2), (3, .int x3)] [] h 0 0 (phI h0 post) psN := by
  intro x2 x3 h g e hw
  refine x_aload_n 0 dX0_wrongFor_85 rfl ?_
  refine x_get (ci := 0) (v := .ref (mr ρ 11)) 4 dX0_wrongFor_86 (GI.s g (t := (10, 0)) rfl (by decide)) rfl in_X0 (by decide) q191 (Or.inl rfl) (fv_rc rfl (GI.x g (n := 11) rfl (by decide)) (by decide)) ?_
  refine x_iconst 1 dX0_wrongFor_89 (by decide) ?_
  refine x_iload_n 1 dX0_wrongFor_90 rfl ?_
  refine x_iast (n := 4) (j := 1) dX0_wrongFor_91 (by decide) (GI.s g (t := (1, 4)) rfl (by decide)) (by unfold vp_in; decide) ?_
  refine x_aload_n 0 dX0_wrongFor_92 rfl ?_
  refine x_dup dX0_wrongFor_93 rfl ?_
  refine x_get (ci := 0) (v := .int (gi (si h 11 1 x2) 1 0)) 0 dX0_wrongFor_94 (GI.s (GI.i g) (t := (10, 0)) rfl (by decide)) rfl in_X0 (by decide) q185 (Or.inl rfl) (fv_i rfl) ?_
  refine x_iconst 1 dX0_wrongFor_97 (by decide) ?_
  refine x_iadd dX0_wrongFor_98 ?_
  refine x_put (ci := 0) 0 dX0_wrongFor_99 (GI.s (GI.i g) (t := (10, 0)) rfl (by decide)) rfl in_X0 tyX0 tyX0_ok nmX0 (by decide) q185 (Or.inl rfl) rfl rfl rfl (isPut_i rfl) ?_
  refine x_iload_n 2 dX0_wrongFor_102 rfl ?_
  exact x_iret dX0_wrongFor_103 rfl (Nat.le_of_ble_eq_true rfl) (Nat.le_of_ble_eq_true rfl) ⟨_, rfl, (GI.i (GI.i g)), (Ext.i (Ext.i e)), hw⟩
set_option maxHeartbeats 4000000 in
theorem t_X0_wrongFor_13 {ρ : Rho} {h0 : Hp} {post : Int32 → Hp → Prop} (G : G0 ρ) :
    ∀ (n : Nat), ∀ (x1 : Int32) (x2 : Int32) (x3 : Int32) (x4 : Int32) (h : Hp), GI h → Ext h0 h → w_X0_wrongFor_13 post n x1 x2 x3 x4 h → X ρ K_X0_wrongFor 13 [(0, .ref (mr ρ 1)), (1, .int x1), (2, .int x2), (3, .int x3), (4, .int x4)] [] h 0 0 (phI h0 post) psN := by
  intro n
  induction n with
  | zero => intro x1 x2 x3 x4 h g e hw; exact False.elim hw
  | succ n ih =>
    intro x1 x2 x3 x4 h g e hw
    refine x_iload 4 dX0_wrongFor_13 rfl ?_
    refine x_bipush 20 dX0_wrongFor_15 (by decide) ?_
    obtain ⟨wt_18, wf_19⟩ := hw
    refine x_icmp_gt 85 dX0_wrongFor_17 (by decide) (fun c_1 => ?_) (fun c_1 => ?_)
    · have hw := wt_18 c_1
      refine X.sub [0, 2, 3] rfl ?_
      exact t_X0_wrongFor_85 G  x2 x3 h g e hw
    · have hw := wf_19 c_1
      refine x_iload_n 3 dX0_wrongFor_20 rfl ?_
      refine x_bipush (-9) dX0_wrongFor_21 (by decide) ?_
      obtain ⟨wt_16, wf_17⟩ := hw
      refine x_icmp_ne 85 dX0_wrongFor_23 (by decide) (fun c_2 => ?_) (fun c_2 => ?_)
      · have hw := wt_16 c_2
        refine X.sub [0, 2, 3] rfl ?_
        exact t_X0_wrongFor_85 G  x2 x3 h g e hw
      · have hw := wf_17 c_2
        refine x_aload_n 0 dX0_wrongFor_26 rfl ?_
        refine x_get (ci := 0) (v := .ref (mr ρ 11)) 4 dX0_wrongFor_27 (GI.s g (t := (10, 0)) rfl (by decide)) rfl in_X0 (by decide) q191 (Or.inl rfl) (fv_rc rfl (GI.x g (n := 11) rfl (by decide)) (by decide)) ?_
        refine x_iconst 1 dX0_wrongFor_30 (by decide) ?_
        refine x_iload 4 dX0_wrongFor_31 rfl ?_
        refine x_iast (n := 4) (j := 1) dX0_wrongFor_33 (by decide) (GI.s g (t := (1, 4)) rfl (by decide)) (by unfold vp_in; decide) ?_
        refine x_aload_n 0 dX0_wrongFor_34 rfl ?_
        refine x_dup dX0_wrongFor_35 rfl ?_
        refine x_get (ci := 0) (v := .int (gi (si h 11 1 x4) 1 0)) 0 dX0_wrongFor_36 (GI.s (GI.i g) (t := (10, 0)) rfl (by decide)) rfl in_X0 (by decide) q185 (Or.inl rfl) (fv_i rfl) ?_
        refine x_iconst 1 dX0_wrongFor_39 (by decide) ?_
        refine x_iadd dX0_wrongFor_40 ?_
        refine x_put (ci := 0) 0 dX0_wrongFor_41 (GI.s (GI.i g) (t := (10, 0)) rfl (by decide)) rfl in_X0 tyX0 tyX0_ok nmX0 (by decide) q185 (Or.inl rfl) rfl rfl rfl (isPut_i rfl) ?_
        refine x_aload_n 0 dX0_wrongFor_44 rfl ?_
        refine x_callV (ci := 0) [] 0 dX0_wrongFor_45 (k_X0_runAll G (GI.i (GI.i g)) hw) (GI.s (GI.i (GI.i g)) (t := (10, 0)) rfl (by decide)) rfl q941 q943 qs33 q104 q944 (by decide) rfl rfl ⟨(Nat.le_of_ble_eq_true rfl), (Nat.le_of_ble_eq_true rfl)⟩ (Nat.le_of_ble_eq_true rfl) ⟨(Nat.le_of_ble_eq_true rfl), (Nat.le_of_ble_eq_true rfl)⟩ (fun v9 h_3 hv9 => ?_) (fun _ _ _ _ _ z _ _ => False.elim z)
        obtain ⟨rfl, g_4, e_5, hw⟩ := hv9
        have hw := hw g_4 e_5
        show X ρ K_X0_wrongFor 48 [(0, .ref (mr ρ 1)), (1, .int x1), (2, .int x2), (3, .int x3), (4, .int x4)] [] h_3 0 0 (phI h0 post) psN
        refine x_ldc2 dX0_wrongFor_48 q953 ?_
        refine x_aload_n 0 dX0_wrongFor_51 rfl ?_
        refine x_get (ci := 0) (v := .long (gl h_3 1 25)) 25 dX0_wrongFor_52 (GI.s g_4 (t := (10, 0)) rfl (by decide)) rfl in_X0 (by decide) q214 (Or.inl rfl) (fv_l rfl) ?_
        refine x_lmul dX0_wrongFor_55 ?_
        refine x_iload_n 1 dX0_wrongFor_56 rfl ?_
        refine x_i2l dX0_wrongFor_57 ?_
        refine x_aload_n 0 dX0_wrongFor_58 rfl ?_
        refine x_get (ci := 0) (v := .ref (mr ρ (gr h_3 1 1))) 1 dX0_wrongFor_59 (GI.s g_4 (t := (10, 0)) rfl (by decide)) rfl in_X0 (by decide) q188 (Or.inl rfl) (fv_rc rfl rfl (isTree.nz (GI.t g_4) (GI.live g_4))) ?_
        refine x_iconst 0 dX0_wrongFor_62 (by decide) ?_
        refine x_callV (ci := 1) [.int 0] 1 dX0_wrongFor_63 (k_X1_units G g_4 (GI.t g_4) hw) (isTree.s (GI.t g_4)) rfl q872 q873 q874 q105 q875 (by decide) rfl rfl ⟨(Nat.le_of_ble_eq_true rfl), (Nat.le_of_ble_eq_true rfl)⟩ (Nat.le_of_ble_eq_true rfl) ⟨(Nat.le_of_ble_eq_true rfl), (Nat.le_of_ble_eq_true rfl)⟩ (fun v9 h_8 hv9 => ?_) (fun _ _ _ _ _ z _ _ => False.elim z)
        obtain ⟨r_11, rfl, g_9, e_10, hw⟩ := hv9
        have hw := hw g_9 e_10
        show X ρ K_X0_wrongFor 66 [(0, .ref (mr ρ 1)), (1, .int x1), (2, .int x2), (3, .int x3), (4, .int x4)] [.long r_11, .long (Int32.toInt64 x1), .long (100 * (gl h_3 1 25))] h_8 0 0 (phI h0 post) psN
        refine x_lmul dX0_wrongFor_66 ?_
        obtain ⟨wt_14, wf_15⟩ := hw
        refine x_lif_lt 76 dX0_wrongFor_67 dX0_wrongFor_68 (by decide) (fun c_13 => ?_) (fun c_13 => ?_)
        · have hw := wt_14 c_13
          refine x_bipush (-9) dX0_wrongFor_76 (by decide) ?_
          refine x_istore_n (lv' := [(3, .int (-9)), (0, .ref (mr ρ 1)), (1, .int x1), (2, .int x2), (4, .int x4)]) dX0_wrongFor_78 (Nat.le_of_ble_eq_true rfl) rfl ?_
          refine x_iinc (v := (x4 + 1)) (lv' := [(4, .int (x4 + 1)), (3, .int (-9)), (0, .ref (mr ρ 1)), (1, .int x1), (2, .int x2)]) 4 dX0_wrongFor_79 rfl (by rfl) (Nat.le_of_ble_eq_true rfl) rfl ?_
          refine x_goto 13 dX0_wrongFor_82 (by decide) ?_
          refine X.sub [2, 3, 4, 1, 0] rfl ?_
          exact ih x1 x2 (-9) (x4 + 1) h_8 g_9 (Ext.tr (Ext.tr (Ext.i (Ext.i e)) e_5) e_10) hw
        · have hw := wf_15 c_13
          refine x_iload 4 dX0_wrongFor_71 rfl ?_
          refine x_goto 78 dX0_wrongFor_73 (by decide) ?_
          refine x_istore_n (lv' := [(3, .int x4), (0, .ref (mr ρ 1)), (1, .int x1), (2, .int x2), (4, .int x4)]) dX0_wrongFor_78 (Nat.le_of_ble_eq_true rfl) rfl ?_
          refine x_iinc (v := (x4 + 1)) (lv' := [(4, .int (x4 + 1)), (3, .int x4), (0, .ref (mr ρ 1)), (1, .int x1), (2, .int x2)]) 4 dX0_wrongFor_79 rfl (by rfl) (Nat.le_of_ble_eq_true rfl) rfl ?_
          refine x_goto 13 dX0_wrongFor_82 (by decide) ?_
          refine X.sub [2, 3, 4, 1, 0] rfl ?_
          exact ih x1 x2 x4 (x4 + 1) h_8 g_9 (Ext.tr (Ext.tr (Ext.i (Ext.i e)) e_5) e_10) hw
set_option maxHeartbeats 4000000 in
theorem k_X0_wrongFor {ρ : Rho} {h : Hp} {post : Int32 → Hp → Prop} {p1 : Int32} (G : G0 ρ) (g : GI h) (hw : wp_X0_wrongFor post h p1) : Con ρ yX0_wrongFor (ws_ yX0_wrongFor cX0_wrongFor 5 (Option.some Jvm.ClassFile.FieldType.int)) rm_X0_wrongFor [.ref (mr ρ 1), .int p1] h (phI h post) psN := by
  refine con_of (own := "BeforeTheEnd") (isI := false) (l0 := [(0, .ref (mr ρ 1)), (1, .int p1)]) (by decide) rfl (fun z => by cases z) (Nat.le_of_ble_eq_true rfl) rfl (fun _ => ?_)
  show X ρ K_X0_wrongFor 0 [(0, .ref (mr ρ 1)), (1, .int p1)] [] h 0 0 (phI h post) psN
  refine x_aload_n 0 dX0_wrongFor_0 rfl ?_
  refine x_get (ci := 0) (v := .ref (mr ρ 11)) 4 dX0_wrongFor_1 (GI.s g (t := (10, 0)) rfl (by decide)) rfl in_X0 (by decide) q191 (Or.inl rfl) (fv_rc rfl (GI.x g (n := 11) rfl (by decide)) (by decide)) ?_
  refine x_iconst 1 dX0_wrongFor_4 (by decide) ?_
  refine x_iald (n := 4) (j := 1) dX0_wrongFor_5 (by decide) (GI.s g (t := (1, 4)) rfl (by decide)) (by unfold vp_in; decide) ?_
  refine x_istore_n (lv' := [(2, .int (gi h 11 1)), (0, .ref (mr ρ 1)), (1, .int p1)]) dX0_wrongFor_6 (Nat.le_of_ble_eq_true rfl) rfl ?_
  refine x_bipush (-9) dX0_wrongFor_7 (by decide) ?_
  refine x_istore_n (lv' := [(3, .int (-9)), (2, .int (gi h 11 1)), (0, .ref (mr ρ 1)), (1, .int p1)]) dX0_wrongFor_9 (Nat.le_of_ble_eq_true rfl) rfl ?_
  refine x_iconst 0 dX0_wrongFor_10 (by decide) ?_
  refine x_istore (lv' := [(4, .int 0), (3, .int (-9)), (2, .int (gi h 11 1)), (0, .ref (mr ρ 1)), (1, .int p1)]) dX0_wrongFor_11 (Nat.le_of_ble_eq_true rfl) rfl ?_
  refine X.sub [3, 4, 2, 1, 0] rfl ?_
  obtain ⟨fu, hw⟩ := hw
  exact t_X0_wrongFor_13 G  fu p1 (gi h 11 1) (-9) 0 h g Ext.rf hw

/-! BeforeTheEnd.earlyFor(I)I -/
def w_X0_earlyFor_17 (post : Int32 → Hp → Prop) : Nat → Int32 → Int32 → Int32 → Int64 → Int32 → Hp → Prop
  | 0 => fun _ _ _ _ _ _ => False
  | n + 1 => fun x1 x2 x3 x4 x6 h => ((5 < x6 → (post x3 (si (si h 11 2 x2) 1 0 ((gi (si h 11 2 x2) 1 0) + 1)))) ∧ (¬ 5 < x6 → (wp_X0_runAll (fun h_2 => GI h_2 → Ext (si (si h 11 2 x6) 1 0 ((gi (si h 11 2 x6) 1 0) + 1)) h_2 → (vp_in x1 4 ∧ (((gl h_2 20 (Int32.toNatClampNeg x1)) ≤ x4 → (w_X0_earlyFor_17 post n x1 x2 x3 x4 (x6 + 1) h_2)) ∧ (¬ (gl h_2 20 (Int32.toNatClampNeg x1)) ≤ x4 → (vp_in x1 4 ∧ (∀ x4_10 : Int64, x4_10 = (gl h_2 20 (Int32.toNatClampNeg x1)) → (w_X0_earlyFor_17 post n x1 x2 x6 x4_10 (x6 + 1) h_2))))))) (si (si h 11 2 x6) 1 0 ((gi (si h 11 2 x6) 1 0) + 1)))))
def wp_X0_earlyFor (post : Int32 → Hp → Prop) (h : Hp) (p1 : Int32) : Prop := (∃ fu : Nat, w_X0_earlyFor_17 post fu p1 (gi h 11 2) 0 (-1) 0 h)
abbrev rm_X0_earlyFor : Room := ({ frames := 13, cells := 0, slots := 0, locals := 360 })
abbrev K_X0_earlyFor : Kx := ("BeforeTheEnd", cX0_earlyFor, 7, (Option.some Jvm.ClassFile.FieldType.int), rm_X0_earlyFor, [], false)
set_option maxHeartbeats 4000000 in
theorem t_X0_earlyFor_17 {ρ : Rho} {h0 : Hp} {post : Int32 → Hp → Prop} (G : G0 ρ) :
    ∀ (n : Nat), ∀ (x1 : Int32) (x2 : Int32) (x3 : Int32) (x4 : Int64) (x6 : Int32) (h : Hp), GI h → Ext h0 h → w_X0_earlyFor_17 post n x1 x2 x3 x4 x6 h → X ρ K_X0_earlyFor 17 [(0, .ref (mr ρ 1)), (1, .int x1), (2, .int x2), (3, .int x3), (4, .long x4), (6, .int x6)] [] h 0 0 (phI h0 post) psN := by
  intro n
  induction n with
  | zero => intro x1 x2 x3 x4 x6 h g e hw; exact False.elim hw
  | succ n ih =>
    intro x1 x2 x3 x4 x6 h g e hw
    refine x_iload 5 dX0_earlyFor_17 rfl ?_
    refine x_iconst 5 dX0_earlyFor_19 (by decide) ?_
    obtain ⟨wt_13, wf_14⟩ := hw
    refine x_icmp_gt 74 dX0_earlyFor_20 (by decide) (fun c_1 => ?_) (fun c_1 => ?_)
    · have hw := wt_13 c_1
      refine x_aload_n 0 dX0_earlyFor_74 rfl ?_
      refine x_get (ci := 0) (v := .ref (mr ρ 11)) 4 dX0_earlyFor_75 (GI.s g (t := (10, 0)) rfl (by decide)) rfl in_X0 (by decide) q191 (Or.inl rfl) (fv_rc rfl (GI.x g (n := 11) rfl (by decide)) (by decide)) ?_
      refine x_iconst 2 dX0_earlyFor_78 (by decide) ?_
      refine x_iload_n 2 dX0_earlyFor_79 rfl ?_
      refine x_iast (n := 4) (j := 2) dX0_earlyFor_80 (by decide) (GI.s g (t := (1, 4)) rfl (by decide)) (by unfold vp_in; decide) ?_
      refine x_aload_n 0 dX0_earlyFor_81 rfl ?_
      refine x_dup dX0_earlyFor_82 rfl ?_
      refine x_get (ci := 0) (v := .int (gi (si h 11 2 x2) 1 0)) 0 dX0_earlyFor_83 (GI.s (GI.i g) (t := (10, 0)) rfl (by decide)) rfl in_X0 (by decide) q185 (Or.inl rfl) (fv_i rfl) ?_
      refine x_iconst 1 dX0_earlyFor_86 (by decide) ?_
      refine x_iadd dX0_earlyFor_87 ?_
      refine x_put (ci := 0) 0 dX0_earlyFor_88 (GI.s (GI.i g) (t := (10, 0)) rfl (by decide)) rfl in_X0 tyX0 tyX0_ok nmX0 (by decide) q185 (Or.inl rfl) rfl rfl rfl (isPut_i rfl) ?_
      refine x_iload_n 3 dX0_earlyFor_91 rfl ?_
      exact x_iret dX0_earlyFor_92 rfl (Nat.le_of_ble_eq_true rfl) (Nat.le_of_ble_eq_true rfl) ⟨_, rfl, (GI.i (GI.i g)), (Ext.i (Ext.i e)), hw⟩
    · have hw := wf_14 c_1
      refine x_aload_n 0 dX0_earlyFor_23 rfl ?_
      refine x_get (ci := 0) (v := .ref (mr ρ 11)) 4 dX0_earlyFor_24 (GI.s g (t := (10, 0)) rfl (by decide)) rfl in_X0 (by decide) q191 (Or.inl rfl) (fv_rc rfl (GI.x g (n := 11) rfl (by decide)) (by decide)) ?_
      refine x_iconst 2 dX0_earlyFor_27 (by decide) ?_
      refine x_iload 5 dX0_earlyFor_28 rfl ?_
      refine x_iast (n := 4) (j := 2) dX0_earlyFor_30 (by decide) (GI.s g (t := (1, 4)) rfl (by decide)) (by unfold vp_in; decide) ?_
      refine x_aload_n 0 dX0_earlyFor_31 rfl ?_
      refine x_dup dX0_earlyFor_32 rfl ?_
      refine x_get (ci := 0) (v := .int (gi (si h 11 2 x6) 1 0)) 0 dX0_earlyFor_33 (GI.s (GI.i g) (t := (10, 0)) rfl (by decide)) rfl in_X0 (by decide) q185 (Or.inl rfl) (fv_i rfl) ?_
      refine x_iconst 1 dX0_earlyFor_36 (by decide) ?_
      refine x_iadd dX0_earlyFor_37 ?_
      refine x_put (ci := 0) 0 dX0_earlyFor_38 (GI.s (GI.i g) (t := (10, 0)) rfl (by decide)) rfl in_X0 tyX0 tyX0_ok nmX0 (by decide) q185 (Or.inl rfl) rfl rfl rfl (isPut_i rfl) ?_
      refine x_aload_n 0 dX0_earlyFor_41 rfl ?_
      refine x_callV (ci := 0) [] 0 dX0_earlyFor_42 (k_X0_runAll G (GI.i (GI.i g)) hw) (GI.s (GI.i (GI.i g)) (t := (10, 0)) rfl (by decide)) rfl q941 q943 qs33 q104 q944 (by decide) rfl rfl ⟨(Nat.le_of_ble_eq_true rfl), (Nat.le_of_ble_eq_true rfl)⟩ (Nat.le_of_ble_eq_true rfl) ⟨(Nat.le_of_ble_eq_true rfl), (Nat.le_of_ble_eq_true rfl)⟩ (fun v9 h_2 hv9 => ?_) (fun _ _ _ _ _ z _ _ => False.elim z)
      obtain ⟨rfl, g_3, e_4, hw⟩ := hv9
      have hw := hw g_3 e_4
      show X ρ K_X0_earlyFor 45 [(0, .ref (mr ρ 1)), (1, .int x1), (2, .int x2), (3, .int x3), (4, .long x4), (6, .int x6)] [] h_2 0 0 (phI h0 post) psN
      refine x_aload_n 0 dX0_earlyFor_45 rfl ?_
      refine x_get (ci := 0) (v := .ref (mr ρ 20)) 22 dX0_earlyFor_46 (GI.s g_3 (t := (10, 0)) rfl (by decide)) rfl in_X0 (by decide) q211 (Or.inl rfl) (fv_rc rfl (GI.x g_3 (n := 20) rfl (by decide)) (by decide)) ?_
      refine x_iload_n 1 dX0_earlyFor_49 rfl ?_
      obtain ⟨b_7, hw⟩ := hw
      refine x_lald (n := 4) (j := (Int32.toNatClampNeg x1)) dX0_earlyFor_50 rfl (GI.s g_3 (t := (2, 4)) rfl (by decide)) b_7 ?_
      refine x_lload 4 dX0_earlyFor_51 rfl ?_
      obtain ⟨wt_11, wf_12⟩ := hw
      refine x_lif_le 68 dX0_earlyFor_53 dX0_earlyFor_54 (by decide) (fun c_8 => ?_) (fun c_8 => ?_)
      · have hw := wt_11 c_8
        refine x_iinc (v := (x6 + 1)) (lv' := [(6, .int (x6 + 1)), (0, .ref (mr ρ 1)), (1, .int x1), (2, .int x2), (3, .int x3), (4, .long x4)]) 5 dX0_earlyFor_68 rfl (by rfl) (Nat.le_of_ble_eq_true rfl) rfl ?_
        refine x_goto 17 dX0_earlyFor_71 (by decide) ?_
        refine X.sub [1, 2, 3, 4, 5, 0] rfl ?_
        exact ih x1 x2 x3 x4 (x6 + 1) h_2 g_3 (Ext.tr (Ext.i (Ext.i e)) e_4) hw
      · have hw := wf_12 c_8
        refine x_iload 5 dX0_earlyFor_57 rfl ?_
        refine x_istore_n (lv' := [(3, .int x6), (0, .ref (mr ρ 1)), (1, .int x1), (2, .int x2), (4, .long x4), (6, .int x6)]) dX0_earlyFor_59 (Nat.le_of_ble_eq_true rfl) rfl ?_
        refine x_aload_n 1 dX0_earlyFor_60 rfl ?_
        refine x_get (ci := 0) (v := .ref (mr ρ 20)) 22 dX0_earlyFor_61 (GI.s g_3 (t := (10, 0)) rfl (by decide)) rfl in_X0 (by decide) q211 (Or.inl rfl) (fv_rc rfl (GI.x g_3 (n := 20) rfl (by decide)) (by decide)) ?_
        refine x_iload_n 2 dX0_earlyFor_64 rfl ?_
        obtain ⟨b_9, hw⟩ := hw
        refine x_lald (n := 4) (j := (Int32.toNatClampNeg x1)) dX0_earlyFor_65 rfl (GI.s g_3 (t := (2, 4)) rfl (by decide)) b_9 ?_
        refine x_nml (fun x4_10 ex4_10 => ?_)
        have hw := hw x4_10 ex4_10
        refine x_lstore (lv' := [(4, .long x4_10), (3, .int x6), (0, .ref (mr ρ 1)), (1, .int x1), (2, .int x2), (6, .int x6)]) dX0_earlyFor_66 (Nat.le_of_ble_eq_true rfl) rfl ?_
        refine x_iinc (v := (x6 + 1)) (lv' := [(6, .int (x6 + 1)), (4, .long x4_10), (3, .int x6), (0, .ref (mr ρ 1)), (1, .int x1), (2, .int x2)]) 5 dX0_earlyFor_68 rfl (by rfl) (Nat.le_of_ble_eq_true rfl) rfl ?_
        refine x_goto 17 dX0_earlyFor_71 (by decide) ?_
        refine X.sub [3, 4, 5, 2, 1, 0] rfl ?_
        exact ih x1 x2 x6 x4_10 (x6 + 1) h_2 g_3 (Ext.tr (Ext.i (Ext.i e)) e_4) hw
set_option maxHeartbeats 4000000 in
theorem k_X0_earlyFor {ρ : Rho} {h : Hp} {post : Int32 → Hp → Prop} {p1 : Int32} (G : G0 ρ) (g : GI h) (hw : wp_X0_earlyFor post h p1) : Con ρ yX0_earlyFor (ws_ yX0_earlyFor cX0_earlyFor 7 (Option.some Jvm.ClassFile.FieldType.int)) rm_X0_earlyFor [.ref (mr ρ 1), .int p1] h (phI h post) psN := by
  refine con_of (own := "BeforeTheEnd") (isI := false) (l0 := [(0, .ref (mr ρ 1)), (1, .int p1)]) (by decide) rfl (fun z => by cases z) (Nat.le_of_ble_eq_true rfl) rfl (fun _ => ?_)
  show X ρ K_X0_earlyFor 0 [(0, .ref (mr ρ 1)), (1, .int p1)] [] h 0 0 (phI h post) psN
  refine x_aload_n 0 dX0_earlyFor_0 rfl ?_
  refine x_get (ci := 0) (v := .ref (mr ρ 11)) 4 dX0_earlyFor_1 (GI.s g (t := (10, 0)) rfl (by decide)) rfl in_X0 (by decide) q191 (Or.inl rfl) (fv_rc rfl (GI.x g (n := 11) rfl (by decide)) (by decide)) ?_
  refine x_iconst 2 dX0_earlyFor_4 (by decide) ?_
  refine x_iald (n := 4) (j := 2) dX0_earlyFor_5 (by decide) (GI.s g (t := (1, 4)) rfl (by decide)) (by unfold vp_in; decide) ?_
  refine x_istore_n (lv' := [(2, .int (gi h 11 2)), (0, .ref (mr ρ 1)), (1, .int p1)]) dX0_earlyFor_6 (Nat.le_of_ble_eq_true rfl) rfl ?_
  refine x_iconst 0 dX0_earlyFor_7 (by decide) ?_
  refine x_istore_n (lv' := [(3, .int 0), (2, .int (gi h 11 2)), (0, .ref (mr ρ 1)), (1, .int p1)]) dX0_earlyFor_8 (Nat.le_of_ble_eq_true rfl) rfl ?_
  refine x_ldc2 dX0_earlyFor_9 q962 ?_
  refine x_lstore (lv' := [(4, .long (-1)), (3, .int 0), (2, .int (gi h 11 2)), (0, .ref (mr ρ 1)), (1, .int p1)]) dX0_earlyFor_12 (Nat.le_of_ble_eq_true rfl) rfl ?_
  refine x_iconst 0 dX0_earlyFor_14 (by decide) ?_
  refine x_istore (lv' := [(6, .int 0), (4, .long (-1)), (3, .int 0), (2, .int (gi h 11 2)), (0, .ref (mr ρ 1)), (1, .int p1)]) dX0_earlyFor_15 (Nat.le_of_ble_eq_true rfl) rfl ?_
  refine X.sub [4, 5, 3, 2, 1, 0] rfl ?_
  obtain ⟨fu, hw⟩ := hw
  exact t_X0_earlyFor_17 G  fu p1 (gi h 11 2) 0 (-1) 0 h g Ext.rf hw

/-! BeforeTheEnd.silentOf(LBeforeTheEnd$Sure;I)I -/
def w_X0_silentOf_80 (post : Int32 → Hp → Prop) (K5 : Nat → Int32 → Int32 → Int32 → Hp → Prop) (K15 : Nat → Int32 → Int32 → Int32 → Int32 → Hp → Prop) (x1 : Nat) (x2 : Int32) (x4 : Int32) (x5 : Int32) (z0 : Int32) (z1 : Int32) (h : Hp) : Prop := (∀ z_2 : Int32, z_2 = ((if z0 = 0 then 0 else (1 <<< (x4 &&& 31))) : Int32) → (K15 x1 x2 (z1 ||| z_2) x4 (x5 + 1) h))
def w_X0_silentOf_62 (post : Int32 → Hp → Prop) (K5 : Nat → Int32 → Int32 → Int32 → Hp → Prop) (K15 : Nat → Int32 → Int32 → Int32 → Int32 → Hp → Prop) (x1 : Nat) (x2 : Int32) (x3 : Int32) (x4 : Int32) (x5 : Int32) (x6 : Int32) (z0 : Int32) (h : Hp) : Prop := ((z0 = 0 → (K15 x1 x2 (x3 ||| 0) x4 (x5 + 1) h)) ∧ (¬ z0 = 0 → (wv_X12_wants_isSu (fun r_5 h_2 => GI h_2 → Ext h h_2 → (w_X0_silentOf_80 post K5 K15 x1 x2 x4 x5 r_5 x3 h_2)) h x1 x6 x4 0)))
def w_X0_silentOf_15 (post : Int32 → Hp → Prop) (K5 : Nat → Int32 → Int32 → Int32 → Hp → Prop) : Nat → Nat → Int32 → Int32 → Int32 → Int32 → Hp → Prop
  | 0 => fun _ _ _ _ _ _ => False
  | n + 1 => fun x1 x2 x3 x4 x5 h => (vp_in x2 24 ∧ (((gi h ((gr h 1 1) + 4) (Int32.toNatClampNeg x2)) < x5 → (K5 x1 x2 x3 (x4 + 1) h)) ∧ (¬ (gi h ((gr h 1 1) + 4) (Int32.toNatClampNeg x2)) < x5 → (wp_X1_on (fun r_6 h_3 => GI h_3 → Ext h h_3 → (wp_X1_unitsOf (fun r_11 h_8 => GI h_8 → Ext h_3 h_8 → ((r_11 ≤ 0 → (w_X0_silentOf_62 post K5 (w_X0_silentOf_15 post K5 n) x1 x2 x3 x4 x5 r_6 0 h_8)) ∧ (¬ r_11 ≤ 0 → (w_X0_silentOf_62 post K5 (w_X0_silentOf_15 post K5 n) x1 x2 x3 x4 x5 r_6 1 h_8)))) h_3 (gr h_3 1 1) r_6 x4)) h (gr h 1 1) x2 x5))))
def w_X0_silentOf_5 (post : Int32 → Hp → Prop) : Nat → Nat → Int32 → Int32 → Int32 → Hp → Prop
  | 0 => fun _ _ _ _ _ => False
  | n + 1 => fun x1 x2 x3 x4 h => ((9 < x4 → (post x3 h)) ∧ (¬ 9 < x4 → (∃ fu : Nat, w_X0_silentOf_15 post (w_X0_silentOf_5 post n) fu x1 x2 x3 x4 1 h)))
def wp_X0_silentOf (post : Int32 → Hp → Prop) (h : Hp) (p1 : Nat) (p2 : Int32) : Prop := (∃ fu : Nat, w_X0_silentOf_5 post fu p1 p2 0 1 h)
abbrev rm_X0_silentOf : Room := ({ frames := 7, cells := 0, slots := 0, locals := 211 })
abbrev K_X0_silentOf : Kx := ("BeforeTheEnd", cX0_silentOf, 8, (Option.some Jvm.ClassFile.FieldType.int), rm_X0_silentOf, [], false)
set_option maxHeartbeats 4000000 in
theorem t_X0_silentOf_80 {ρ : Rho} {h0 : Hp} {post : Int32 → Hp → Prop} {K5 : Nat → Int32 → Int32 → Int32 → Hp → Prop} {K15 : Nat → Int32 → Int32 → Int32 → Int32 → Hp → Prop} (G : G0 ρ) (hK5 : ∀ (x1 : Nat) (x2 : Int32) (x3 : Int32) (x4 : Int32) (h : Hp), GI h → Ext h0 h → isSu h x1 → K5 x1 x2 x3 x4 h → X ρ K_X0_silentOf 5 [(0, .ref (mr ρ 1)), (1, .ref (mr ρ x1)), (2, .int x2), (3, .int x3), (4, .int x4)] [] h 0 0 (phI h0 post) psN) (hK15 : ∀ (x1 : Nat) (x2 : Int32) (x3 : Int32) (x4 : Int32) (x5 : Int32) (h : Hp), GI h → Ext h0 h → isSu h x1 → K15 x1 x2 x3 x4 x5 h → X ρ K_X0_silentOf 15 [(0, .ref (mr ρ 1)), (1, .ref (mr ρ x1)), (2, .int x2), (3, .int x3), (4, .int x4), (5, .int x5)] [] h 0 0 (phI h0 post) psN) :
    ∀ (x1 : Nat) (x2 : Int32) (x4 : Int32) (x5 : Int32) (z0 : Int32) (z1 : Int32) (h : Hp), GI h → Ext h0 h → isSu h x1 → w_X0_silentOf_80 post K5 K15 x1 x2 x4 x5 z0 z1 h → X ρ K_X0_silentOf 80 [(0, .ref (mr ρ 1)), (1, .ref (mr ρ x1)), (2, .int x2), (4, .int x4), (5, .int x5)] [.int z0, .int z1] h 0 0 (phI h0 post) psN := by
  intro x1 x2 x4 x5 z0 z1 h g e fx1 hw
  have kJ_3 : ∀ z_2 : Int32, z_2 = ((if z0 = 0 then 0 else (1 <<< (x4 &&& 31))) : Int32) → X ρ K_X0_silentOf 91 [(0, .ref (mr ρ 1)), (1, .ref (mr ρ x1)), (2, .int x2), (4, .int x4), (5, .int x5)] [.int z_2, .int z1] h 0 0 (phI h0 post) psN := fun z_2 ez_2 => by
    have hw := hw z_2 ez_2
    refine x_ior dX0_silentOf_91 ?_
    refine x_istore_n (lv' := [(3, .int (z1 ||| z_2)), (0, .ref (mr ρ 1)), (1, .ref (mr ρ x1)), (2, .int x2), (4, .int x4), (5, .int x5)]) dX0_silentOf_92 (Nat.le_of_ble_eq_true rfl) rfl ?_
    refine x_iinc (v := (x5 + 1)) (lv' := [(5, .int (x5 + 1)), (3, .int (z1 ||| z_2)), (0, .ref (mr ρ 1)), (1, .ref (mr ρ x1)), (2, .int x2), (4, .int x4)]) 5 dX0_silentOf_93 rfl (by rfl) (Nat.le_of_ble_eq_true rfl) rfl ?_
    refine x_goto 15 dX0_silentOf_96 (by decide) ?_
    refine X.sub [2, 3, 4, 1, 5, 0] rfl ?_
    exact hK15 x1 x2 (z1 ||| z_2) x4 (x5 + 1) h g e fx1 hw
  refine x_if_eq 90 dX0_silentOf_80 (by decide) (fun c_1 => ?_) (fun c_1 => ?_)
  · refine x_iconst 0 dX0_silentOf_90 (by decide) ?_
    exact kJ_3 _ ((if_pos c_1)).symm
  · refine x_iconst 1 dX0_silentOf_83 (by decide) ?_
    refine x_iload 3 dX0_silentOf_84 rfl ?_
    refine x_ishl dX0_silentOf_86 ?_
    refine x_goto 91 dX0_silentOf_87 (by decide) ?_
    exact kJ_3 _ ((if_neg c_1)).symm
set_option maxHeartbeats 4000000 in
theorem t_X0_silentOf_62 {ρ : Rho} {h0 : Hp} {post : Int32 → Hp → Prop} {K5 : Nat → Int32 → Int32 → Int32 → Hp → Prop} {K15 : Nat → Int32 → Int32 → Int32 → Int32 → Hp → Prop} (G : G0 ρ) (hK5 : ∀ (x1 : Nat) (x2 : Int32) (x3 : Int32) (x4 : Int32) (h : Hp), GI h → Ext h0 h → isSu h x1 → K5 x1 x2 x3 x4 h → X ρ K_X0_silentOf 5 [(0, .ref (mr ρ 1)), (1, .ref (mr ρ x1)), (2, .int x2), (3, .int x3), (4, .int x4)] [] h 0 0 (phI h0 post) psN) (hK15 : ∀ (x1 : Nat) (x2 : Int32) (x3 : Int32) (x4 : Int32) (x5 : Int32) (h : Hp), GI h → Ext h0 h → isSu h x1 → K15 x1 x2 x3 x4 x5 h → X ρ K_X0_silentOf 15 [(0, .ref (mr ρ 1)), (1, .ref (mr ρ x1)), (2, .int x2), (3, .int x3), (4, .int x4), (5, .int x5)] [] h 0 0 (phI h0 post) psN) :
    ∀ (x1 : Nat) (x2 : Int32) (x3 : Int32) (x4 : Int32) (x5 : Int32) (x6 : Int32) (z0 : Int32) (h : Hp), GI h → Ext h0 h → isSu h x1 → w_X0_silentOf_62 post K5 K15 x1 x2 x3 x4 x5 x6 z0 h → X ρ K_X0_silentOf 62 [(0, .ref (mr ρ 1)), (1, .ref (mr ρ x1)), (2, .int x2), (3, .int x3), (4, .int x4), (5, .int x5), (6, .int x6)] [.int z0] h 0 0 (phI h0 post) psN := by
  intro x1 x2 x3 x4 x5 x6 z0 h g e fx1 hw
  refine x_istore (lv' := [(7, .int z0), (0, .ref (mr ρ 1)), (1, .ref (mr ρ x1)), (2, .int x2), (3, .int x3), (4, .int x4), (5, .int x5), (6, .int x6)]) dX0_silentOf_62 (Nat.le_of_ble_eq_true rfl) rfl ?_
  refine x_iload_n 4 dX0_silentOf_64 rfl ?_
  refine x_iload 0 dX0_silentOf_65 rfl ?_
  obtain ⟨wt_11, wf_12⟩ := hw
  refine x_if_eq 90 dX0_silentOf_67 (by decide) (fun c_1 => ?_) (fun c_1 => ?_)
  · have hw := wt_11 c_1
    refine x_iconst 0 dX0_silentOf_90 (by decide) ?_
    refine x_ior dX0_silentOf_91 ?_
    refine x_istore_n (lv' := [(3, .int (x3 ||| 0)), (7, .int z0), (0, .ref (mr ρ 1)), (1, .ref (mr ρ x1)), (2, .int x2), (4, .int x4), (5, .int x5), (6, .int x6)]) dX0_silentOf_92 (Nat.le_of_ble_eq_true rfl) rfl ?_
    refine x_iinc (v := (x5 + 1)) (lv' := [(5, .int (x5 + 1)), (3, .int (x3 ||| 0)), (7, .int z0), (0, .ref (mr ρ 1)), (1, .ref (mr ρ x1)), (2, .int x2), (4, .int x4), (6, .int x6)]) 6 dX0_silentOf_93 rfl (by rfl) (Nat.le_of_ble_eq_true rfl) rfl ?_
    refine x_goto 15 dX0_silentOf_96 (by decide) ?_
    refine X.sub [3, 4, 5, 1, 6, 0] rfl ?_
    exact hK15 x1 x2 (x3 ||| 0) x4 (x5 + 1) h g e fx1 hw
  · have hw := wf_12 c_1
    refine x_aload_n 2 dX0_silentOf_70 rfl ?_
    refine x_aload_n 1 dX0_silentOf_71 rfl ?_
    refine x_iload 7 dX0_silentOf_72 rfl ?_
    refine x_iload 5 dX0_silentOf_74 rfl ?_
    refine x_iconst 0 dX0_silentOf_76 (by decide) ?_
    have kk_10 : ∀ (v9 : Option Value) (h_2 : Hp), (phB h (fun r_5 h_2 => GI h_2 → Ext h h_2 → (w_X0_silentOf_80 post K5 K15 x1 x2 x4 x5 r_5 x3 h_2))) v9 h_2 → X ρ K_X0_silentOf 80 [(7, .int z0), (0, .ref (mr ρ 1)), (1, .ref (mr ρ x1)), (2, .int x2), (3, .int x3), (4, .int x4), (5, .int x5), (6, .int x6)] (v9.toList ++ [.int x3]) h_2 0 0 (phI h0 post) psN := by
      intro v9 h_2 hv9
      obtain ⟨r_5, rfl, g_3, e_4, b_6, hw⟩ := hv9
      have hw := hw g_3 e_4
      show X ρ K_X0_silentOf 80 [(7, .int z0), (0, .ref (mr ρ 1)), (1, .ref (mr ρ x1)), (2, .int x2), (3, .int x3), (4, .int x4), (5, .int x5), (6, .int x6)] [.int r_5, .int x3] h_2 0 0 (phI h0 post) psN
      refine X.sub [1, 2, 3, 5, 6] rfl ?_
      exact t_X0_silentOf_80 G hK5 hK15 x1 x2 x4 x5 r_5 x3 h_2 g_3 (Ext.tr e e_4) (isSu.ext fx1 e_4) hw
    obtain ⟨wc_7, wc_8, wc_9⟩ := hw
    rcases fx1 with fc9 | fc9 | fc9
    · exact x_callV (ci := 9) [.ref (mr ρ 1), .int x6, .int x4, .int 0] 4 dX0_silentOf_77 (k_X12_wants_c9 G g fc9 (wc_7 fc9)) fc9 rfl q971 q878 q1724 q125 q879 (by decide) rfl rfl ⟨(Nat.le_of_ble_eq_true rfl), (Nat.le_of_ble_eq_true rfl)⟩ (Nat.le_of_ble_eq_true rfl) ⟨(Nat.le_of_ble_eq_true rfl), (Nat.le_of_ble_eq_true rfl)⟩ kk_10 (fun _ _ _ _ _ z _ _ => False.elim z)
    · exact x_callU (ci := 10) (x0 := ⟨"BeforeTheEnd$Sure", "wants", "(LBeforeTheEnd;IIZ)Z"⟩) (owner := "BeforeTheEnd$Sure") [.ref (mr ρ 1), .int x6, .int x4, .int 0] 4 dX0_silentOf_77 (k_X12_wants_c10 G g fc9 (wc_8 fc9)) fc9 rfl (lw_U q971 q1721 q1722 q878 q125 q879) rfl (by decide) rfl rfl ⟨(Nat.le_of_ble_eq_true rfl), (Nat.le_of_ble_eq_true rfl)⟩ (Nat.le_of_ble_eq_true rfl) ⟨(Nat.le_of_ble_eq_true rfl), (Nat.le_of_ble_eq_true rfl)⟩ kk_10 (fun _ _ _ _ _ z _ _ => False.elim z)
    · exact x_callU (ci := 11) (x0 := ⟨"BeforeTheEnd$Sure", "wants", "(LBeforeTheEnd;IIZ)Z"⟩) (owner := "BeforeTheEnd$Sure") [.ref (mr ρ 1), .int x6, .int x4, .int 0] 4 dX0_silentOf_77 (k_X12_wants_c11 G g fc9 (wc_9 fc9)) fc9 rfl (lw_U q971 q1721 q1723 q878 q125 q879) rfl (by decide) rfl rfl ⟨(Nat.le_of_ble_eq_true rfl), (Nat.le_of_ble_eq_true rfl)⟩ (Nat.le_of_ble_eq_true rfl) ⟨(Nat.le_of_ble_eq_true rfl), (Nat.le_of_ble_eq_true rfl)⟩ kk_10 (fun _ _ _ _ _ z _ _ => False.elim z)
set_option maxHeartbeats 4000000 in
theorem t_X0_silentOf_15 {ρ : Rho} {h0 : Hp} {post : Int32 → Hp → Prop} {K5 : Nat → Int32 → Int32 → Int32 → Hp → Prop} (G : G0 ρ) (hK5 : ∀ (x1 : Nat) (x2 : Int32) (x3 : Int32) (x4 : Int32) (h : Hp), GI h → Ext h0 h → isSu h x1 → K5 x1 x2 x3 x4 h → X ρ K_X0_silentOf 5 [(0, .ref (mr ρ 1)), (1, .ref (mr ρ x1)), (2, .int x2), (3, .int x3), (4, .int x4)] [] h 0 0 (phI h0 post) psN) :
    ∀ (n : Nat), ∀ (x1 : Nat) (x2 : Int32) (x3 : Int32) (x4 : Int32) (x5 : Int32) (h : Hp), GI h → Ext h0 h → isSu h x1 → w_X0_silentOf_15 post K5 n x1 x2 x3 x4 x5 h → X ρ K_X0_silentOf 15 [(0, .ref (mr ρ 1)), (1, .ref (mr ρ x1)), (2, .int x2), (3, .int x3), (4, .int x4), (5, .int x5)] [] h 0 0 (phI h0 post) psN := by
  intro n
  induction n with
  | zero => intro x1 x2 x3 x4 x5 h g e fx1 hw; exact False.elim hw
  | succ n ih =>
    intro x1 x2 x3 x4 x5 h g e fx1 hw
    refine x_iload 5 dX0_silentOf_15 rfl ?_
    refine x_aload_n 0 dX0_silentOf_17 rfl ?_
    refine x_get (ci := 0) (v := .ref (mr ρ (gr h 1 1))) 1 dX0_silentOf_18 (GI.s g (t := (10, 0)) rfl (by decide)) rfl in_X0 (by decide) q188 (Or.inl rfl) (fv_rc rfl rfl (isTree.nz (GI.t g) (GI.live g))) ?_
    refine x_getN (ci := 1) (v := .ref (mr ρ ((gr h 1 1) + 4))) 4 dX0_silentOf_21 (isTree.s (GI.t g)) rfl in_X1 (by decide) q155 (Or.inl rfl) (fv_rc rfl (isTree.p (GI.t g) 4 (by decide) (by decide)) (Nat.succ_ne_zero _)) ?_
    refine x_iload_n 2 dX0_silentOf_24 rfl ?_
    obtain ⟨b_1, hw⟩ := hw
    refine x_iald (n := 24) (j := (Int32.toNatClampNeg x2)) dX0_silentOf_25 rfl (isTree.a (GI.t g) 4 (by decide) (by decide)) b_1 ?_
    obtain ⟨wt_16, wf_17⟩ := hw
    refine x_icmp_gt 99 dX0_silentOf_26 (by decide) (fun c_2 => ?_) (fun c_2 => ?_)
    · have hw := wt_16 c_2
      refine x_iinc (v := (x4 + 1)) (lv' := [(4, .int (x4 + 1)), (0, .ref (mr ρ 1)), (1, .ref (mr ρ x1)), (2, .int x2), (3, .int x3), (5, .int x5)]) 4 dX0_silentOf_99 rfl (by rfl) (Nat.le_of_ble_eq_true rfl) rfl ?_
      refine x_goto 5 dX0_silentOf_102 (by decide) ?_
      refine X.sub [1, 2, 3, 4, 0] rfl ?_
      exact hK5 x1 x2 x3 (x4 + 1) h g e fx1 hw
    · have hw := wf_17 c_2
      refine x_aload_n 0 dX0_silentOf_29 rfl ?_
      refine x_get (ci := 0) (v := .ref (mr ρ (gr h 1 1))) 1 dX0_silentOf_30 (GI.s g (t := (10, 0)) rfl (by decide)) rfl in_X0 (by decide) q188 (Or.inl rfl) (fv_rc rfl rfl (isTree.nz (GI.t g) (GI.live g))) ?_
      refine x_iload_n 2 dX0_silentOf_33 rfl ?_
      refine x_iload 5 dX0_silentOf_34 rfl ?_
      refine x_callV (ci := 1) [.int x2, .int x5] 2 dX0_silentOf_36 (k_X1_on G g (GI.t g) hw) (isTree.s (GI.t g)) rfl q925 q926 q927 q105 q928 (by decide) rfl rfl ⟨(Nat.le_of_ble_eq_true rfl), (Nat.le_of_ble_eq_true rfl)⟩ (Nat.le_of_ble_eq_true rfl) ⟨(Nat.le_of_ble_eq_true rfl), (Nat.le_of_ble_eq_true rfl)⟩ (fun v9 h_3 hv9 => ?_) (fun _ _ _ _ _ z _ _ => False.elim z)
      obtain ⟨r_6, rfl, g_4, e_5, hw⟩ := hv9
      have hw := hw g_4 e_5
      show X ρ K_X0_silentOf 39 [(0, .ref (mr ρ 1)), (1, .ref (mr ρ x1)), (2, .int x2), (3, .int x3), (4, .int x4), (5, .int x5)] [.int r_6] h_3 0 0 (phI h0 post) psN
      refine x_istore (lv' := [(6, .int r_6), (0, .ref (mr ρ 1)), (1, .ref (mr ρ x1)), (2, .int x2), (3, .int x3), (4, .int x4), (5, .int x5)]) dX0_silentOf_39 (Nat.le_of_ble_eq_true rfl) rfl ?_
      refine x_aload_n 1 dX0_silentOf_41 rfl ?_
      refine x_get (ci := 0) (v := .ref (mr ρ (gr h_3 1 1))) 1 dX0_silentOf_42 (GI.s g_4 (t := (10, 0)) rfl (by decide)) rfl in_X0 (by decide) q188 (Or.inl rfl) (fv_rc rfl rfl (isTree.nz (GI.t g_4) (GI.live g_4))) ?_
      refine x_iload 0 dX0_silentOf_45 rfl ?_
      refine x_iload 5 dX0_silentOf_47 rfl ?_
      refine x_callV (ci := 1) [.int r_6, .int x4] 2 dX0_silentOf_49 (k_X1_unitsOf G g_4 (GI.t g_4) hw) (isTree.s (GI.t g_4)) rfl q809 q810 q811 q105 q812 (by decide) rfl rfl ⟨(Nat.le_of_ble_eq_true rfl), (Nat.le_of_ble_eq_true rfl)⟩ (Nat.le_of_ble_eq_true rfl) ⟨(Nat.le_of_ble_eq_true rfl), (Nat.le_of_ble_eq_true rfl)⟩ (fun v9 h_8 hv9 => ?_) (fun _ _ _ _ _ z _ _ => False.elim z)
      obtain ⟨r_11, rfl, g_9, e_10, hw⟩ := hv9
      have hw := hw g_9 e_10
      show X ρ K_X0_silentOf 52 [(6, .int r_6), (0, .ref (mr ρ 1)), (1, .ref (mr ρ x1)), (2, .int x2), (3, .int x3), (4, .int x4), (5, .int x5)] [.long r_11] h_8 0 0 (phI h0 post) psN
      refine x_lconst 0 dX0_silentOf_52 (by decide) ?_
      obtain ⟨wt_14, wf_15⟩ := hw
      refine x_lif_le 61 dX0_silentOf_53 dX0_silentOf_54 (by decide) (fun c_13 => ?_) (fun c_13 => ?_)
      · have hw := wt_14 c_13
        refine x_iconst 0 dX0_silentOf_61 (by decide) ?_
        refine X.sub [1, 2, 3, 4, 5, 6, 0] rfl ?_
        exact t_X0_silentOf_62 G hK5 ih x1 x2 x3 x4 x5 r_6 0 h_8 g_9 (Ext.tr (Ext.tr e e_5) e_10) (isSu.ext (isSu.ext fx1 e_5) e_10) hw
      · have hw := wf_15 c_13
        refine x_iconst 1 dX0_silentOf_57 (by decide) ?_
        refine x_goto 62 dX0_silentOf_58 (by decide) ?_
        refine X.sub [1, 2, 3, 4, 5, 6, 0] rfl ?_
        exact t_X0_silentOf_62 G hK5 ih x1 x2 x3 x4 x5 r_6 1 h_8 g_9 (Ext.tr (Ext.tr e e_5) e_10) (isSu.ext (isSu.ext fx1 e_5) e_10) hw
set_option maxHeartbeats 4000000 in
theorem t_X0_silentOf_5 {ρ : Rho} {h0 : Hp} {post : Int32 → Hp → Prop} (G : G0 ρ) :
    ∀ (n : Nat), ∀ (x1 : Nat) (x2 : Int32) (x3 : Int32) (x4 : Int32) (h : Hp), GI h → Ext h0 h → isSu h x1 → w_X0_silentOf_5 post n x1 x2 x3 x4 h → X ρ K_X0_silentOf 5 [(0, .ref (mr ρ 1)), (1, .ref (mr ρ x1)), (2, .int x2), (3, .int x3), (4, .int x4)] [] h 0 0 (phI h0 post) psN := by
  intro n
  induction n with
  | zero => intro x1 x2 x3 x4 h g e fx1 hw; exact False.elim hw
  | succ n ih =>
    intro x1 x2 x3 x4 h g e fx1 hw
    refine x_iload 4 dX0_silentOf_5 rfl ?_
    refine x_bipush 9 dX0_silentOf_7 (by decide) ?_
    obtain ⟨wt_2, wf_3⟩ := hw
    refine x_icmp_gt 105 dX0_silentOf_9 (by decide) (fun c_1 => ?_) (fun c_1 => ?_)
    · have hw := wt_2 c_1
      refine x_iload_n 3 dX0_silentOf_105 rfl ?_
      exact x_iret dX0_silentOf_106 rfl (Nat.le_of_ble_eq_true rfl) (Nat.le_of_ble_eq_true rfl) ⟨_, rfl, g, e, hw⟩
    · have hw := wf_3 c_1
      refine x_iconst 1 dX0_silentOf_12 (by decide) ?_
      refine x_istore (lv' := [(5, .int 1), (0, .ref (mr ρ 1)), (1, .ref (mr ρ x1)), (2, .int x2), (3, .int x3), (4, .int x4)]) dX0_silentOf_13 (Nat.le_of_ble_eq_true rfl) rfl ?_
      refine X.sub [1, 2, 3, 4, 5, 0] rfl ?_
      obtain ⟨fu, hw⟩ := hw
      exact t_X0_silentOf_15 G ih fu x1 x2 x3 x4 1 h g e fx1 hw
set_option maxHeartbeats 4000000 in
theorem k_X0_silentOf {ρ : Rho} {h : Hp} {post : Int32 → Hp → Prop} {p1 : Nat} {p2 : Int32} (G : G0 ρ) (g : GI h) (fp1 : isSu h p1) (hw : wp_X0_silentOf post h p1 p2) : Con ρ yX0_silentOf (ws_ yX0_silentOf cX0_silentOf 8 (Option.some Jvm.ClassFile.FieldType.int)) rm_X0_silentOf [.ref (mr ρ 1), .ref (mr ρ p1), .int p2] h (phI h post) psN := by
  refine con_of (own := "BeforeTheEnd") (isI := false) (l0 := [(0, .ref (mr ρ 1)), (1, .ref (mr ρ p1)), (2, .int p2)]) (by decide) rfl (fun z => by cases z) (Nat.le_of_ble_eq_true rfl) rfl (fun _ => ?_)
  show X ρ K_X0_silentOf 0 [(0, .ref (mr ρ 1)), (1, .ref (mr ρ p1)), (2, .int p2)] [] h 0 0 (phI h post) psN
  refine x_iconst 0 dX0_silentOf_0 (by decide) ?_
  refine x_istore_n (lv' := [(3, .int 0), (0, .ref (mr ρ 1)), (1, .ref (mr ρ p1)), (2, .int p2)]) dX0_silentOf_1 (Nat.le_of_ble_eq_true rfl) rfl ?_
  refine x_iconst 1 dX0_silentOf_2 (by decide) ?_
  refine x_istore (lv' := [(4, .int 1), (3, .int 0), (0, .ref (mr ρ 1)), (1, .ref (mr ρ p1)), (2, .int p2)]) dX0_silentOf_3 (Nat.le_of_ble_eq_true rfl) rfl ?_
  refine X.sub [2, 3, 4, 1, 0] rfl ?_
  obtain ⟨fu, hw⟩ := hw
  exact t_X0_silentOf_5 G  fu p1 p2 0 1 h g Ext.rf fp1 hw

/-! BeforeTheEnd.silentTold(II)I -/
def w_X0_silentTold_19 (post : Int32 → Hp → Prop) (px : Nat → Hp → Prop) (x1 : Int32) (x2 : Int32) (z0 : Int32) (h : Hp) : Prop := (wp_X0_in (fun r_4 h_1 => GI h_1 → Ext h h_1 → (wp_X0_must (fun h_6 => GI h_6 → Ext h_1 h_6 → (wp_X0_mustBeWhole (fun h_11 => GI h_11 → Ext h_6 h_11 → (vp_in x1 4 ∧ (isPl h_11 (gr h_11 10 (Int32.toNatClampNeg x1)) ∧ (isSu h_11 (gr h_11 10 (Int32.toNatClampNeg x1)) ∧ (wp_X0_silentOf (fun r_22 h_19 => GI h_19 → Ext h_11 h_19 → (post r_22 h_19)) h_11 (gr h_11 10 (Int32.toNatClampNeg x1)) x2))))) px h_6)) px h_1 r_4 (-2))) h (Int32.toInt64 z0) 1 2)
def wp_X0_silentTold (post : Int32 → Hp → Prop) (px : Nat → Hp → Prop) (h : Hp) (p1 : Int32) (p2 : Int32) : Prop := (wp_X0_mustBePlayer (fun h_1 => GI h_1 → Ext h h_1 → (wp_X0_mustBeWord (fun h_6 => GI h_6 → Ext h_1 h_6 → (vp_in p1 4 ∧ (isPl h_6 (gr h_6 10 (Int32.toNatClampNeg p1)) ∧ (wv_X10_kind_isPl (fun r_16 h_13 => GI h_13 → Ext h_6 h_13 → (w_X0_silentTold_19 post px p1 p2 r_16 h_13)) h_6 (gr h_6 10 (Int32.toNatClampNeg p1)))))) px h_1 p2)) px h p1)
abbrev rm_X0_silentTold : Room := ({ frames := 12, cells := 4, slots := 28, locals := 284 })
abbrev K_X0_silentTold : Kx := ("BeforeTheEnd", cX0_silentTold, 3, (Option.some Jvm.ClassFile.FieldType.int), rm_X0_silentTold, [], false)
set_option maxHeartbeats 4000000 in
theorem t_X0_silentTold_19 {ρ : Rho} {h0 : Hp} {post : Int32 → Hp → Prop} {px : Nat → Hp → Prop} (G : G0 ρ) :
    ∀ (x1 : Int32) (x2 : Int32) (z0 : Int32) (h : Hp), GI h → Ext h0 h → w_X0_silentTold_19 post px x1 x2 z0 h → X ρ K_X0_silentTold 19 [(0, .ref (mr ρ 1)), (1, .int x1), (2, .int x2)] [.int z0] h 2 14 (phI h0 post) (psX h0 px) := by
  intro x1 x2 z0 h g e hw
  refine x_i2l dX0_silentTold_19 ?_
  refine x_lconst 1 dX0_silentTold_20 (by decide) ?_
  refine x_ldc2 dX0_silentTold_21 q920 ?_
  refine x_callS [.long (Int32.toInt64 z0), .long 1, .long 2] 3 dX0_silentTold_24 (k_X0_in G g hw) q745 q464 q104 q465 (by decide) rfl rfl ⟨(Nat.le_of_ble_eq_true rfl), (Nat.le_of_ble_eq_true rfl)⟩ (Nat.le_of_ble_eq_true rfl) ⟨(Nat.le_of_ble_eq_true rfl), (Nat.le_of_ble_eq_true rfl)⟩ (fun v9 h_1 hv9 => ?_) (fun _ _ _ _ _ z _ _ => False.elim z)
  obtain ⟨r_4, rfl, g_2, e_3, b_5, hw⟩ := hv9
  have hw := hw g_2 e_3
  show X ρ K_X0_silentTold 27 [(0, .ref (mr ρ 1)), (1, .int x1), (2, .int x2)] [.int r_4] h_1 2 14 (phI h0 post) (psX h0 px)
  refine x_bipush (-2) dX0_silentTold_27 (by decide) ?_
  refine x_callS [.int r_4, .int (-2)] 2 dX0_silentTold_29 (k_X0_must G g_2 hw) q294 q295 q104 q296 (by decide) rfl rfl ⟨(Nat.le_of_ble_eq_true rfl), (Nat.le_of_ble_eq_true rfl)⟩ (Nat.le_of_ble_eq_true rfl) ⟨(Nat.le_of_ble_eq_true rfl), (Nat.le_of_ble_eq_true rfl)⟩ (fun v9 h_6 hv9 => ?_) (fun q9 h9 ci9 n9 x9 hx9 hs9 hc9 => xt_out hs9 hc9 (fun z hz => by cases hz) (Nat.le_of_ble_eq_true rfl) (Nat.le_of_ble_eq_true rfl) ⟨hx9.1, Ext.tr (Ext.tr e e_3) hx9.2.1, hx9.2.2⟩)
  obtain ⟨rfl, g_7, e_8, hw⟩ := hv9
  have hw := hw g_7 e_8
  show X ρ K_X0_silentTold 32 [(0, .ref (mr ρ 1)), (1, .int x1), (2, .int x2)] [] h_6 3 21 (phI h0 post) (psX h0 px)
  refine x_aload_n 0 dX0_silentTold_32 rfl ?_
  refine x_callV (ci := 0) [] 0 dX0_silentTold_33 (k_X0_mustBeWhole G g_7 hw) (GI.s g_7 (t := (10, 0)) rfl (by decide)) rfl q801 q803 qs18 q104 q804 (by decide) rfl rfl ⟨(Nat.le_of_ble_eq_true rfl), (Nat.le_of_ble_eq_true rfl)⟩ (Nat.le_of_ble_eq_true rfl) ⟨(Nat.le_of_ble_eq_true rfl), (Nat.le_of_ble_eq_true rfl)⟩ (fun v9 h_11 hv9 => ?_) (fun q9 h9 ci9 n9 x9 hx9 hs9 hc9 => xt_out hs9 hc9 (fun z hz => by cases hz) (Nat.le_of_ble_eq_true rfl) (Nat.le_of_ble_eq_true rfl) ⟨hx9.1, Ext.tr (Ext.tr (Ext.tr e e_3) e_8) hx9.2.1, hx9.2.2⟩)
  obtain ⟨rfl, g_12, e_13, hw⟩ := hv9
  have hw := hw g_12 e_13
  show X ρ K_X0_silentTold 36 [(0, .ref (mr ρ 1)), (1, .int x1), (2, .int x2)] [] h_11 4 28 (phI h0 post) (psX h0 px)
  refine x_aload_n 0 dX0_silentTold_36 rfl ?_
  refine x_aload_n 0 dX0_silentTold_37 rfl ?_
  refine x_get (ci := 0) (v := .ref (mr ρ 10)) 2 dX0_silentTold_38 (GI.s g_12 (t := (10, 0)) rfl (by decide)) rfl in_X0 (by decide) q189 (Or.inl rfl) (fv_rc rfl (GI.x g_12 (n := 10) rfl (by decide)) (by decide)) ?_
  refine x_iload_n 1 dX0_silentTold_41 rfl ?_
  obtain ⟨b_16, hw⟩ := hw
  obtain ⟨b_17, hw⟩ := hw
  refine x_aald5 (n := 4) (j := (Int32.toNatClampNeg x1)) dX0_silentTold_42 rfl (GI.s g_12 (t := (5, 4)) rfl (by decide)) b_16 ?_
  refine x_nn (isPl.nz b_17 (GI.live g_12)) ?_
  obtain ⟨b_18, hw⟩ := hw
  refine x_castSu dX0_silentTold_43 b_18 q630 ?_
  refine x_iload_n 2 dX0_silentTold_46 rfl ?_
  refine x_callV (ci := 0) [.ref (mr ρ (gr h_11 10 (Int32.toNatClampNeg x1))), .int x2] 2 dX0_silentTold_47 (k_X0_silentOf G g_12 b_18 hw) (GI.s g_12 (t := (10, 0)) rfl (by decide)) rfl q967 q969 qs39 q104 q970 (by decide) rfl rfl ⟨(Nat.le_of_ble_eq_true rfl), (Nat.le_of_ble_eq_true rfl)⟩ (Nat.le_of_ble_eq_true rfl) ⟨(Nat.le_of_ble_eq_true rfl), (Nat.le_of_ble_eq_true rfl)⟩ (fun v9 h_19 hv9 => ?_) (fun _ _ _ _ _ z _ _ => False.elim z)
  obtain ⟨r_22, rfl, g_20, e_21, hw⟩ := hv9
  have hw := hw g_20 e_21
  show X ρ K_X0_silentTold 50 [(0, .ref (mr ρ 1)), (1, .int x1), (2, .int x2)] [.int r_22] h_19 4 28 (phI h0 post) (psX h0 px)
  exact x_iret dX0_silentTold_50 rfl (Nat.le_of_ble_eq_true rfl) (Nat.le_of_ble_eq_true rfl) ⟨_, rfl, g_20, (Ext.tr (Ext.tr (Ext.tr (Ext.tr e e_3) e_8) e_13) e_21), hw⟩
set_option maxHeartbeats 4000000 in
theorem k_X0_silentTold {ρ : Rho} {h : Hp} {post : Int32 → Hp → Prop} {px : Nat → Hp → Prop} {p1 : Int32} {p2 : Int32} (G : G0 ρ) (g : GI h) (hw : wp_X0_silentTold post px h p1 p2) : Con ρ yX0_silentTold (ws_ yX0_silentTold cX0_silentTold 3 (Option.some Jvm.ClassFile.FieldType.int)) rm_X0_silentTold [.ref (mr ρ 1), .int p1, .int p2] h (phI h post) (psX h px) := by
  refine con_of (own := "BeforeTheEnd") (isI := false) (l0 := [(0, .ref (mr ρ 1)), (1, .int p1), (2, .int p2)]) (by decide) rfl (fun z => by cases z) (Nat.le_of_ble_eq_true rfl) rfl (fun _ => ?_)
  show X ρ K_X0_silentTold 0 [(0, .ref (mr ρ 1)), (1, .int p1), (2, .int p2)] [] h 0 0 (phI h post) (psX h px)
  refine x_aload_n 0 dX0_silentTold_0 rfl ?_
  refine x_iload_n 1 dX0_silentTold_1 rfl ?_
  refine x_callV (ci := 0) [.int p1] 1 dX0_silentTold_2 (k_X0_mustBePlayer G g hw) (GI.s g (t := (10, 0)) rfl (by decide)) rfl q751 q753 qs17 q104 q754 (by decide) rfl rfl ⟨(Nat.le_of_ble_eq_true rfl), (Nat.le_of_ble_eq_true rfl)⟩ (Nat.le_of_ble_eq_true rfl) ⟨(Nat.le_of_ble_eq_true rfl), (Nat.le_of_ble_eq_true rfl)⟩ (fun v9 h_1 hv9 => ?_) (fun q9 h9 ci9 n9 x9 hx9 hs9 hc9 => xt_out hs9 hc9 (fun z hz => by cases hz) (Nat.le_of_ble_eq_true rfl) (Nat.le_of_ble_eq_true rfl) ⟨hx9.1, Ext.tr Ext.rf hx9.2.1, hx9.2.2⟩)
  obtain ⟨rfl, g_2, e_3, hw⟩ := hv9
  have hw := hw g_2 e_3
  show X ρ K_X0_silentTold 5 [(0, .ref (mr ρ 1)), (1, .int p1), (2, .int p2)] [] h_1 1 7 (phI h post) (psX h px)
  refine x_aload_n 0 dX0_silentTold_5 rfl ?_
  refine x_iload_n 2 dX0_silentTold_6 rfl ?_
  refine x_callV (ci := 0) [.int p2] 1 dX0_silentTold_7 (k_X0_mustBeWord G g_2 hw) (GI.s g_2 (t := (10, 0)) rfl (by decide)) rfl q738 q740 qs15 q104 q741 (by decide) rfl rfl ⟨(Nat.le_of_ble_eq_true rfl), (Nat.le_of_ble_eq_true rfl)⟩ (Nat.le_of_ble_eq_true rfl) ⟨(Nat.le_of_ble_eq_true rfl), (Nat.le_of_ble_eq_true rfl)⟩ (fun v9 h_6 hv9 => ?_) (fun q9 h9 ci9 n9 x9 hx9 hs9 hc9 => xt_out hs9 hc9 (fun z hz => by cases hz) (Nat.le_of_ble_eq_true rfl) (Nat.le_of_ble_eq_true rfl) ⟨hx9.1, Ext.tr e_3 hx9.2.1, hx9.2.2⟩)
  obtain ⟨rfl, g_7, e_8, hw⟩ := hv9
  have hw := hw g_7 e_8
  show X ρ K_X0_silentTold 10 [(0, .ref (mr ρ 1)), (1, .int p1), (2, .int p2)] [] h_6 2 14 (phI h post) (psX h px)
  refine x_aload_n 0 dX0_silentTold_10 rfl ?_
  refine x_get (ci := 0) (v := .ref (mr ρ 10)) 2 dX0_silentTold_11 (GI.s g_7 (t := (10, 0)) rfl (by decide)) rfl in_X0 (by decide) q189 (Or.inl rfl) (fv_rc rfl (GI.x g_7 (n := 10) rfl (by decide)) (by decide)) ?_
  refine x_iload_n 1 dX0_silentTold_14 rfl ?_
  obtain ⟨b_11, hw⟩ := hw
  obtain ⟨b_12, hw⟩ := hw
  refine x_aald5 (n := 4) (j := (Int32.toNatClampNeg p1)) dX0_silentTold_15 rfl (GI.s g_7 (t := (5, 4)) rfl (by decide)) b_11 ?_
  refine x_nn (isPl.nz b_12 (GI.live g_7)) ?_
  have kk_24 : ∀ (v9 : Option Value) (h_13 : Hp), (phI h_6 (fun r_16 h_13 => GI h_13 → Ext h_6 h_13 → (w_X0_silentTold_19 post px p1 p2 r_16 h_13))) v9 h_13 → X ρ K_X0_silentTold 19 [(0, .ref (mr ρ 1)), (1, .int p1), (2, .int p2)] (v9.toList ++ []) h_13 2 14 (phI h post) (psX h px) := by
    intro v9 h_13 hv9
    obtain ⟨r_16, rfl, g_14, e_15, hw⟩ := hv9
    have hw := hw g_14 e_15
    show X ρ K_X0_silentTold 19 [(0, .ref (mr ρ 1)), (1, .int p1), (2, .int p2)] [.int r_16] h_13 2 14 (phI h post) (psX h px)
    exact t_X0_silentTold_19 G  p1 p2 r_16 h_13 g_14 (Ext.tr (Ext.tr e_3 e_8) e_15) hw
  obtain ⟨wc_18, wc_19, wc_20, wc_21, wc_22, wc_23⟩ := hw
  rcases b_12 with fc9 | fc9 | fc9 | fc9 | fc9 | fc9
  · exact x_callA (ci := 8) (x0 := ⟨"BeforeTheEnd$Player", "kind", "()I"⟩) (owner := "BeforeTheEnd$Player") [] 0 dX0_silentTold_16 (k_X11_kind_c8 G g_7 fc9 (wc_18 fc9)) fc9 rfl (lw_U q755 q757 q764 q765 q124 q766) q756 (by decide) rfl rfl ⟨(Nat.le_of_ble_eq_true rfl), (Nat.le_of_ble_eq_true rfl)⟩ (Nat.le_of_ble_eq_true rfl) ⟨(Nat.le_of_ble_eq_true rfl), (Nat.le_of_ble_eq_true rfl)⟩ kk_24 (fun _ _ _ _ _ z _ _ => False.elim z)
  · exact x_callA (ci := 9) (x0 := ⟨"BeforeTheEnd$Player", "kind", "()I"⟩) (owner := "BeforeTheEnd$Player") [] 0 dX0_silentTold_16 (k_X12_kind_c9 G g_7 fc9 (wc_19 fc9)) fc9 rfl (lw_U q755 q757 q770 q771 q125 q772) q756 (by decide) rfl rfl ⟨(Nat.le_of_ble_eq_true rfl), (Nat.le_of_ble_eq_true rfl)⟩ (Nat.le_of_ble_eq_true rfl) ⟨(Nat.le_of_ble_eq_true rfl), (Nat.le_of_ble_eq_true rfl)⟩ kk_24 (fun _ _ _ _ _ z _ _ => False.elim z)
  · exact x_callA (ci := 10) (x0 := ⟨"BeforeTheEnd$Player", "kind", "()I"⟩) (owner := "BeforeTheEnd$Player") [] 0 dX0_silentTold_16 (k_X13_kind_c10 G g_7 fc9 (wc_20 fc9)) fc9 rfl (lw_U q755 q757 q761 q762 q126 q763) q756 (by decide) rfl rfl ⟨(Nat.le_of_ble_eq_true rfl), (Nat.le_of_ble_eq_true rfl)⟩ (Nat.le_of_ble_eq_true rfl) ⟨(Nat.le_of_ble_eq_true rfl), (Nat.le_of_ble_eq_true rfl)⟩ kk_24 (fun _ _ _ _ _ z _ _ => False.elim z)
  · exact x_callA (ci := 11) (x0 := ⟨"BeforeTheEnd$Player", "kind", "()I"⟩) (owner := "BeforeTheEnd$Player") [] 0 dX0_silentTold_16 (k_X14_kind_c11 G g_7 fc9 (wc_21 fc9)) fc9 rfl (lw_U q755 q757 q767 q768 q127 q769) q756 (by decide) rfl rfl ⟨(Nat.le_of_ble_eq_true rfl), (Nat.le_of_ble_eq_true rfl)⟩ (Nat.le_of_ble_eq_true rfl) ⟨(Nat.le_of_ble_eq_true rfl), (Nat.le_of_ble_eq_true rfl)⟩ kk_24 (fun _ _ _ _ _ z _ _ => False.elim z)
  · exact x_callA (ci := 12) (x0 := ⟨"BeforeTheEnd$Player", "kind", "()I"⟩) (owner := "BeforeTheEnd$Player") [] 0 dX0_silentTold_16 (k_X15_kind_c12 G g_7 fc9 (wc_22 fc9)) fc9 rfl (lw_U q755 q757 q773 q774 q128 q775) q756 (by decide) rfl rfl ⟨(Nat.le_of_ble_eq_true rfl), (Nat.le_of_ble_eq_true rfl)⟩ (Nat.le_of_ble_eq_true rfl) ⟨(Nat.le_of_ble_eq_true rfl), (Nat.le_of_ble_eq_true rfl)⟩ kk_24 (fun _ _ _ _ _ z _ _ => False.elim z)
  · exact x_callA (ci := 13) (x0 := ⟨"BeforeTheEnd$Player", "kind", "()I"⟩) (owner := "BeforeTheEnd$Player") [] 0 dX0_silentTold_16 (k_X16_kind_c13 G g_7 fc9 (wc_23 fc9)) fc9 rfl (lw_U q755 q757 q758 q759 q129 q760) q756 (by decide) rfl rfl ⟨(Nat.le_of_ble_eq_true rfl), (Nat.le_of_ble_eq_true rfl)⟩ (Nat.le_of_ble_eq_true rfl) ⟨(Nat.le_of_ble_eq_true rfl), (Nat.le_of_ble_eq_true rfl)⟩ kk_24 (fun _ _ _ _ _ z _ _ => False.elim z)

/-! BeforeTheEnd.partnerFor(III)I -/
def w_X0_partnerFor_85 (post : Int32 → Hp → Prop) (x1 : Int32) (x2 : Int32) (x6 : Int64) (z0 : Int64) (h : Hp) : Prop := ((z0 ≤ x6 → (post x1 h)) ∧ (¬ z0 ≤ x6 → (post x2 h)))
def w_X0_partnerFor_64 (post : Int32 → Hp → Prop) (x1 : Int32) (x2 : Int32) (x3 : Int32) (x5 : Int32) (z0 : Int64) (h : Hp) : Prop := ((¬ x5 = 0 → (wp_X1_unitsOf (fun r_5 h_2 => GI h_2 → Ext h h_2 → (w_X0_partnerFor_85 post x1 x2 z0 r_5 h_2)) h (gr h 1 1) x3 x5)) ∧ (x5 = 0 → (w_X0_partnerFor_85 post x1 x2 z0 0 h)))
def w_X0_partnerFor_45 (post : Int32 → Hp → Prop) (x1 : Int32) (x2 : Int32) (x3 : Int32) (x4 : Int32) (x5 : Int32) (h : Hp) : Prop := ((¬ x4 = 0 → (wp_X1_unitsOf (fun r_5 h_2 => GI h_2 → Ext h h_2 → (w_X0_partnerFor_64 post x1 x2 x3 x5 r_5 h_2)) h (gr h 1 1) x3 x4)) ∧ (x4 = 0 → (w_X0_partnerFor_64 post x1 x2 x3 x5 0 h)))
def wp_X0_partnerFor (post : Int32 → Hp → Prop) (h : Hp) (p1 : Int32) (p2 : Int32) (p3 : Int32) : Prop := (vp_in p1 4 ∧ (isPl h (gr h 10 (Int32.toNatClampNeg p1)) ∧ (wp_X0_guessOf (fun r_6 h_3 => GI h_3 → Ext h h_3 → (vp_in p2 4 ∧ (isPl h_3 (gr h_3 10 (Int32.toNatClampNeg p2)) ∧ (wp_X0_guessOf (fun r_13 h_10 => GI h_10 → Ext h_3 h_10 → ((¬ r_6 = 0 → (w_X0_partnerFor_45 post p1 p2 p3 r_6 r_13 h_10)) ∧ (r_6 = 0 → ((¬ r_13 = 0 → (w_X0_partnerFor_45 post p1 p2 p3 r_6 r_13 h_10)) ∧ (r_13 = 0 → (post (-9) h_10)))))) h_3 (gi h_3 (gr h_3 10 (Int32.toNatClampNeg p2)) 2) p3)))) h (gi h (gr h 10 (Int32.toNatClampNeg p1)) 2) p3)))
abbrev rm_X0_partnerFor : Room := ({ frames := 6, cells := 0, slots := 0, locals := 191 })
abbrev K_X0_partnerFor : Kx := ("BeforeTheEnd", cX0_partnerFor, 10, (Option.some Jvm.ClassFile.FieldType.int), rm_X0_partnerFor, [], false)
set_option maxHeartbeats 4000000 in
theorem t_X0_partnerFor_85 {ρ : Rho} {h0 : Hp} {post : Int32 → Hp → Prop} (G : G0 ρ) :
    ∀ (x1 : Int32) (x2 : Int32) (x6 : Int64) (z0 : Int64) (h : Hp), GI h → Ext h0 h → w_X0_partnerFor_85 post x1 x2 x6 z0 h → X ρ K_X0_partnerFor 85 [(1, .int x1), (2, .int x2), (6, .long x6)] [.long z0] h 0 0 (phI h0 post) psN := by
  intro x1 x2 x6 z0 h g e hw
  refine x_lstore (lv' := [(8, .long z0), (1, .int x1), (2, .int x2), (6, .long x6)]) dX0_partnerFor_85 (Nat.le_of_ble_eq_true rfl) rfl ?_
  refine x_lload 0 dX0_partnerFor_87 rfl ?_
  refine x_lload 3 dX0_partnerFor_89 rfl ?_
  obtain ⟨wt_2, wf_3⟩ := hw
  refine x_lif_le 99 dX0_partnerFor_91 dX0_partnerFor_92 (by decide) (fun c_1 => ?_) (fun c_1 => ?_)
  · have hw := wt_2 c_1
    refine x_iload_n 1 dX0_partnerFor_99 rfl ?_
    exact x_iret dX0_partnerFor_100 rfl (Nat.le_of_ble_eq_true rfl) (Nat.le_of_ble_eq_true rfl) ⟨_, rfl, g, e, hw⟩
  · have hw := wf_3 c_1
    refine x_iload_n 2 dX0_partnerFor_95 rfl ?_
    refine x_goto 100 dX0_partnerFor_96 (by decide) ?_
    exact x_iret dX0_partnerFor_100 rfl (Nat.le_of_ble_eq_true rfl) (Nat.le_of_ble_eq_true rfl) ⟨_, rfl, g, e, hw⟩
set_option maxHeartbeats 4000000 in
theorem t_X0_partnerFor_64 {ρ : Rho} {h0 : Hp} {post : Int32 → Hp → Prop} (G : G0 ρ) :
    ∀ (x1 : Int32) (x2 : Int32) (x3 : Int32) (x5 : Int32) (z0 : Int64) (h : Hp), GI h → Ext h0 h → w_X0_partnerFor_64 post x1 x2 x3 x5 z0 h → X ρ K_X0_partnerFor 64 [(0, .ref (mr ρ 1)), (1, .int x1), (2, .int x2), (3, .int x3), (5, .int x5)] [.long z0] h 0 0 (phI h0 post) psN := by
  intro x1 x2 x3 x5 z0 h g e hw
  refine x_lstore (lv' := [(6, .long z0), (0, .ref (mr ρ 1)), (1, .int x1), (2, .int x2), (3, .int x3), (5, .int x5)]) dX0_partnerFor_64 (Nat.le_of_ble_eq_true rfl) rfl ?_
  refine x_iload 5 dX0_partnerFor_66 rfl ?_
  obtain ⟨wt_7, wf_8⟩ := hw
  refine x_if_ne 75 dX0_partnerFor_68 (by decide) (fun c_1 => ?_) (fun c_1 => ?_)
  · have hw := wt_7 c_1
    refine x_aload_n 1 dX0_partnerFor_75 rfl ?_
    refine x_get (ci := 0) (v := .ref (mr ρ (gr h 1 1))) 1 dX0_partnerFor_76 (GI.s g (t := (10, 0)) rfl (by decide)) rfl in_X0 (by decide) q188 (Or.inl rfl) (fv_rc rfl rfl (isTree.nz (GI.t g) (GI.live g))) ?_
    refine x_iload_n 4 dX0_partnerFor_79 rfl ?_
    refine x_iload 5 dX0_partnerFor_80 rfl ?_
    refine x_callV (ci := 1) [.int x3, .int x5] 2 dX0_partnerFor_82 (k_X1_unitsOf G g (GI.t g) hw) (isTree.s (GI.t g)) rfl q809 q810 q811 q105 q812 (by decide) rfl rfl ⟨(Nat.le_of_ble_eq_true rfl), (Nat.le_of_ble_eq_true rfl)⟩ (Nat.le_of_ble_eq_true rfl) ⟨(Nat.le_of_ble_eq_true rfl), (Nat.le_of_ble_eq_true rfl)⟩ (fun v9 h_2 hv9 => ?_) (fun _ _ _ _ _ z _ _ => False.elim z)
    obtain ⟨r_5, rfl, g_3, e_4, hw⟩ := hv9
    have hw := hw g_3 e_4
    show X ρ K_X0_partnerFor 85 [(6, .long z0), (0, .ref (mr ρ 1)), (1, .int x1), (2, .int x2), (3, .int x3), (5, .int x5)] [.long r_5] h_2 0 0 (phI h0 post) psN
    refine X.sub [2, 3, 0] rfl ?_
    exact t_X0_partnerFor_85 G  x1 x2 z0 r_5 h_2 g_3 (Ext.tr e e_4) hw
  · have hw := wf_8 c_1
    refine x_lconst 0 dX0_partnerFor_71 (by decide) ?_
    refine x_goto 85 dX0_partnerFor_72 (by decide) ?_
    refine X.sub [2, 3, 0] rfl ?_
    exact t_X0_partnerFor_85 G  x1 x2 z0 0 h g e hw
set_option maxHeartbeats 4000000 in
theorem t_X0_partnerFor_45 {ρ : Rho} {h0 : Hp} {post : Int32 → Hp → Prop} (G : G0 ρ) :
    ∀ (x1 : Int32) (x2 : Int32) (x3 : Int32) (x4 : Int32) (x5 : Int32) (h : Hp), GI h → Ext h0 h → w_X0_partnerFor_45 post x1 x2 x3 x4 x5 h → X ρ K_X0_partnerFor 45 [(0, .ref (mr ρ 1)), (1, .int x1), (2, .int x2), (3, .int x3), (4, .int x4), (5, .int x5)] [] h 0 0 (phI h0 post) psN := by
  intro x1 x2 x3 x4 x5 h g e hw
  refine x_iload 4 dX0_partnerFor_45 rfl ?_
  obtain ⟨wt_7, wf_8⟩ := hw
  refine x_if_ne 54 dX0_partnerFor_47 (by decide) (fun c_1 => ?_) (fun c_1 => ?_)
  · have hw := wt_7 c_1
    refine x_aload_n 0 dX0_partnerFor_54 rfl ?_
    refine x_get (ci := 0) (v := .ref (mr ρ (gr h 1 1))) 1 dX0_partnerFor_55 (GI.s g (t := (10, 0)) rfl (by decide)) rfl in_X0 (by decide) q188 (Or.inl rfl) (fv_rc rfl rfl (isTree.nz (GI.t g) (GI.live g))) ?_
    refine x_iload_n 3 dX0_partnerFor_58 rfl ?_
    refine x_iload 4 dX0_partnerFor_59 rfl ?_
    refine x_callV (ci := 1) [.int x3, .int x4] 2 dX0_partnerFor_61 (k_X1_unitsOf G g (GI.t g) hw) (isTree.s (GI.t g)) rfl q809 q810 q811 q105 q812 (by decide) rfl rfl ⟨(Nat.le_of_ble_eq_true rfl), (Nat.le_of_ble_eq_true rfl)⟩ (Nat.le_of_ble_eq_true rfl) ⟨(Nat.le_of_ble_eq_true rfl), (Nat.le_of_ble_eq_true rfl)⟩ (fun v9 h_2 hv9 => ?_) (fun _ _ _ _ _ z _ _ => False.elim z)
    obtain ⟨r_5, rfl, g_3, e_4, hw⟩ := hv9
    have hw := hw g_3 e_4
    show X ρ K_X0_partnerFor 64 [(0, .ref (mr ρ 1)), (1, .int x1), (2, .int x2), (3, .int x3), (4, .int x4), (5, .int x5)] [.long r_5] h_2 0 0 (phI h0 post) psN
    refine X.sub [0, 1, 2, 3, 5] rfl ?_
    exact t_X0_partnerFor_64 G  x1 x2 x3 x5 r_5 h_2 g_3 (Ext.tr e e_4) hw
  · have hw := wf_8 c_1
    refine x_lconst 0 dX0_partnerFor_50 (by decide) ?_
    refine x_goto 64 dX0_partnerFor_51 (by decide) ?_
    refine X.sub [0, 1, 2, 3, 5] rfl ?_
    exact t_X0_partnerFor_64 G  x1 x2 x3 x5 0 h g e hw
set_option maxHeartbeats 4000000 in
theorem k_X0_partnerFor {ρ : Rho} {h : Hp} {post : Int32 → Hp → Prop} {p1 : Int32} {p2 : Int32} {p3 : Int32} (G : G0 ρ) (g : GI h) (hw : wp_X0_partnerFor post h p1 p2 p3) : Con ρ yX0_partnerFor (ws_ yX0_partnerFor cX0_partnerFor 10 (Option.some Jvm.ClassFile.FieldType.int)) rm_X0_partnerFor [.ref (mr ρ 1), .int p1, .int p2, .int p3] h (phI h post) psN := by
  refine con_of (own := "BeforeTheEnd") (isI := false) (l0 := [(0, .ref (mr ρ 1)), (1, .int p1), (2, .int p2), (3, .int p3)]) (by decide) rfl (fun z => by cases z) (Nat.le_of_ble_eq_true rfl) rfl (fun _ => ?_)
  show X ρ K_X0_partnerFor 0 [(0, .ref (mr ρ 1)), (1, .int p1), (2, .int p2), (3, .int p3)] [] h 0 0 (phI h post) psN
  refine x_aload_n 0 dX0_partnerFor_0 rfl ?_
  refine x_aload_n 0 dX0_partnerFor_1 rfl ?_
  refine x_get (ci := 0) (v := .ref (mr ρ 10)) 2 dX0_partnerFor_2 (GI.s g (t := (10, 0)) rfl (by decide)) rfl in_X0 (by decide) q189 (Or.inl rfl) (fv_rc rfl (GI.x g (n := 10) rfl (by decide)) (by decide)) ?_
  refine x_iload_n 1 dX0_partnerFor_5 rfl ?_
  obtain ⟨b_1, hw⟩ := hw
  obtain ⟨b_2, hw⟩ := hw
  refine x_aald5 (n := 4) (j := (Int32.toNatClampNeg p1)) dX0_partnerFor_6 rfl (GI.s g (t := (5, 4)) rfl (by decide)) b_1 ?_
  refine x_nn (isPl.nz b_2 (GI.live g)) ?_
  refine x_getP 2 (by decide) dX0_partnerFor_7 b_2 q622 ?_
  refine x_iload_n 3 dX0_partnerFor_10 rfl ?_
  refine x_callV (ci := 0) [.int (gi h (gr h 10 (Int32.toNatClampNeg p1)) 2), .int p3] 2 dX0_partnerFor_11 (k_X0_guessOf G g hw) (GI.s g (t := (10, 0)) rfl (by decide)) rfl q805 q807 qs19 q104 q808 (by decide) rfl rfl ⟨(Nat.le_of_ble_eq_true rfl), (Nat.le_of_ble_eq_true rfl)⟩ (Nat.le_of_ble_eq_true rfl) ⟨(Nat.le_of_ble_eq_true rfl), (Nat.le_of_ble_eq_true rfl)⟩ (fun v9 h_3 hv9 => ?_) (fun _ _ _ _ _ z _ _ => False.elim z)
  obtain ⟨r_6, rfl, g_4, e_5, hw⟩ := hv9
  have hw := hw g_4 e_5
  show X ρ K_X0_partnerFor 14 [(0, .ref (mr ρ 1)), (1, .int p1), (2, .int p2), (3, .int p3)] [.int r_6] h_3 0 0 (phI h post) psN
  refine x_istore (lv' := [(4, .int r_6), (0, .ref (mr ρ 1)), (1, .int p1), (2, .int p2), (3, .int p3)]) dX0_partnerFor_14 (Nat.le_of_ble_eq_true rfl) rfl ?_
  refine x_aload_n 1 dX0_partnerFor_16 rfl ?_
  refine x_aload_n 1 dX0_partnerFor_17 rfl ?_
  refine x_get (ci := 0) (v := .ref (mr ρ 10)) 2 dX0_partnerFor_18 (GI.s g_4 (t := (10, 0)) rfl (by decide)) rfl in_X0 (by decide) q189 (Or.inl rfl) (fv_rc rfl (GI.x g_4 (n := 10) rfl (by decide)) (by decide)) ?_
  refine x_iload_n 3 dX0_partnerFor_21 rfl ?_
  obtain ⟨b_8, hw⟩ := hw
  obtain ⟨b_9, hw⟩ := hw
  refine x_aald5 (n := 4) (j := (Int32.toNatClampNeg p2)) dX0_partnerFor_22 rfl (GI.s g_4 (t := (5, 4)) rfl (by decide)) b_8 ?_
  refine x_nn (isPl.nz b_9 (GI.live g_4)) ?_
  refine x_getP 2 (by decide) dX0_partnerFor_23 b_9 q622 ?_
  refine x_iload_n 4 dX0_partnerFor_26 rfl ?_
  refine x_callV (ci := 0) [.int (gi h_3 (gr h_3 10 (Int32.toNatClampNeg p2)) 2), .int p3] 2 dX0_partnerFor_27 (k_X0_guessOf G g_4 hw) (GI.s g_4 (t := (10, 0)) rfl (by decide)) rfl q805 q807 qs19 q104 q808 (by decide) rfl rfl ⟨(Nat.le_of_ble_eq_true rfl), (Nat.le_of_ble_eq_true rfl)⟩ (Nat.le_of_ble_eq_true rfl) ⟨(Nat.le_of_ble_eq_true rfl), (Nat.le_of_ble_eq_true rfl)⟩ (fun v9 h_10 hv9 => ?_) (fun _ _ _ _ _ z _ _ => False.elim z)
  obtain ⟨r_13, rfl, g_11, e_12, hw⟩ := hv9
  have hw := hw g_11 e_12
  show X ρ K_X0_partnerFor 30 [(4, .int r_6), (0, .ref (mr ρ 1)), (1, .int p1), (2, .int p2), (3, .int p3)] [.int r_13] h_10 0 0 (phI h post) psN
  refine x_istore (lv' := [(5, .int r_13), (4, .int r_6), (0, .ref (mr ρ 1)), (1, .int p1), (2, .int p2), (3, .int p3)]) dX0_partnerFor_30 (Nat.le_of_ble_eq_true rfl) rfl ?_
  refine x_iload 1 dX0_partnerFor_32 rfl ?_
  obtain ⟨wt_19, wf_20⟩ := hw
  refine x_if_ne 45 dX0_partnerFor_34 (by decide) (fun c_15 => ?_) (fun c_15 => ?_)
  · have hw := wt_19 c_15
    refine X.sub [2, 3, 4, 5, 1, 0] rfl ?_
    exact t_X0_partnerFor_45 G  p1 p2 p3 r_6 r_13 h_10 g_11 (Ext.tr e_5 e_12) hw
  · have hw := wf_20 c_15
    refine x_iload 0 dX0_partnerFor_37 rfl ?_
    obtain ⟨wt_17, wf_18⟩ := hw
    refine x_if_ne 45 dX0_partnerFor_39 (by decide) (fun c_16 => ?_) (fun c_16 => ?_)
    · have hw := wt_17 c_16
      refine X.sub [2, 3, 4, 5, 1, 0] rfl ?_
      exact t_X0_partnerFor_45 G  p1 p2 p3 r_6 r_13 h_10 g_11 (Ext.tr e_5 e_12) hw
    · have hw := wf_18 c_16
      refine x_bipush (-9) dX0_partnerFor_42 (by decide) ?_
      exact x_iret dX0_partnerFor_44 rfl (Nat.le_of_ble_eq_true rfl) (Nat.le_of_ble_eq_true rfl) ⟨_, rfl, g_11, (Ext.tr e_5 e_12), hw⟩

/-! BeforeTheEnd.partnersTold(III)I -/
def wp_X0_partnersTold (post : Int32 → Hp → Prop) (px : Nat → Hp → Prop) (h : Hp) (p1 : Int32) (p2 : Int32) (p3 : Int32) : Prop := (wp_X0_mustBePlayer (fun h_1 => GI h_1 → Ext h h_1 → (wp_X0_mustBePlayer (fun h_6 => GI h_6 → Ext h_1 h_6 → (wp_X0_mustBeWord (fun h_11 => GI h_11 → Ext h_6 h_11 → (∀ z_17 : Int32, z_17 = ((if p1 = p2 then 0 else 1) : Int32) → (wp_X0_must (fun h_18 => GI h_18 → Ext h_11 h_18 → (wp_X0_mustBeWhole (fun h_23 => GI h_23 → Ext h_18 h_23 → (wp_X0_partnerFor (fun r_31 h_28 => GI h_28 → Ext h_23 h_28 → (post r_31 h_28)) h_23 p1 p2 p3)) px h_18)) px h_11 z_17 (-1)))) px h_6 p3)) px h_1 p2)) px h p1)
abbrev rm_X0_partnersTold : Room := ({ frames := 12, cells := 5, slots := 35, locals := 284 })
abbrev K_X0_partnersTold : Kx := ("BeforeTheEnd", cX0_partnersTold, 4, (Option.some Jvm.ClassFile.FieldType.int), rm_X0_partnersTold, [], false)
set_option maxHeartbeats 4000000 in
theorem k_X0_partnersTold {ρ : Rho} {h : Hp} {post : Int32 → Hp → Prop} {px : Nat → Hp → Prop} {p1 : Int32} {p2 : Int32} {p3 : Int32} (G : G0 ρ) (g : GI h) (hw : wp_X0_partnersTold post px h p1 p2 p3) : Con ρ yX0_partnersTold (ws_ yX0_partnersTold cX0_partnersTold 4 (Option.some Jvm.ClassFile.FieldType.int)) rm_X0_partnersTold [.ref (mr ρ 1), .int p1, .int p2, .int p3] h (phI h post) (psX h px) := by
  refine con_of (own := "BeforeTheEnd") (isI := false) (l0 := [(0, .ref (mr ρ 1)), (1, .int p1), (2, .int p2), (3, .int p3)]) (by decide) rfl (fun z => by cases z) (Nat.le_of_ble_eq_true rfl) rfl (fun _ => ?_)
  show X ρ K_X0_partnersTold 0 [(0, .ref (mr ρ 1)), (1, .int p1), (2, .int p2), (3, .int p3)] [] h 0 0 (phI h post) (psX h px)
  refine x_aload_n 0 dX0_partnersTold_0 rfl ?_
  refine x_iload_n 1 dX0_partnersTold_1 rfl ?_
  refine x_callV (ci := 0) [.int p1] 1 dX0_partnersTold_2 (k_X0_mustBePlayer G g hw) (GI.s g (t := (10, 0)) rfl (by decide)) rfl q751 q753 qs17 q104 q754 (by decide) rfl rfl ⟨(Nat.le_of_ble_eq_true rfl), (Nat.le_of_ble_eq_true rfl)⟩ (Nat.le_of_ble_eq_true rfl) ⟨(Nat.le_of_ble_eq_true rfl), (Nat.le_of_ble_eq_true rfl)⟩ (fun v9 h_1 hv9 => ?_) (fun q9 h9 ci9 n9 x9 hx9 hs9 hc9 => xt_out hs9 hc9 (fun z hz => by cases hz) (Nat.le_of_ble_eq_true rfl) (Nat.le_of_ble_eq_true rfl) ⟨hx9.1, Ext.tr Ext.rf hx9.2.1, hx9.2.2⟩)
  obtain ⟨rfl, g_2, e_3, hw⟩ := hv9
  have hw := hw g_2 e_3
  show X ρ K_X0_partnersTold 5 [(0, .ref (mr ρ 1)), (1, .int p1), (2, .int p2), (3, .int p3)] [] h_1 1 7 (phI h post) (psX h px)
  refine x_aload_n 0 dX0_partnersTold_5 rfl ?_
  refine x_iload_n 2 dX0_partnersTold_6 rfl ?_
  refine x_callV (ci := 0) [.int p2] 1 dX0_partnersTold_7 (k_X0_mustBePlayer G g_2 hw) (GI.s g_2 (t := (10, 0)) rfl (by decide)) rfl q751 q753 qs17 q104 q754 (by decide) rfl rfl ⟨(Nat.le_of_ble_eq_true rfl), (Nat.le_of_ble_eq_true rfl)⟩ (Nat.le_of_ble_eq_true rfl) ⟨(Nat.le_of_ble_eq_true rfl), (Nat.le_of_ble_eq_true rfl)⟩ (fun v9 h_6 hv9 => ?_) (fun q9 h9 ci9 n9 x9 hx9 hs9 hc9 => xt_out hs9 hc9 (fun z hz => by cases hz) (Nat.le_of_ble_eq_true rfl) (Nat.le_of_ble_eq_true rfl) ⟨hx9.1, Ext.tr e_3 hx9.2.1, hx9.2.2⟩)
  obtain ⟨rfl, g_7, e_8, hw⟩ := hv9
  have hw := hw g_7 e_8
  show X ρ K_X0_partnersTold 10 [(0, .ref (mr ρ 1)), (1, .int p1), (2, .int p2), (3, .int p3)] [] h_6 2 14 (phI h post) (psX h px)
  refine x_aload_n 0 dX0_partnersTold_10 rfl ?_
  refine x_iload_n 3 dX0_partnersTold_11 rfl ?_
  refine x_callV (ci := 0) [.int p3] 1 dX0_partnersTold_12 (k_X0_mustBeWord G g_7 hw) (GI.s g_7 (t := (10, 0)) rfl (by decide)) rfl q738 q740 qs15 q104 q741 (by decide) rfl rfl ⟨(Nat.le_of_ble_eq_true rfl), (Nat.le_of_ble_eq_true rfl)⟩ (Nat.le_of_ble_eq_true rfl) ⟨(Nat.le_of_ble_eq_true rfl), (Nat.le_of_ble_eq_true rfl)⟩ (fun v9 h_11 hv9 => ?_) (fun q9 h9 ci9 n9 x9 hx9 hs9 hc9 => xt_out hs9 hc9 (fun z hz => by cases hz) (Nat.le_of_ble_eq_true rfl) (Nat.le_of_ble_eq_true rfl) ⟨hx9.1, Ext.tr (Ext.tr e_3 e_8) hx9.2.1, hx9.2.2⟩)
  obtain ⟨rfl, g_12, e_13, hw⟩ := hv9
  have hw := hw g_12 e_13
  show X ρ K_X0_partnersTold 15 [(0, .ref (mr ρ 1)), (1, .int p1), (2, .int p2), (3, .int p3)] [] h_11 3 21 (phI h post) (psX h px)
  refine x_iload_n 1 dX0_partnersTold_15 rfl ?_
  refine x_iload_n 2 dX0_partnersTold_16 rfl ?_
  have kJ_33 : ∀ z_17 : Int32, z_17 = ((if p1 = p2 then 0 else 1) : Int32) → X ρ K_X0_partnersTold 25 [(0, .ref (mr ρ 1)), (1, .int p1), (2, .int p2), (3, .int p3)] [.int z_17] h_11 3 21 (phI h post) (psX h px) := fun z_17 ez_17 => by
    have hw := hw z_17 ez_17
    refine x_iconst (-1) dX0_partnersTold_25 (by decide) ?_
    refine x_callS [.int z_17, .int (-1)] 2 dX0_partnersTold_26 (k_X0_must G g_12 hw) q294 q295 q104 q296 (by decide) rfl rfl ⟨(Nat.le_of_ble_eq_true rfl), (Nat.le_of_ble_eq_true rfl)⟩ (Nat.le_of_ble_eq_true rfl) ⟨(Nat.le_of_ble_eq_true rfl), (Nat.le_of_ble_eq_true rfl)⟩ (fun v9 h_18 hv9 => ?_) (fun q9 h9 ci9 n9 x9 hx9 hs9 hc9 => xt_out hs9 hc9 (fun z hz => by cases hz) (Nat.le_of_ble_eq_true rfl) (Nat.le_of_ble_eq_true rfl) ⟨hx9.1, Ext.tr (Ext.tr (Ext.tr e_3 e_8) e_13) hx9.2.1, hx9.2.2⟩)
    obtain ⟨rfl, g_19, e_20, hw⟩ := hv9
    have hw := hw g_19 e_20
    show X ρ K_X0_partnersTold 29 [(0, .ref (mr ρ 1)), (1, .int p1), (2, .int p2), (3, .int p3)] [] h_18 4 28 (phI h post) (psX h px)
    refine x_aload_n 0 dX0_partnersTold_29 rfl ?_
    refine x_callV (ci := 0) [] 0 dX0_partnersTold_30 (k_X0_mustBeWhole G g_19 hw) (GI.s g_19 (t := (10, 0)) rfl (by decide)) rfl q801 q803 qs18 q104 q804 (by decide) rfl rfl ⟨(Nat.le_of_ble_eq_true rfl), (Nat.le_of_ble_eq_true rfl)⟩ (Nat.le_of_ble_eq_true rfl) ⟨(Nat.le_of_ble_eq_true rfl), (Nat.le_of_ble_eq_true rfl)⟩ (fun v9 h_23 hv9 => ?_) (fun q9 h9 ci9 n9 x9 hx9 hs9 hc9 => xt_out hs9 hc9 (fun z hz => by cases hz) (Nat.le_of_ble_eq_true rfl) (Nat.le_of_ble_eq_true rfl) ⟨hx9.1, Ext.tr (Ext.tr (Ext.tr (Ext.tr e_3 e_8) e_13) e_20) hx9.2.1, hx9.2.2⟩)
    obtain ⟨rfl, g_24, e_25, hw⟩ := hv9
    have hw := hw g_24 e_25
    show X ρ K_X0_partnersTold 33 [(0, .ref (mr ρ 1)), (1, .int p1), (2, .int p2), (3, .int p3)] [] h_23 5 35 (phI h post) (psX h px)
    refine x_aload_n 0 dX0_partnersTold_33 rfl ?_
    refine x_iload_n 1 dX0_partnersTold_34 rfl ?_
    refine x_iload_n 2 dX0_partnersTold_35 rfl ?_
    refine x_iload_n 3 dX0_partnersTold_36 rfl ?_
    refine x_callV (ci := 0) [.int p1, .int p2, .int p3] 3 dX0_partnersTold_37 (k_X0_partnerFor G g_24 hw) (GI.s g_24 (t := (10, 0)) rfl (by decide)) rfl q976 q978 qs41 q104 q979 (by decide) rfl rfl ⟨(Nat.le_of_ble_eq_true rfl), (Nat.le_of_ble_eq_true rfl)⟩ (Nat.le_of_ble_eq_true rfl) ⟨(Nat.le_of_ble_eq_true rfl), (Nat.le_of_ble_eq_true rfl)⟩ (fun v9 h_28 hv9 => ?_) (fun _ _ _ _ _ z _ _ => False.elim z)
    obtain ⟨r_31, rfl, g_29, e_30, hw⟩ := hv9
    have hw := hw g_29 e_30
    show X ρ K_X0_partnersTold 40 [(0, .ref (mr ρ 1)), (1, .int p1), (2, .int p2), (3, .int p3)] [.int r_31] h_28 5 35 (phI h post) (psX h px)
    exact x_iret dX0_partnersTold_40 rfl (Nat.le_of_ble_eq_true rfl) (Nat.le_of_ble_eq_true rfl) ⟨_, rfl, g_29, (Ext.tr (Ext.tr (Ext.tr (Ext.tr (Ext.tr e_3 e_8) e_13) e_20) e_25) e_30), hw⟩
  refine x_icmp_eq 24 dX0_partnersTold_17 (by decide) (fun c_16 => ?_) (fun c_16 => ?_)
  · refine x_iconst 0 dX0_partnersTold_24 (by decide) ?_
    exact kJ_33 _ ((if_pos c_16)).symm
  · refine x_iconst 1 dX0_partnersTold_20 (by decide) ?_
    refine x_goto 25 dX0_partnersTold_21 (by decide) ?_
    exact kJ_33 _ ((if_neg c_16)).symm

/-! BeforeTheEnd.ofGames(IIII)I -/
def wp_X0_ofGames (post : Int32 → Hp → Prop) (px : Nat → Hp → Prop) (h : Hp) (p1 : Int32) (p2 : Int32) (p3 : Int32) (p4 : Int32) : Prop := (((p1.toInt < 9 ∨ 15 < p1.toInt) → (wp_X0_partnersTold (fun r_15 h_12 => GI h_12 → Ext h h_12 → (post r_15 h_12)) px h p2 p3 p4)) ∧ (p1 = 9 → (wp_X0_runTold (fun r_20 h_17 => GI h_17 → Ext h h_17 → (post r_20 h_17)) px h p2 p3)) ∧ (p1 = 10 → (wp_X0_mustBePlayer (fun h_22 => GI h_22 → Ext h h_22 → (wp_X0_mustBeWhole (fun h_27 => GI h_27 → Ext h_22 h_27 → (vp_in p2 4 ∧ (isPl h_27 (gr h_27 10 (Int32.toNatClampNeg p2)) ∧ (wp_X0_findValues (fun r_37 h_34 => GI h_34 → Ext h_27 h_34 → (post r_37 h_34)) h_27 (gr h_27 10 (Int32.toNatClampNeg p2)))))) px h_22)) px h p2)) ∧ (p1 = 11 → (wp_X0_mustBePlayer (fun h_39 => GI h_39 → Ext h h_39 → (wp_X0_within (fun h_44 => GI h_44 → Ext h_39 h_44 → (wp_X0_mustBeWhole (fun h_49 => GI h_49 → Ext h_44 h_49 → (wp_X0_replyOf (fun r_57 h_54 => GI h_54 → Ext h_49 h_54 → (post r_57 h_54)) h_49 p2 p3)) px h_44)) px h_39 (Int32.toInt64 p3) 0 2)) px h p2)) ∧ (p1 = 12 → (wp_X0_restTold (fun r_62 h_59 => GI h_59 → Ext h h_59 → (post r_62 h_59)) px h p2 p3)) ∧ (p1 = 13 → (wp_X0_within (fun h_64 => GI h_64 → Ext h h_64 → (wp_X0_mustBeWhole (fun h_69 => GI h_69 → Ext h_64 h_69 → (wp_X0_wrongFor (fun r_77 h_74 => GI h_74 → Ext h_69 h_74 → (post r_77 h_74)) h_69 p2)) px h_64)) px h (Int32.toInt64 p2) 0 100)) ∧ (p1 = 14 → (wp_X0_mustBePlayer (fun h_79 => GI h_79 → Ext h h_79 → (wp_X0_mustBeWhole (fun h_84 => GI h_84 → Ext h_79 h_84 → (wp_X0_earlyFor (fun r_92 h_89 => GI h_89 → Ext h_84 h_89 → (post r_92 h_89)) h_84 p2)) px h_79)) px h p2)) ∧ (p1 = 15 → (wp_X0_silentTold (fun r_97 h_94 => GI h_94 → Ext h h_94 → (post r_97 h_94)) px h p2 p3)))
abbrev rm_X0_ofGames : Room := ({ frames := 16, cells := 27, slots := 123, locals := 444 })
abbrev K_X0_ofGames : Kx := ("BeforeTheEnd", cX0_ofGames, 5, (Option.some Jvm.ClassFile.FieldType.int), rm_X0_ofGames, [], false)
set_option maxHeartbeats 4000000 in
theorem k_X0_ofGames {ρ : Rho} {h : Hp} {post : Int32 → Hp → Prop} {px : Nat → Hp → Prop} {p1 : Int32} {p2 : Int32} {p3 : Int32} {p4 : Int32} (G : G0 ρ) (g : GI h) (hw : wp_X0_ofGames post px h p1 p2 p3 p4) : Con ρ yX0_ofGames (ws_ yX0_ofGames cX0_ofGames 5 (Option.some Jvm.ClassFile.FieldType.int)) rm_X0_ofGames [.ref (mr ρ 1), .int p1, .int p2, .int p3, .int p4] h (phI h post) (psX h px) := by
  refine con_of (own := "BeforeTheEnd") (isI := false) (l0 := [(0, .ref (mr ρ 1)), (1, .int p1), (2, .int p2), (3, .int p3), (4, .int p4)]) (by decide) rfl (fun z => by cases z) (Nat.le_of_ble_eq_true rfl) rfl (fun _ => ?_)
  show X ρ K_X0_ofGames 0 [(0, .ref (mr ρ 1)), (1, .int p1), (2, .int p2), (3, .int p3), (4, .int p4)] [] h 0 0 (phI h post) (psX h px)
  refine x_iload_n 1 dX0_ofGames_0 rfl ?_
  obtain ⟨wd_1, ws_2, ws_3, ws_4, ws_5, ws_6, ws_7, ws_8⟩ := hw
  rcases tab_or p1 9 7 (by decide) with c_11 | ⟨i_10, c_11i, c_11⟩
  · have c_11o : p1.toInt < 9 ∨ 15 < p1.toInt := by omega
    have hw := wd_1 c_11o
    refine x_tableOut 144 dX0_ofGames_1 c_11o (by decide) ?_
    refine x_aload_n 0 dX0_ofGames_144 rfl ?_
    refine x_iload_n 2 dX0_ofGames_145 rfl ?_
    refine x_iload_n 3 dX0_ofGames_146 rfl ?_
    refine x_iload 4 dX0_ofGames_147 rfl ?_
    refine x_callV (ci := 0) [.int p2, .int p3, .int p4] 3 dX0_ofGames_149 (k_X0_partnersTold G g hw) (GI.s g (t := (10, 0)) rfl (by decide)) rfl q972 q974 qs40 q104 q975 (by decide) rfl rfl ⟨(Nat.le_of_ble_eq_true rfl), (Nat.le_of_ble_eq_true rfl)⟩ (Nat.le_of_ble_eq_true rfl) ⟨(Nat.le_of_ble_eq_true rfl), (Nat.le_of_ble_eq_true rfl)⟩ (fun v9 h_12 hv9 => ?_) (fun q9 h9 ci9 n9 x9 hx9 hs9 hc9 => xt_out hs9 hc9 (fun z hz => by cases hz) (Nat.le_of_ble_eq_true rfl) (Nat.le_of_ble_eq_true rfl) ⟨hx9.1, Ext.tr Ext.rf hx9.2.1, hx9.2.2⟩)
    obtain ⟨r_15, rfl, g_13, e_14, hw⟩ := hv9
    have hw := hw g_13 e_14
    show X ρ K_X0_ofGames 152 [(0, .ref (mr ρ 1)), (1, .int p1), (2, .int p2), (3, .int p3), (4, .int p4)] [.int r_15] h_12 5 35 (phI h post) (psX h px)
    exact x_iret dX0_ofGames_152 rfl (Nat.le_of_ble_eq_true rfl) (Nat.le_of_ble_eq_true rfl) ⟨_, rfl, g_13, e_14, hw⟩
  · match i_10, c_11i, c_11 with
    | 0, _, c_11 =>
      have c_11 : p1 = 9 := c_11
      have hw := ws_2 c_11
      refine x_tableIn (off := 43) 44 dX0_ofGames_1 (by rw [c_11]; decide) (by rw [c_11]; decide) (by rw [c_11]; rfl) (by decide) ?_
      refine x_aload_n 0 dX0_ofGames_44 rfl ?_
      refine x_iload_n 2 dX0_ofGames_45 rfl ?_
      refine x_iload_n 3 dX0_ofGames_46 rfl ?_
      refine x_callV (ci := 0) [.int p2, .int p3] 2 dX0_ofGames_47 (k_X0_runTold G g hw) (GI.s g (t := (10, 0)) rfl (by decide)) rfl q916 q918 qs29 q104 q919 (by decide) rfl rfl ⟨(Nat.le_of_ble_eq_true rfl), (Nat.le_of_ble_eq_true rfl)⟩ (Nat.le_of_ble_eq_true rfl) ⟨(Nat.le_of_ble_eq_true rfl), (Nat.le_of_ble_eq_true rfl)⟩ (fun v9 h_17 hv9 => ?_) (fun q9 h9 ci9 n9 x9 hx9 hs9 hc9 => xt_out hs9 hc9 (fun z hz => by cases hz) (Nat.le_of_ble_eq_true rfl) (Nat.le_of_ble_eq_true rfl) ⟨hx9.1, Ext.tr Ext.rf hx9.2.1, hx9.2.2⟩)
      obtain ⟨r_20, rfl, g_18, e_19, hw⟩ := hv9
      have hw := hw g_18 e_19
      show X ρ K_X0_ofGames 50 [(0, .ref (mr ρ 1)), (1, .int p1), (2, .int p2), (3, .int p3), (4, .int p4)] [.int r_20] h_17 3 21 (phI h post) (psX h px)
      exact x_iret dX0_ofGames_50 rfl (Nat.le_of_ble_eq_true rfl) (Nat.le_of_ble_eq_true rfl) ⟨_, rfl, g_18, e_19, hw⟩
    | 1, _, c_11 =>
      have c_11 : p1 = 10 := c_11
      have hw := ws_3 c_11
      refine x_tableIn (off := 50) 51 dX0_ofGames_1 (by rw [c_11]; decide) (by rw [c_11]; decide) (by rw [c_11]; rfl) (by decide) ?_
      refine x_aload_n 0 dX0_ofGames_51 rfl ?_
      refine x_iload_n 2 dX0_ofGames_52 rfl ?_
      refine x_callV (ci := 0) [.int p2] 1 dX0_ofGames_53 (k_X0_mustBePlayer G g hw) (GI.s g (t := (10, 0)) rfl (by decide)) rfl q751 q753 qs17 q104 q754 (by decide) rfl rfl ⟨(Nat.le_of_ble_eq_true rfl), (Nat.le_of_ble_eq_true rfl)⟩ (Nat.le_of_ble_eq_true rfl) ⟨(Nat.le_of_ble_eq_true rfl), (Nat.le_of_ble_eq_true rfl)⟩ (fun v9 h_22 hv9 => ?_) (fun q9 h9 ci9 n9 x9 hx9 hs9 hc9 => xt_out hs9 hc9 (fun z hz => by cases hz) (Nat.le_of_ble_eq_true rfl) (Nat.le_of_ble_eq_true rfl) ⟨hx9.1, Ext.tr Ext.rf hx9.2.1, hx9.2.2⟩)
      obtain ⟨rfl, g_23, e_24, hw⟩ := hv9
      have hw := hw g_23 e_24
      show X ρ K_X0_ofGames 56 [(0, .ref (mr ρ 1)), (1, .int p1), (2, .int p2), (3, .int p3), (4, .int p4)] [] h_22 1 7 (phI h post) (psX h px)
      refine x_aload_n 0 dX0_ofGames_56 rfl ?_
      refine x_callV (ci := 0) [] 0 dX0_ofGames_57 (k_X0_mustBeWhole G g_23 hw) (GI.s g_23 (t := (10, 0)) rfl (by decide)) rfl q801 q803 qs18 q104 q804 (by decide) rfl rfl ⟨(Nat.le_of_ble_eq_true rfl), (Nat.le_of_ble_eq_true rfl)⟩ (Nat.le_of_ble_eq_true rfl) ⟨(Nat.le_of_ble_eq_true rfl), (Nat.le_of_ble_eq_true rfl)⟩ (fun v9 h_27 hv9 => ?_) (fun q9 h9 ci9 n9 x9 hx9 hs9 hc9 => xt_out hs9 hc9 (fun z hz => by cases hz) (Nat.le_of_ble_eq_true rfl) (Nat.le_of_ble_eq_true rfl) ⟨hx9.1, Ext.tr e_24 hx9.2.1, hx9.2.2⟩)
      obtain ⟨rfl, g_28, e_29, hw⟩ := hv9
      have hw := hw g_28 e_29
      show X ρ K_X0_ofGames 60 [(0, .ref (mr ρ 1)), (1, .int p1), (2, .int p2), (3, .int p3), (4, .int p4)] [] h_27 2 14 (phI h post) (psX h px)
      refine x_aload_n 0 dX0_ofGames_60 rfl ?_
      refine x_aload_n 0 dX0_ofGames_61 rfl ?_
      refine x_get (ci := 0) (v := .ref (mr ρ 10)) 2 dX0_ofGames_62 (GI.s g_28 (t := (10, 0)) rfl (by decide)) rfl in_X0 (by decide) q189 (Or.inl rfl) (fv_rc rfl (GI.x g_28 (n := 10) rfl (by decide)) (by decide)) ?_
      refine x_iload_n 2 dX0_ofGames_65 rfl ?_
      obtain ⟨b_32, hw⟩ := hw
      obtain ⟨b_33, hw⟩ := hw
      refine x_aald5 (n := 4) (j := (Int32.toNatClampNeg p2)) dX0_ofGames_66 rfl (GI.s g_28 (t := (5, 4)) rfl (by decide)) b_32 ?_
      refine x_nn (isPl.nz b_33 (GI.live g_28)) ?_
      refine x_callV (ci := 0) [.ref (mr ρ (gr h_27 10 (Int32.toNatClampNeg p2)))] 1 dX0_ofGames_67 (k_X0_findValues G g_28 b_33 hw) (GI.s g_28 (t := (10, 0)) rfl (by decide)) rfl q933 q864 qs26 q104 q865 (by decide) rfl rfl ⟨(Nat.le_of_ble_eq_true rfl), (Nat.le_of_ble_eq_true rfl)⟩ (Nat.le_of_ble_eq_true rfl) ⟨(Nat.le_of_ble_eq_true rfl), (Nat.le_of_ble_eq_true rfl)⟩ (fun v9 h_34 hv9 => ?_) (fun _ _ _ _ _ z _ _ => False.elim z)
      obtain ⟨r_37, rfl, g_35, e_36, hw⟩ := hv9
      have hw := hw g_35 e_36
      show X ρ K_X0_ofGames 70 [(0, .ref (mr ρ 1)), (1, .int p1), (2, .int p2), (3, .int p3), (4, .int p4)] [.int r_37] h_34 2 14 (phI h post) (psX h px)
      exact x_iret dX0_ofGames_70 rfl (Nat.le_of_ble_eq_true rfl) (Nat.le_of_ble_eq_true rfl) ⟨_, rfl, g_35, (Ext.tr (Ext.tr e_24 e_29) e_36), hw⟩
    | 2, _, c_11 =>
      have c_11 : p1 = 11 := c_11
      have hw := ws_4 c_11
      refine x_tableIn (off := 70) 71 dX0_ofGames_1 (by rw [c_11]; decide) (by rw [c_11]; decide) (by rw [c_11]; rfl) (by decide) ?_
      refine x_aload_n 0 dX0_ofGames_71 rfl ?_
      refine x_iload_n 2 dX0_ofGames_72 rfl ?_
      refine x_callV (ci := 0) [.int p2] 1 dX0_ofGames_73 (k_X0_mustBePlayer G g hw) (GI.s g (t := (10, 0)) rfl (by decide)) rfl q751 q753 qs17 q104 q754 (by decide) rfl rfl ⟨(Nat.le_of_ble_eq_true rfl), (Nat.le_of_ble_eq_true rfl)⟩ (Nat.le_of_ble_eq_true rfl) ⟨(Nat.le_of_ble_eq_true rfl), (Nat.le_of_ble_eq_true rfl)⟩ (fun v9 h_39 hv9 => ?_) (fun q9 h9 ci9 n9 x9 hx9 hs9 hc9 => xt_out hs9 hc9 (fun z hz => by cases hz) (Nat.le_of_ble_eq_true rfl) (Nat.le_of_ble_eq_true rfl) ⟨hx9.1, Ext.tr Ext.rf hx9.2.1, hx9.2.2⟩)
      obtain ⟨rfl, g_40, e_41, hw⟩ := hv9
      have hw := hw g_40 e_41
      show X ρ K_X0_ofGames 76 [(0, .ref (mr ρ 1)), (1, .int p1), (2, .int p2), (3, .int p3), (4, .int p4)] [] h_39 1 7 (phI h post) (psX h px)
      refine x_iload_n 3 dX0_ofGames_76 rfl ?_
      refine x_i2l dX0_ofGames_77 ?_
      refine x_lconst 0 dX0_ofGames_78 (by decide) ?_
      refine x_ldc2 dX0_ofGames_79 q920 ?_
      refine x_callS [.long (Int32.toInt64 p3), .long 0, .long 2] 3 dX0_ofGames_82 (k_X0_within G g_40 hw) q834 q835 q104 q836 (by decide) rfl rfl ⟨(Nat.le_of_ble_eq_true rfl), (Nat.le_of_ble_eq_true rfl)⟩ (Nat.le_of_ble_eq_true rfl) ⟨(Nat.le_of_ble_eq_true rfl), (Nat.le_of_ble_eq_true rfl)⟩ (fun v9 h_44 hv9 => ?_) (fun q9 h9 ci9 n9 x9 hx9 hs9 hc9 => xt_out hs9 hc9 (fun z hz => by cases hz) (Nat.le_of_ble_eq_true rfl) (Nat.le_of_ble_eq_true rfl) ⟨hx9.1, Ext.tr e_41 hx9.2.1, hx9.2.2⟩)
      obtain ⟨rfl, g_45, e_46, hw⟩ := hv9
      have hw := hw g_45 e_46
      show X ρ K_X0_ofGames 85 [(0, .ref (mr ρ 1)), (1, .int p1), (2, .int p2), (3, .int p3), (4, .int p4)] [] h_44 3 21 (phI h post) (psX h px)
      refine x_aload_n 0 dX0_ofGames_85 rfl ?_
      refine x_callV (ci := 0) [] 0 dX0_ofGames_86 (k_X0_mustBeWhole G g_45 hw) (GI.s g_45 (t := (10, 0)) rfl (by decide)) rfl q801 q803 qs18 q104 q804 (by decide) rfl rfl ⟨(Nat.le_of_ble_eq_true rfl), (Nat.le_of_ble_eq_true rfl)⟩ (Nat.le_of_ble_eq_true rfl) ⟨(Nat.le_of_ble_eq_true rfl), (Nat.le_of_ble_eq_true rfl)⟩ (fun v9 h_49 hv9 => ?_) (fun q9 h9 ci9 n9 x9 hx9 hs9 hc9 => xt_out hs9 hc9 (fun z hz => by cases hz) (Nat.le_of_ble_eq_true rfl) (Nat.le_of_ble_eq_true rfl) ⟨hx9.1, Ext.tr (Ext.tr e_41 e_46) hx9.2.1, hx9.2.2⟩)
      obtain ⟨rfl, g_50, e_51, hw⟩ := hv9
      have hw := hw g_50 e_51
      show X ρ K_X0_ofGames 89 [(0, .ref (mr ρ 1)), (1, .int p1), (2, .int p2), (3, .int p3), (4, .int p4)] [] h_49 4 28 (phI h post) (psX h px)
      refine x_aload_n 0 dX0_ofGames_89 rfl ?_
      refine x_iload_n 2 dX0_ofGames_90 rfl ?_
      refine x_iload_n 3 dX0_ofGames_91 rfl ?_
      refine x_callV (ci := 0) [.int p2, .int p3] 2 dX0_ofGames_92 (k_X0_replyOf G g_50 hw) (GI.s g_50 (t := (10, 0)) rfl (by decide)) rfl q934 q936 qs32 q104 q937 (by decide) rfl rfl ⟨(Nat.le_of_ble_eq_true rfl), (Nat.le_of_ble_eq_true rfl)⟩ (Nat.le_of_ble_eq_true rfl) ⟨(Nat.le_of_ble_eq_true rfl), (Nat.le_of_ble_eq_true rfl)⟩ (fun v9 h_54 hv9 => ?_) (fun _ _ _ _ _ z _ _ => False.elim z)
      obtain ⟨r_57, rfl, g_55, e_56, hw⟩ := hv9
      have hw := hw g_55 e_56
      show X ρ K_X0_ofGames 95 [(0, .ref (mr ρ 1)), (1, .int p1), (2, .int p2), (3, .int p3), (4, .int p4)] [.int r_57] h_54 5 32 (phI h post) (psX h px)
      exact x_iret dX0_ofGames_95 rfl (Nat.le_of_ble_eq_true rfl) (Nat.le_of_ble_eq_true rfl) ⟨_, rfl, g_55, (Ext.tr (Ext.tr (Ext.tr e_41 e_46) e_51) e_56), hw⟩
    | 3, _, c_11 =>
      have c_11 : p1 = 12 := c_11
      have hw := ws_5 c_11
      refine x_tableIn (off := 95) 96 dX0_ofGames_1 (by rw [c_11]; decide) (by rw [c_11]; decide) (by rw [c_11]; rfl) (by decide) ?_
      refine x_aload_n 0 dX0_ofGames_96 rfl ?_
      refine x_iload_n 2 dX0_ofGames_97 rfl ?_
      refine x_iload_n 3 dX0_ofGames_98 rfl ?_
      refine x_callV (ci := 0) [.int p2, .int p3] 2 dX0_ofGames_99 (k_X0_restTold G g hw) (GI.s g (t := (10, 0)) rfl (by decide)) rfl q945 q947 qs34 q104 q948 (by decide) rfl rfl ⟨(Nat.le_of_ble_eq_true rfl), (Nat.le_of_ble_eq_true rfl)⟩ (Nat.le_of_ble_eq_true rfl) ⟨(Nat.le_of_ble_eq_true rfl), (Nat.le_of_ble_eq_true rfl)⟩ (fun v9 h_59 hv9 => ?_) (fun q9 h9 ci9 n9 x9 hx9 hs9 hc9 => xt_out hs9 hc9 (fun z hz => by cases hz) (Nat.le_of_ble_eq_true rfl) (Nat.le_of_ble_eq_true rfl) ⟨hx9.1, Ext.tr Ext.rf hx9.2.1, hx9.2.2⟩)
      obtain ⟨r_62, rfl, g_60, e_61, hw⟩ := hv9
      have hw := hw g_60 e_61
      show X ρ K_X0_ofGames 102 [(0, .ref (mr ρ 1)), (1, .int p1), (2, .int p2), (3, .int p3), (4, .int p4)] [.int r_62] h_59 27 123 (phI h post) (psX h px)
      exact x_iret dX0_ofGames_102 rfl (Nat.le_of_ble_eq_true rfl) (Nat.le_of_ble_eq_true rfl) ⟨_, rfl, g_60, e_61, hw⟩
    | 4, _, c_11 =>
      have c_11 : p1 = 13 := c_11
      have hw := ws_6 c_11
      refine x_tableIn (off := 102) 103 dX0_ofGames_1 (by rw [c_11]; decide) (by rw [c_11]; decide) (by rw [c_11]; rfl) (by decide) ?_
      refine x_iload_n 2 dX0_ofGames_103 rfl ?_
      refine x_i2l dX0_ofGames_104 ?_
      refine x_lconst 0 dX0_ofGames_105 (by decide) ?_
      refine x_ldc2 dX0_ofGames_106 q953 ?_
      refine x_callS [.long (Int32.toInt64 p2), .long 0, .long 100] 3 dX0_ofGames_109 (k_X0_within G g hw) q834 q835 q104 q836 (by decide) rfl rfl ⟨(Nat.le_of_ble_eq_true rfl), (Nat.le_of_ble_eq_true rfl)⟩ (Nat.le_of_ble_eq_true rfl) ⟨(Nat.le_of_ble_eq_true rfl), (Nat.le_of_ble_eq_true rfl)⟩ (fun v9 h_64 hv9 => ?_) (fun q9 h9 ci9 n9 x9 hx9 hs9 hc9 => xt_out hs9 hc9 (fun z hz => by cases hz) (Nat.le_of_ble_eq_true rfl) (Nat.le_of_ble_eq_true rfl) ⟨hx9.1, Ext.tr Ext.rf hx9.2.1, hx9.2.2⟩)
      obtain ⟨rfl, g_65, e_66, hw⟩ := hv9
      have hw := hw g_65 e_66
      show X ρ K_X0_ofGames 112 [(0, .ref (mr ρ 1)), (1, .int p1), (2, .int p2), (3, .int p3), (4, .int p4)] [] h_64 2 14 (phI h post) (psX h px)
      refine x_aload_n 0 dX0_ofGames_112 rfl ?_
      refine x_callV (ci := 0) [] 0 dX0_ofGames_113 (k_X0_mustBeWhole G g_65 hw) (GI.s g_65 (t := (10, 0)) rfl (by decide)) rfl q801 q803 qs18 q104 q804 (by decide) rfl rfl ⟨(Nat.le_of_ble_eq_true rfl), (Nat.le_of_ble_eq_true rfl)⟩ (Nat.le_of_ble_eq_true rfl) ⟨(Nat.le_of_ble_eq_true rfl), (Nat.le_of_ble_eq_true rfl)⟩ (fun v9 h_69 hv9 => ?_) (fun q9 h9 ci9 n9 x9 hx9 hs9 hc9 => xt_out hs9 hc9 (fun z hz => by cases hz) (Nat.le_of_ble_eq_true rfl) (Nat.le_of_ble_eq_true rfl) ⟨hx9.1, Ext.tr e_66 hx9.2.1, hx9.2.2⟩)
      obtain ⟨rfl, g_70, e_71, hw⟩ := hv9
      have hw := hw g_70 e_71
      show X ρ K_X0_ofGames 116 [(0, .ref (mr ρ 1)), (1, .int p1), (2, .int p2), (3, .int p3), (4, .int p4)] [] h_69 3 21 (phI h post) (psX h px)
      refine x_aload_n 0 dX0_ofGames_116 rfl ?_
      refine x_iload_n 2 dX0_ofGames_117 rfl ?_
      refine x_callV (ci := 0) [.int p2] 1 dX0_ofGames_118 (k_X0_wrongFor G g_70 hw) (GI.s g_70 (t := (10, 0)) rfl (by decide)) rfl q954 q956 qs36 q104 q957 (by decide) rfl rfl ⟨(Nat.le_of_ble_eq_true rfl), (Nat.le_of_ble_eq_true rfl)⟩ (Nat.le_of_ble_eq_true rfl) ⟨(Nat.le_of_ble_eq_true rfl), (Nat.le_of_ble_eq_true rfl)⟩ (fun v9 h_74 hv9 => ?_) (fun _ _ _ _ _ z _ _ => False.elim z)
      obtain ⟨r_77, rfl, g_75, e_76, hw⟩ := hv9
      have hw := hw g_75 e_76
      show X ρ K_X0_ofGames 121 [(0, .ref (mr ρ 1)), (1, .int p1), (2, .int p2), (3, .int p3), (4, .int p4)] [.int r_77] h_74 3 21 (phI h post) (psX h px)
      exact x_iret dX0_ofGames_121 rfl (Nat.le_of_ble_eq_true rfl) (Nat.le_of_ble_eq_true rfl) ⟨_, rfl, g_75, (Ext.tr (Ext.tr e_66 e_71) e_76), hw⟩
    | 5, _, c_11 =>
      have c_11 : p1 = 14 := c_11
      have hw := ws_7 c_11
      refine x_tableIn (off := 121) 122 dX0_ofGames_1 (by rw [c_11]; decide) (by rw [c_11]; decide) (by rw [c_11]; rfl) (by decide) ?_
      refine x_aload_n 0 dX0_ofGames_122 rfl ?_
      refine x_iload_n 2 dX0_ofGames_123 rfl ?_
      refine x_callV (ci := 0) [.int p2] 1 dX0_ofGames_124 (k_X0_mustBePlayer G g hw) (GI.s g (t := (10, 0)) rfl (by decide)) rfl q751 q753 qs17 q104 q754 (by decide) rfl rfl ⟨(Nat.le_of_ble_eq_true rfl), (Nat.le_of_ble_eq_true rfl)⟩ (Nat.le_of_ble_eq_true rfl) ⟨(Nat.le_of_ble_eq_true rfl), (Nat.le_of_ble_eq_true rfl)⟩ (fun v9 h_79 hv9 => ?_) (fun q9 h9 ci9 n9 x9 hx9 hs9 hc9 => xt_out hs9 hc9 (fun z hz => by cases hz) (Nat.le_of_ble_eq_true rfl) (Nat.le_of_ble_eq_true rfl) ⟨hx9.1, Ext.tr Ext.rf hx9.2.1, hx9.2.2⟩)
      obtain ⟨rfl, g_80, e_81, hw⟩ := hv9
      have hw := hw g_80 e_81
      show X ρ K_X0_ofGames 127 [(0, .ref (mr ρ 1)), (1, .int p1), (2, .int p2), (3, .int p3), (4, .int p4)] [] h_79 1 7 (phI h post) (psX h px)
      refine x_aload_n 0 dX0_ofGames_127 rfl ?_
      refine x_callV (ci := 0) [] 0 dX0_ofGames_128 (k_X0_mustBeWhole G g_80 hw) (GI.s g_80 (t := (10, 0)) rfl (by decide)) rfl q801 q803 qs18 q104 q804 (by decide) rfl rfl ⟨(Nat.le_of_ble_eq_true rfl), (Nat.le_of_ble_eq_true rfl)⟩ (Nat.le_of_ble_eq_true rfl) ⟨(Nat.le_of_ble_eq_true rfl), (Nat.le_of_ble_eq_true rfl)⟩ (fun v9 h_84 hv9 => ?_) (fun q9 h9 ci9 n9 x9 hx9 hs9 hc9 => xt_out hs9 hc9 (fun z hz => by cases hz) (Nat.le_of_ble_eq_true rfl) (Nat.le_of_ble_eq_true rfl) ⟨hx9.1, Ext.tr e_81 hx9.2.1, hx9.2.2⟩)
      obtain ⟨rfl, g_85, e_86, hw⟩ := hv9
      have hw := hw g_85 e_86
      show X ρ K_X0_ofGames 131 [(0, .ref (mr ρ 1)), (1, .int p1), (2, .int p2), (3, .int p3), (4, .int p4)] [] h_84 2 14 (phI h post) (psX h px)
      refine x_aload_n 0 dX0_ofGames_131 rfl ?_
      refine x_iload_n 2 dX0_ofGames_132 rfl ?_
      refine x_callV (ci := 0) [.int p2] 1 dX0_ofGames_133 (k_X0_earlyFor G g_85 hw) (GI.s g_85 (t := (10, 0)) rfl (by decide)) rfl q958 q960 qs37 q104 q961 (by decide) rfl rfl ⟨(Nat.le_of_ble_eq_true rfl), (Nat.le_of_ble_eq_true rfl)⟩ (Nat.le_of_ble_eq_true rfl) ⟨(Nat.le_of_ble_eq_true rfl), (Nat.le_of_ble_eq_true rfl)⟩ (fun v9 h_89 hv9 => ?_) (fun _ _ _ _ _ z _ _ => False.elim z)
      obtain ⟨r_92, rfl, g_90, e_91, hw⟩ := hv9
      have hw := hw g_90 e_91
      show X ρ K_X0_ofGames 136 [(0, .ref (mr ρ 1)), (1, .int p1), (2, .int p2), (3, .int p3), (4, .int p4)] [.int r_92] h_89 2 14 (phI h post) (psX h px)
      exact x_iret dX0_ofGames_136 rfl (Nat.le_of_ble_eq_true rfl) (Nat.le_of_ble_eq_true rfl) ⟨_, rfl, g_90, (Ext.tr (Ext.tr e_81 e_86) e_91), hw⟩
    | 6, _, c_11 =>
      have c_11 : p1 = 15 := c_11
      have hw := ws_8 c_11
      refine x_tableIn (off := 136) 137 dX0_ofGames_1 (by rw [c_11]; decide) (by rw [c_11]; decide) (by rw [c_11]; rfl) (by decide) ?_
      refine x_aload_n 0 dX0_ofGames_137 rfl ?_
      refine x_iload_n 2 dX0_ofGames_138 rfl ?_
      refine x_iload_n 3 dX0_ofGames_139 rfl ?_
      refine x_callV (ci := 0) [.int p2, .int p3] 2 dX0_ofGames_140 (k_X0_silentTold G g hw) (GI.s g (t := (10, 0)) rfl (by decide)) rfl q963 q965 qs38 q104 q966 (by decide) rfl rfl ⟨(Nat.le_of_ble_eq_true rfl), (Nat.le_of_ble_eq_true rfl)⟩ (Nat.le_of_ble_eq_true rfl) ⟨(Nat.le_of_ble_eq_true rfl), (Nat.le_of_ble_eq_true rfl)⟩ (fun v9 h_94 hv9 => ?_) (fun q9 h9 ci9 n9 x9 hx9 hs9 hc9 => xt_out hs9 hc9 (fun z hz => by cases hz) (Nat.le_of_ble_eq_true rfl) (Nat.le_of_ble_eq_true rfl) ⟨hx9.1, Ext.tr Ext.rf hx9.2.1, hx9.2.2⟩)
      obtain ⟨r_97, rfl, g_95, e_96, hw⟩ := hv9
      have hw := hw g_95 e_96
      show X ρ K_X0_ofGames 143 [(0, .ref (mr ρ 1)), (1, .int p1), (2, .int p2), (3, .int p3), (4, .int p4)] [.int r_97] h_94 4 28 (phI h post) (psX h px)
      exact x_iret dX0_ofGames_143 rfl (Nat.le_of_ble_eq_true rfl) (Nat.le_of_ble_eq_true rfl) ⟨_, rfl, g_95, e_96, hw⟩
    | i9 + 7, h9, _ => exact absurd h9 (by omega)

/-! BeforeTheEnd.factIt(I)I -/
def wp_X0_factIt (post : Int32 → Hp → Prop) (px : Nat → Hp → Prop) (h : Hp) (p1 : Int32) : Prop := (wp_X0_in (fun r_4 h_1 => GI h_1 → Ext h h_1 → (∀ z_8 : Int32, z_8 = ((if r_4 = 0 then 0 else (if (p1 - p1 / 2 * 2) = 0 then 1 else 0)) : Int32) → (wp_X0_must (fun h_9 => GI h_9 → Ext h_1 h_9 → (∀ z_15 : Int32, z_15 = ((if 5 ≤ (gi h_9 1 6) then 0 else 1) : Int32) → (wp_X0_must (fun h_16 => GI h_16 → Ext h_9 h_16 → (vp_in (gi h_16 1 6) 5 ∧ (post ((gi (si (si h_16 12 (Int32.toNatClampNeg (gi h_16 1 6)) p1) 1 6 ((gi (si h_16 12 (Int32.toNatClampNeg (gi h_16 1 6)) p1) 1 6) + 1)) 1 6) - 1) (si (si h_16 12 (Int32.toNatClampNeg (gi h_16 1 6)) p1) 1 6 ((gi (si h_16 12 (Int32.toNatClampNeg (gi h_16 1 6)) p1) 1 6) + 1))))) px h_9 z_15 (-6)))) px h_1 z_8 (-1)))) h (Int32.toInt64 p1) 0 1022)
abbrev rm_X0_factIt : Room := ({ frames := 10, cells := 2, slots := 14, locals := 242 })
abbrev K_X0_factIt : Kx := ("BeforeTheEnd", cX0_factIt, 2, (Option.some Jvm.ClassFile.FieldType.int), rm_X0_factIt, [], false)
set_option maxHeartbeats 4000000 in
theorem k_X0_factIt {ρ : Rho} {h : Hp} {post : Int32 → Hp → Prop} {px : Nat → Hp → Prop} {p1 : Int32} (G : G0 ρ) (g : GI h) (hw : wp_X0_factIt post px h p1) : Con ρ yX0_factIt (ws_ yX0_factIt cX0_factIt 2 (Option.some Jvm.ClassFile.FieldType.int)) rm_X0_factIt [.ref (mr ρ 1), .int p1] h (phI h post) (psX h px) := by
  refine con_of (own := "BeforeTheEnd") (isI := false) (l0 := [(0, .ref (mr ρ 1)), (1, .int p1)]) (by decide) rfl (fun z => by cases z) (Nat.le_of_ble_eq_true rfl) rfl (fun _ => ?_)
  show X ρ K_X0_factIt 0 [(0, .ref (mr ρ 1)), (1, .int p1)] [] h 0 0 (phI h post) (psX h px)
  refine x_iload_n 1 dX0_factIt_0 rfl ?_
  refine x_i2l dX0_factIt_1 ?_
  refine x_lconst 0 dX0_factIt_2 (by decide) ?_
  refine x_ldc2 dX0_factIt_3 q988 ?_
  refine x_callS [.long (Int32.toInt64 p1), .long 0, .long 1022] 3 dX0_factIt_6 (k_X0_in G g hw) q745 q464 q104 q465 (by decide) rfl rfl ⟨(Nat.le_of_ble_eq_true rfl), (Nat.le_of_ble_eq_true rfl)⟩ (Nat.le_of_ble_eq_true rfl) ⟨(Nat.le_of_ble_eq_true rfl), (Nat.le_of_ble_eq_true rfl)⟩ (fun v9 h_1 hv9 => ?_) (fun _ _ _ _ _ z _ _ => False.elim z)
  obtain ⟨r_4, rfl, g_2, e_3, b_5, hw⟩ := hv9
  have hw := hw g_2 e_3
  show X ρ K_X0_factIt 9 [(0, .ref (mr ρ 1)), (1, .int p1)] [.int r_4] h_1 0 0 (phI h post) (psX h px)
  have kJ_23 : ∀ z_8 : Int32, z_8 = ((if r_4 = 0 then 0 else (if (p1 - p1 / 2 * 2) = 0 then 1 else 0)) : Int32) → X ρ K_X0_factIt 23 [(0, .ref (mr ρ 1)), (1, .int p1)] [.int z_8] h_1 0 0 (phI h post) (psX h px) := fun z_8 ez_8 => by
    have hw := hw z_8 ez_8
    refine x_iconst (-1) dX0_factIt_23 (by decide) ?_
    refine x_callS [.int z_8, .int (-1)] 2 dX0_factIt_24 (k_X0_must G g_2 hw) q294 q295 q104 q296 (by decide) rfl rfl ⟨(Nat.le_of_ble_eq_true rfl), (Nat.le_of_ble_eq_true rfl)⟩ (Nat.le_of_ble_eq_true rfl) ⟨(Nat.le_of_ble_eq_true rfl), (Nat.le_of_ble_eq_true rfl)⟩ (fun v9 h_9 hv9 => ?_) (fun q9 h9 ci9 n9 x9 hx9 hs9 hc9 => xt_out hs9 hc9 (fun z hz => by cases hz) (Nat.le_of_ble_eq_true rfl) (Nat.le_of_ble_eq_true rfl) ⟨hx9.1, Ext.tr e_3 hx9.2.1, hx9.2.2⟩)
    obtain ⟨rfl, g_10, e_11, hw⟩ := hv9
    have hw := hw g_10 e_11
    show X ρ K_X0_factIt 27 [(0, .ref (mr ρ 1)), (1, .int p1)] [] h_9 1 7 (phI h post) (psX h px)
    refine x_aload_n 0 dX0_factIt_27 rfl ?_
    refine x_get (ci := 0) (v := .int (gi h_9 1 6)) 6 dX0_factIt_28 (GI.s g_10 (t := (10, 0)) rfl (by decide)) rfl in_X0 (by decide) q193 (Or.inl rfl) (fv_i rfl) ?_
    refine x_iconst 5 dX0_factIt_31 (by decide) ?_
    have kJ_22 : ∀ z_15 : Int32, z_15 = ((if 5 ≤ (gi h_9 1 6) then 0 else 1) : Int32) → X ρ K_X0_factIt 40 [(0, .ref (mr ρ 1)), (1, .int p1)] [.int z_15] h_9 1 7 (phI h post) (psX h px) := fun z_15 ez_15 => by
      have hw := hw z_15 ez_15
      refine x_bipush (-6) dX0_factIt_40 (by decide) ?_
      refine x_callS [.int z_15, .int (-6)] 2 dX0_factIt_42 (k_X0_must G g_10 hw) q294 q295 q104 q296 (by decide) rfl rfl ⟨(Nat.le_of_ble_eq_true rfl), (Nat.le_of_ble_eq_true rfl)⟩ (Nat.le_of_ble_eq_true rfl) ⟨(Nat.le_of_ble_eq_true rfl), (Nat.le_of_ble_eq_true rfl)⟩ (fun v9 h_16 hv9 => ?_) (fun q9 h9 ci9 n9 x9 hx9 hs9 hc9 => xt_out hs9 hc9 (fun z hz => by cases hz) (Nat.le_of_ble_eq_true rfl) (Nat.le_of_ble_eq_true rfl) ⟨hx9.1, Ext.tr (Ext.tr e_3 e_11) hx9.2.1, hx9.2.2⟩)
      obtain ⟨rfl, g_17, e_18, hw⟩ := hv9
      have hw := hw g_17 e_18
      show X ρ K_X0_factIt 45 [(0, .ref (mr ρ 1)), (1, .int p1)] [] h_16 2 14 (phI h post) (psX h px)
      refine x_aload_n 0 dX0_factIt_45 rfl ?_
      refine x_get (ci := 0) (v := .ref (mr ρ 12)) 5 dX0_factIt_46 (GI.s g_17 (t := (10, 0)) rfl (by decide)) rfl in_X0 (by decide) q192 (Or.inl rfl) (fv_rc rfl (GI.x g_17 (n := 12) rfl (by decide)) (by decide)) ?_
      refine x_aload_n 0 dX0_factIt_49 rfl ?_
      refine x_get (ci := 0) (v := .int (gi h_16 1 6)) 6 dX0_factIt_50 (GI.s g_17 (t := (10, 0)) rfl (by decide)) rfl in_X0 (by decide) q193 (Or.inl rfl) (fv_i rfl) ?_
      refine x_iload_n 1 dX0_factIt_53 rfl ?_
      obtain ⟨b_21, hw⟩ := hw
      refine x_iast (n := 5) (j := (Int32.toNatClampNeg (gi h_16 1 6))) dX0_factIt_54 rfl (GI.s g_17 (t := (1, 5)) rfl (by decide)) b_21 ?_
      refine x_aload_n 0 dX0_factIt_55 rfl ?_
      refine x_dup dX0_factIt_56 rfl ?_
      refine x_get (ci := 0) (v := .int (gi (si h_16 12 (Int32.toNatClampNeg (gi h_16 1 6)) p1) 1 6)) 6 dX0_factIt_57 (GI.s (GI.i g_17) (t := (10, 0)) rfl (by decide)) rfl in_X0 (by decide) q193 (Or.inl rfl) (fv_i rfl) ?_
      refine x_iconst 1 dX0_factIt_60 (by decide) ?_
      refine x_iadd dX0_factIt_61 ?_
      refine x_put (ci := 0) 6 dX0_factIt_62 (GI.s (GI.i g_17) (t := (10, 0)) rfl (by decide)) rfl in_X0 tyX0 tyX0_ok nmX0 (by decide) q193 (Or.inl rfl) rfl rfl rfl (isPut_i rfl) ?_
      refine x_aload_n 0 dX0_factIt_65 rfl ?_
      refine x_get (ci := 0) (v := .int (gi (si (si h_16 12 (Int32.toNatClampNeg (gi h_16 1 6)) p1) 1 6 ((gi (si h_16 12 (Int32.toNatClampNeg (gi h_16 1 6)) p1) 1 6) + 1)) 1 6)) 6 dX0_factIt_66 (GI.s (GI.i (GI.i g_17)) (t := (10, 0)) rfl (by decide)) rfl in_X0 (by decide) q193 (Or.inl rfl) (fv_i rfl) ?_
      refine x_iconst 1 dX0_factIt_69 (by decide) ?_
      refine x_isub dX0_factIt_70 ?_
      exact x_iret dX0_factIt_71 rfl (Nat.le_of_ble_eq_true rfl) (Nat.le_of_ble_eq_true rfl) ⟨_, rfl, (GI.i (GI.i g_17)), (Ext.i (Ext.i (Ext.tr (Ext.tr e_3 e_11) e_18))), hw⟩
    refine x_icmp_ge 39 dX0_factIt_32 (by decide) (fun c_14 => ?_) (fun c_14 => ?_)
    · refine x_iconst 0 dX0_factIt_39 (by decide) ?_
      exact kJ_22 _ ((if_pos c_14)).symm
    · refine x_iconst 1 dX0_factIt_35 (by decide) ?_
      refine x_goto 40 dX0_factIt_36 (by decide) ?_
      exact kJ_22 _ ((if_neg c_14)).symm
  refine x_if_eq 22 dX0_factIt_9 (by decide) (fun c_6 => ?_) (fun c_6 => ?_)
  · refine x_iconst 0 dX0_factIt_22 (by decide) ?_
    exact kJ_23 _ ((if_pos c_6)).symm
  · refine x_iload_n 1 dX0_factIt_12 rfl ?_
    refine x_iconst 2 dX0_factIt_13 (by decide) ?_
    refine x_irem dX0_factIt_14 (by decide) ?_
    refine x_if_ne 22 dX0_factIt_15 (by decide) (fun c_7 => ?_) (fun c_7 => ?_)
    · refine x_iconst 0 dX0_factIt_22 (by decide) ?_
      exact kJ_23 _ (((if_neg c_6).trans (if_neg c_7))).symm
    · refine x_iconst 1 dX0_factIt_18 (by decide) ?_
      refine x_goto 23 dX0_factIt_19 (by decide) ?_
      exact kJ_23 _ (((if_neg c_6).trans (if_pos c_7))).symm

/-! BeforeTheEnd.hadBy([II)I -/
def w_X0_hadBy_7 (post : Int32 → Hp → Prop) : Nat → Nat → Int32 → Int32 → Int32 → Hp → Prop
  | 0 => fun _ _ _ _ _ => False
  | n + 1 => fun x1 x2 x3 x4 h => ((x2 ≤ x4 → (post 6 h)) ∧ (¬ x2 ≤ x4 → (vp_in x4 5 ∧ (vp_in (gi h x1 (Int32.toNatClampNeg x4)) 5 ∧ (∀ x3_4 : Int32, x3_4 = (x3 &&& (gi h 12 (Int32.toNatClampNeg (gi h x1 (Int32.toNatClampNeg x4))))) → (wp_X0_ones (fun r_8 h_5 => GI h_5 → Ext h h_5 → ((¬ r_8 = 1 → (w_X0_hadBy_7 post n x1 x2 x3_4 (x4 + 1) h_5)) ∧ (r_8 = 1 → (post (x4 + 1) h_5)))) h x3_4))))))
def wp_X0_hadBy (post : Int32 → Hp → Prop) (h : Hp) (p1 : Nat) (p2 : Int32) : Prop := (∃ fu : Nat, w_X0_hadBy_7 post fu p1 p2 1022 0 h)
abbrev rm_X0_hadBy : Room := ({ frames := 2, cells := 0, slots := 0, locals := 82 })
abbrev K_X0_hadBy : Kx := ("BeforeTheEnd", cX0_hadBy, 5, (Option.some Jvm.ClassFile.FieldType.int), rm_X0_hadBy, [], false)
set_option maxHeartbeats 4000000 in
theorem t_X0_hadBy_7 {ρ : Rho} {h0 : Hp} {post : Int32 → Hp → Prop} (G : G0 ρ) :
    ∀ (n : Nat), ∀ (x1 : Nat) (x2 : Int32) (x3 : Int32) (x4 : Int32) (h : Hp), GI h → Ext h0 h → sh h x1 = (1, 5) → w_X0_hadBy_7 post n x1 x2 x3 x4 h → X ρ K_X0_hadBy 7 [(0, .ref (mr ρ 1)), (1, .ref (mr ρ x1)), (2, .int x2), (3, .int x3), (4, .int x4)] [] h 0 0 (phI h0 post) psN := by
  intro n
  induction n with
  | zero => intro x1 x2 x3 x4 h g e fx1 hw; exact False.elim hw
  | succ n ih =>
    intro x1 x2 x3 x4 h g e fx1 hw
    refine x_iload 4 dX0_hadBy_7 rfl ?_
    refine x_iload_n 2 dX0_hadBy_9 rfl ?_
    obtain ⟨wt_13, wf_14⟩ := hw
    refine x_icmp_ge 44 dX0_hadBy_10 (by decide) (fun c_1 => ?_) (fun c_1 => ?_)
    · have hw := wt_13 c_1
      refine x_bipush 6 dX0_hadBy_44 (by decide) ?_
      exact x_iret dX0_hadBy_46 rfl (Nat.le_of_ble_eq_true rfl) (Nat.le_of_ble_eq_true rfl) ⟨_, rfl, g, e, hw⟩
    · have hw := wf_14 c_1
      refine x_iload_n 3 dX0_hadBy_13 rfl ?_
      refine x_aload_n 0 dX0_hadBy_14 rfl ?_
      refine x_get (ci := 0) (v := .ref (mr ρ 12)) 5 dX0_hadBy_15 (GI.s g (t := (10, 0)) rfl (by decide)) rfl in_X0 (by decide) q192 (Or.inl rfl) (fv_rc rfl (GI.x g (n := 12) rfl (by decide)) (by decide)) ?_
      refine x_aload_n 1 dX0_hadBy_18 rfl ?_
      refine x_iload 4 dX0_hadBy_19 rfl ?_
      obtain ⟨b_2, hw⟩ := hw
      refine x_iald (n := 5) (j := (Int32.toNatClampNeg x4)) dX0_hadBy_21 rfl fx1 b_2 ?_
      obtain ⟨b_3, hw⟩ := hw
      refine x_iald (n := 5) (j := (Int32.toNatClampNeg (gi h x1 (Int32.toNatClampNeg x4)))) dX0_hadBy_22 rfl (GI.s g (t := (1, 5)) rfl (by decide)) b_3 ?_
      refine x_iand dX0_hadBy_23 ?_
      refine x_nmi (fun x3_4 ex3_4 => ?_)
      have hw := hw x3_4 ex3_4
      refine x_istore_n (lv' := [(3, .int x3_4), (0, .ref (mr ρ 1)), (1, .ref (mr ρ x1)), (2, .int x2), (4, .int x4)]) dX0_hadBy_24 (Nat.le_of_ble_eq_true rfl) rfl ?_
      refine x_iload_n 0 dX0_hadBy_25 rfl ?_
      refine x_callS [.int x3_4] 1 dX0_hadBy_26 (k_X0_ones G g hw) q938 q939 q104 q940 (by decide) rfl rfl ⟨(Nat.le_of_ble_eq_true rfl), (Nat.le_of_ble_eq_true rfl)⟩ (Nat.le_of_ble_eq_true rfl) ⟨(Nat.le_of_ble_eq_true rfl), (Nat.le_of_ble_eq_true rfl)⟩ (fun v9 h_5 hv9 => ?_) (fun _ _ _ _ _ z _ _ => False.elim z)
      obtain ⟨r_8, rfl, g_6, e_7, hw⟩ := hv9
      have hw := hw g_6 e_7
      show X ρ K_X0_hadBy 29 [(3, .int x3_4), (0, .ref (mr ρ 1)), (1, .ref (mr ρ x1)), (2, .int x2), (4, .int x4)] [.int r_8] h_5 0 0 (phI h0 post) psN
      refine x_iconst 1 dX0_hadBy_29 (by decide) ?_
      obtain ⟨wt_11, wf_12⟩ := hw
      refine x_icmp_ne 38 dX0_hadBy_30 (by decide) (fun c_10 => ?_) (fun c_10 => ?_)
      · have hw := wt_11 c_10
        refine x_iinc (v := (x4 + 1)) (lv' := [(4, .int (x4 + 1)), (3, .int x3_4), (0, .ref (mr ρ 1)), (1, .ref (mr ρ x1)), (2, .int x2)]) 4 dX0_hadBy_38 rfl (by rfl) (Nat.le_of_ble_eq_true rfl) rfl ?_
        refine x_goto 7 dX0_hadBy_41 (by decide) ?_
        refine X.sub [2, 3, 4, 1, 0] rfl ?_
        exact ih x1 x2 x3_4 (x4 + 1) h_5 g_6 (Ext.tr e e_7) (Ext.s e_7 fx1 (by decide)) hw
      · have hw := wf_12 c_10
        refine x_iload 4 dX0_hadBy_33 rfl ?_
        refine x_iconst 1 dX0_hadBy_35 (by decide) ?_
        refine x_iadd dX0_hadBy_36 ?_
        exact x_iret dX0_hadBy_37 rfl (Nat.le_of_ble_eq_true rfl) (Nat.le_of_ble_eq_true rfl) ⟨_, rfl, g_6, (Ext.tr e e_7), hw⟩
set_option maxHeartbeats 4000000 in
theorem k_X0_hadBy {ρ : Rho} {h : Hp} {post : Int32 → Hp → Prop} {p1 : Nat} {p2 : Int32} (G : G0 ρ) (g : GI h) (fp1 : sh h p1 = (1, 5)) (hw : wp_X0_hadBy post h p1 p2) : Con ρ yX0_hadBy (ws_ yX0_hadBy cX0_hadBy 5 (Option.some Jvm.ClassFile.FieldType.int)) rm_X0_hadBy [.ref (mr ρ 1), .ref (mr ρ p1), .int p2] h (phI h post) psN := by
  refine con_of (own := "BeforeTheEnd") (isI := false) (l0 := [(0, .ref (mr ρ 1)), (1, .ref (mr ρ p1)), (2, .int p2)]) (by decide) rfl (fun z => by cases z) (Nat.le_of_ble_eq_true rfl) rfl (fun _ => ?_)
  show X ρ K_X0_hadBy 0 [(0, .ref (mr ρ 1)), (1, .ref (mr ρ p1)), (2, .int p2)] [] h 0 0 (phI h post) psN
  refine x_sipush 1022 dX0_hadBy_0 (by decide) ?_
  refine x_istore_n (lv' := [(3, .int 1022), (0, .ref (mr ρ 1)), (1, .ref (mr ρ p1)), (2, .int p2)]) dX0_hadBy_3 (Nat.le_of_ble_eq_true rfl) rfl ?_
  refine x_iconst 0 dX0_hadBy_4 (by decide) ?_
  refine x_istore (lv' := [(4, .int 0), (3, .int 1022), (0, .ref (mr ρ 1)), (1, .ref (mr ρ p1)), (2, .int p2)]) dX0_hadBy_5 (Nat.le_of_ble_eq_true rfl) rfl ?_
  refine X.sub [2, 3, 4, 1, 0] rfl ?_
  obtain ⟨fu, hw⟩ := hw
  exact t_X0_hadBy_7 G  fu p1 p2 1022 0 h g Ext.rf fp1 hw
