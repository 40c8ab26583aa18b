/-! THE WALK, printed by wip/D-93865w/gen/main.py -/
set_option maxRecDepth 100000
/-! BeforeTheEndModel.rest(II)I -/
def w_X2_rest_70 (post : Int32 → Hp → Prop) : Nat → Int32 → Int32 → Int32 → Hp → Prop
  | 0 => fun _ _ _ _ => False
  | n + 1 => fun x1 x2 x3 h => ((10 < x3 → (post (-9) h)) ∧ (¬ 10 < x3 → (wp_X2_takesReply (fun r_5 h_2 => GI h_2 → Ext h h_2 → (wp_X2_takesReply (fun r_10 h_7 => GI h_7 → Ext h_2 h_7 → ((¬ r_5 = 0 → (w_X2_rest_70 post n x1 x2 (x3 + 1) h_7)) ∧ (r_5 = 0 → ((¬ r_10 = 0 → (w_X2_rest_70 post n x1 x2 (x3 + 1) h_7)) ∧ (r_10 = 0 → (post x3 h_7)))))) h_2 x2)) h x1)))
def wp_X2_rest (post : Int32 → Hp → Prop) (h : Hp) (p1 : Int32) (p2 : Int32) : Prop := (wp_X2_isPlayer (fun r_4 h_1 => GI h_1 → Ext h h_1 → ((r_4 = 0 → (wp_X2_no (fun r_10 h_7 => GI h_7 → Ext h_1 h_7 → (post r_10 h_7)) h_1 (-1))) ∧ (¬ r_4 = 0 → (wp_X2_isPlayer (fun r_15 h_12 => GI h_12 → Ext h_1 h_12 → ((r_15 = 0 → (wp_X2_no (fun r_21 h_18 => GI h_18 → Ext h_12 h_18 → (post r_21 h_18)) h_12 (-1))) ∧ (¬ r_15 = 0 → ((¬ p1 = p2 → (vp_in p1 4 ∧ ((¬ (gi h_12 31 (Int32.toNatClampNeg p1)) = 4 → (wp_X2_no (fun r_29 h_26 => GI h_26 → Ext h_12 h_26 → (post r_29 h_26)) h_12 (-2))) ∧ ((gi h_12 31 (Int32.toNatClampNeg p1)) = 4 → (vp_in p2 4 ∧ (((gi h_12 31 (Int32.toNatClampNeg p2)) = 4 → (wp_X2_isWhole (fun r_36 h_33 => GI h_33 → Ext h_12 h_33 → ((¬ r_36 = 0 → (∃ fu : Nat, w_X2_rest_70 post fu p1 p2 1 h_33)) ∧ (r_36 = 0 → (wp_X2_no (fun r_42 h_39 => GI h_39 → Ext h_33 h_39 → (post r_42 h_39)) h_33 (-3))))) h_12)) ∧ (¬ (gi h_12 31 (Int32.toNatClampNeg p2)) = 4 → (wp_X2_no (fun r_49 h_46 => GI h_46 → Ext h_12 h_46 → (post r_49 h_46)) h_12 (-2))))))))) ∧ (p1 = p2 → (wp_X2_no (fun r_58 h_55 => GI h_55 → Ext h_12 h_55 → (post r_58 h_55)) h_12 (-1))))))) h_1 p2)))) h p1)
abbrev rm_X2_rest : Room := ({ frames := 7, cells := 0, slots := 0, locals := 205 })
abbrev K_X2_rest : Kx := ("BeforeTheEndModel", cX2_rest, 6, (Option.some Jvm.ClassFile.FieldType.int), rm_X2_rest, [], false)
set_option maxHeartbeats 4000000 in
theorem t_X2_rest_70 {ρ : Rho} {h0 : Hp} {post : Int32 → Hp → Prop} (G : G0 ρ) :
    ∀ (n : Nat), ∀ (x1 : Int32) (x2 : Int32) (x3 : Int32) (h : Hp), GI h → Ext h0 h → w_X2_rest_70 post n x1 x2 x3 h → X ρ K_X2_rest 70 [(0, .ref (mr ρ 25)), (1, .int x1), (2, .int x2), (3, .int x3)] [] h 0 0 (phI h0 post) psN := by
  intro n
  induction n with
  | zero => intro x1 x2 x3 h g e hw; exact False.elim hw
  | succ n ih =>
    intro x1 x2 x3 h g e hw
    refine x_iload_n 3 dX2_rest_70 rfl ?_
    refine x_bipush 10 dX2_rest_71 (by decide) ?_
    obtain ⟨wt_18, wf_19⟩ := hw
    refine x_icmp_gt 108 dX2_rest_73 (by decide) (fun c_1 => ?_) (fun c_1 => ?_)
    · have hw := wt_18 c_1
      refine x_bipush (-9) dX2_rest_108 (by decide) ?_
      exact x_iret dX2_rest_110 rfl (Nat.le_of_ble_eq_true rfl) (Nat.le_of_ble_eq_true rfl) ⟨_, rfl, g, e, hw⟩
    · have hw := wf_19 c_1
      refine x_aload_n 0 dX2_rest_76 rfl ?_
      refine x_iload_n 1 dX2_rest_77 rfl ?_
      refine x_callV (ci := 2) [.int x1] 1 dX2_rest_78 (k_X2_takesReply G g hw) (GI.s g (t := (12, 0)) rfl (by decide)) rfl q1618 q1620 qs94 q106 q1621 (by decide) rfl rfl ⟨(Nat.le_of_ble_eq_true rfl), (Nat.le_of_ble_eq_true rfl)⟩ (Nat.le_of_ble_eq_true rfl) ⟨(Nat.le_of_ble_eq_true rfl), (Nat.le_of_ble_eq_true rfl)⟩ (fun v9 h_2 hv9 => ?_) (fun _ _ _ _ _ z _ _ => False.elim z)
      obtain ⟨r_5, rfl, g_3, e_4, b_6, hw⟩ := hv9
      have hw := hw g_3 e_4
      show X ρ K_X2_rest 81 [(0, .ref (mr ρ 25)), (1, .int x1), (2, .int x2), (3, .int x3)] [.int r_5] h_2 0 0 (phI h0 post) psN
      refine x_istore (lv' := [(4, .int r_5), (0, .ref (mr ρ 25)), (1, .int x1), (2, .int x2), (3, .int x3)]) dX2_rest_81 (Nat.le_of_ble_eq_true rfl) rfl ?_
      refine x_aload_n 1 dX2_rest_83 rfl ?_
      refine x_iload_n 3 dX2_rest_84 rfl ?_
      refine x_callV (ci := 2) [.int x2] 1 dX2_rest_85 (k_X2_takesReply G g_3 hw) (GI.s g_3 (t := (12, 0)) rfl (by decide)) rfl q1618 q1620 qs94 q106 q1621 (by decide) rfl rfl ⟨(Nat.le_of_ble_eq_true rfl), (Nat.le_of_ble_eq_true rfl)⟩ (Nat.le_of_ble_eq_true rfl) ⟨(Nat.le_of_ble_eq_true rfl), (Nat.le_of_ble_eq_true rfl)⟩ (fun v9 h_7 hv9 => ?_) (fun _ _ _ _ _ z _ _ => False.elim z)
      obtain ⟨r_10, rfl, g_8, e_9, b_11, hw⟩ := hv9
      have hw := hw g_8 e_9
      show X ρ K_X2_rest 88 [(4, .int r_5), (0, .ref (mr ρ 25)), (1, .int x1), (2, .int x2), (3, .int x3)] [.int r_10] h_7 0 0 (phI h0 post) psN
      refine x_istore (lv' := [(5, .int r_10), (4, .int r_5), (0, .ref (mr ρ 25)), (1, .int x1), (2, .int x2), (3, .int x3)]) dX2_rest_88 (Nat.le_of_ble_eq_true rfl) rfl ?_
      refine x_iload 1 dX2_rest_90 rfl ?_
      obtain ⟨wt_16, wf_17⟩ := hw
      refine x_if_ne 102 dX2_rest_92 (by decide) (fun c_12 => ?_) (fun c_12 => ?_)
      · have hw := wt_16 c_12
        refine x_iinc (v := (x3 + 1)) (lv' := [(3, .int (x3 + 1)), (5, .int r_10), (4, .int r_5), (0, .ref (mr ρ 25)), (1, .int x1), (2, .int x2)]) 5 dX2_rest_102 rfl (by rfl) (Nat.le_of_ble_eq_true rfl) rfl ?_
        refine x_goto 70 dX2_rest_105 (by decide) ?_
        refine X.sub [3, 4, 5, 0] rfl ?_
        exact ih x1 x2 (x3 + 1) h_7 g_8 (Ext.tr (Ext.tr e e_4) e_9) hw
      · have hw := wf_17 c_12
        refine x_iload 0 dX2_rest_95 rfl ?_
        obtain ⟨wt_14, wf_15⟩ := hw
        refine x_if_ne 102 dX2_rest_97 (by decide) (fun c_13 => ?_) (fun c_13 => ?_)
        · have hw := wt_14 c_13
          refine x_iinc (v := (x3 + 1)) (lv' := [(3, .int (x3 + 1)), (5, .int r_10), (4, .int r_5), (0, .ref (mr ρ 25)), (1, .int x1), (2, .int x2)]) 5 dX2_rest_102 rfl (by rfl) (Nat.le_of_ble_eq_true rfl) rfl ?_
          refine x_goto 70 dX2_rest_105 (by decide) ?_
          refine X.sub [3, 4, 5, 0] rfl ?_
          exact ih x1 x2 (x3 + 1) h_7 g_8 (Ext.tr (Ext.tr e e_4) e_9) hw
        · have hw := wf_15 c_13
          refine x_iload_n 5 dX2_rest_100 rfl ?_
          exact x_iret dX2_rest_101 rfl (Nat.le_of_ble_eq_true rfl) (Nat.le_of_ble_eq_true rfl) ⟨_, rfl, g_8, (Ext.tr (Ext.tr e e_4) e_9), hw⟩
set_option maxHeartbeats 4000000 in
theorem k_X2_rest {ρ : Rho} {h : Hp} {post : Int32 → Hp → Prop} {p1 : Int32} {p2 : Int32} (G : G0 ρ) (g : GI h) (hw : wp_X2_rest post h p1 p2) : Con ρ yX2_rest (ws_ yX2_rest cX2_rest 6 (Option.some Jvm.ClassFile.FieldType.int)) rm_X2_rest [.ref (mr ρ 25), .int p1, .int p2] h (phI h post) psN := by
  refine con_of (own := "BeforeTheEndModel") (isI := false) (l0 := [(0, .ref (mr ρ 25)), (1, .int p1), (2, .int p2)]) (by decide) rfl (fun z => by cases z) (Nat.le_of_ble_eq_true rfl) rfl (fun _ => ?_)
  show X ρ K_X2_rest 0 [(0, .ref (mr ρ 25)), (1, .int p1), (2, .int p2)] [] h 0 0 (phI h post) psN
  refine x_aload_n 0 dX2_rest_0 rfl ?_
  refine x_iload_n 1 dX2_rest_1 rfl ?_
  refine x_callV (ci := 2) [.int p1] 1 dX2_rest_2 (k_X2_isPlayer G g hw) (GI.s g (t := (12, 0)) rfl (by decide)) rfl q1454 q1456 qs71 q106 q1457 (by decide) rfl rfl ⟨(Nat.le_of_ble_eq_true rfl), (Nat.le_of_ble_eq_true rfl)⟩ (Nat.le_of_ble_eq_true rfl) ⟨(Nat.le_of_ble_eq_true rfl), (Nat.le_of_ble_eq_true rfl)⟩ (fun v9 h_1 hv9 => ?_) (fun _ _ _ _ _ z _ _ => False.elim z)
  obtain ⟨r_4, rfl, g_2, e_3, b_5, hw⟩ := hv9
  have hw := hw g_2 e_3
  show X ρ K_X2_rest 5 [(0, .ref (mr ρ 25)), (1, .int p1), (2, .int p2)] [.int r_4] h_1 0 0 (phI h post) psN
  obtain ⟨wt_64, wf_65⟩ := hw
  refine x_if_eq 21 dX2_rest_5 (by decide) (fun c_6 => ?_) (fun c_6 => ?_)
  · have hw := wt_64 c_6
    refine x_aload_n 0 dX2_rest_21 rfl ?_
    refine x_iconst (-1) dX2_rest_22 (by decide) ?_
    refine x_callV (ci := 2) [.int (-1)] 1 dX2_rest_23 (k_X2_no G g_2 hw) (GI.s g_2 (t := (12, 0)) rfl (by decide)) rfl q1387 q1389 qs59 q106 q1390 (by decide) rfl rfl ⟨(Nat.le_of_ble_eq_true rfl), (Nat.le_of_ble_eq_true rfl)⟩ (Nat.le_of_ble_eq_true rfl) ⟨(Nat.le_of_ble_eq_true rfl), (Nat.le_of_ble_eq_true rfl)⟩ (fun v9 h_7 hv9 => ?_) (fun _ _ _ _ _ z _ _ => False.elim z)
    obtain ⟨r_10, rfl, g_8, e_9, hw⟩ := hv9
    have hw := hw g_8 e_9
    show X ρ K_X2_rest 26 [(0, .ref (mr ρ 25)), (1, .int p1), (2, .int p2)] [.int r_10] h_7 0 0 (phI h post) psN
    exact x_iret dX2_rest_26 rfl (Nat.le_of_ble_eq_true rfl) (Nat.le_of_ble_eq_true rfl) ⟨_, rfl, g_8, (Ext.tr e_3 e_9), hw⟩
  · have hw := wf_65 c_6
    refine x_aload_n 0 dX2_rest_8 rfl ?_
    refine x_iload_n 2 dX2_rest_9 rfl ?_
    refine x_callV (ci := 2) [.int p2] 1 dX2_rest_10 (k_X2_isPlayer G g_2 hw) (GI.s g_2 (t := (12, 0)) rfl (by decide)) rfl q1454 q1456 qs71 q106 q1457 (by decide) rfl rfl ⟨(Nat.le_of_ble_eq_true rfl), (Nat.le_of_ble_eq_true rfl)⟩ (Nat.le_of_ble_eq_true rfl) ⟨(Nat.le_of_ble_eq_true rfl), (Nat.le_of_ble_eq_true rfl)⟩ (fun v9 h_12 hv9 => ?_) (fun _ _ _ _ _ z _ _ => False.elim z)
    obtain ⟨r_15, rfl, g_13, e_14, b_16, hw⟩ := hv9
    have hw := hw g_13 e_14
    show X ρ K_X2_rest 13 [(0, .ref (mr ρ 25)), (1, .int p1), (2, .int p2)] [.int r_15] h_12 0 0 (phI h post) psN
    obtain ⟨wt_62, wf_63⟩ := hw
    refine x_if_eq 21 dX2_rest_13 (by decide) (fun c_17 => ?_) (fun c_17 => ?_)
    · have hw := wt_62 c_17
      refine x_aload_n 0 dX2_rest_21 rfl ?_
      refine x_iconst (-1) dX2_rest_22 (by decide) ?_
      refine x_callV (ci := 2) [.int (-1)] 1 dX2_rest_23 (k_X2_no G g_13 hw) (GI.s g_13 (t := (12, 0)) rfl (by decide)) rfl q1387 q1389 qs59 q106 q1390 (by decide) rfl rfl ⟨(Nat.le_of_ble_eq_true rfl), (Nat.le_of_ble_eq_true rfl)⟩ (Nat.le_of_ble_eq_true rfl) ⟨(Nat.le_of_ble_eq_true rfl), (Nat.le_of_ble_eq_true rfl)⟩ (fun v9 h_18 hv9 => ?_) (fun _ _ _ _ _ z _ _ => False.elim z)
      obtain ⟨r_21, rfl, g_19, e_20, hw⟩ := hv9
      have hw := hw g_19 e_20
      show X ρ K_X2_rest 26 [(0, .ref (mr ρ 25)), (1, .int p1), (2, .int p2)] [.int r_21] h_18 0 0 (phI h post) psN
      exact x_iret dX2_rest_26 rfl (Nat.le_of_ble_eq_true rfl) (Nat.le_of_ble_eq_true rfl) ⟨_, rfl, g_19, (Ext.tr (Ext.tr e_3 e_14) e_20), hw⟩
    · have hw := wf_63 c_17
      refine x_iload_n 1 dX2_rest_16 rfl ?_
      refine x_iload_n 2 dX2_rest_17 rfl ?_
      obtain ⟨wt_60, wf_61⟩ := hw
      refine x_icmp_ne 27 dX2_rest_18 (by decide) (fun c_23 => ?_) (fun c_23 => ?_)
      · have hw := wt_60 c_23
        refine x_aload_n 0 dX2_rest_27 rfl ?_
        refine x_get (ci := 2) (v := .ref (mr ρ 31)) 5 dX2_rest_28 (GI.s g_13 (t := (12, 0)) rfl (by decide)) rfl in_X2 (by decide) q1228 (Or.inl rfl) (fv_rc rfl (GI.m g_13 (n := 31) rfl (by decide)) (by decide)) ?_
        refine x_iload_n 1 dX2_rest_31 rfl ?_
        obtain ⟨b_24, hw⟩ := hw
        refine x_iald (n := 4) (j := (Int32.toNatClampNeg p1)) dX2_rest_32 rfl (GI.s g_13 (t := (1, 4)) rfl (by decide)) b_24 ?_
        refine x_iconst 4 dX2_rest_33 (by decide) ?_
        obtain ⟨wt_53, wf_54⟩ := hw
        refine x_icmp_ne 47 dX2_rest_34 (by decide) (fun c_25 => ?_) (fun c_25 => ?_)
        · have hw := wt_53 c_25
          refine x_aload_n 0 dX2_rest_47 rfl ?_
          refine x_bipush (-2) dX2_rest_48 (by decide) ?_
          refine x_callV (ci := 2) [.int (-2)] 1 dX2_rest_50 (k_X2_no G g_13 hw) (GI.s g_13 (t := (12, 0)) rfl (by decide)) rfl q1387 q1389 qs59 q106 q1390 (by decide) rfl rfl ⟨(Nat.le_of_ble_eq_true rfl), (Nat.le_of_ble_eq_true rfl)⟩ (Nat.le_of_ble_eq_true rfl) ⟨(Nat.le_of_ble_eq_true rfl), (Nat.le_of_ble_eq_true rfl)⟩ (fun v9 h_26 hv9 => ?_) (fun _ _ _ _ _ z _ _ => False.elim z)
          obtain ⟨r_29, rfl, g_27, e_28, hw⟩ := hv9
          have hw := hw g_27 e_28
          show X ρ K_X2_rest 53 [(0, .ref (mr ρ 25)), (1, .int p1), (2, .int p2)] [.int r_29] h_26 0 0 (phI h post) psN
          exact x_iret dX2_rest_53 rfl (Nat.le_of_ble_eq_true rfl) (Nat.le_of_ble_eq_true rfl) ⟨_, rfl, g_27, (Ext.tr (Ext.tr e_3 e_14) e_28), hw⟩
        · have hw := wf_54 c_25
          refine x_aload_n 0 dX2_rest_37 rfl ?_
          refine x_get (ci := 2) (v := .ref (mr ρ 31)) 5 dX2_rest_38 (GI.s g_13 (t := (12, 0)) rfl (by decide)) rfl in_X2 (by decide) q1228 (Or.inl rfl) (fv_rc rfl (GI.m g_13 (n := 31) rfl (by decide)) (by decide)) ?_
          refine x_iload_n 2 dX2_rest_41 rfl ?_
          obtain ⟨b_31, hw⟩ := hw
          refine x_iald (n := 4) (j := (Int32.toNatClampNeg p2)) dX2_rest_42 rfl (GI.s g_13 (t := (1, 4)) rfl (by decide)) b_31 ?_
          refine x_iconst 4 dX2_rest_43 (by decide) ?_
          obtain ⟨wt_51, wf_52⟩ := hw
          refine x_icmp_eq 54 dX2_rest_44 (by decide) (fun c_32 => ?_) (fun c_32 => ?_)
          · have hw := wt_51 c_32
            refine x_aload_n 0 dX2_rest_54 rfl ?_
            refine x_callV (ci := 2) [] 0 dX2_rest_55 (k_X2_isWhole G g_13 hw) (GI.s g_13 (t := (12, 0)) rfl (by decide)) rfl q1462 q1464 qs72 q106 q1465 (by decide) rfl rfl ⟨(Nat.le_of_ble_eq_true rfl), (Nat.le_of_ble_eq_true rfl)⟩ (Nat.le_of_ble_eq_true rfl) ⟨(Nat.le_of_ble_eq_true rfl), (Nat.le_of_ble_eq_true rfl)⟩ (fun v9 h_33 hv9 => ?_) (fun _ _ _ _ _ z _ _ => False.elim z)
            obtain ⟨r_36, rfl, g_34, e_35, b_37, hw⟩ := hv9
            have hw := hw g_34 e_35
            show X ρ K_X2_rest 58 [(0, .ref (mr ρ 25)), (1, .int p1), (2, .int p2)] [.int r_36] h_33 0 0 (phI h post) psN
            obtain ⟨wt_44, wf_45⟩ := hw
            refine x_if_ne 68 dX2_rest_58 (by decide) (fun c_38 => ?_) (fun c_38 => ?_)
            · have hw := wt_44 c_38
              refine x_iconst 1 dX2_rest_68 (by decide) ?_
              refine x_istore_n (lv' := [(3, .int 1), (0, .ref (mr ρ 25)), (1, .int p1), (2, .int p2)]) dX2_rest_69 (Nat.le_of_ble_eq_true rfl) rfl ?_
              refine X.sub [1, 2, 3, 0] rfl ?_
              obtain ⟨fu, hw⟩ := hw
              exact t_X2_rest_70 G  fu p1 p2 1 h_33 g_34 (Ext.tr (Ext.tr e_3 e_14) e_35) hw
            · have hw := wf_45 c_38
              refine x_aload_n 0 dX2_rest_61 rfl ?_
              refine x_bipush (-3) dX2_rest_62 (by decide) ?_
              refine x_callV (ci := 2) [.int (-3)] 1 dX2_rest_64 (k_X2_no G g_34 hw) (GI.s g_34 (t := (12, 0)) rfl (by decide)) rfl q1387 q1389 qs59 q106 q1390 (by decide) rfl rfl ⟨(Nat.le_of_ble_eq_true rfl), (Nat.le_of_ble_eq_true rfl)⟩ (Nat.le_of_ble_eq_true rfl) ⟨(Nat.le_of_ble_eq_true rfl), (Nat.le_of_ble_eq_true rfl)⟩ (fun v9 h_39 hv9 => ?_) (fun _ _ _ _ _ z _ _ => False.elim z)
              obtain ⟨r_42, rfl, g_40, e_41, hw⟩ := hv9
              have hw := hw g_40 e_41
              show X ρ K_X2_rest 67 [(0, .ref (mr ρ 25)), (1, .int p1), (2, .int p2)] [.int r_42] h_39 0 0 (phI h post) psN
              exact x_iret dX2_rest_67 rfl (Nat.le_of_ble_eq_true rfl) (Nat.le_of_ble_eq_true rfl) ⟨_, rfl, g_40, (Ext.tr (Ext.tr (Ext.tr e_3 e_14) e_35) e_41), hw⟩
          · have hw := wf_52 c_32
            refine x_aload_n 0 dX2_rest_47 rfl ?_
            refine x_bipush (-2) dX2_rest_48 (by decide) ?_
            refine x_callV (ci := 2) [.int (-2)] 1 dX2_rest_50 (k_X2_no G g_13 hw) (GI.s g_13 (t := (12, 0)) rfl (by decide)) rfl q1387 q1389 qs59 q106 q1390 (by decide) rfl rfl ⟨(Nat.le_of_ble_eq_true rfl), (Nat.le_of_ble_eq_true rfl)⟩ (Nat.le_of_ble_eq_true rfl) ⟨(Nat.le_of_ble_eq_true rfl), (Nat.le_of_ble_eq_true rfl)⟩ (fun v9 h_46 hv9 => ?_) (fun _ _ _ _ _ z _ _ => False.elim z)
            obtain ⟨r_49, rfl, g_47, e_48, hw⟩ := hv9
            have hw := hw g_47 e_48
            show X ρ K_X2_rest 53 [(0, .ref (mr ρ 25)), (1, .int p1), (2, .int p2)] [.int r_49] h_46 0 0 (phI h post) psN
            exact x_iret dX2_rest_53 rfl (Nat.le_of_ble_eq_true rfl) (Nat.le_of_ble_eq_true rfl) ⟨_, rfl, g_47, (Ext.tr (Ext.tr e_3 e_14) e_48), hw⟩
      · have hw := wf_61 c_23
        refine x_aload_n 0 dX2_rest_21 rfl ?_
        refine x_iconst (-1) dX2_rest_22 (by decide) ?_
        refine x_callV (ci := 2) [.int (-1)] 1 dX2_rest_23 (k_X2_no G g_13 hw) (GI.s g_13 (t := (12, 0)) rfl (by decide)) rfl q1387 q1389 qs59 q106 q1390 (by decide) rfl rfl ⟨(Nat.le_of_ble_eq_true rfl), (Nat.le_of_ble_eq_true rfl)⟩ (Nat.le_of_ble_eq_true rfl) ⟨(Nat.le_of_ble_eq_true rfl), (Nat.le_of_ble_eq_true rfl)⟩ (fun v9 h_55 hv9 => ?_) (fun _ _ _ _ _ z _ _ => False.elim z)
        obtain ⟨r_58, rfl, g_56, e_57, hw⟩ := hv9
        have hw := hw g_56 e_57
        show X ρ K_X2_rest 26 [(0, .ref (mr ρ 25)), (1, .int p1), (2, .int p2)] [.int r_58] h_55 0 0 (phI h post) psN
        exact x_iret dX2_rest_26 rfl (Nat.le_of_ble_eq_true rfl) (Nat.le_of_ble_eq_true rfl) ⟨_, rfl, g_56, (Ext.tr (Ext.tr e_3 e_14) e_57), hw⟩

/-! BeforeTheEnd.law(I)I -/
def wp_X0_law (post : Int32 → Hp → Prop) (h : Hp) (p1 : Int32) : Prop := (wp_X0_act (fun r_4 h_1 => GI h_1 → Ext h h_1 → (post r_4 h_1)) h 13 p1 0 0)
abbrev rm_X0_law : Room := ({ frames := 19, cells := 1868, slots := 13143, locals := 599 })
abbrev K_X0_law : Kx := ("BeforeTheEnd", cX0_law, 2, (Option.some Jvm.ClassFile.FieldType.int), rm_X0_law, [], false)
set_option maxHeartbeats 4000000 in
theorem k_X0_law {ρ : Rho} {h : Hp} {post : Int32 → Hp → Prop} {p1 : Int32} (G : G0 ρ) (g : GI h) (hw : wp_X0_law post h p1) : Con ρ yX0_law (ws_ yX0_law cX0_law 2 (Option.some Jvm.ClassFile.FieldType.int)) rm_X0_law [.ref (mr ρ 1), .int p1] h (phI h post) psN := by
  refine con_of (own := "BeforeTheEnd") (isI := false) (l0 := [(0, .ref (mr ρ 1)), (1, .int p1)]) (by decide) rfl (fun z => by cases z) (Nat.le_of_ble_eq_true rfl) rfl (fun _ => ?_)
  show X ρ K_X0_law 0 [(0, .ref (mr ρ 1)), (1, .int p1)] [] h 0 0 (phI h post) psN
  refine x_aload_n 0 dX0_law_0 rfl ?_
  refine x_bipush 13 dX0_law_1 (by decide) ?_
  refine x_iload_n 1 dX0_law_3 rfl ?_
  refine x_iconst 0 dX0_law_4 (by decide) ?_
  refine x_iconst 0 dX0_law_5 (by decide) ?_
  refine x_callH (ci := 0) [.int 13, .int p1, .int 0, .int 0] 4 dX0_law_6 (k_X0_act G g hw) (GI.s g (t := (10, 0)) rfl (by decide)) rfl q383 q385 qs3 q104 q386 (by decide) rfl rfl ⟨(Nat.le_of_ble_eq_true rfl), (Nat.le_of_ble_eq_true rfl)⟩ (Nat.le_of_ble_eq_true rfl) ⟨(Nat.le_of_ble_eq_true rfl), (Nat.le_of_ble_eq_true rfl)⟩ (fun v9 h_1 hv9 => ?_) (fun _ _ _ _ _ z _ _ => False.elim z)
  obtain ⟨r_4, rfl, g_2, e_3, hw⟩ := hv9
  have hw := hw g_2 e_3
  show X ρ K_X0_law 9 [(0, .ref (mr ρ 1)), (1, .int p1)] [.int r_4] h_1 1868 13143 (phI h post) psN
  exact x_iret dX0_law_9 rfl (Nat.le_of_ble_eq_true rfl) (Nat.le_of_ble_eq_true rfl) ⟨_, rfl, g_2, e_3, hw⟩

/-! BeforeTheEndModel.law(I)I -/
def w_X2_law_101 (post : Int32 → Hp → Prop) (x3 : Int32) (x4 : Int32) (h : Hp) : Prop := (post x4 (si h 36 1 x3))
def w_X2_law_46 (post : Int32 → Hp → Prop) : Nat → Int32 → Int32 → Int32 → Int32 → Hp → Prop
  | 0 => fun _ _ _ _ _ => False
  | n + 1 => fun x1 x3 x4 x5 h => ((20 < x5 → (w_X2_law_101 post x3 x4 h)) ∧ (¬ 20 < x5 → ((0 ≤ x4 → (w_X2_law_101 post x3 x4 h)) ∧ (¬ 0 ≤ x4 → (wp_X2_finds (fun h_3 => GI h_3 → Ext (si h 36 1 x5) h_3 → (wp_X2_sumOver (fun r_11 h_8 => GI h_8 → Ext h_3 h_8 → (((100 * r_11) < ((Int32.toInt64 x1) * (gl h_8 25 29)) → (w_X2_law_46 post n x1 x3 x4 (x5 + 1) h_8)) ∧ (¬ (100 * r_11) < ((Int32.toInt64 x1) * (gl h_8 25 29)) → (w_X2_law_46 post n x1 x3 x5 (x5 + 1) h_8)))) h_3 3 0)) (si h 36 1 x5))))))
def w_X2_law_22 (post : Int32 → Hp → Prop) (x1 : Int32) (x2 : Int32) (h : Hp) : Prop := ((x2 = 0 → (∃ fu : Nat, w_X2_law_46 post fu x1 (gi h 36 1) (-9) 0 h)) ∧ (¬ x2 = 0 → (wp_X2_no (fun r_5 h_2 => GI h_2 → Ext h h_2 → (post r_5 h_2)) h x2)))
def wp_X2_law (post : Int32 → Hp → Prop) (h : Hp) (p1 : Int32) : Prop := (wp_X2_bound (fun r_4 h_1 => GI h_1 → Ext h h_1 → ((¬ r_4 = 0 → (w_X2_law_22 post p1 r_4 h_1)) ∧ (r_4 = 0 → (wp_X2_isWhole (fun r_10 h_7 => GI h_7 → Ext h_1 h_7 → ((¬ r_10 = 0 → (w_X2_law_22 post p1 r_4 h_7)) ∧ (r_10 = 0 → (w_X2_law_22 post p1 (-3) h_7)))) h_1)))) h p1 0 100)
abbrev rm_X2_law : Room := ({ frames := 6, cells := 0, slots := 0, locals := 175 })
abbrev K_X2_law : Kx := ("BeforeTheEndModel", cX2_law, 6, (Option.some Jvm.ClassFile.FieldType.int), rm_X2_law, [], false)
set_option maxHeartbeats 4000000 in
theorem t_X2_law_101 {ρ : Rho} {h0 : Hp} {post : Int32 → Hp → Prop} (G : G0 ρ) :
    ∀ (x3 : Int32) (x4 : Int32) (h : Hp), GI h → Ext h0 h → w_X2_law_101 post x3 x4 h → X ρ K_X2_law 101 [(0, .ref (mr ρ 25)), (3, .int x3), (4, .int x4)] [] h 0 0 (phI h0 post) psN := by
  intro x3 x4 h g e hw
  refine x_aload_n 0 dX2_law_101 rfl ?_
  refine x_get (ci := 2) (v := .ref (mr ρ 36)) 10 dX2_law_102 (GI.s g (t := (12, 0)) rfl (by decide)) rfl in_X2 (by decide) q1233 (Or.inl rfl) (fv_rc rfl (GI.m g (n := 36) rfl (by decide)) (by decide)) ?_
  refine x_iconst 1 dX2_law_105 (by decide) ?_
  refine x_iload_n 1 dX2_law_106 rfl ?_
  refine x_iast (n := 4) (j := 1) dX2_law_107 (by decide) (GI.s g (t := (1, 4)) rfl (by decide)) (by unfold vp_in; decide) ?_
  refine x_iload 2 dX2_law_108 rfl ?_
  exact x_iret dX2_law_110 rfl (Nat.le_of_ble_eq_true rfl) (Nat.le_of_ble_eq_true rfl) ⟨_, rfl, (GI.i g), (Ext.i e), hw⟩
set_option maxHeartbeats 4000000 in
theorem t_X2_law_46 {ρ : Rho} {h0 : Hp} {post : Int32 → Hp → Prop} (G : G0 ρ) :
    ∀ (n : Nat), ∀ (x1 : Int32) (x3 : Int32) (x4 : Int32) (x5 : Int32) (h : Hp), GI h → Ext h0 h → w_X2_law_46 post n x1 x3 x4 x5 h → X ρ K_X2_law 46 [(0, .ref (mr ρ 25)), (1, .int x1), (3, .int x3), (4, .int x4), (5, .int x5)] [] h 0 0 (phI h0 post) psN := by
  intro n
  induction n with
  | zero => intro x1 x3 x4 x5 h g e hw; exact False.elim hw
  | succ n ih =>
    intro x1 x3 x4 x5 h g e hw
    refine x_iload 4 dX2_law_46 rfl ?_
    refine x_bipush 20 dX2_law_48 (by decide) ?_
    obtain ⟨wt_18, wf_19⟩ := hw
    refine x_icmp_gt 101 dX2_law_50 (by decide) (fun c_1 => ?_) (fun c_1 => ?_)
    · have hw := wt_18 c_1
      refine X.sub [0, 2, 3] rfl ?_
      exact t_X2_law_101 G  x3 x4 h g e hw
    · have hw := wf_19 c_1
      refine x_iload 3 dX2_law_53 rfl ?_
      obtain ⟨wt_16, wf_17⟩ := hw
      refine x_if_ge 101 dX2_law_55 (by decide) (fun c_2 => ?_) (fun c_2 => ?_)
      · have hw := wt_16 c_2
        refine X.sub [0, 2, 3] rfl ?_
        exact t_X2_law_101 G  x3 x4 h g e hw
      · have hw := wf_17 c_2
        refine x_aload_n 0 dX2_law_58 rfl ?_
        refine x_get (ci := 2) (v := .ref (mr ρ 36)) 10 dX2_law_59 (GI.s g (t := (12, 0)) rfl (by decide)) rfl in_X2 (by decide) q1233 (Or.inl rfl) (fv_rc rfl (GI.m g (n := 36) rfl (by decide)) (by decide)) ?_
        refine x_iconst 1 dX2_law_62 (by decide) ?_
        refine x_iload 4 dX2_law_63 rfl ?_
        refine x_iast (n := 4) (j := 1) dX2_law_65 (by decide) (GI.s g (t := (1, 4)) rfl (by decide)) (by unfold vp_in; decide) ?_
        refine x_aload_n 0 dX2_law_66 rfl ?_
        refine x_callV (ci := 2) [] 0 dX2_law_67 (k_X2_finds G (GI.i g) hw) (GI.s (GI.i g) (t := (12, 0)) rfl (by decide)) rfl q1521 q1523 qs79 q106 q1524 (by decide) rfl rfl ⟨(Nat.le_of_ble_eq_true rfl), (Nat.le_of_ble_eq_true rfl)⟩ (Nat.le_of_ble_eq_true rfl) ⟨(Nat.le_of_ble_eq_true rfl), (Nat.le_of_ble_eq_true rfl)⟩ (fun v9 h_3 hv9 => ?_) (fun _ _ _ _ _ z _ _ => False.elim z)
        obtain ⟨rfl, g_4, e_5, hw⟩ := hv9
        have hw := hw g_4 e_5
        show X ρ K_X2_law 70 [(0, .ref (mr ρ 25)), (1, .int x1), (3, .int x3), (4, .int x4), (5, .int x5)] [] h_3 0 0 (phI h0 post) psN
        refine x_ldc2 dX2_law_70 q1553 ?_
        refine x_aload_n 0 dX2_law_73 rfl ?_
        refine x_iconst 3 dX2_law_74 (by decide) ?_
        refine x_iconst 0 dX2_law_75 (by decide) ?_
        refine x_callV (ci := 2) [.int 3, .int 0] 2 dX2_law_76 (k_X2_sumOver G g_4 hw) (GI.s g_4 (t := (12, 0)) rfl (by decide)) rfl q1578 q1580 qs91 q106 q1581 (by decide) rfl rfl ⟨(Nat.le_of_ble_eq_true rfl), (Nat.le_of_ble_eq_true rfl)⟩ (Nat.le_of_ble_eq_true rfl) ⟨(Nat.le_of_ble_eq_true rfl), (Nat.le_of_ble_eq_true rfl)⟩ (fun v9 h_8 hv9 => ?_) (fun _ _ _ _ _ z _ _ => False.elim z)
        obtain ⟨r_11, rfl, g_9, e_10, hw⟩ := hv9
        have hw := hw g_9 e_10
        show X ρ K_X2_law 79 [(0, .ref (mr ρ 25)), (1, .int x1), (3, .int x3), (4, .int x4), (5, .int x5)] [.long r_11, .long 100] h_8 0 0 (phI h0 post) psN
        refine x_lmul dX2_law_79 ?_
        refine x_iload_n 1 dX2_law_80 rfl ?_
        refine x_i2l dX2_law_81 ?_
        refine x_aload_n 0 dX2_law_82 rfl ?_
        refine x_get (ci := 2) (v := .long (gl h_8 25 29)) 29 dX2_law_83 (GI.s g_9 (t := (12, 0)) rfl (by decide)) rfl in_X2 (by decide) q1252 (Or.inl rfl) (fv_l rfl) ?_
        refine x_lmul dX2_law_86 ?_
        obtain ⟨wt_14, wf_15⟩ := hw
        refine x_lif_lt 95 dX2_law_87 dX2_law_88 (by decide) (fun c_13 => ?_) (fun c_13 => ?_)
        · have hw := wt_14 c_13
          refine x_iinc (v := (x5 + 1)) (lv' := [(5, .int (x5 + 1)), (0, .ref (mr ρ 25)), (1, .int x1), (3, .int x3), (4, .int x4)]) 4 dX2_law_95 rfl (by rfl) (Nat.le_of_ble_eq_true rfl) rfl ?_
          refine x_goto 46 dX2_law_98 (by decide) ?_
          refine X.sub [1, 2, 3, 4, 0] rfl ?_
          exact ih x1 x3 x4 (x5 + 1) h_8 g_9 (Ext.tr (Ext.tr (Ext.i e) e_5) e_10) hw
        · have hw := wf_15 c_13
          refine x_iload 4 dX2_law_91 rfl ?_
          refine x_istore (lv' := [(4, .int x5), (0, .ref (mr ρ 25)), (1, .int x1), (3, .int x3), (5, .int x5)]) dX2_law_93 (Nat.le_of_ble_eq_true rfl) rfl ?_
          refine x_iinc (v := (x5 + 1)) (lv' := [(5, .int (x5 + 1)), (4, .int x5), (0, .ref (mr ρ 25)), (1, .int x1), (3, .int x3)]) 4 dX2_law_95 rfl (by rfl) (Nat.le_of_ble_eq_true rfl) rfl ?_
          refine x_goto 46 dX2_law_98 (by decide) ?_
          refine X.sub [2, 3, 4, 1, 0] rfl ?_
          exact ih x1 x3 x5 (x5 + 1) h_8 g_9 (Ext.tr (Ext.tr (Ext.i e) e_5) e_10) hw
set_option maxHeartbeats 4000000 in
theorem t_X2_law_22 {ρ : Rho} {h0 : Hp} {post : Int32 → Hp → Prop} (G : G0 ρ) :
    ∀ (x1 : Int32) (x2 : Int32) (h : Hp), GI h → Ext h0 h → w_X2_law_22 post x1 x2 h → X ρ K_X2_law 22 [(0, .ref (mr ρ 25)), (1, .int x1), (2, .int x2)] [] h 0 0 (phI h0 post) psN := by
  intro x1 x2 h g e hw
  refine x_iload_n 2 dX2_law_22 rfl ?_
  obtain ⟨wt_7, wf_8⟩ := hw
  refine x_if_eq 32 dX2_law_23 (by decide) (fun c_1 => ?_) (fun c_1 => ?_)
  · have hw := wt_7 c_1
    refine x_aload_n 0 dX2_law_32 rfl ?_
    refine x_get (ci := 2) (v := .ref (mr ρ 36)) 10 dX2_law_33 (GI.s g (t := (12, 0)) rfl (by decide)) rfl in_X2 (by decide) q1233 (Or.inl rfl) (fv_rc rfl (GI.m g (n := 36) rfl (by decide)) (by decide)) ?_
    refine x_iconst 1 dX2_law_36 (by decide) ?_
    refine x_iald (n := 4) (j := 1) dX2_law_37 (by decide) (GI.s g (t := (1, 4)) rfl (by decide)) (by unfold vp_in; decide) ?_
    refine x_istore_n (lv' := [(3, .int (gi h 36 1)), (0, .ref (mr ρ 25)), (1, .int x1), (2, .int x2)]) dX2_law_38 (Nat.le_of_ble_eq_true rfl) rfl ?_
    refine x_bipush (-9) dX2_law_39 (by decide) ?_
    refine x_istore (lv' := [(4, .int (-9)), (3, .int (gi h 36 1)), (0, .ref (mr ρ 25)), (1, .int x1), (2, .int x2)]) dX2_law_41 (Nat.le_of_ble_eq_true rfl) rfl ?_
    refine x_iconst 0 dX2_law_43 (by decide) ?_
    refine x_istore (lv' := [(5, .int 0), (4, .int (-9)), (3, .int (gi h 36 1)), (0, .ref (mr ρ 25)), (1, .int x1), (2, .int x2)]) dX2_law_44 (Nat.le_of_ble_eq_true rfl) rfl ?_
    refine X.sub [3, 4, 2, 1, 0] rfl ?_
    obtain ⟨fu, hw⟩ := hw
    exact t_X2_law_46 G  fu x1 (gi h 36 1) (-9) 0 h g e hw
  · have hw := wf_8 c_1
    refine x_aload_n 0 dX2_law_26 rfl ?_
    refine x_iload_n 2 dX2_law_27 rfl ?_
    refine x_callV (ci := 2) [.int x2] 1 dX2_law_28 (k_X2_no G g hw) (GI.s g (t := (12, 0)) rfl (by decide)) rfl q1387 q1389 qs59 q106 q1390 (by decide) rfl rfl ⟨(Nat.le_of_ble_eq_true rfl), (Nat.le_of_ble_eq_true rfl)⟩ (Nat.le_of_ble_eq_true rfl) ⟨(Nat.le_of_ble_eq_true rfl), (Nat.le_of_ble_eq_true rfl)⟩ (fun v9 h_2 hv9 => ?_) (fun _ _ _ _ _ z _ _ => False.elim z)
    obtain ⟨r_5, rfl, g_3, e_4, hw⟩ := hv9
    have hw := hw g_3 e_4
    show X ρ K_X2_law 31 [(0, .ref (mr ρ 25)), (1, .int x1), (2, .int x2)] [.int r_5] h_2 0 0 (phI h0 post) psN
    exact x_iret dX2_law_31 rfl (Nat.le_of_ble_eq_true rfl) (Nat.le_of_ble_eq_true rfl) ⟨_, rfl, g_3, (Ext.tr e e_4), hw⟩
set_option maxHeartbeats 4000000 in
theorem k_X2_law {ρ : Rho} {h : Hp} {post : Int32 → Hp → Prop} {p1 : Int32} (G : G0 ρ) (g : GI h) (hw : wp_X2_law post h p1) : Con ρ yX2_law (ws_ yX2_law cX2_law 6 (Option.some Jvm.ClassFile.FieldType.int)) rm_X2_law [.ref (mr ρ 25), .int p1] h (phI h post) psN := by
  refine con_of (own := "BeforeTheEndModel") (isI := false) (l0 := [(0, .ref (mr ρ 25)), (1, .int p1)]) (by decide) rfl (fun z => by cases z) (Nat.le_of_ble_eq_true rfl) rfl (fun _ => ?_)
  show X ρ K_X2_law 0 [(0, .ref (mr ρ 25)), (1, .int p1)] [] h 0 0 (phI h post) psN
  refine x_iload_n 1 dX2_law_0 rfl ?_
  refine x_iconst 0 dX2_law_1 (by decide) ?_
  refine x_bipush 100 dX2_law_2 (by decide) ?_
  refine x_callS [.int p1, .int 0, .int 100] 3 dX2_law_4 (k_X2_bound G g hw) q1384 q1385 q106 q1386 (by decide) rfl rfl ⟨(Nat.le_of_ble_eq_true rfl), (Nat.le_of_ble_eq_true rfl)⟩ (Nat.le_of_ble_eq_true rfl) ⟨(Nat.le_of_ble_eq_true rfl), (Nat.le_of_ble_eq_true rfl)⟩ (fun v9 h_1 hv9 => ?_) (fun _ _ _ _ _ z _ _ => False.elim z)
  obtain ⟨r_4, rfl, g_2, e_3, hw⟩ := hv9
  have hw := hw g_2 e_3
  show X ρ K_X2_law 7 [(0, .ref (mr ρ 25)), (1, .int p1)] [.int r_4] h_1 0 0 (phI h post) psN
  refine x_istore_n (lv' := [(2, .int r_4), (0, .ref (mr ρ 25)), (1, .int p1)]) dX2_law_7 (Nat.le_of_ble_eq_true rfl) rfl ?_
  refine x_iload_n 0 dX2_law_8 rfl ?_
  obtain ⟨wt_15, wf_16⟩ := hw
  refine x_if_ne 22 dX2_law_9 (by decide) (fun c_6 => ?_) (fun c_6 => ?_)
  · have hw := wt_15 c_6
    refine X.sub [1, 2, 0] rfl ?_
    exact t_X2_law_22 G  p1 r_4 h_1 g_2 e_3 hw
  · have hw := wf_16 c_6
    refine x_aload_n 1 dX2_law_12 rfl ?_
    refine x_callV (ci := 2) [] 0 dX2_law_13 (k_X2_isWhole G g_2 hw) (GI.s g_2 (t := (12, 0)) rfl (by decide)) rfl q1462 q1464 qs72 q106 q1465 (by decide) rfl rfl ⟨(Nat.le_of_ble_eq_true rfl), (Nat.le_of_ble_eq_true rfl)⟩ (Nat.le_of_ble_eq_true rfl) ⟨(Nat.le_of_ble_eq_true rfl), (Nat.le_of_ble_eq_true rfl)⟩ (fun v9 h_7 hv9 => ?_) (fun _ _ _ _ _ z _ _ => False.elim z)
    obtain ⟨r_10, rfl, g_8, e_9, b_11, hw⟩ := hv9
    have hw := hw g_8 e_9
    show X ρ K_X2_law 16 [(2, .int r_4), (0, .ref (mr ρ 25)), (1, .int p1)] [.int r_10] h_7 0 0 (phI h post) psN
    obtain ⟨wt_13, wf_14⟩ := hw
    refine x_if_ne 22 dX2_law_16 (by decide) (fun c_12 => ?_) (fun c_12 => ?_)
    · have hw := wt_13 c_12
      refine X.sub [1, 2, 0] rfl ?_
      exact t_X2_law_22 G  p1 r_4 h_7 g_8 (Ext.tr e_3 e_9) hw
    · have hw := wf_14 c_12
      refine x_bipush (-3) dX2_law_19 (by decide) ?_
      refine x_istore_n (lv' := [(2, .int (-3)), (0, .ref (mr ρ 25)), (1, .int p1)]) dX2_law_21 (Nat.le_of_ble_eq_true rfl) rfl ?_
      refine X.sub [1, 2, 0] rfl ?_
      exact t_X2_law_22 G  p1 (-3) h_7 g_8 (Ext.tr e_3 e_9) hw

/-! BeforeTheEnd.mostEarly(I)I -/
def wp_X0_mostEarly (post : Int32 → Hp → Prop) (h : Hp) (p1 : Int32) : Prop := (wp_X0_act (fun r_4 h_1 => GI h_1 → Ext h h_1 → (post r_4 h_1)) h 14 p1 0 0)
abbrev rm_X0_mostEarly : Room := ({ frames := 19, cells := 1868, slots := 13143, locals := 599 })
abbrev K_X0_mostEarly : Kx := ("BeforeTheEnd", cX0_mostEarly, 2, (Option.some Jvm.ClassFile.FieldType.int), rm_X0_mostEarly, [], false)
set_option maxHeartbeats 4000000 in
theorem k_X0_mostEarly {ρ : Rho} {h : Hp} {post : Int32 → Hp → Prop} {p1 : Int32} (G : G0 ρ) (g : GI h) (hw : wp_X0_mostEarly post h p1) : Con ρ yX0_mostEarly (ws_ yX0_mostEarly cX0_mostEarly 2 (Option.some Jvm.ClassFile.FieldType.int)) rm_X0_mostEarly [.ref (mr ρ 1), .int p1] h (phI h post) psN := by
  refine con_of (own := "BeforeTheEnd") (isI := false) (l0 := [(0, .ref (mr ρ 1)), (1, .int p1)]) (by decide) rfl (fun z => by cases z) (Nat.le_of_ble_eq_true rfl) rfl (fun _ => ?_)
  show X ρ K_X0_mostEarly 0 [(0, .ref (mr ρ 1)), (1, .int p1)] [] h 0 0 (phI h post) psN
  refine x_aload_n 0 dX0_mostEarly_0 rfl ?_
  refine x_bipush 14 dX0_mostEarly_1 (by decide) ?_
  refine x_iload_n 1 dX0_mostEarly_3 rfl ?_
  refine x_iconst 0 dX0_mostEarly_4 (by decide) ?_
  refine x_iconst 0 dX0_mostEarly_5 (by decide) ?_
  refine x_callH (ci := 0) [.int 14, .int p1, .int 0, .int 0] 4 dX0_mostEarly_6 (k_X0_act G g hw) (GI.s g (t := (10, 0)) rfl (by decide)) rfl q383 q385 qs3 q104 q386 (by decide) rfl rfl ⟨(Nat.le_of_ble_eq_true rfl), (Nat.le_of_ble_eq_true rfl)⟩ (Nat.le_of_ble_eq_true rfl) ⟨(Nat.le_of_ble_eq_true rfl), (Nat.le_of_ble_eq_true rfl)⟩ (fun v9 h_1 hv9 => ?_) (fun _ _ _ _ _ z _ _ => False.elim z)
  obtain ⟨r_4, rfl, g_2, e_3, hw⟩ := hv9
  have hw := hw g_2 e_3
  show X ρ K_X0_mostEarly 9 [(0, .ref (mr ρ 1)), (1, .int p1)] [.int r_4] h_1 1868 13143 (phI h post) psN
  exact x_iret dX0_mostEarly_9 rfl (Nat.le_of_ble_eq_true rfl) (Nat.le_of_ble_eq_true rfl) ⟨_, rfl, g_2, e_3, hw⟩

/-! BeforeTheEndModel.mostEarly(I)I -/
def w_X2_mostEarly_45 (post : Int32 → Hp → Prop) : Nat → Int32 → Int32 → Int32 → Int64 → Int32 → Hp → Prop
  | 0 => fun _ _ _ _ _ _ => False
  | n + 1 => fun x1 x2 x3 x4 x6 h => ((5 < x6 → (post x3 (si h 36 2 x2))) ∧ (¬ 5 < x6 → (wp_X2_finds (fun h_2 => GI h_2 → Ext (si h 36 2 x6) h_2 → (wp_X2_sumOver (fun r_10 h_7 => GI h_7 → Ext h_2 h_7 → ((x4 < r_10 → (w_X2_mostEarly_45 post n x1 x2 x6 r_10 (x6 + 1) h_7)) ∧ (¬ x4 < r_10 → (w_X2_mostEarly_45 post n x1 x2 x3 x4 (x6 + 1) h_7)))) h_2 0 x1)) (si h 36 2 x6))))
def wp_X2_mostEarly (post : Int32 → Hp → Prop) (h : Hp) (p1 : Int32) : Prop := (wp_X2_isPlayer (fun r_4 h_1 => GI h_1 → Ext h h_1 → ((¬ r_4 = 0 → (wp_X2_isWhole (fun r_10 h_7 => GI h_7 → Ext h_1 h_7 → ((¬ r_10 = 0 → (∃ fu : Nat, w_X2_mostEarly_45 post fu p1 (gi h_7 36 2) 0 (-1) 0 h_7)) ∧ (r_10 = 0 → (wp_X2_no (fun r_16 h_13 => GI h_13 → Ext h_7 h_13 → (post r_16 h_13)) h_7 (-3))))) h_1)) ∧ (r_4 = 0 → (wp_X2_no (fun r_23 h_20 => GI h_20 → Ext h_1 h_20 → (post r_23 h_20)) h_1 (-1))))) h p1)
abbrev rm_X2_mostEarly : Room := ({ frames := 6, cells := 0, slots := 0, locals := 175 })
abbrev K_X2_mostEarly : Kx := ("BeforeTheEndModel", cX2_mostEarly, 9, (Option.some Jvm.ClassFile.FieldType.int), rm_X2_mostEarly, [], false)
set_option maxHeartbeats 4000000 in
theorem t_X2_mostEarly_45 {ρ : Rho} {h0 : Hp} {post : Int32 → Hp → Prop} (G : G0 ρ) :
    ∀ (n : Nat), ∀ (x1 : Int32) (x2 : Int32) (x3 : Int32) (x4 : Int64) (x6 : Int32) (h : Hp), GI h → Ext h0 h → w_X2_mostEarly_45 post n x1 x2 x3 x4 x6 h → X ρ K_X2_mostEarly 45 [(0, .ref (mr ρ 25)), (1, .int x1), (2, .int x2), (3, .int x3), (4, .long x4), (6, .int x6)] [] h 0 0 (phI h0 post) psN := by
  intro n
  induction n with
  | zero => intro x1 x2 x3 x4 x6 h g e hw; exact False.elim hw
  | succ n ih =>
    intro x1 x2 x3 x4 x6 h g e hw
    refine x_iload 5 dX2_mostEarly_45 rfl ?_
    refine x_iconst 5 dX2_mostEarly_47 (by decide) ?_
    obtain ⟨wt_15, wf_16⟩ := hw
    refine x_icmp_gt 95 dX2_mostEarly_48 (by decide) (fun c_1 => ?_) (fun c_1 => ?_)
    · have hw := wt_15 c_1
      refine x_aload_n 0 dX2_mostEarly_95 rfl ?_
      refine x_get (ci := 2) (v := .ref (mr ρ 36)) 10 dX2_mostEarly_96 (GI.s g (t := (12, 0)) rfl (by decide)) rfl in_X2 (by decide) q1233 (Or.inl rfl) (fv_rc rfl (GI.m g (n := 36) rfl (by decide)) (by decide)) ?_
      refine x_iconst 2 dX2_mostEarly_99 (by decide) ?_
      refine x_iload_n 2 dX2_mostEarly_100 rfl ?_
      refine x_iast (n := 4) (j := 2) dX2_mostEarly_101 (by decide) (GI.s g (t := (1, 4)) rfl (by decide)) (by unfold vp_in; decide) ?_
      refine x_iload_n 3 dX2_mostEarly_102 rfl ?_
      exact x_iret dX2_mostEarly_103 rfl (Nat.le_of_ble_eq_true rfl) (Nat.le_of_ble_eq_true rfl) ⟨_, rfl, (GI.i g), (Ext.i e), hw⟩
    · have hw := wf_16 c_1
      refine x_aload_n 0 dX2_mostEarly_51 rfl ?_
      refine x_get (ci := 2) (v := .ref (mr ρ 36)) 10 dX2_mostEarly_52 (GI.s g (t := (12, 0)) rfl (by decide)) rfl in_X2 (by decide) q1233 (Or.inl rfl) (fv_rc rfl (GI.m g (n := 36) rfl (by decide)) (by decide)) ?_
      refine x_iconst 2 dX2_mostEarly_55 (by decide) ?_
      refine x_iload 5 dX2_mostEarly_56 rfl ?_
      refine x_iast (n := 4) (j := 2) dX2_mostEarly_58 (by decide) (GI.s g (t := (1, 4)) rfl (by decide)) (by unfold vp_in; decide) ?_
      refine x_aload_n 0 dX2_mostEarly_59 rfl ?_
      refine x_callV (ci := 2) [] 0 dX2_mostEarly_60 (k_X2_finds G (GI.i g) hw) (GI.s (GI.i g) (t := (12, 0)) rfl (by decide)) rfl q1521 q1523 qs79 q106 q1524 (by decide) rfl rfl ⟨(Nat.le_of_ble_eq_true rfl), (Nat.le_of_ble_eq_true rfl)⟩ (Nat.le_of_ble_eq_true rfl) ⟨(Nat.le_of_ble_eq_true rfl), (Nat.le_of_ble_eq_true rfl)⟩ (fun v9 h_2 hv9 => ?_) (fun _ _ _ _ _ z _ _ => False.elim z)
      obtain ⟨rfl, g_3, e_4, hw⟩ := hv9
      have hw := hw g_3 e_4
      show X ρ K_X2_mostEarly 63 [(0, .ref (mr ρ 25)), (1, .int x1), (2, .int x2), (3, .int x3), (4, .long x4), (6, .int x6)] [] h_2 0 0 (phI h0 post) psN
      refine x_aload_n 0 dX2_mostEarly_63 rfl ?_
      refine x_iconst 0 dX2_mostEarly_64 (by decide) ?_
      refine x_iload_n 1 dX2_mostEarly_65 rfl ?_
      refine x_callV (ci := 2) [.int 0, .int x1] 2 dX2_mostEarly_66 (k_X2_sumOver G g_3 hw) (GI.s g_3 (t := (12, 0)) rfl (by decide)) rfl q1578 q1580 qs91 q106 q1581 (by decide) rfl rfl ⟨(Nat.le_of_ble_eq_true rfl), (Nat.le_of_ble_eq_true rfl)⟩ (Nat.le_of_ble_eq_true rfl) ⟨(Nat.le_of_ble_eq_true rfl), (Nat.le_of_ble_eq_true rfl)⟩ (fun v9 h_7 hv9 => ?_) (fun _ _ _ _ _ z _ _ => False.elim z)
      obtain ⟨r_10, rfl, g_8, e_9, hw⟩ := hv9
      have hw := hw g_8 e_9
      show X ρ K_X2_mostEarly 69 [(0, .ref (mr ρ 25)), (1, .int x1), (2, .int x2), (3, .int x3), (4, .long x4), (6, .int x6)] [.long r_10] h_7 0 0 (phI h0 post) psN
      refine x_lstore (lv' := [(7, .long r_10), (0, .ref (mr ρ 25)), (1, .int x1), (2, .int x2), (3, .int x3), (4, .long x4), (6, .int x6)]) dX2_mostEarly_69 (Nat.le_of_ble_eq_true rfl) rfl ?_
      refine x_lload 0 dX2_mostEarly_71 rfl ?_
      refine x_lload 5 dX2_mostEarly_73 rfl ?_
      obtain ⟨wt_13, wf_14⟩ := hw
      refine x_lif_gt 82 dX2_mostEarly_75 dX2_mostEarly_76 (by decide) (fun c_12 => ?_) (fun c_12 => ?_)
      · have hw := wt_13 c_12
        refine x_lload 0 dX2_mostEarly_82 rfl ?_
        refine x_lstore (lv' := [(4, .long r_10), (7, .long r_10), (0, .ref (mr ρ 25)), (1, .int x1), (2, .int x2), (3, .int x3), (6, .int x6)]) dX2_mostEarly_84 (Nat.le_of_ble_eq_true rfl) rfl ?_
        refine x_iload 6 dX2_mostEarly_86 rfl ?_
        refine x_istore_n (lv' := [(3, .int x6), (4, .long r_10), (7, .long r_10), (0, .ref (mr ρ 25)), (1, .int x1), (2, .int x2), (6, .int x6)]) dX2_mostEarly_88 (Nat.le_of_ble_eq_true rfl) rfl ?_
        refine x_iinc (v := (x6 + 1)) (lv' := [(6, .int (x6 + 1)), (3, .int x6), (4, .long r_10), (7, .long r_10), (0, .ref (mr ρ 25)), (1, .int x1), (2, .int x2)]) 6 dX2_mostEarly_89 rfl (by rfl) (Nat.le_of_ble_eq_true rfl) rfl ?_
        refine x_goto 45 dX2_mostEarly_92 (by decide) ?_
        refine X.sub [4, 5, 6, 1, 2, 0] rfl ?_
        exact ih x1 x2 x6 r_10 (x6 + 1) h_7 g_8 (Ext.tr (Ext.tr (Ext.i e) e_4) e_9) hw
      · have hw := wf_14 c_12
        refine x_goto 89 dX2_mostEarly_79 (by decide) ?_
        refine x_iinc (v := (x6 + 1)) (lv' := [(6, .int (x6 + 1)), (7, .long r_10), (0, .ref (mr ρ 25)), (1, .int x1), (2, .int x2), (3, .int x3), (4, .long x4)]) 6 dX2_mostEarly_89 rfl (by rfl) (Nat.le_of_ble_eq_true rfl) rfl ?_
        refine x_goto 45 dX2_mostEarly_92 (by decide) ?_
        refine X.sub [2, 3, 4, 5, 6, 0] rfl ?_
        exact ih x1 x2 x3 x4 (x6 + 1) h_7 g_8 (Ext.tr (Ext.tr (Ext.i e) e_4) e_9) hw
set_option maxHeartbeats 4000000 in
theorem k_X2_mostEarly {ρ : Rho} {h : Hp} {post : Int32 → Hp → Prop} {p1 : Int32} (G : G0 ρ) (g : GI h) (hw : wp_X2_mostEarly post h p1) : Con ρ yX2_mostEarly (ws_ yX2_mostEarly cX2_mostEarly 9 (Option.some Jvm.ClassFile.FieldType.int)) rm_X2_mostEarly [.ref (mr ρ 25), .int p1] h (phI h post) psN := by
  refine con_of (own := "BeforeTheEndModel") (isI := false) (l0 := [(0, .ref (mr ρ 25)), (1, .int p1)]) (by decide) rfl (fun z => by cases z) (Nat.le_of_ble_eq_true rfl) rfl (fun _ => ?_)
  show X ρ K_X2_mostEarly 0 [(0, .ref (mr ρ 25)), (1, .int p1)] [] h 0 0 (phI h post) psN
  refine x_aload_n 0 dX2_mostEarly_0 rfl ?_
  refine x_iload_n 1 dX2_mostEarly_1 rfl ?_
  refine x_callV (ci := 2) [.int p1] 1 dX2_mostEarly_2 (k_X2_isPlayer G g hw) (GI.s g (t := (12, 0)) rfl (by decide)) rfl q1454 q1456 qs71 q106 q1457 (by decide) rfl rfl ⟨(Nat.le_of_ble_eq_true rfl), (Nat.le_of_ble_eq_true rfl)⟩ (Nat.le_of_ble_eq_true rfl) ⟨(Nat.le_of_ble_eq_true rfl), (Nat.le_of_ble_eq_true rfl)⟩ (fun v9 h_1 hv9 => ?_) (fun _ _ _ _ _ z _ _ => False.elim z)
  obtain ⟨r_4, rfl, g_2, e_3, b_5, hw⟩ := hv9
  have hw := hw g_2 e_3
  show X ρ K_X2_mostEarly 5 [(0, .ref (mr ρ 25)), (1, .int p1)] [.int r_4] h_1 0 0 (phI h post) psN
  obtain ⟨wt_25, wf_26⟩ := hw
  refine x_if_ne 14 dX2_mostEarly_5 (by decide) (fun c_6 => ?_) (fun c_6 => ?_)
  · have hw := wt_25 c_6
    refine x_aload_n 0 dX2_mostEarly_14 rfl ?_
    refine x_callV (ci := 2) [] 0 dX2_mostEarly_15 (k_X2_isWhole G g_2 hw) (GI.s g_2 (t := (12, 0)) rfl (by decide)) rfl q1462 q1464 qs72 q106 q1465 (by decide) rfl rfl ⟨(Nat.le_of_ble_eq_true rfl), (Nat.le_of_ble_eq_true rfl)⟩ (Nat.le_of_ble_eq_true rfl) ⟨(Nat.le_of_ble_eq_true rfl), (Nat.le_of_ble_eq_true rfl)⟩ (fun v9 h_7 hv9 => ?_) (fun _ _ _ _ _ z _ _ => False.elim z)
    obtain ⟨r_10, rfl, g_8, e_9, b_11, hw⟩ := hv9
    have hw := hw g_8 e_9
    show X ρ K_X2_mostEarly 18 [(0, .ref (mr ρ 25)), (1, .int p1)] [.int r_10] h_7 0 0 (phI h post) psN
    obtain ⟨wt_18, wf_19⟩ := hw
    refine x_if_ne 28 dX2_mostEarly_18 (by decide) (fun c_12 => ?_) (fun c_12 => ?_)
    · have hw := wt_18 c_12
      refine x_aload_n 0 dX2_mostEarly_28 rfl ?_
      refine x_get (ci := 2) (v := .ref (mr ρ 36)) 10 dX2_mostEarly_29 (GI.s g_8 (t := (12, 0)) rfl (by decide)) rfl in_X2 (by decide) q1233 (Or.inl rfl) (fv_rc rfl (GI.m g_8 (n := 36) rfl (by decide)) (by decide)) ?_
      refine x_iconst 2 dX2_mostEarly_32 (by decide) ?_
      refine x_iald (n := 4) (j := 2) dX2_mostEarly_33 (by decide) (GI.s g_8 (t := (1, 4)) rfl (by decide)) (by unfold vp_in; decide) ?_
      refine x_istore_n (lv' := [(2, .int (gi h_7 36 2)), (0, .ref (mr ρ 25)), (1, .int p1)]) dX2_mostEarly_34 (Nat.le_of_ble_eq_true rfl) rfl ?_
      refine x_iconst 0 dX2_mostEarly_35 (by decide) ?_
      refine x_istore_n (lv' := [(3, .int 0), (2, .int (gi h_7 36 2)), (0, .ref (mr ρ 25)), (1, .int p1)]) dX2_mostEarly_36 (Nat.le_of_ble_eq_true rfl) rfl ?_
      refine x_ldc2 dX2_mostEarly_37 q1630 ?_
      refine x_lstore (lv' := [(4, .long (-1)), (3, .int 0), (2, .int (gi h_7 36 2)), (0, .ref (mr ρ 25)), (1, .int p1)]) dX2_mostEarly_40 (Nat.le_of_ble_eq_true rfl) rfl ?_
      refine x_iconst 0 dX2_mostEarly_42 (by decide) ?_
      refine x_istore (lv' := [(6, .int 0), (4, .long (-1)), (3, .int 0), (2, .int (gi h_7 36 2)), (0, .ref (mr ρ 25)), (1, .int p1)]) dX2_mostEarly_43 (Nat.le_of_ble_eq_true rfl) rfl ?_
      refine X.sub [4, 5, 3, 2, 1, 0] rfl ?_
      obtain ⟨fu, hw⟩ := hw
      exact t_X2_mostEarly_45 G  fu p1 (gi h_7 36 2) 0 (-1) 0 h_7 g_8 (Ext.tr e_3 e_9) hw
    · have hw := wf_19 c_12
      refine x_aload_n 0 dX2_mostEarly_21 rfl ?_
      refine x_bipush (-3) dX2_mostEarly_22 (by decide) ?_
      refine x_callV (ci := 2) [.int (-3)] 1 dX2_mostEarly_24 (k_X2_no G g_8 hw) (GI.s g_8 (t := (12, 0)) rfl (by decide)) rfl q1387 q1389 qs59 q106 q1390 (by decide) rfl rfl ⟨(Nat.le_of_ble_eq_true rfl), (Nat.le_of_ble_eq_true rfl)⟩ (Nat.le_of_ble_eq_true rfl) ⟨(Nat.le_of_ble_eq_true rfl), (Nat.le_of_ble_eq_true rfl)⟩ (fun v9 h_13 hv9 => ?_) (fun _ _ _ _ _ z _ _ => False.elim z)
      obtain ⟨r_16, rfl, g_14, e_15, hw⟩ := hv9
      have hw := hw g_14 e_15
      show X ρ K_X2_mostEarly 27 [(0, .ref (mr ρ 25)), (1, .int p1)] [.int r_16] h_13 0 0 (phI h post) psN
      exact x_iret dX2_mostEarly_27 rfl (Nat.le_of_ble_eq_true rfl) (Nat.le_of_ble_eq_true rfl) ⟨_, rfl, g_14, (Ext.tr (Ext.tr e_3 e_9) e_15), hw⟩
  · have hw := wf_26 c_6
    refine x_aload_n 0 dX2_mostEarly_8 rfl ?_
    refine x_iconst (-1) dX2_mostEarly_9 (by decide) ?_
    refine x_callV (ci := 2) [.int (-1)] 1 dX2_mostEarly_10 (k_X2_no G g_2 hw) (GI.s g_2 (t := (12, 0)) rfl (by decide)) rfl q1387 q1389 qs59 q106 q1390 (by decide) rfl rfl ⟨(Nat.le_of_ble_eq_true rfl), (Nat.le_of_ble_eq_true rfl)⟩ (Nat.le_of_ble_eq_true rfl) ⟨(Nat.le_of_ble_eq_true rfl), (Nat.le_of_ble_eq_true rfl)⟩ (fun v9 h_20 hv9 => ?_) (fun _ _ _ _ _ z _ _ => False.elim z)
    obtain ⟨r_23, rfl, g_21, e_22, hw⟩ := hv9
    have hw := hw g_21 e_22
    show X ρ K_X2_mostEarly 13 [(0, .ref (mr ρ 25)), (1, .int p1)] [.int r_23] h_20 0 0 (phI h post) psN
    exact x_iret dX2_mostEarly_13 rfl (Nat.le_of_ble_eq_true rfl) (Nat.le_of_ble_eq_true rfl) ⟨_, rfl, g_21, (Ext.tr e_3 e_22), hw⟩

/-! BeforeTheEnd.silent(II)I -/
def wp_X0_silent (post : Int32 → Hp → Prop) (h : Hp) (p1 : Int32) (p2 : Int32) : Prop := (wp_X0_act (fun r_4 h_1 => GI h_1 → Ext h h_1 → (post r_4 h_1)) h 15 p1 p2 0)
abbrev rm_X0_silent : Room := ({ frames := 19, cells := 1868, slots := 13143, locals := 599 })
abbrev K_X0_silent : Kx := ("BeforeTheEnd", cX0_silent, 3, (Option.some Jvm.ClassFile.FieldType.int), rm_X0_silent, [], false)
set_option maxHeartbeats 4000000 in
theorem k_X0_silent {ρ : Rho} {h : Hp} {post : Int32 → Hp → Prop} {p1 : Int32} {p2 : Int32} (G : G0 ρ) (g : GI h) (hw : wp_X0_silent post h p1 p2) : Con ρ yX0_silent (ws_ yX0_silent cX0_silent 3 (Option.some Jvm.ClassFile.FieldType.int)) rm_X0_silent [.ref (mr ρ 1), .int p1, .int p2] h (phI h post) psN := by
  refine con_of (own := "BeforeTheEnd") (isI := false) (l0 := [(0, .ref (mr ρ 1)), (1, .int p1), (2, .int p2)]) (by decide) rfl (fun z => by cases z) (Nat.le_of_ble_eq_true rfl) rfl (fun _ => ?_)
  show X ρ K_X0_silent 0 [(0, .ref (mr ρ 1)), (1, .int p1), (2, .int p2)] [] h 0 0 (phI h post) psN
  refine x_aload_n 0 dX0_silent_0 rfl ?_
  refine x_bipush 15 dX0_silent_1 (by decide) ?_
  refine x_iload_n 1 dX0_silent_3 rfl ?_
  refine x_iload_n 2 dX0_silent_4 rfl ?_
  refine x_iconst 0 dX0_silent_5 (by decide) ?_
  refine x_callH (ci := 0) [.int 15, .int p1, .int p2, .int 0] 4 dX0_silent_6 (k_X0_act G g hw) (GI.s g (t := (10, 0)) rfl (by decide)) rfl q383 q385 qs3 q104 q386 (by decide) rfl rfl ⟨(Nat.le_of_ble_eq_true rfl), (Nat.le_of_ble_eq_true rfl)⟩ (Nat.le_of_ble_eq_true rfl) ⟨(Nat.le_of_ble_eq_true rfl), (Nat.le_of_ble_eq_true rfl)⟩ (fun v9 h_1 hv9 => ?_) (fun _ _ _ _ _ z _ _ => False.elim z)
  obtain ⟨r_4, rfl, g_2, e_3, hw⟩ := hv9
  have hw := hw g_2 e_3
  show X ρ K_X0_silent 9 [(0, .ref (mr ρ 1)), (1, .int p1), (2, .int p2)] [.int r_4] h_1 1868 13143 (phI h post) psN
  exact x_iret dX0_silent_9 rfl (Nat.le_of_ble_eq_true rfl) (Nat.le_of_ble_eq_true rfl) ⟨_, rfl, g_2, e_3, hw⟩

/-! BeforeTheEndModel.silent(II)I -/
def w_X2_silent_76 (post : Int32 → Hp → Prop) (K66 : Int32 → Int32 → Int32 → Int32 → Hp → Prop) : Nat → Int32 → Int32 → Int32 → Int32 → Int32 → Hp → Prop
  | 0 => fun _ _ _ _ _ _ => False
  | n + 1 => fun x1 x2 x3 x4 x5 h => ((x5 ≤ 0 → (K66 x1 x2 x3 (x4 + 1) h)) ∧ (¬ x5 ≤ 0 → (vp_in ((10 * x5) + x4) 240 ∧ (((gl h 46 (Int32.toNatClampNeg ((10 * x5) + x4))) ≤ 0 → (vp_in x5 24 ∧ (∀ x5_5 : Int32, x5_5 = (gi h 27 (Int32.toNatClampNeg x5)) → (w_X2_silent_76 post K66 n x1 x2 x3 x4 x5_5 h)))) ∧ (¬ (gl h 46 (Int32.toNatClampNeg ((10 * x5) + x4))) ≤ 0 → (wp_X2_sureOf (fun r_9 h_6 => GI h_6 → Ext h h_6 → (wp_X2_isSure (fun r_14 h_11 => GI h_11 → Ext h_6 h_11 → ((r_14 = 0 → (vp_in x5 24 ∧ (∀ x5_18 : Int32, x5_18 = (gi h_11 27 (Int32.toNatClampNeg x5)) → (w_X2_silent_76 post K66 n x1 x2 x3 x4 x5_18 h_11)))) ∧ (¬ r_14 = 0 → (vp_in x5 24 ∧ (∀ x5_20 : Int32, x5_20 = (gi h_11 27 (Int32.toNatClampNeg x5)) → (w_X2_silent_76 post K66 n x1 x2 (x3 ||| (1 <<< (x4 &&& 31))) x4 x5_20 h_11)))))) h_6 x5 x4 r_9)) h x1))))))
def w_X2_silent_66 (post : Int32 → Hp → Prop) : Nat → Int32 → Int32 → Int32 → Int32 → Hp → Prop
  | 0 => fun _ _ _ _ _ => False
  | n + 1 => fun x1 x2 x3 x4 h => ((10 ≤ x4 → (post x3 h)) ∧ (¬ 10 ≤ x4 → (∃ fu : Nat, w_X2_silent_76 post (w_X2_silent_66 post n) fu x1 x2 x3 x4 x2 h)))
def wp_X2_silent (post : Int32 → Hp → Prop) (h : Hp) (p1 : Int32) (p2 : Int32) : Prop := (wp_X2_isPlayer (fun r_4 h_1 => GI h_1 → Ext h h_1 → ((r_4 = 0 → (wp_X2_no (fun r_10 h_7 => GI h_7 → Ext h_1 h_7 → (post r_10 h_7)) h_1 (-1))) ∧ (¬ r_4 = 0 → (wp_X2_isWord (fun r_15 h_12 => GI h_12 → Ext h_1 h_12 → ((¬ r_15 = 0 → (vp_in p1 4 ∧ (wp_X2_isIn (fun r_22 h_19 => GI h_19 → Ext h_12 h_19 → ((¬ r_22 = 0 → (wp_X2_isWhole (fun r_28 h_25 => GI h_25 → Ext h_19 h_25 → ((¬ r_28 = 0 → (wp_X2_findShares (fun h_31 => GI h_31 → Ext h_25 h_31 → (∃ fu : Nat, w_X2_silent_66 post fu p1 p2 0 1 h_31)) h_25)) ∧ (r_28 = 0 → (wp_X2_no (fun r_39 h_36 => GI h_36 → Ext h_25 h_36 → (post r_39 h_36)) h_25 (-3))))) h_19)) ∧ (r_22 = 0 → (wp_X2_no (fun r_46 h_43 => GI h_43 → Ext h_19 h_43 → (post r_46 h_43)) h_19 (-2))))) h_12 (gi h_12 31 (Int32.toNatClampNeg p1)) 1 2))) ∧ (r_15 = 0 → (wp_X2_no (fun r_53 h_50 => GI h_50 → Ext h_12 h_50 → (post r_53 h_50)) h_12 (-1))))) h_1 p2)))) h p1)
abbrev rm_X2_silent : Room := ({ frames := 4, cells := 0, slots := 0, locals := 134 })
abbrev K_X2_silent : Kx := ("BeforeTheEndModel", cX2_silent, 6, (Option.some Jvm.ClassFile.FieldType.int), rm_X2_silent, [], false)
set_option maxHeartbeats 4000000 in
theorem t_X2_silent_76 {ρ : Rho} {h0 : Hp} {post : Int32 → Hp → Prop} {K66 : Int32 → Int32 → Int32 → Int32 → Hp → Prop} (G : G0 ρ) (hK66 : ∀ (x1 : Int32) (x2 : Int32) (x3 : Int32) (x4 : Int32) (h : Hp), GI h → Ext h0 h → K66 x1 x2 x3 x4 h → X ρ K_X2_silent 66 [(0, .ref (mr ρ 25)), (1, .int x1), (2, .int x2), (3, .int x3), (4, .int x4)] [] h 0 0 (phI h0 post) psN) :
    ∀ (n : Nat), ∀ (x1 : Int32) (x2 : Int32) (x3 : Int32) (x4 : Int32) (x5 : Int32) (h : Hp), GI h → Ext h0 h → w_X2_silent_76 post K66 n x1 x2 x3 x4 x5 h → X ρ K_X2_silent 76 [(0, .ref (mr ρ 25)), (1, .int x1), (2, .int x2), (3, .int x3), (4, .int x4), (5, .int x5)] [] h 0 0 (phI h0 post) psN := by
  intro n
  induction n with
  | zero => intro x1 x2 x3 x4 x5 h g e hw; exact False.elim hw
  | succ n ih =>
    intro x1 x2 x3 x4 x5 h g e hw
    refine x_iload 5 dX2_silent_76 rfl ?_
    obtain ⟨wt_25, wf_26⟩ := hw
    refine x_if_le 134 dX2_silent_78 (by decide) (fun c_1 => ?_) (fun c_1 => ?_)
    · have hw := wt_25 c_1
      refine x_iinc (v := (x4 + 1)) (lv' := [(4, .int (x4 + 1)), (0, .ref (mr ρ 25)), (1, .int x1), (2, .int x2), (3, .int x3), (5, .int x5)]) 4 dX2_silent_134 rfl (by rfl) (Nat.le_of_ble_eq_true rfl) rfl ?_
      refine x_goto 66 dX2_silent_137 (by decide) ?_
      refine X.sub [1, 2, 3, 4, 0] rfl ?_
      exact hK66 x1 x2 x3 (x4 + 1) h g e hw
    · have hw := wf_26 c_1
      refine x_aload_n 0 dX2_silent_81 rfl ?_
      refine x_get (ci := 2) (v := .ref (mr ρ 46)) 25 dX2_silent_82 (GI.s g (t := (12, 0)) rfl (by decide)) rfl in_X2 (by decide) q1248 (Or.inl rfl) (fv_rc rfl (GI.m g (n := 46) rfl (by decide)) (by decide)) ?_
      refine x_bipush 10 dX2_silent_85 (by decide) ?_
      refine x_iload 5 dX2_silent_87 rfl ?_
      refine x_imul dX2_silent_89 ?_
      refine x_iload 4 dX2_silent_90 rfl ?_
      refine x_iadd dX2_silent_92 ?_
      obtain ⟨b_2, hw⟩ := hw
      refine x_lald (n := 240) (j := (Int32.toNatClampNeg ((10 * x5) + x4))) dX2_silent_93 rfl (GI.s g (t := (2, 240)) rfl (by decide)) b_2 ?_
      refine x_lconst 0 dX2_silent_94 (by decide) ?_
      obtain ⟨wt_23, wf_24⟩ := hw
      refine x_lif_le 122 dX2_silent_95 dX2_silent_96 (by decide) (fun c_3 => ?_) (fun c_3 => ?_)
      · have hw := wt_23 c_3
        refine x_aload_n 0 dX2_silent_122 rfl ?_
        refine x_get (ci := 2) (v := .ref (mr ρ 27)) 1 dX2_silent_123 (GI.s g (t := (12, 0)) rfl (by decide)) rfl in_X2 (by decide) q1224 (Or.inl rfl) (fv_rc rfl (GI.m g (n := 27) rfl (by decide)) (by decide)) ?_
        refine x_iload 5 dX2_silent_126 rfl ?_
        obtain ⟨b_4, hw⟩ := hw
        refine x_iald (n := 24) (j := (Int32.toNatClampNeg x5)) dX2_silent_128 rfl (GI.s g (t := (1, 24)) rfl (by decide)) b_4 ?_
        refine x_nmi (fun x5_5 ex5_5 => ?_)
        have hw := hw x5_5 ex5_5
        refine x_istore (lv' := [(5, .int x5_5), (0, .ref (mr ρ 25)), (1, .int x1), (2, .int x2), (3, .int x3), (4, .int x4)]) dX2_silent_129 (Nat.le_of_ble_eq_true rfl) rfl ?_
        refine x_goto 76 dX2_silent_131 (by decide) ?_
        refine X.sub [1, 2, 3, 4, 5, 0] rfl ?_
        exact ih x1 x2 x3 x4 x5_5 h g e hw
      · have hw := wf_24 c_3
        refine x_aload_n 0 dX2_silent_99 rfl ?_
        refine x_iload 5 dX2_silent_100 rfl ?_
        refine x_iload 4 dX2_silent_102 rfl ?_
        refine x_aload_n 0 dX2_silent_104 rfl ?_
        refine x_iload_n 1 dX2_silent_105 rfl ?_
        refine x_callV (ci := 2) [.int x1] 1 dX2_silent_106 (k_X2_sureOf G g hw) (GI.s g (t := (12, 0)) rfl (by decide)) rfl q1537 q1539 qs83 q106 q1540 (by decide) rfl rfl ⟨(Nat.le_of_ble_eq_true rfl), (Nat.le_of_ble_eq_true rfl)⟩ (Nat.le_of_ble_eq_true rfl) ⟨(Nat.le_of_ble_eq_true rfl), (Nat.le_of_ble_eq_true rfl)⟩ (fun v9 h_6 hv9 => ?_) (fun _ _ _ _ _ z _ _ => False.elim z)
        obtain ⟨r_9, rfl, g_7, e_8, hw⟩ := hv9
        have hw := hw g_7 e_8
        show X ρ K_X2_silent 109 [(0, .ref (mr ρ 25)), (1, .int x1), (2, .int x2), (3, .int x3), (4, .int x4), (5, .int x5)] [.int r_9, .int x4, .int x5, .ref (mr ρ 25)] h_6 0 0 (phI h0 post) psN
        refine x_callV (ci := 2) [.int x5, .int x4, .int r_9] 3 dX2_silent_109 (k_X2_isSure G g_7 hw) (GI.s g_7 (t := (12, 0)) rfl (by decide)) rfl q1549 q1551 qs86 q106 q1552 (by decide) rfl rfl ⟨(Nat.le_of_ble_eq_true rfl), (Nat.le_of_ble_eq_true rfl)⟩ (Nat.le_of_ble_eq_true rfl) ⟨(Nat.le_of_ble_eq_true rfl), (Nat.le_of_ble_eq_true rfl)⟩ (fun v9 h_11 hv9 => ?_) (fun _ _ _ _ _ z _ _ => False.elim z)
        obtain ⟨r_14, rfl, g_12, e_13, b_15, hw⟩ := hv9
        have hw := hw g_12 e_13
        show X ρ K_X2_silent 112 [(0, .ref (mr ρ 25)), (1, .int x1), (2, .int x2), (3, .int x3), (4, .int x4), (5, .int x5)] [.int r_14] h_11 0 0 (phI h0 post) psN
        obtain ⟨wt_21, wf_22⟩ := hw
        refine x_if_eq 122 dX2_silent_112 (by decide) (fun c_16 => ?_) (fun c_16 => ?_)
        · have hw := wt_21 c_16
          refine x_aload_n 0 dX2_silent_122 rfl ?_
          refine x_get (ci := 2) (v := .ref (mr ρ 27)) 1 dX2_silent_123 (GI.s g_12 (t := (12, 0)) rfl (by decide)) rfl in_X2 (by decide) q1224 (Or.inl rfl) (fv_rc rfl (GI.m g_12 (n := 27) rfl (by decide)) (by decide)) ?_
          refine x_iload 5 dX2_silent_126 rfl ?_
          obtain ⟨b_17, hw⟩ := hw
          refine x_iald (n := 24) (j := (Int32.toNatClampNeg x5)) dX2_silent_128 rfl (GI.s g_12 (t := (1, 24)) rfl (by decide)) b_17 ?_
          refine x_nmi (fun x5_18 ex5_18 => ?_)
          have hw := hw x5_18 ex5_18
          refine x_istore (lv' := [(5, .int x5_18), (0, .ref (mr ρ 25)), (1, .int x1), (2, .int x2), (3, .int x3), (4, .int x4)]) dX2_silent_129 (Nat.le_of_ble_eq_true rfl) rfl ?_
          refine x_goto 76 dX2_silent_131 (by decide) ?_
          refine X.sub [1, 2, 3, 4, 5, 0] rfl ?_
          exact ih x1 x2 x3 x4 x5_18 h_11 g_12 (Ext.tr (Ext.tr e e_8) e_13) hw
        · have hw := wf_22 c_16
          refine x_iload_n 3 dX2_silent_115 rfl ?_
          refine x_iconst 1 dX2_silent_116 (by decide) ?_
          refine x_iload 4 dX2_silent_117 rfl ?_
          refine x_ishl dX2_silent_119 ?_
          refine x_ior dX2_silent_120 ?_
          refine x_istore_n (lv' := [(3, .int (x3 ||| (1 <<< (x4 &&& 31)))), (0, .ref (mr ρ 25)), (1, .int x1), (2, .int x2), (4, .int x4), (5, .int x5)]) dX2_silent_121 (Nat.le_of_ble_eq_true rfl) rfl ?_
          refine x_aload_n 1 dX2_silent_122 rfl ?_
          refine x_get (ci := 2) (v := .ref (mr ρ 27)) 1 dX2_silent_123 (GI.s g_12 (t := (12, 0)) rfl (by decide)) rfl in_X2 (by decide) q1224 (Or.inl rfl) (fv_rc rfl (GI.m g_12 (n := 27) rfl (by decide)) (by decide)) ?_
          refine x_iload 5 dX2_silent_126 rfl ?_
          obtain ⟨b_19, hw⟩ := hw
          refine x_iald (n := 24) (j := (Int32.toNatClampNeg x5)) dX2_silent_128 rfl (GI.s g_12 (t := (1, 24)) rfl (by decide)) b_19 ?_
          refine x_nmi (fun x5_20 ex5_20 => ?_)
          have hw := hw x5_20 ex5_20
          refine x_istore (lv' := [(5, .int x5_20), (3, .int (x3 ||| (1 <<< (x4 &&& 31)))), (0, .ref (mr ρ 25)), (1, .int x1), (2, .int x2), (4, .int x4)]) dX2_silent_129 (Nat.le_of_ble_eq_true rfl) rfl ?_
          refine x_goto 76 dX2_silent_131 (by decide) ?_
          refine X.sub [2, 3, 4, 1, 5, 0] rfl ?_
          exact ih x1 x2 (x3 ||| (1 <<< (x4 &&& 31))) x4 x5_20 h_11 g_12 (Ext.tr (Ext.tr e e_8) e_13) hw
set_option maxHeartbeats 4000000 in
theorem t_X2_silent_66 {ρ : Rho} {h0 : Hp} {post : Int32 → Hp → Prop} (G : G0 ρ) :
    ∀ (n : Nat), ∀ (x1 : Int32) (x2 : Int32) (x3 : Int32) (x4 : Int32) (h : Hp), GI h → Ext h0 h → w_X2_silent_66 post n x1 x2 x3 x4 h → X ρ K_X2_silent 66 [(0, .ref (mr ρ 25)), (1, .int x1), (2, .int x2), (3, .int x3), (4, .int x4)] [] h 0 0 (phI h0 post) psN := by
  intro n
  induction n with
  | zero => intro x1 x2 x3 x4 h g e hw; exact False.elim hw
  | succ n ih =>
    intro x1 x2 x3 x4 h g e hw
    refine x_iload 4 dX2_silent_66 rfl ?_
    refine x_bipush 10 dX2_silent_68 (by decide) ?_
    obtain ⟨wt_2, wf_3⟩ := hw
    refine x_icmp_ge 140 dX2_silent_70 (by decide) (fun c_1 => ?_) (fun c_1 => ?_)
    · have hw := wt_2 c_1
      refine x_iload_n 3 dX2_silent_140 rfl ?_
      exact x_iret dX2_silent_141 rfl (Nat.le_of_ble_eq_true rfl) (Nat.le_of_ble_eq_true rfl) ⟨_, rfl, g, e, hw⟩
    · have hw := wf_3 c_1
      refine x_iload_n 2 dX2_silent_73 rfl ?_
      refine x_istore (lv' := [(5, .int x2), (0, .ref (mr ρ 25)), (1, .int x1), (2, .int x2), (3, .int x3), (4, .int x4)]) dX2_silent_74 (Nat.le_of_ble_eq_true rfl) rfl ?_
      refine X.sub [1, 2, 3, 4, 5, 0] rfl ?_
      obtain ⟨fu, hw⟩ := hw
      exact t_X2_silent_76 G ih fu x1 x2 x3 x4 x2 h g e hw
set_option maxHeartbeats 4000000 in
theorem k_X2_silent {ρ : Rho} {h : Hp} {post : Int32 → Hp → Prop} {p1 : Int32} {p2 : Int32} (G : G0 ρ) (g : GI h) (hw : wp_X2_silent post h p1 p2) : Con ρ yX2_silent (ws_ yX2_silent cX2_silent 6 (Option.some Jvm.ClassFile.FieldType.int)) rm_X2_silent [.ref (mr ρ 25), .int p1, .int p2] h (phI h post) psN := by
  refine con_of (own := "BeforeTheEndModel") (isI := false) (l0 := [(0, .ref (mr ρ 25)), (1, .int p1), (2, .int p2)]) (by decide) rfl (fun z => by cases z) (Nat.le_of_ble_eq_true rfl) rfl (fun _ => ?_)
  show X ρ K_X2_silent 0 [(0, .ref (mr ρ 25)), (1, .int p1), (2, .int p2)] [] h 0 0 (phI h post) psN
  refine x_aload_n 0 dX2_silent_0 rfl ?_
  refine x_iload_n 1 dX2_silent_1 rfl ?_
  refine x_callV (ci := 2) [.int p1] 1 dX2_silent_2 (k_X2_isPlayer G g hw) (GI.s g (t := (12, 0)) rfl (by decide)) rfl q1454 q1456 qs71 q106 q1457 (by decide) rfl rfl ⟨(Nat.le_of_ble_eq_true rfl), (Nat.le_of_ble_eq_true rfl)⟩ (Nat.le_of_ble_eq_true rfl) ⟨(Nat.le_of_ble_eq_true rfl), (Nat.le_of_ble_eq_true rfl)⟩ (fun v9 h_1 hv9 => ?_) (fun _ _ _ _ _ z _ _ => False.elim z)
  obtain ⟨r_4, rfl, g_2, e_3, b_5, hw⟩ := hv9
  have hw := hw g_2 e_3
  show X ρ K_X2_silent 5 [(0, .ref (mr ρ 25)), (1, .int p1), (2, .int p2)] [.int r_4] h_1 0 0 (phI h post) psN
  obtain ⟨wt_57, wf_58⟩ := hw
  refine x_if_eq 16 dX2_silent_5 (by decide) (fun c_6 => ?_) (fun c_6 => ?_)
  · have hw := wt_57 c_6
    refine x_aload_n 0 dX2_silent_16 rfl ?_
    refine x_iconst (-1) dX2_silent_17 (by decide) ?_
    refine x_callV (ci := 2) [.int (-1)] 1 dX2_silent_18 (k_X2_no G g_2 hw) (GI.s g_2 (t := (12, 0)) rfl (by decide)) rfl q1387 q1389 qs59 q106 q1390 (by decide) rfl rfl ⟨(Nat.le_of_ble_eq_true rfl), (Nat.le_of_ble_eq_true rfl)⟩ (Nat.le_of_ble_eq_true rfl) ⟨(Nat.le_of_ble_eq_true rfl), (Nat.le_of_ble_eq_true rfl)⟩ (fun v9 h_7 hv9 => ?_) (fun _ _ _ _ _ z _ _ => False.elim z)
    obtain ⟨r_10, rfl, g_8, e_9, hw⟩ := hv9
    have hw := hw g_8 e_9
    show X ρ K_X2_silent 21 [(0, .ref (mr ρ 25)), (1, .int p1), (2, .int p2)] [.int r_10] h_7 0 0 (phI h post) psN
    exact x_iret dX2_silent_21 rfl (Nat.le_of_ble_eq_true rfl) (Nat.le_of_ble_eq_true rfl) ⟨_, rfl, g_8, (Ext.tr e_3 e_9), hw⟩
  · have hw := wf_58 c_6
    refine x_aload_n 0 dX2_silent_8 rfl ?_
    refine x_iload_n 2 dX2_silent_9 rfl ?_
    refine x_callV (ci := 2) [.int p2] 1 dX2_silent_10 (k_X2_isWord G g_2 hw) (GI.s g_2 (t := (12, 0)) rfl (by decide)) rfl q1434 q1436 qs68 q106 q1437 (by decide) rfl rfl ⟨(Nat.le_of_ble_eq_true rfl), (Nat.le_of_ble_eq_true rfl)⟩ (Nat.le_of_ble_eq_true rfl) ⟨(Nat.le_of_ble_eq_true rfl), (Nat.le_of_ble_eq_true rfl)⟩ (fun v9 h_12 hv9 => ?_) (fun _ _ _ _ _ z _ _ => False.elim z)
    obtain ⟨r_15, rfl, g_13, e_14, b_16, hw⟩ := hv9
    have hw := hw g_13 e_14
    show X ρ K_X2_silent 13 [(0, .ref (mr ρ 25)), (1, .int p1), (2, .int p2)] [.int r_15] h_12 0 0 (phI h post) psN
    obtain ⟨wt_55, wf_56⟩ := hw
    refine x_if_ne 22 dX2_silent_13 (by decide) (fun c_17 => ?_) (fun c_17 => ?_)
    · have hw := wt_55 c_17
      refine x_aload_n 0 dX2_silent_22 rfl ?_
      refine x_get (ci := 2) (v := .ref (mr ρ 31)) 5 dX2_silent_23 (GI.s g_13 (t := (12, 0)) rfl (by decide)) rfl in_X2 (by decide) q1228 (Or.inl rfl) (fv_rc rfl (GI.m g_13 (n := 31) rfl (by decide)) (by decide)) ?_
      refine x_iload_n 1 dX2_silent_26 rfl ?_
      obtain ⟨b_18, hw⟩ := hw
      refine x_iald (n := 4) (j := (Int32.toNatClampNeg p1)) dX2_silent_27 rfl (GI.s g_13 (t := (1, 4)) rfl (by decide)) b_18 ?_
      refine x_iconst 1 dX2_silent_28 (by decide) ?_
      refine x_iconst 2 dX2_silent_29 (by decide) ?_
      refine x_callS [.int (gi h_12 31 (Int32.toNatClampNeg p1)), .int 1, .int 2] 3 dX2_silent_30 (k_X2_isIn G g_13 hw) q1412 q1413 q106 q1414 (by decide) rfl rfl ⟨(Nat.le_of_ble_eq_true rfl), (Nat.le_of_ble_eq_true rfl)⟩ (Nat.le_of_ble_eq_true rfl) ⟨(Nat.le_of_ble_eq_true rfl), (Nat.le_of_ble_eq_true rfl)⟩ (fun v9 h_19 hv9 => ?_) (fun _ _ _ _ _ z _ _ => False.elim z)
      obtain ⟨r_22, rfl, g_20, e_21, b_23, hw⟩ := hv9
      have hw := hw g_20 e_21
      show X ρ K_X2_silent 33 [(0, .ref (mr ρ 25)), (1, .int p1), (2, .int p2)] [.int r_22] h_19 0 0 (phI h post) psN
      obtain ⟨wt_48, wf_49⟩ := hw
      refine x_if_ne 43 dX2_silent_33 (by decide) (fun c_24 => ?_) (fun c_24 => ?_)
      · have hw := wt_48 c_24
        refine x_aload_n 0 dX2_silent_43 rfl ?_
        refine x_callV (ci := 2) [] 0 dX2_silent_44 (k_X2_isWhole G g_20 hw) (GI.s g_20 (t := (12, 0)) rfl (by decide)) rfl q1462 q1464 qs72 q106 q1465 (by decide) rfl rfl ⟨(Nat.le_of_ble_eq_true rfl), (Nat.le_of_ble_eq_true rfl)⟩ (Nat.le_of_ble_eq_true rfl) ⟨(Nat.le_of_ble_eq_true rfl), (Nat.le_of_ble_eq_true rfl)⟩ (fun v9 h_25 hv9 => ?_) (fun _ _ _ _ _ z _ _ => False.elim z)
        obtain ⟨r_28, rfl, g_26, e_27, b_29, hw⟩ := hv9
        have hw := hw g_26 e_27
        show X ρ K_X2_silent 47 [(0, .ref (mr ρ 25)), (1, .int p1), (2, .int p2)] [.int r_28] h_25 0 0 (phI h post) psN
        obtain ⟨wt_41, wf_42⟩ := hw
        refine x_if_ne 57 dX2_silent_47 (by decide) (fun c_30 => ?_) (fun c_30 => ?_)
        · have hw := wt_41 c_30
          refine x_aload_n 0 dX2_silent_57 rfl ?_
          refine x_callV (ci := 2) [] 0 dX2_silent_58 (k_X2_findShares G g_26 hw) (GI.s g_26 (t := (12, 0)) rfl (by decide)) rfl q1483 q1485 qs75 q106 q1486 (by decide) rfl rfl ⟨(Nat.le_of_ble_eq_true rfl), (Nat.le_of_ble_eq_true rfl)⟩ (Nat.le_of_ble_eq_true rfl) ⟨(Nat.le_of_ble_eq_true rfl), (Nat.le_of_ble_eq_true rfl)⟩ (fun v9 h_31 hv9 => ?_) (fun _ _ _ _ _ z _ _ => False.elim z)
          obtain ⟨rfl, g_32, e_33, hw⟩ := hv9
          have hw := hw g_32 e_33
          show X ρ K_X2_silent 61 [(0, .ref (mr ρ 25)), (1, .int p1), (2, .int p2)] [] h_31 0 0 (phI h post) psN
          refine x_iconst 0 dX2_silent_61 (by decide) ?_
          refine x_istore_n (lv' := [(3, .int 0), (0, .ref (mr ρ 25)), (1, .int p1), (2, .int p2)]) dX2_silent_62 (Nat.le_of_ble_eq_true rfl) rfl ?_
          refine x_iconst 1 dX2_silent_63 (by decide) ?_
          refine x_istore (lv' := [(4, .int 1), (3, .int 0), (0, .ref (mr ρ 25)), (1, .int p1), (2, .int p2)]) dX2_silent_64 (Nat.le_of_ble_eq_true rfl) rfl ?_
          refine X.sub [2, 3, 4, 1, 0] rfl ?_
          obtain ⟨fu, hw⟩ := hw
          exact t_X2_silent_66 G  fu p1 p2 0 1 h_31 g_32 (Ext.tr (Ext.tr (Ext.tr (Ext.tr e_3 e_14) e_21) e_27) e_33) hw
        · have hw := wf_42 c_30
          refine x_aload_n 0 dX2_silent_50 rfl ?_
          refine x_bipush (-3) dX2_silent_51 (by decide) ?_
          refine x_callV (ci := 2) [.int (-3)] 1 dX2_silent_53 (k_X2_no G g_26 hw) (GI.s g_26 (t := (12, 0)) rfl (by decide)) rfl q1387 q1389 qs59 q106 q1390 (by decide) rfl rfl ⟨(Nat.le_of_ble_eq_true rfl), (Nat.le_of_ble_eq_true rfl)⟩ (Nat.le_of_ble_eq_true rfl) ⟨(Nat.le_of_ble_eq_true rfl), (Nat.le_of_ble_eq_true rfl)⟩ (fun v9 h_36 hv9 => ?_) (fun _ _ _ _ _ z _ _ => False.elim z)
          obtain ⟨r_39, rfl, g_37, e_38, hw⟩ := hv9
          have hw := hw g_37 e_38
          show X ρ K_X2_silent 56 [(0, .ref (mr ρ 25)), (1, .int p1), (2, .int p2)] [.int r_39] h_36 0 0 (phI h post) psN
          exact x_iret dX2_silent_56 rfl (Nat.le_of_ble_eq_true rfl) (Nat.le_of_ble_eq_true rfl) ⟨_, rfl, g_37, (Ext.tr (Ext.tr (Ext.tr (Ext.tr e_3 e_14) e_21) e_27) e_38), hw⟩
      · have hw := wf_49 c_24
        refine x_aload_n 0 dX2_silent_36 rfl ?_
        refine x_bipush (-2) dX2_silent_37 (by decide) ?_
        refine x_callV (ci := 2) [.int (-2)] 1 dX2_silent_39 (k_X2_no G g_20 hw) (GI.s g_20 (t := (12, 0)) rfl (by decide)) rfl q1387 q1389 qs59 q106 q1390 (by decide) rfl rfl ⟨(Nat.le_of_ble_eq_true rfl), (Nat.le_of_ble_eq_true rfl)⟩ (Nat.le_of_ble_eq_true rfl) ⟨(Nat.le_of_ble_eq_true rfl), (Nat.le_of_ble_eq_true rfl)⟩ (fun v9 h_43 hv9 => ?_) (fun _ _ _ _ _ z _ _ => False.elim z)
        obtain ⟨r_46, rfl, g_44, e_45, hw⟩ := hv9
        have hw := hw g_44 e_45
        show X ρ K_X2_silent 42 [(0, .ref (mr ρ 25)), (1, .int p1), (2, .int p2)] [.int r_46] h_43 0 0 (phI h post) psN
        exact x_iret dX2_silent_42 rfl (Nat.le_of_ble_eq_true rfl) (Nat.le_of_ble_eq_true rfl) ⟨_, rfl, g_44, (Ext.tr (Ext.tr (Ext.tr e_3 e_14) e_21) e_45), hw⟩
    · have hw := wf_56 c_17
      refine x_aload_n 0 dX2_silent_16 rfl ?_
      refine x_iconst (-1) dX2_silent_17 (by decide) ?_
      refine x_callV (ci := 2) [.int (-1)] 1 dX2_silent_18 (k_X2_no G g_13 hw) (GI.s g_13 (t := (12, 0)) rfl (by decide)) rfl q1387 q1389 qs59 q106 q1390 (by decide) rfl rfl ⟨(Nat.le_of_ble_eq_true rfl), (Nat.le_of_ble_eq_true rfl)⟩ (Nat.le_of_ble_eq_true rfl) ⟨(Nat.le_of_ble_eq_true rfl), (Nat.le_of_ble_eq_true rfl)⟩ (fun v9 h_50 hv9 => ?_) (fun _ _ _ _ _ z _ _ => False.elim z)
      obtain ⟨r_53, rfl, g_51, e_52, hw⟩ := hv9
      have hw := hw g_51 e_52
      show X ρ K_X2_silent 21 [(0, .ref (mr ρ 25)), (1, .int p1), (2, .int p2)] [.int r_53] h_50 0 0 (phI h post) psN
      exact x_iret dX2_silent_21 rfl (Nat.le_of_ble_eq_true rfl) (Nat.le_of_ble_eq_true rfl) ⟨_, rfl, g_51, (Ext.tr (Ext.tr e_3 e_14) e_52), hw⟩

/-! BeforeTheEnd.partners(III)I -/
def wp_X0_partners (post : Int32 → Hp → Prop) (h : Hp) (p1 : Int32) (p2 : Int32) (p3 : Int32) : Prop := (wp_X0_act (fun r_4 h_1 => GI h_1 → Ext h h_1 → (post r_4 h_1)) h 16 p1 p2 p3)
abbrev rm_X0_partners : Room := ({ frames := 19, cells := 1868, slots := 13143, locals := 599 })
abbrev K_X0_partners : Kx := ("BeforeTheEnd", cX0_partners, 4, (Option.some Jvm.ClassFile.FieldType.int), rm_X0_partners, [], false)
set_option maxHeartbeats 4000000 in
theorem k_X0_partners {ρ : Rho} {h : Hp} {post : Int32 → Hp → Prop} {p1 : Int32} {p2 : Int32} {p3 : Int32} (G : G0 ρ) (g : GI h) (hw : wp_X0_partners post h p1 p2 p3) : Con ρ yX0_partners (ws_ yX0_partners cX0_partners 4 (Option.some Jvm.ClassFile.FieldType.int)) rm_X0_partners [.ref (mr ρ 1), .int p1, .int p2, .int p3] h (phI h post) psN := by
  refine con_of (own := "BeforeTheEnd") (isI := false) (l0 := [(0, .ref (mr ρ 1)), (1, .int p1), (2, .int p2), (3, .int p3)]) (by decide) rfl (fun z => by cases z) (Nat.le_of_ble_eq_true rfl) rfl (fun _ => ?_)
  show X ρ K_X0_partners 0 [(0, .ref (mr ρ 1)), (1, .int p1), (2, .int p2), (3, .int p3)] [] h 0 0 (phI h post) psN
  refine x_aload_n 0 dX0_partners_0 rfl ?_
  refine x_bipush 16 dX0_partners_1 (by decide) ?_
  refine x_iload_n 1 dX0_partners_3 rfl ?_
  refine x_iload_n 2 dX0_partners_4 rfl ?_
  refine x_iload_n 3 dX0_partners_5 rfl ?_
  refine x_callH (ci := 0) [.int 16, .int p1, .int p2, .int p3] 4 dX0_partners_6 (k_X0_act G g hw) (GI.s g (t := (10, 0)) rfl (by decide)) rfl q383 q385 qs3 q104 q386 (by decide) rfl rfl ⟨(Nat.le_of_ble_eq_true rfl), (Nat.le_of_ble_eq_true rfl)⟩ (Nat.le_of_ble_eq_true rfl) ⟨(Nat.le_of_ble_eq_true rfl), (Nat.le_of_ble_eq_true rfl)⟩ (fun v9 h_1 hv9 => ?_) (fun _ _ _ _ _ z _ _ => False.elim z)
  obtain ⟨r_4, rfl, g_2, e_3, hw⟩ := hv9
  have hw := hw g_2 e_3
  show X ρ K_X0_partners 9 [(0, .ref (mr ρ 1)), (1, .int p1), (2, .int p2), (3, .int p3)] [.int r_4] h_1 1868 13143 (phI h post) psN
  exact x_iret dX0_partners_9 rfl (Nat.le_of_ble_eq_true rfl) (Nat.le_of_ble_eq_true rfl) ⟨_, rfl, g_2, e_3, hw⟩

/-! BeforeTheEndModel.partners(III)I -/
def w_X2_partners_92 (post : Int32 → Hp → Prop) (x1 : Int32) (x2 : Int32) (x3 : Int32) (x4 : Int32) (x5 : Int32) (h : Hp) : Prop := ((x4 = 0 → (∀ z_3 : Int32, z_3 = ((if x4 = 0 then x2 else x1) : Int32) → (post z_3 h))) ∧ (¬ x4 = 0 → ((¬ x5 = 0 → (vp_in ((10 * x3) + x5) 240 ∧ (vp_in ((10 * x3) + x4) 240 ∧ (((gl h 46 (Int32.toNatClampNeg ((10 * x3) + x5))) ≤ (gl h 46 (Int32.toNatClampNeg ((10 * x3) + x4))) → (post x1 h)) ∧ (¬ (gl h 46 (Int32.toNatClampNeg ((10 * x3) + x5))) ≤ (gl h 46 (Int32.toNatClampNeg ((10 * x3) + x4))) → (post x2 h)))))) ∧ (x5 = 0 → (∀ z_12 : Int32, z_12 = ((if x4 = 0 then x2 else x1) : Int32) → (post z_12 h))))))
def wp_X2_partners (post : Int32 → Hp → Prop) (h : Hp) (p1 : Int32) (p2 : Int32) (p3 : Int32) : Prop := (wp_X2_isPlayer (fun r_4 h_1 => GI h_1 → Ext h h_1 → ((r_4 = 0 → (wp_X2_no (fun r_10 h_7 => GI h_7 → Ext h_1 h_7 → (post r_10 h_7)) h_1 (-1))) ∧ (¬ r_4 = 0 → (wp_X2_isPlayer (fun r_15 h_12 => GI h_12 → Ext h_1 h_12 → ((r_15 = 0 → (wp_X2_no (fun r_21 h_18 => GI h_18 → Ext h_12 h_18 → (post r_21 h_18)) h_12 (-1))) ∧ (¬ r_15 = 0 → ((p1 = p2 → (wp_X2_no (fun r_27 h_24 => GI h_24 → Ext h_12 h_24 → (post r_27 h_24)) h_12 (-1))) ∧ (¬ p1 = p2 → (wp_X2_isWord (fun r_32 h_29 => GI h_29 → Ext h_12 h_29 → ((¬ r_32 = 0 → (wp_X2_isWhole (fun r_38 h_35 => GI h_35 → Ext h_29 h_35 → ((¬ r_38 = 0 → (wp_X2_findShares (fun h_41 => GI h_41 → Ext h_35 h_41 → (vp_in p1 4 ∧ (wp_X2_guessOf (fun r_50 h_47 => GI h_47 → Ext h_41 h_47 → (vp_in p2 4 ∧ (wp_X2_guessOf (fun r_56 h_53 => GI h_53 → Ext h_47 h_53 → ((¬ r_50 = 0 → (w_X2_partners_92 post p1 p2 p3 r_50 r_56 h_53)) ∧ (r_50 = 0 → ((¬ r_56 = 0 → (w_X2_partners_92 post p1 p2 p3 r_50 r_56 h_53)) ∧ (r_56 = 0 → (post (-9) h_53)))))) h_47 (gi h_47 32 (Int32.toNatClampNeg p2)) p3))) h_41 (gi h_41 32 (Int32.toNatClampNeg p1)) p3))) h_35)) ∧ (r_38 = 0 → (wp_X2_no (fun r_67 h_64 => GI h_64 → Ext h_35 h_64 → (post r_67 h_64)) h_35 (-3))))) h_29)) ∧ (r_32 = 0 → (wp_X2_no (fun r_74 h_71 => GI h_71 → Ext h_29 h_71 → (post r_74 h_71)) h_29 (-1))))) h_12 p3)))))) h_1 p2)))) h p1)
abbrev rm_X2_partners : Room := ({ frames := 4, cells := 0, slots := 0, locals := 134 })
abbrev K_X2_partners : Kx := ("BeforeTheEndModel", cX2_partners, 6, (Option.some Jvm.ClassFile.FieldType.int), rm_X2_partners, [], false)
set_option maxHeartbeats 4000000 in
theorem t_X2_partners_92 {ρ : Rho} {h0 : Hp} {post : Int32 → Hp → Prop} (G : G0 ρ) :
    ∀ (x1 : Int32) (x2 : Int32) (x3 : Int32) (x4 : Int32) (x5 : Int32) (h : Hp), GI h → Ext h0 h → w_X2_partners_92 post x1 x2 x3 x4 x5 h → X ρ K_X2_partners 92 [(0, .ref (mr ρ 25)), (1, .int x1), (2, .int x2), (3, .int x3), (4, .int x4), (5, .int x5)] [] h 0 0 (phI h0 post) psN := by
  intro x1 x2 x3 x4 x5 h g e hw
  refine x_iload 4 dX2_partners_92 rfl ?_
  obtain ⟨wt_16, wf_17⟩ := hw
  refine x_if_eq 102 dX2_partners_94 (by decide) (fun c_1 => ?_) (fun c_1 => ?_)
  · have hw := wt_16 c_1
    refine x_iload 4 dX2_partners_102 rfl ?_
    have kJ_4 : ∀ z_3 : Int32, z_3 = ((if x4 = 0 then x2 else x1) : Int32) → X ρ K_X2_partners 112 [(0, .ref (mr ρ 25)), (1, .int x1), (2, .int x2), (3, .int x3), (4, .int x4), (5, .int x5)] [.int z_3] h 0 0 (phI h0 post) psN := fun z_3 ez_3 => by
      have hw := hw z_3 ez_3
      exact x_iret dX2_partners_112 rfl (Nat.le_of_ble_eq_true rfl) (Nat.le_of_ble_eq_true rfl) ⟨_, rfl, g, e, hw⟩
    refine x_if_ne 111 dX2_partners_104 (by decide) (fun c_2 => ?_) (fun c_2 => ?_)
    · refine x_iload_n 1 dX2_partners_111 rfl ?_
      exact kJ_4 _ ((if_neg c_2)).symm
    · refine x_iload_n 2 dX2_partners_107 rfl ?_
      refine x_goto 112 dX2_partners_108 (by decide) ?_
      exact kJ_4 _ ((if_pos c_2)).symm
  · have hw := wf_17 c_1
    refine x_iload 5 dX2_partners_97 rfl ?_
    obtain ⟨wt_14, wf_15⟩ := hw
    refine x_if_ne 113 dX2_partners_99 (by decide) (fun c_5 => ?_) (fun c_5 => ?_)
    · have hw := wt_14 c_5
      refine x_aload_n 0 dX2_partners_113 rfl ?_
      refine x_get (ci := 2) (v := .ref (mr ρ 46)) 25 dX2_partners_114 (GI.s g (t := (12, 0)) rfl (by decide)) rfl in_X2 (by decide) q1248 (Or.inl rfl) (fv_rc rfl (GI.m g (n := 46) rfl (by decide)) (by decide)) ?_
      refine x_bipush 10 dX2_partners_117 (by decide) ?_
      refine x_iload_n 3 dX2_partners_119 rfl ?_
      refine x_imul dX2_partners_120 ?_
      refine x_iload 5 dX2_partners_121 rfl ?_
      refine x_iadd dX2_partners_123 ?_
      obtain ⟨b_6, hw⟩ := hw
      refine x_lald (n := 240) (j := (Int32.toNatClampNeg ((10 * x3) + x5))) dX2_partners_124 rfl (GI.s g (t := (2, 240)) rfl (by decide)) b_6 ?_
      refine x_aload_n 0 dX2_partners_125 rfl ?_
      refine x_get (ci := 2) (v := .ref (mr ρ 46)) 25 dX2_partners_126 (GI.s g (t := (12, 0)) rfl (by decide)) rfl in_X2 (by decide) q1248 (Or.inl rfl) (fv_rc rfl (GI.m g (n := 46) rfl (by decide)) (by decide)) ?_
      refine x_bipush 10 dX2_partners_129 (by decide) ?_
      refine x_iload_n 3 dX2_partners_131 rfl ?_
      refine x_imul dX2_partners_132 ?_
      refine x_iload 4 dX2_partners_133 rfl ?_
      refine x_iadd dX2_partners_135 ?_
      obtain ⟨b_7, hw⟩ := hw
      refine x_lald (n := 240) (j := (Int32.toNatClampNeg ((10 * x3) + x4))) dX2_partners_136 rfl (GI.s g (t := (2, 240)) rfl (by decide)) b_7 ?_
      obtain ⟨wt_9, wf_10⟩ := hw
      refine x_lif_le 145 dX2_partners_137 dX2_partners_138 (by decide) (fun c_8 => ?_) (fun c_8 => ?_)
      · have hw := wt_9 c_8
        refine x_iload_n 1 dX2_partners_145 rfl ?_
        exact x_iret dX2_partners_146 rfl (Nat.le_of_ble_eq_true rfl) (Nat.le_of_ble_eq_true rfl) ⟨_, rfl, g, e, hw⟩
      · have hw := wf_10 c_8
        refine x_iload_n 2 dX2_partners_141 rfl ?_
        refine x_goto 146 dX2_partners_142 (by decide) ?_
        exact x_iret dX2_partners_146 rfl (Nat.le_of_ble_eq_true rfl) (Nat.le_of_ble_eq_true rfl) ⟨_, rfl, g, e, hw⟩
    · have hw := wf_15 c_5
      refine x_iload 4 dX2_partners_102 rfl ?_
      have kJ_13 : ∀ z_12 : Int32, z_12 = ((if x4 = 0 then x2 else x1) : Int32) → X ρ K_X2_partners 112 [(0, .ref (mr ρ 25)), (1, .int x1), (2, .int x2), (3, .int x3), (4, .int x4), (5, .int x5)] [.int z_12] h 0 0 (phI h0 post) psN := fun z_12 ez_12 => by
        have hw := hw z_12 ez_12
        exact x_iret dX2_partners_112 rfl (Nat.le_of_ble_eq_true rfl) (Nat.le_of_ble_eq_true rfl) ⟨_, rfl, g, e, hw⟩
      refine x_if_ne 111 dX2_partners_104 (by decide) (fun c_11 => ?_) (fun c_11 => ?_)
      · refine x_iload_n 1 dX2_partners_111 rfl ?_
        exact kJ_13 _ ((if_neg c_11)).symm
      · refine x_iload_n 2 dX2_partners_107 rfl ?_
        refine x_goto 112 dX2_partners_108 (by decide) ?_
        exact kJ_13 _ ((if_pos c_11)).symm
set_option maxHeartbeats 4000000 in
theorem k_X2_partners {ρ : Rho} {h : Hp} {post : Int32 → Hp → Prop} {p1 : Int32} {p2 : Int32} {p3 : Int32} (G : G0 ρ) (g : GI h) (hw : wp_X2_partners post h p1 p2 p3) : Con ρ yX2_partners (ws_ yX2_partners cX2_partners 6 (Option.some Jvm.ClassFile.FieldType.int)) rm_X2_partners [.ref (mr ρ 25), .int p1, .int p2, .int p3] h (phI h post) psN := by
  refine con_of (own := "BeforeTheEndModel") (isI := false) (l0 := [(0, .ref (mr ρ 25)), (1, .int p1), (2, .int p2), (3, .int p3)]) (by decide) rfl (fun z => by cases z) (Nat.le_of_ble_eq_true rfl) rfl (fun _ => ?_)
  show X ρ K_X2_partners 0 [(0, .ref (mr ρ 25)), (1, .int p1), (2, .int p2), (3, .int p3)] [] h 0 0 (phI h post) psN
  refine x_aload_n 0 dX2_partners_0 rfl ?_
  refine x_iload_n 1 dX2_partners_1 rfl ?_
  refine x_callV (ci := 2) [.int p1] 1 dX2_partners_2 (k_X2_isPlayer G g hw) (GI.s g (t := (12, 0)) rfl (by decide)) rfl q1454 q1456 qs71 q106 q1457 (by decide) rfl rfl ⟨(Nat.le_of_ble_eq_true rfl), (Nat.le_of_ble_eq_true rfl)⟩ (Nat.le_of_ble_eq_true rfl) ⟨(Nat.le_of_ble_eq_true rfl), (Nat.le_of_ble_eq_true rfl)⟩ (fun v9 h_1 hv9 => ?_) (fun _ _ _ _ _ z _ _ => False.elim z)
  obtain ⟨r_4, rfl, g_2, e_3, b_5, hw⟩ := hv9
  have hw := hw g_2 e_3
  show X ρ K_X2_partners 5 [(0, .ref (mr ρ 25)), (1, .int p1), (2, .int p2), (3, .int p3)] [.int r_4] h_1 0 0 (phI h post) psN
  obtain ⟨wt_82, wf_83⟩ := hw
  refine x_if_eq 29 dX2_partners_5 (by decide) (fun c_6 => ?_) (fun c_6 => ?_)
  · have hw := wt_82 c_6
    refine x_aload_n 0 dX2_partners_29 rfl ?_
    refine x_iconst (-1) dX2_partners_30 (by decide) ?_
    refine x_callV (ci := 2) [.int (-1)] 1 dX2_partners_31 (k_X2_no G g_2 hw) (GI.s g_2 (t := (12, 0)) rfl (by decide)) rfl q1387 q1389 qs59 q106 q1390 (by decide) rfl rfl ⟨(Nat.le_of_ble_eq_true rfl), (Nat.le_of_ble_eq_true rfl)⟩ (Nat.le_of_ble_eq_true rfl) ⟨(Nat.le_of_ble_eq_true rfl), (Nat.le_of_ble_eq_true rfl)⟩ (fun v9 h_7 hv9 => ?_) (fun _ _ _ _ _ z _ _ => False.elim z)
    obtain ⟨r_10, rfl, g_8, e_9, hw⟩ := hv9
    have hw := hw g_8 e_9
    show X ρ K_X2_partners 34 [(0, .ref (mr ρ 25)), (1, .int p1), (2, .int p2), (3, .int p3)] [.int r_10] h_7 0 0 (phI h post) psN
    exact x_iret dX2_partners_34 rfl (Nat.le_of_ble_eq_true rfl) (Nat.le_of_ble_eq_true rfl) ⟨_, rfl, g_8, (Ext.tr e_3 e_9), hw⟩
  · have hw := wf_83 c_6
    refine x_aload_n 0 dX2_partners_8 rfl ?_
    refine x_iload_n 2 dX2_partners_9 rfl ?_
    refine x_callV (ci := 2) [.int p2] 1 dX2_partners_10 (k_X2_isPlayer G g_2 hw) (GI.s g_2 (t := (12, 0)) rfl (by decide)) rfl q1454 q1456 qs71 q106 q1457 (by decide) rfl rfl ⟨(Nat.le_of_ble_eq_true rfl), (Nat.le_of_ble_eq_true rfl)⟩ (Nat.le_of_ble_eq_true rfl) ⟨(Nat.le_of_ble_eq_true rfl), (Nat.le_of_ble_eq_true rfl)⟩ (fun v9 h_12 hv9 => ?_) (fun _ _ _ _ _ z _ _ => False.elim z)
    obtain ⟨r_15, rfl, g_13, e_14, b_16, hw⟩ := hv9
    have hw := hw g_13 e_14
    show X ρ K_X2_partners 13 [(0, .ref (mr ρ 25)), (1, .int p1), (2, .int p2), (3, .int p3)] [.int r_15] h_12 0 0 (phI h post) psN
    obtain ⟨wt_80, wf_81⟩ := hw
    refine x_if_eq 29 dX2_partners_13 (by decide) (fun c_17 => ?_) (fun c_17 => ?_)
    · have hw := wt_80 c_17
      refine x_aload_n 0 dX2_partners_29 rfl ?_
      refine x_iconst (-1) dX2_partners_30 (by decide) ?_
      refine x_callV (ci := 2) [.int (-1)] 1 dX2_partners_31 (k_X2_no G g_13 hw) (GI.s g_13 (t := (12, 0)) rfl (by decide)) rfl q1387 q1389 qs59 q106 q1390 (by decide) rfl rfl ⟨(Nat.le_of_ble_eq_true rfl), (Nat.le_of_ble_eq_true rfl)⟩ (Nat.le_of_ble_eq_true rfl) ⟨(Nat.le_of_ble_eq_true rfl), (Nat.le_of_ble_eq_true rfl)⟩ (fun v9 h_18 hv9 => ?_) (fun _ _ _ _ _ z _ _ => False.elim z)
      obtain ⟨r_21, rfl, g_19, e_20, hw⟩ := hv9
      have hw := hw g_19 e_20
      show X ρ K_X2_partners 34 [(0, .ref (mr ρ 25)), (1, .int p1), (2, .int p2), (3, .int p3)] [.int r_21] h_18 0 0 (phI h post) psN
      exact x_iret dX2_partners_34 rfl (Nat.le_of_ble_eq_true rfl) (Nat.le_of_ble_eq_true rfl) ⟨_, rfl, g_19, (Ext.tr (Ext.tr e_3 e_14) e_20), hw⟩
    · have hw := wf_81 c_17
      refine x_iload_n 1 dX2_partners_16 rfl ?_
      refine x_iload_n 2 dX2_partners_17 rfl ?_
      obtain ⟨wt_78, wf_79⟩ := hw
      refine x_icmp_eq 29 dX2_partners_18 (by decide) (fun c_23 => ?_) (fun c_23 => ?_)
      · have hw := wt_78 c_23
        refine x_aload_n 0 dX2_partners_29 rfl ?_
        refine x_iconst (-1) dX2_partners_30 (by decide) ?_
        refine x_callV (ci := 2) [.int (-1)] 1 dX2_partners_31 (k_X2_no G g_13 hw) (GI.s g_13 (t := (12, 0)) rfl (by decide)) rfl q1387 q1389 qs59 q106 q1390 (by decide) rfl rfl ⟨(Nat.le_of_ble_eq_true rfl), (Nat.le_of_ble_eq_true rfl)⟩ (Nat.le_of_ble_eq_true rfl) ⟨(Nat.le_of_ble_eq_true rfl), (Nat.le_of_ble_eq_true rfl)⟩ (fun v9 h_24 hv9 => ?_) (fun _ _ _ _ _ z _ _ => False.elim z)
        obtain ⟨r_27, rfl, g_25, e_26, hw⟩ := hv9
        have hw := hw g_25 e_26
        show X ρ K_X2_partners 34 [(0, .ref (mr ρ 25)), (1, .int p1), (2, .int p2), (3, .int p3)] [.int r_27] h_24 0 0 (phI h post) psN
        exact x_iret dX2_partners_34 rfl (Nat.le_of_ble_eq_true rfl) (Nat.le_of_ble_eq_true rfl) ⟨_, rfl, g_25, (Ext.tr (Ext.tr e_3 e_14) e_26), hw⟩
      · have hw := wf_79 c_23
        refine x_aload_n 0 dX2_partners_21 rfl ?_
        refine x_iload_n 3 dX2_partners_22 rfl ?_
        refine x_callV (ci := 2) [.int p3] 1 dX2_partners_23 (k_X2_isWord G g_13 hw) (GI.s g_13 (t := (12, 0)) rfl (by decide)) rfl q1434 q1436 qs68 q106 q1437 (by decide) rfl rfl ⟨(Nat.le_of_ble_eq_true rfl), (Nat.le_of_ble_eq_true rfl)⟩ (Nat.le_of_ble_eq_true rfl) ⟨(Nat.le_of_ble_eq_true rfl), (Nat.le_of_ble_eq_true rfl)⟩ (fun v9 h_29 hv9 => ?_) (fun _ _ _ _ _ z _ _ => False.elim z)
        obtain ⟨r_32, rfl, g_30, e_31, b_33, hw⟩ := hv9
        have hw := hw g_30 e_31
        show X ρ K_X2_partners 26 [(0, .ref (mr ρ 25)), (1, .int p1), (2, .int p2), (3, .int p3)] [.int r_32] h_29 0 0 (phI h post) psN
        obtain ⟨wt_76, wf_77⟩ := hw
        refine x_if_ne 35 dX2_partners_26 (by decide) (fun c_34 => ?_) (fun c_34 => ?_)
        · have hw := wt_76 c_34
          refine x_aload_n 0 dX2_partners_35 rfl ?_
          refine x_callV (ci := 2) [] 0 dX2_partners_36 (k_X2_isWhole G g_30 hw) (GI.s g_30 (t := (12, 0)) rfl (by decide)) rfl q1462 q1464 qs72 q106 q1465 (by decide) rfl rfl ⟨(Nat.le_of_ble_eq_true rfl), (Nat.le_of_ble_eq_true rfl)⟩ (Nat.le_of_ble_eq_true rfl) ⟨(Nat.le_of_ble_eq_true rfl), (Nat.le_of_ble_eq_true rfl)⟩ (fun v9 h_35 hv9 => ?_) (fun _ _ _ _ _ z _ _ => False.elim z)
          obtain ⟨r_38, rfl, g_36, e_37, b_39, hw⟩ := hv9
          have hw := hw g_36 e_37
          show X ρ K_X2_partners 39 [(0, .ref (mr ρ 25)), (1, .int p1), (2, .int p2), (3, .int p3)] [.int r_38] h_35 0 0 (phI h post) psN
          obtain ⟨wt_69, wf_70⟩ := hw
          refine x_if_ne 49 dX2_partners_39 (by decide) (fun c_40 => ?_) (fun c_40 => ?_)
          · have hw := wt_69 c_40
            refine x_aload_n 0 dX2_partners_49 rfl ?_
            refine x_callV (ci := 2) [] 0 dX2_partners_50 (k_X2_findShares G g_36 hw) (GI.s g_36 (t := (12, 0)) rfl (by decide)) rfl q1483 q1485 qs75 q106 q1486 (by decide) rfl rfl ⟨(Nat.le_of_ble_eq_true rfl), (Nat.le_of_ble_eq_true rfl)⟩ (Nat.le_of_ble_eq_true rfl) ⟨(Nat.le_of_ble_eq_true rfl), (Nat.le_of_ble_eq_true rfl)⟩ (fun v9 h_41 hv9 => ?_) (fun _ _ _ _ _ z _ _ => False.elim z)
            obtain ⟨rfl, g_42, e_43, hw⟩ := hv9
            have hw := hw g_42 e_43
            show X ρ K_X2_partners 53 [(0, .ref (mr ρ 25)), (1, .int p1), (2, .int p2), (3, .int p3)] [] h_41 0 0 (phI h post) psN
            refine x_aload_n 0 dX2_partners_53 rfl ?_
            refine x_aload_n 0 dX2_partners_54 rfl ?_
            refine x_get (ci := 2) (v := .ref (mr ρ 32)) 6 dX2_partners_55 (GI.s g_42 (t := (12, 0)) rfl (by decide)) rfl in_X2 (by decide) q1229 (Or.inl rfl) (fv_rc rfl (GI.m g_42 (n := 32) rfl (by decide)) (by decide)) ?_
            refine x_iload_n 1 dX2_partners_58 rfl ?_
            obtain ⟨b_46, hw⟩ := hw
            refine x_iald (n := 4) (j := (Int32.toNatClampNeg p1)) dX2_partners_59 rfl (GI.s g_42 (t := (1, 4)) rfl (by decide)) b_46 ?_
            refine x_iload_n 3 dX2_partners_60 rfl ?_
            refine x_callV (ci := 2) [.int (gi h_41 32 (Int32.toNatClampNeg p1)), .int p3] 2 dX2_partners_61 (k_X2_guessOf G g_42 hw) (GI.s g_42 (t := (12, 0)) rfl (by decide)) rfl q1505 q1507 qs78 q106 q1508 (by decide) rfl rfl ⟨(Nat.le_of_ble_eq_true rfl), (Nat.le_of_ble_eq_true rfl)⟩ (Nat.le_of_ble_eq_true rfl) ⟨(Nat.le_of_ble_eq_true rfl), (Nat.le_of_ble_eq_true rfl)⟩ (fun v9 h_47 hv9 => ?_) (fun _ _ _ _ _ z _ _ => False.elim z)
            obtain ⟨r_50, rfl, g_48, e_49, hw⟩ := hv9
            have hw := hw g_48 e_49
            show X ρ K_X2_partners 64 [(0, .ref (mr ρ 25)), (1, .int p1), (2, .int p2), (3, .int p3)] [.int r_50] h_47 0 0 (phI h post) psN
            refine x_istore (lv' := [(4, .int r_50), (0, .ref (mr ρ 25)), (1, .int p1), (2, .int p2), (3, .int p3)]) dX2_partners_64 (Nat.le_of_ble_eq_true rfl) rfl ?_
            refine x_aload_n 1 dX2_partners_66 rfl ?_
            refine x_aload_n 1 dX2_partners_67 rfl ?_
            refine x_get (ci := 2) (v := .ref (mr ρ 32)) 6 dX2_partners_68 (GI.s g_48 (t := (12, 0)) rfl (by decide)) rfl in_X2 (by decide) q1229 (Or.inl rfl) (fv_rc rfl (GI.m g_48 (n := 32) rfl (by decide)) (by decide)) ?_
            refine x_iload_n 3 dX2_partners_71 rfl ?_
            obtain ⟨b_52, hw⟩ := hw
            refine x_iald (n := 4) (j := (Int32.toNatClampNeg p2)) dX2_partners_72 rfl (GI.s g_48 (t := (1, 4)) rfl (by decide)) b_52 ?_
            refine x_iload_n 4 dX2_partners_73 rfl ?_
            refine x_callV (ci := 2) [.int (gi h_47 32 (Int32.toNatClampNeg p2)), .int p3] 2 dX2_partners_74 (k_X2_guessOf G g_48 hw) (GI.s g_48 (t := (12, 0)) rfl (by decide)) rfl q1505 q1507 qs78 q106 q1508 (by decide) rfl rfl ⟨(Nat.le_of_ble_eq_true rfl), (Nat.le_of_ble_eq_true rfl)⟩ (Nat.le_of_ble_eq_true rfl) ⟨(Nat.le_of_ble_eq_true rfl), (Nat.le_of_ble_eq_true rfl)⟩ (fun v9 h_53 hv9 => ?_) (fun _ _ _ _ _ z _ _ => False.elim z)
            obtain ⟨r_56, rfl, g_54, e_55, hw⟩ := hv9
            have hw := hw g_54 e_55
            show X ρ K_X2_partners 77 [(4, .int r_50), (0, .ref (mr ρ 25)), (1, .int p1), (2, .int p2), (3, .int p3)] [.int r_56] h_53 0 0 (phI h post) psN
            refine x_istore (lv' := [(5, .int r_56), (4, .int r_50), (0, .ref (mr ρ 25)), (1, .int p1), (2, .int p2), (3, .int p3)]) dX2_partners_77 (Nat.le_of_ble_eq_true rfl) rfl ?_
            refine x_iload 1 dX2_partners_79 rfl ?_
            obtain ⟨wt_62, wf_63⟩ := hw
            refine x_if_ne 92 dX2_partners_81 (by decide) (fun c_58 => ?_) (fun c_58 => ?_)
            · have hw := wt_62 c_58
              refine X.sub [2, 3, 4, 5, 1, 0] rfl ?_
              exact t_X2_partners_92 G  p1 p2 p3 r_50 r_56 h_53 g_54 (Ext.tr (Ext.tr (Ext.tr (Ext.tr (Ext.tr (Ext.tr e_3 e_14) e_31) e_37) e_43) e_49) e_55) hw
            · have hw := wf_63 c_58
              refine x_iload 0 dX2_partners_84 rfl ?_
              obtain ⟨wt_60, wf_61⟩ := hw
              refine x_if_ne 92 dX2_partners_86 (by decide) (fun c_59 => ?_) (fun c_59 => ?_)
              · have hw := wt_60 c_59
                refine X.sub [2, 3, 4, 5, 1, 0] rfl ?_
                exact t_X2_partners_92 G  p1 p2 p3 r_50 r_56 h_53 g_54 (Ext.tr (Ext.tr (Ext.tr (Ext.tr (Ext.tr (Ext.tr e_3 e_14) e_31) e_37) e_43) e_49) e_55) hw
              · have hw := wf_61 c_59
                refine x_bipush (-9) dX2_partners_89 (by decide) ?_
                exact x_iret dX2_partners_91 rfl (Nat.le_of_ble_eq_true rfl) (Nat.le_of_ble_eq_true rfl) ⟨_, rfl, g_54, (Ext.tr (Ext.tr (Ext.tr (Ext.tr (Ext.tr (Ext.tr e_3 e_14) e_31) e_37) e_43) e_49) e_55), hw⟩
          · have hw := wf_70 c_40
            refine x_aload_n 0 dX2_partners_42 rfl ?_
            refine x_bipush (-3) dX2_partners_43 (by decide) ?_
            refine x_callV (ci := 2) [.int (-3)] 1 dX2_partners_45 (k_X2_no G g_36 hw) (GI.s g_36 (t := (12, 0)) rfl (by decide)) rfl q1387 q1389 qs59 q106 q1390 (by decide) rfl rfl ⟨(Nat.le_of_ble_eq_true rfl), (Nat.le_of_ble_eq_true rfl)⟩ (Nat.le_of_ble_eq_true rfl) ⟨(Nat.le_of_ble_eq_true rfl), (Nat.le_of_ble_eq_true rfl)⟩ (fun v9 h_64 hv9 => ?_) (fun _ _ _ _ _ z _ _ => False.elim z)
            obtain ⟨r_67, rfl, g_65, e_66, hw⟩ := hv9
            have hw := hw g_65 e_66
            show X ρ K_X2_partners 48 [(0, .ref (mr ρ 25)), (1, .int p1), (2, .int p2), (3, .int p3)] [.int r_67] h_64 0 0 (phI h post) psN
            exact x_iret dX2_partners_48 rfl (Nat.le_of_ble_eq_true rfl) (Nat.le_of_ble_eq_true rfl) ⟨_, rfl, g_65, (Ext.tr (Ext.tr (Ext.tr (Ext.tr e_3 e_14) e_31) e_37) e_66), hw⟩
        · have hw := wf_77 c_34
          refine x_aload_n 0 dX2_partners_29 rfl ?_
          refine x_iconst (-1) dX2_partners_30 (by decide) ?_
          refine x_callV (ci := 2) [.int (-1)] 1 dX2_partners_31 (k_X2_no G g_30 hw) (GI.s g_30 (t := (12, 0)) rfl (by decide)) rfl q1387 q1389 qs59 q106 q1390 (by decide) rfl rfl ⟨(Nat.le_of_ble_eq_true rfl), (Nat.le_of_ble_eq_true rfl)⟩ (Nat.le_of_ble_eq_true rfl) ⟨(Nat.le_of_ble_eq_true rfl), (Nat.le_of_ble_eq_true rfl)⟩ (fun v9 h_71 hv9 => ?_) (fun _ _ _ _ _ z _ _ => False.elim z)
          obtain ⟨r_74, rfl, g_72, e_73, hw⟩ := hv9
          have hw := hw g_72 e_73
          show X ρ K_X2_partners 34 [(0, .ref (mr ρ 25)), (1, .int p1), (2, .int p2), (3, .int p3)] [.int r_74] h_71 0 0 (phI h post) psN
          exact x_iret dX2_partners_34 rfl (Nat.le_of_ble_eq_true rfl) (Nat.le_of_ble_eq_true rfl) ⟨_, rfl, g_72, (Ext.tr (Ext.tr (Ext.tr e_3 e_14) e_31) e_73), hw⟩

/-! BeforeTheEnd.fact(I)I -/
def wp_X0_fact (post : Int32 → Hp → Prop) (h : Hp) (p1 : Int32) : Prop := (wp_X0_act (fun r_4 h_1 => GI h_1 → Ext h h_1 → (post r_4 h_1)) h 17 p1 0 0)
abbrev rm_X0_fact : Room := ({ frames := 19, cells := 1868, slots := 13143, locals := 599 })
abbrev K_X0_fact : Kx := ("BeforeTheEnd", cX0_fact, 2, (Option.some Jvm.ClassFile.FieldType.int), rm_X0_fact, [], false)
set_option maxHeartbeats 4000000 in
theorem k_X0_fact {ρ : Rho} {h : Hp} {post : Int32 → Hp → Prop} {p1 : Int32} (G : G0 ρ) (g : GI h) (hw : wp_X0_fact post h p1) : Con ρ yX0_fact (ws_ yX0_fact cX0_fact 2 (Option.some Jvm.ClassFile.FieldType.int)) rm_X0_fact [.ref (mr ρ 1), .int p1] h (phI h post) psN := by
  refine con_of (own := "BeforeTheEnd") (isI := false) (l0 := [(0, .ref (mr ρ 1)), (1, .int p1)]) (by decide) rfl (fun z => by cases z) (Nat.le_of_ble_eq_true rfl) rfl (fun _ => ?_)
  show X ρ K_X0_fact 0 [(0, .ref (mr ρ 1)), (1, .int p1)] [] h 0 0 (phI h post) psN
  refine x_aload_n 0 dX0_fact_0 rfl ?_
  refine x_bipush 17 dX0_fact_1 (by decide) ?_
  refine x_iload_n 1 dX0_fact_3 rfl ?_
  refine x_iconst 0 dX0_fact_4 (by decide) ?_
  refine x_iconst 0 dX0_fact_5 (by decide) ?_
  refine x_callH (ci := 0) [.int 17, .int p1, .int 0, .int 0] 4 dX0_fact_6 (k_X0_act G g hw) (GI.s g (t := (10, 0)) rfl (by decide)) rfl q383 q385 qs3 q104 q386 (by decide) rfl rfl ⟨(Nat.le_of_ble_eq_true rfl), (Nat.le_of_ble_eq_true rfl)⟩ (Nat.le_of_ble_eq_true rfl) ⟨(Nat.le_of_ble_eq_true rfl), (Nat.le_of_ble_eq_true rfl)⟩ (fun v9 h_1 hv9 => ?_) (fun _ _ _ _ _ z _ _ => False.elim z)
  obtain ⟨r_4, rfl, g_2, e_3, hw⟩ := hv9
  have hw := hw g_2 e_3
  show X ρ K_X0_fact 9 [(0, .ref (mr ρ 1)), (1, .int p1)] [.int r_4] h_1 1868 13143 (phI h post) psN
  exact x_iret dX0_fact_9 rfl (Nat.le_of_ble_eq_true rfl) (Nat.le_of_ble_eq_true rfl) ⟨_, rfl, g_2, e_3, hw⟩

/-! BeforeTheEndModel.fact(I)I -/
def wp_X2_fact (post : Int32 → Hp → Prop) (h : Hp) (p1 : Int32) : Prop := (wp_X2_isIn (fun r_4 h_1 => GI h_1 → Ext h h_1 → ((r_4 = 0 → (wp_X2_no (fun r_10 h_7 => GI h_7 → Ext h_1 h_7 → (post r_10 h_7)) h_1 (-1))) ∧ (¬ r_4 = 0 → (((p1 - p1 / 2 * 2) = 0 → ((¬ (gi h_1 25 44) = 5 → (vp_in (gi h_1 25 44) 5 ∧ (post ((gi (si (si h_1 53 (Int32.toNatClampNeg (gi h_1 25 44)) p1) 25 44 ((gi (si h_1 53 (Int32.toNatClampNeg (gi h_1 25 44)) p1) 25 44) + 1)) 25 44) - 1) (si (si h_1 53 (Int32.toNatClampNeg (gi h_1 25 44)) p1) 25 44 ((gi (si h_1 53 (Int32.toNatClampNeg (gi h_1 25 44)) p1) 25 44) + 1))))) ∧ ((gi h_1 25 44) = 5 → (wp_X2_no (fun r_18 h_15 => GI h_15 → Ext h_1 h_15 → (post r_18 h_15)) h_1 (-6))))) ∧ (¬ (p1 - p1 / 2 * 2) = 0 → (wp_X2_no (fun r_25 h_22 => GI h_22 → Ext h_1 h_22 → (post r_25 h_22)) h_1 (-1))))))) h p1 0 1022)
abbrev rm_X2_fact : Room := ({ frames := 2, cells := 0, slots := 0, locals := 82 })
abbrev K_X2_fact : Kx := ("BeforeTheEndModel", cX2_fact, 2, (Option.some Jvm.ClassFile.FieldType.int), rm_X2_fact, [], false)
set_option maxHeartbeats 4000000 in
theorem k_X2_fact {ρ : Rho} {h : Hp} {post : Int32 → Hp → Prop} {p1 : Int32} (G : G0 ρ) (g : GI h) (hw : wp_X2_fact post h p1) : Con ρ yX2_fact (ws_ yX2_fact cX2_fact 2 (Option.some Jvm.ClassFile.FieldType.int)) rm_X2_fact [.ref (mr ρ 25), .int p1] h (phI h post) psN := by
  refine con_of (own := "BeforeTheEndModel") (isI := false) (l0 := [(0, .ref (mr ρ 25)), (1, .int p1)]) (by decide) rfl (fun z => by cases z) (Nat.le_of_ble_eq_true rfl) rfl (fun _ => ?_)
  show X ρ K_X2_fact 0 [(0, .ref (mr ρ 25)), (1, .int p1)] [] h 0 0 (phI h post) psN
  refine x_iload_n 1 dX2_fact_0 rfl ?_
  refine x_iconst 0 dX2_fact_1 (by decide) ?_
  refine x_sipush 1022 dX2_fact_2 (by decide) ?_
  refine x_callS [.int p1, .int 0, .int 1022] 3 dX2_fact_5 (k_X2_isIn G g hw) q1412 q1413 q106 q1414 (by decide) rfl rfl ⟨(Nat.le_of_ble_eq_true rfl), (Nat.le_of_ble_eq_true rfl)⟩ (Nat.le_of_ble_eq_true rfl) ⟨(Nat.le_of_ble_eq_true rfl), (Nat.le_of_ble_eq_true rfl)⟩ (fun v9 h_1 hv9 => ?_) (fun _ _ _ _ _ z _ _ => False.elim z)
  obtain ⟨r_4, rfl, g_2, e_3, b_5, hw⟩ := hv9
  have hw := hw g_2 e_3
  show X ρ K_X2_fact 8 [(0, .ref (mr ρ 25)), (1, .int p1)] [.int r_4] h_1 0 0 (phI h post) psN
  obtain ⟨wt_29, wf_30⟩ := hw
  refine x_if_eq 17 dX2_fact_8 (by decide) (fun c_6 => ?_) (fun c_6 => ?_)
  · have hw := wt_29 c_6
    refine x_aload_n 0 dX2_fact_17 rfl ?_
    refine x_iconst (-1) dX2_fact_18 (by decide) ?_
    refine x_callV (ci := 2) [.int (-1)] 1 dX2_fact_19 (k_X2_no G g_2 hw) (GI.s g_2 (t := (12, 0)) rfl (by decide)) rfl q1387 q1389 qs59 q106 q1390 (by decide) rfl rfl ⟨(Nat.le_of_ble_eq_true rfl), (Nat.le_of_ble_eq_true rfl)⟩ (Nat.le_of_ble_eq_true rfl) ⟨(Nat.le_of_ble_eq_true rfl), (Nat.le_of_ble_eq_true rfl)⟩ (fun v9 h_7 hv9 => ?_) (fun _ _ _ _ _ z _ _ => False.elim z)
    obtain ⟨r_10, rfl, g_8, e_9, hw⟩ := hv9
    have hw := hw g_8 e_9
    show X ρ K_X2_fact 22 [(0, .ref (mr ρ 25)), (1, .int p1)] [.int r_10] h_7 0 0 (phI h post) psN
    exact x_iret dX2_fact_22 rfl (Nat.le_of_ble_eq_true rfl) (Nat.le_of_ble_eq_true rfl) ⟨_, rfl, g_8, (Ext.tr e_3 e_9), hw⟩
  · have hw := wf_30 c_6
    refine x_iload_n 1 dX2_fact_11 rfl ?_
    refine x_iconst 2 dX2_fact_12 (by decide) ?_
    refine x_irem dX2_fact_13 (by decide) ?_
    obtain ⟨wt_27, wf_28⟩ := hw
    refine x_if_eq 23 dX2_fact_14 (by decide) (fun c_12 => ?_) (fun c_12 => ?_)
    · have hw := wt_27 c_12
      refine x_aload_n 0 dX2_fact_23 rfl ?_
      refine x_get (ci := 2) (v := .int (gi h_1 25 44)) 44 dX2_fact_24 (GI.s g_2 (t := (12, 0)) rfl (by decide)) rfl in_X2 (by decide) q1267 (Or.inl rfl) (fv_i rfl) ?_
      refine x_iconst 5 dX2_fact_27 (by decide) ?_
      obtain ⟨wt_20, wf_21⟩ := hw
      refine x_icmp_ne 38 dX2_fact_28 (by decide) (fun c_13 => ?_) (fun c_13 => ?_)
      · have hw := wt_20 c_13
        refine x_aload_n 0 dX2_fact_38 rfl ?_
        refine x_get (ci := 2) (v := .ref (mr ρ 53)) 41 dX2_fact_39 (GI.s g_2 (t := (12, 0)) rfl (by decide)) rfl in_X2 (by decide) q1264 (Or.inl rfl) (fv_rc rfl (GI.m g_2 (n := 53) rfl (by decide)) (by decide)) ?_
        refine x_aload_n 0 dX2_fact_42 rfl ?_
        refine x_get (ci := 2) (v := .int (gi h_1 25 44)) 44 dX2_fact_43 (GI.s g_2 (t := (12, 0)) rfl (by decide)) rfl in_X2 (by decide) q1267 (Or.inl rfl) (fv_i rfl) ?_
        refine x_iload_n 1 dX2_fact_46 rfl ?_
        obtain ⟨b_14, hw⟩ := hw
        refine x_iast (n := 5) (j := (Int32.toNatClampNeg (gi h_1 25 44))) dX2_fact_47 rfl (GI.s g_2 (t := (1, 5)) rfl (by decide)) b_14 ?_
        refine x_aload_n 0 dX2_fact_48 rfl ?_
        refine x_dup dX2_fact_49 rfl ?_
        refine x_get (ci := 2) (v := .int (gi (si h_1 53 (Int32.toNatClampNeg (gi h_1 25 44)) p1) 25 44)) 44 dX2_fact_50 (GI.s (GI.i g_2) (t := (12, 0)) rfl (by decide)) rfl in_X2 (by decide) q1267 (Or.inl rfl) (fv_i rfl) ?_
        refine x_iconst 1 dX2_fact_53 (by decide) ?_
        refine x_iadd dX2_fact_54 ?_
        refine x_put (ci := 2) 44 dX2_fact_55 (GI.s (GI.i g_2) (t := (12, 0)) rfl (by decide)) rfl in_X2 tyX2 tyX2_ok nmX2 (by decide) q1267 (Or.inl rfl) rfl rfl rfl (isPut_i rfl) ?_
        refine x_aload_n 0 dX2_fact_58 rfl ?_
        refine x_get (ci := 2) (v := .int (gi (si (si h_1 53 (Int32.toNatClampNeg (gi h_1 25 44)) p1) 25 44 ((gi (si h_1 53 (Int32.toNatClampNeg (gi h_1 25 44)) p1) 25 44) + 1)) 25 44)) 44 dX2_fact_59 (GI.s (GI.i (GI.i g_2)) (t := (12, 0)) rfl (by decide)) rfl in_X2 (by decide) q1267 (Or.inl rfl) (fv_i rfl) ?_
        refine x_iconst 1 dX2_fact_62 (by decide) ?_
        refine x_isub dX2_fact_63 ?_
        exact x_iret dX2_fact_64 rfl (Nat.le_of_ble_eq_true rfl) (Nat.le_of_ble_eq_true rfl) ⟨_, rfl, (GI.i (GI.i g_2)), (Ext.i (Ext.i e_3)), hw⟩
      · have hw := wf_21 c_13
        refine x_aload_n 0 dX2_fact_31 rfl ?_
        refine x_bipush (-6) dX2_fact_32 (by decide) ?_
        refine x_callV (ci := 2) [.int (-6)] 1 dX2_fact_34 (k_X2_no G g_2 hw) (GI.s g_2 (t := (12, 0)) rfl (by decide)) rfl q1387 q1389 qs59 q106 q1390 (by decide) rfl rfl ⟨(Nat.le_of_ble_eq_true rfl), (Nat.le_of_ble_eq_true rfl)⟩ (Nat.le_of_ble_eq_true rfl) ⟨(Nat.le_of_ble_eq_true rfl), (Nat.le_of_ble_eq_true rfl)⟩ (fun v9 h_15 hv9 => ?_) (fun _ _ _ _ _ z _ _ => False.elim z)
        obtain ⟨r_18, rfl, g_16, e_17, hw⟩ := hv9
        have hw := hw g_16 e_17
        show X ρ K_X2_fact 37 [(0, .ref (mr ρ 25)), (1, .int p1)] [.int r_18] h_15 0 0 (phI h post) psN
        exact x_iret dX2_fact_37 rfl (Nat.le_of_ble_eq_true rfl) (Nat.le_of_ble_eq_true rfl) ⟨_, rfl, g_16, (Ext.tr e_3 e_17), hw⟩
    · have hw := wf_28 c_12
      refine x_aload_n 0 dX2_fact_17 rfl ?_
      refine x_iconst (-1) dX2_fact_18 (by decide) ?_
      refine x_callV (ci := 2) [.int (-1)] 1 dX2_fact_19 (k_X2_no G g_2 hw) (GI.s g_2 (t := (12, 0)) rfl (by decide)) rfl q1387 q1389 qs59 q106 q1390 (by decide) rfl rfl ⟨(Nat.le_of_ble_eq_true rfl), (Nat.le_of_ble_eq_true rfl)⟩ (Nat.le_of_ble_eq_true rfl) ⟨(Nat.le_of_ble_eq_true rfl), (Nat.le_of_ble_eq_true rfl)⟩ (fun v9 h_22 hv9 => ?_) (fun _ _ _ _ _ z _ _ => False.elim z)
      obtain ⟨r_25, rfl, g_23, e_24, hw⟩ := hv9
      have hw := hw g_23 e_24
      show X ρ K_X2_fact 22 [(0, .ref (mr ρ 25)), (1, .int p1)] [.int r_25] h_22 0 0 (phI h post) psN
      exact x_iret dX2_fact_22 rfl (Nat.le_of_ble_eq_true rfl) (Nat.le_of_ble_eq_true rfl) ⟨_, rfl, g_23, (Ext.tr e_3 e_24), hw⟩

/-! BeforeTheEnd.had(II)I -/
def wp_X0_had (post : Int32 → Hp → Prop) (h : Hp) (p1 : Int32) (p2 : Int32) : Prop := (wp_X0_act (fun r_4 h_1 => GI h_1 → Ext h h_1 → (post r_4 h_1)) h 18 p1 p2 0)
abbrev rm_X0_had : Room := ({ frames := 19, cells := 1868, slots := 13143, locals := 599 })
abbrev K_X0_had : Kx := ("BeforeTheEnd", cX0_had, 3, (Option.some Jvm.ClassFile.FieldType.int), rm_X0_had, [], false)
set_option maxHeartbeats 4000000 in
theorem k_X0_had {ρ : Rho} {h : Hp} {post : Int32 → Hp → Prop} {p1 : Int32} {p2 : Int32} (G : G0 ρ) (g : GI h) (hw : wp_X0_had post h p1 p2) : Con ρ yX0_had (ws_ yX0_had cX0_had 3 (Option.some Jvm.ClassFile.FieldType.int)) rm_X0_had [.ref (mr ρ 1), .int p1, .int p2] h (phI h post) psN := by
  refine con_of (own := "BeforeTheEnd") (isI := false) (l0 := [(0, .ref (mr ρ 1)), (1, .int p1), (2, .int p2)]) (by decide) rfl (fun z => by cases z) (Nat.le_of_ble_eq_true rfl) rfl (fun _ => ?_)
  show X ρ K_X0_had 0 [(0, .ref (mr ρ 1)), (1, .int p1), (2, .int p2)] [] h 0 0 (phI h post) psN
  refine x_aload_n 0 dX0_had_0 rfl ?_
  refine x_bipush 18 dX0_had_1 (by decide) ?_
  refine x_iload_n 1 dX0_had_3 rfl ?_
  refine x_iload_n 2 dX0_had_4 rfl ?_
  refine x_iconst 0 dX0_had_5 (by decide) ?_
  refine x_callH (ci := 0) [.int 18, .int p1, .int p2, .int 0] 4 dX0_had_6 (k_X0_act G g hw) (GI.s g (t := (10, 0)) rfl (by decide)) rfl q383 q385 qs3 q104 q386 (by decide) rfl rfl ⟨(Nat.le_of_ble_eq_true rfl), (Nat.le_of_ble_eq_true rfl)⟩ (Nat.le_of_ble_eq_true rfl) ⟨(Nat.le_of_ble_eq_true rfl), (Nat.le_of_ble_eq_true rfl)⟩ (fun v9 h_1 hv9 => ?_) (fun _ _ _ _ _ z _ _ => False.elim z)
  obtain ⟨r_4, rfl, g_2, e_3, hw⟩ := hv9
  have hw := hw g_2 e_3
  show X ρ K_X0_had 9 [(0, .ref (mr ρ 1)), (1, .int p1), (2, .int p2)] [.int r_4] h_1 1868 13143 (phI h post) psN
  exact x_iret dX0_had_9 rfl (Nat.le_of_ble_eq_true rfl) (Nat.le_of_ble_eq_true rfl) ⟨_, rfl, g_2, e_3, hw⟩

/-! BeforeTheEndModel.bits(I)I -/
def w_X2_bits_4 (post : Int32 → Hp → Prop) : Nat → Int32 → Int32 → Int32 → Hp → Prop
  | 0 => fun _ _ _ _ => False
  | n + 1 => fun x0 x1 x2 h => ((31 ≤ x2 → (post x1 h)) ∧ (¬ 31 ≤ x2 → (∀ x1_2 : Int32, x1_2 = (x1 + ((x0 >>> (x2 &&& 31)) &&& 1)) → (w_X2_bits_4 post n x0 x1_2 (x2 + 1) h))))
def wp_X2_bits (post : Int32 → Hp → Prop) (h : Hp) (p1 : Int32) : Prop := (∃ fu : Nat, w_X2_bits_4 post fu p1 0 0 h)
abbrev rm_X2_bits : Room := ({ frames := 1, cells := 0, slots := 0, locals := 60 })
abbrev K_X2_bits : Kx := ("BeforeTheEndModel", cX2_bits, 3, (Option.some Jvm.ClassFile.FieldType.int), rm_X2_bits, [], false)
set_option maxHeartbeats 4000000 in
theorem t_X2_bits_4 {ρ : Rho} {h0 : Hp} {post : Int32 → Hp → Prop} (G : G0 ρ) :
    ∀ (n : Nat), ∀ (x0 : Int32) (x1 : Int32) (x2 : Int32) (h : Hp), GI h → Ext h0 h → w_X2_bits_4 post n x0 x1 x2 h → X ρ K_X2_bits 4 [(0, .int x0), (1, .int x1), (2, .int x2)] [] h 0 0 (phI h0 post) psN := by
  intro n
  induction n with
  | zero => intro x0 x1 x2 h g e hw; exact False.elim hw
  | succ n ih =>
    intro x0 x1 x2 h g e hw
    refine x_iload_n 2 dX2_bits_4 rfl ?_
    refine x_bipush 31 dX2_bits_5 (by decide) ?_
    obtain ⟨wt_3, wf_4⟩ := hw
    refine x_icmp_ge 24 dX2_bits_7 (by decide) (fun c_1 => ?_) (fun c_1 => ?_)
    · have hw := wt_3 c_1
      refine x_iload_n 1 dX2_bits_24 rfl ?_
      exact x_iret dX2_bits_25 rfl (Nat.le_of_ble_eq_true rfl) (Nat.le_of_ble_eq_true rfl) ⟨_, rfl, g, e, hw⟩
    · have hw := wf_4 c_1
      refine x_iload_n 1 dX2_bits_10 rfl ?_
      refine x_iload_n 0 dX2_bits_11 rfl ?_
      refine x_iload_n 2 dX2_bits_12 rfl ?_
      refine x_ishr dX2_bits_13 ?_
      refine x_iconst 1 dX2_bits_14 (by decide) ?_
      refine x_iand dX2_bits_15 ?_
      refine x_iadd dX2_bits_16 ?_
      refine x_nmi (fun x1_2 ex1_2 => ?_)
      have hw := hw x1_2 ex1_2
      refine x_istore_n (lv' := [(1, .int x1_2), (0, .int x0), (2, .int x2)]) dX2_bits_17 (Nat.le_of_ble_eq_true rfl) rfl ?_
      refine x_iinc (v := (x2 + 1)) (lv' := [(2, .int (x2 + 1)), (1, .int x1_2), (0, .int x0)]) 2 dX2_bits_18 rfl (by rfl) (Nat.le_of_ble_eq_true rfl) rfl ?_
      refine x_goto 4 dX2_bits_21 (by decide) ?_
      refine X.sub [2, 1, 0] rfl ?_
      exact ih x0 x1_2 (x2 + 1) h g e hw
set_option maxHeartbeats 4000000 in
theorem k_X2_bits {ρ : Rho} {h : Hp} {post : Int32 → Hp → Prop} {p1 : Int32} (G : G0 ρ) (g : GI h) (hw : wp_X2_bits post h p1) : Con ρ yX2_bits (ws_ yX2_bits cX2_bits 3 (Option.some Jvm.ClassFile.FieldType.int)) rm_X2_bits [.int p1] h (phI h post) psN := by
  refine con_of (own := "BeforeTheEndModel") (isI := false) (l0 := [(0, .int p1)]) (by decide) rfl (fun z => by cases z) (Nat.le_of_ble_eq_true rfl) rfl (fun _ => ?_)
  show X ρ K_X2_bits 0 [(0, .int p1)] [] h 0 0 (phI h post) psN
  refine x_iconst 0 dX2_bits_0 (by decide) ?_
  refine x_istore_n (lv' := [(1, .int 0), (0, .int p1)]) dX2_bits_1 (Nat.le_of_ble_eq_true rfl) rfl ?_
  refine x_iconst 0 dX2_bits_2 (by decide) ?_
  refine x_istore_n (lv' := [(2, .int 0), (1, .int 0), (0, .int p1)]) dX2_bits_3 (Nat.le_of_ble_eq_true rfl) rfl ?_
  refine X.sub [2, 1, 0] rfl ?_
  obtain ⟨fu, hw⟩ := hw
  exact t_X2_bits_4 G  fu p1 0 0 h g Ext.rf hw

/-! BeforeTheEndModel.hadOf(I)I -/
def w_X2_hadOf_6 (post : Int32 → Hp → Prop) : Nat → Int32 → Int32 → Int32 → Hp → Prop
  | 0 => fun _ _ _ _ => False
  | n + 1 => fun x1 x2 x3 h => ((x1 ≤ x3 → (post 6 h)) ∧ (¬ x1 ≤ x3 → (vp_in x3 5 ∧ (vp_in (gi h 54 (Int32.toNatClampNeg x3)) 5 ∧ (∀ x2_4 : Int32, x2_4 = (x2 &&& (gi h 53 (Int32.toNatClampNeg (gi h 54 (Int32.toNatClampNeg x3))))) → (wp_X2_bits (fun r_8 h_5 => GI h_5 → Ext h h_5 → ((¬ r_8 = 1 → (w_X2_hadOf_6 post n x1 x2_4 (x3 + 1) h_5)) ∧ (r_8 = 1 → (post (x3 + 1) h_5)))) h x2_4))))))
def wp_X2_hadOf (post : Int32 → Hp → Prop) (h : Hp) (p1 : Int32) : Prop := (∃ fu : Nat, w_X2_hadOf_6 post fu p1 1022 0 h)
abbrev rm_X2_hadOf : Room := ({ frames := 2, cells := 0, slots := 0, locals := 82 })
abbrev K_X2_hadOf : Kx := ("BeforeTheEndModel", cX2_hadOf, 4, (Option.some Jvm.ClassFile.FieldType.int), rm_X2_hadOf, [], false)
set_option maxHeartbeats 4000000 in
theorem t_X2_hadOf_6 {ρ : Rho} {h0 : Hp} {post : Int32 → Hp → Prop} (G : G0 ρ) :
    ∀ (n : Nat), ∀ (x1 : Int32) (x2 : Int32) (x3 : Int32) (h : Hp), GI h → Ext h0 h → w_X2_hadOf_6 post n x1 x2 x3 h → X ρ K_X2_hadOf 6 [(0, .ref (mr ρ 25)), (1, .int x1), (2, .int x2), (3, .int x3)] [] h 0 0 (phI h0 post) psN := by
  intro n
  induction n with
  | zero => intro x1 x2 x3 h g e hw; exact False.elim hw
  | succ n ih =>
    intro x1 x2 x3 h g e hw
    refine x_iload_n 3 dX2_hadOf_6 rfl ?_
    refine x_iload_n 1 dX2_hadOf_7 rfl ?_
    obtain ⟨wt_13, wf_14⟩ := hw
    refine x_icmp_ge 43 dX2_hadOf_8 (by decide) (fun c_1 => ?_) (fun c_1 => ?_)
    · have hw := wt_13 c_1
      refine x_bipush 6 dX2_hadOf_43 (by decide) ?_
      exact x_iret dX2_hadOf_45 rfl (Nat.le_of_ble_eq_true rfl) (Nat.le_of_ble_eq_true rfl) ⟨_, rfl, g, e, hw⟩
    · have hw := wf_14 c_1
      refine x_iload_n 2 dX2_hadOf_11 rfl ?_
      refine x_aload_n 0 dX2_hadOf_12 rfl ?_
      refine x_get (ci := 2) (v := .ref (mr ρ 53)) 41 dX2_hadOf_13 (GI.s g (t := (12, 0)) rfl (by decide)) rfl in_X2 (by decide) q1264 (Or.inl rfl) (fv_rc rfl (GI.m g (n := 53) rfl (by decide)) (by decide)) ?_
      refine x_aload_n 0 dX2_hadOf_16 rfl ?_
      refine x_get (ci := 2) (v := .ref (mr ρ 54)) 42 dX2_hadOf_17 (GI.s g (t := (12, 0)) rfl (by decide)) rfl in_X2 (by decide) q1265 (Or.inl rfl) (fv_rc rfl (GI.m g (n := 54) rfl (by decide)) (by decide)) ?_
      refine x_iload_n 3 dX2_hadOf_20 rfl ?_
      obtain ⟨b_2, hw⟩ := hw
      refine x_iald (n := 5) (j := (Int32.toNatClampNeg x3)) dX2_hadOf_21 rfl (GI.s g (t := (1, 5)) rfl (by decide)) b_2 ?_
      obtain ⟨b_3, hw⟩ := hw
      refine x_iald (n := 5) (j := (Int32.toNatClampNeg (gi h 54 (Int32.toNatClampNeg x3)))) dX2_hadOf_22 rfl (GI.s g (t := (1, 5)) rfl (by decide)) b_3 ?_
      refine x_iand dX2_hadOf_23 ?_
      refine x_nmi (fun x2_4 ex2_4 => ?_)
      have hw := hw x2_4 ex2_4
      refine x_istore_n (lv' := [(2, .int x2_4), (0, .ref (mr ρ 25)), (1, .int x1), (3, .int x3)]) dX2_hadOf_24 (Nat.le_of_ble_eq_true rfl) rfl ?_
      refine x_iload_n 0 dX2_hadOf_25 rfl ?_
      refine x_callS [.int x2_4] 1 dX2_hadOf_26 (k_X2_bits G g hw) q1651 q1652 q106 q1653 (by decide) rfl rfl ⟨(Nat.le_of_ble_eq_true rfl), (Nat.le_of_ble_eq_true rfl)⟩ (Nat.le_of_ble_eq_true rfl) ⟨(Nat.le_of_ble_eq_true rfl), (Nat.le_of_ble_eq_true rfl)⟩ (fun v9 h_5 hv9 => ?_) (fun _ _ _ _ _ z _ _ => False.elim z)
      obtain ⟨r_8, rfl, g_6, e_7, hw⟩ := hv9
      have hw := hw g_6 e_7
      show X ρ K_X2_hadOf 29 [(2, .int x2_4), (0, .ref (mr ρ 25)), (1, .int x1), (3, .int x3)] [.int r_8] h_5 0 0 (phI h0 post) psN
      refine x_iconst 1 dX2_hadOf_29 (by decide) ?_
      obtain ⟨wt_11, wf_12⟩ := hw
      refine x_icmp_ne 37 dX2_hadOf_30 (by decide) (fun c_10 => ?_) (fun c_10 => ?_)
      · have hw := wt_11 c_10
        refine x_iinc (v := (x3 + 1)) (lv' := [(3, .int (x3 + 1)), (2, .int x2_4), (0, .ref (mr ρ 25)), (1, .int x1)]) 3 dX2_hadOf_37 rfl (by rfl) (Nat.le_of_ble_eq_true rfl) rfl ?_
        refine x_goto 6 dX2_hadOf_40 (by decide) ?_
        refine X.sub [2, 3, 1, 0] rfl ?_
        exact ih x1 x2_4 (x3 + 1) h_5 g_6 (Ext.tr e e_7) hw
      · have hw := wf_12 c_10
        refine x_iload_n 3 dX2_hadOf_33 rfl ?_
        refine x_iconst 1 dX2_hadOf_34 (by decide) ?_
        refine x_iadd dX2_hadOf_35 ?_
        exact x_iret dX2_hadOf_36 rfl (Nat.le_of_ble_eq_true rfl) (Nat.le_of_ble_eq_true rfl) ⟨_, rfl, g_6, (Ext.tr e e_7), hw⟩
set_option maxHeartbeats 4000000 in
theorem k_X2_hadOf {ρ : Rho} {h : Hp} {post : Int32 → Hp → Prop} {p1 : Int32} (G : G0 ρ) (g : GI h) (hw : wp_X2_hadOf post h p1) : Con ρ yX2_hadOf (ws_ yX2_hadOf cX2_hadOf 4 (Option.some Jvm.ClassFile.FieldType.int)) rm_X2_hadOf [.ref (mr ρ 25), .int p1] h (phI h post) psN := by
  refine con_of (own := "BeforeTheEndModel") (isI := false) (l0 := [(0, .ref (mr ρ 25)), (1, .int p1)]) (by decide) rfl (fun z => by cases z) (Nat.le_of_ble_eq_true rfl) rfl (fun _ => ?_)
  show X ρ K_X2_hadOf 0 [(0, .ref (mr ρ 25)), (1, .int p1)] [] h 0 0 (phI h post) psN
  refine x_sipush 1022 dX2_hadOf_0 (by decide) ?_
  refine x_istore_n (lv' := [(2, .int 1022), (0, .ref (mr ρ 25)), (1, .int p1)]) dX2_hadOf_3 (Nat.le_of_ble_eq_true rfl) rfl ?_
  refine x_iconst 0 dX2_hadOf_4 (by decide) ?_
  refine x_istore_n (lv' := [(3, .int 0), (2, .int 1022), (0, .ref (mr ρ 25)), (1, .int p1)]) dX2_hadOf_5 (Nat.le_of_ble_eq_true rfl) rfl ?_
  refine X.sub [2, 3, 1, 0] rfl ?_
  obtain ⟨fu, hw⟩ := hw
  exact t_X2_hadOf_6 G  fu p1 1022 0 h g Ext.rf hw
