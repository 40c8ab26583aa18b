/-! THE WALK, printed by wip/D-93865w/gen/main.py -/
set_option maxRecDepth 100000
/-! BeforeTheEndModel.had(II)I -/
def w_X2_had_36 (post : Int32 → Hp → Prop) : Nat → Int32 → Int32 → Int32 → Int32 → Hp → Prop
  | 0 => fun _ _ _ _ _ => False
  | n + 1 => fun x1 x4 x5 x6 h => ((x1 ≤ x6 → (wp_X2_hadOf (fun r_5 h_2 => GI h_2 → Ext h h_2 → (post r_5 h_2)) h x1)) ∧ (¬ x1 ≤ x6 → (((gi h 25 44) ≤ (x4 - x4 / 10 * 10) → (wp_X2_no (fun r_11 h_8 => GI h_8 → Ext h h_8 → (post r_11 h_8)) h (-1))) ∧ (¬ (gi h 25 44) ≤ (x4 - x4 / 10 * 10) → ((¬ ((x5 >>> ((x4 - x4 / 10 * 10) &&& 31)) &&& 1) = 1 → (∀ x5_14 : Int32, x5_14 = (x5 ||| (1 <<< ((x4 - x4 / 10 * 10) &&& 31))) → (vp_in x6 5 ∧ (w_X2_had_36 post n x1 (x4 / 10) x5_14 (x6 + 1) (si h 54 (Int32.toNatClampNeg x6) (x4 - x4 / 10 * 10)))))) ∧ (((x5 >>> ((x4 - x4 / 10 * 10) &&& 31)) &&& 1) = 1 → (wp_X2_no (fun r_19 h_16 => GI h_16 → Ext h h_16 → (post r_19 h_16)) h (-1))))))))
def wp_X2_had (post : Int32 → Hp → Prop) (h : Hp) (p1 : Int32) (p2 : Int32) : Prop := (wp_X2_bound (fun r_4 h_1 => GI h_1 → Ext h h_1 → ((r_4 = 0 → ((0 ≤ p2 → (∃ fu : Nat, w_X2_had_36 post fu p1 p2 0 0 h_1)) ∧ (¬ 0 ≤ p2 → (wp_X2_no (fun r_11 h_8 => GI h_8 → Ext h_1 h_8 → (post r_11 h_8)) h_1 (-1))))) ∧ (¬ r_4 = 0 → (wp_X2_no (fun r_18 h_15 => GI h_15 → Ext h_1 h_15 → (post r_18 h_15)) h_1 r_4)))) h p1 0 5)
abbrev rm_X2_had : Room := ({ frames := 3, cells := 0, slots := 0, locals := 105 })
abbrev K_X2_had : Kx := ("BeforeTheEndModel", cX2_had, 8, (Option.some Jvm.ClassFile.FieldType.int), rm_X2_had, [], false)
set_option maxHeartbeats 4000000 in
theorem t_X2_had_36 {ρ : Rho} {h0 : Hp} {post : Int32 → Hp → Prop} (G : G0 ρ) :
    ∀ (n : Nat), ∀ (x1 : Int32) (x4 : Int32) (x5 : Int32) (x6 : Int32) (h : Hp), GI h → Ext h0 h → w_X2_had_36 post n x1 x4 x5 x6 h → X ρ K_X2_had 36 [(0, .ref (mr ρ 25)), (1, .int x1), (4, .int x4), (5, .int x5), (6, .int x6)] [] h 0 0 (phI h0 post) psN := by
  intro n
  induction n with
  | zero => intro x1 x4 x5 x6 h g e hw; exact False.elim hw
  | succ n ih =>
    intro x1 x4 x5 x6 h g e hw
    refine x_iload 4 dX2_had_36 rfl ?_
    refine x_iload_n 1 dX2_had_38 rfl ?_
    obtain ⟨wt_25, wf_26⟩ := hw
    refine x_icmp_ge 106 dX2_had_39 (by decide) (fun c_1 => ?_) (fun c_1 => ?_)
    · have hw := wt_25 c_1
      refine x_aload_n 0 dX2_had_106 rfl ?_
      refine x_iload_n 1 dX2_had_107 rfl ?_
      refine x_callV (ci := 2) [.int x1] 1 dX2_had_108 (k_X2_hadOf G g hw) (GI.s g (t := (12, 0)) rfl (by decide)) rfl q1647 q1649 qs95 q106 q1650 (by decide) rfl rfl ⟨(Nat.le_of_ble_eq_true rfl), (Nat.le_of_ble_eq_true rfl)⟩ (Nat.le_of_ble_eq_true rfl) ⟨(Nat.le_of_ble_eq_true rfl), (Nat.le_of_ble_eq_true rfl)⟩ (fun v9 h_2 hv9 => ?_) (fun _ _ _ _ _ z _ _ => False.elim z)
      obtain ⟨r_5, rfl, g_3, e_4, hw⟩ := hv9
      have hw := hw g_3 e_4
      show X ρ K_X2_had 111 [(0, .ref (mr ρ 25)), (1, .int x1), (4, .int x4), (5, .int x5), (6, .int x6)] [.int r_5] h_2 0 0 (phI h0 post) psN
      exact x_iret dX2_had_111 rfl (Nat.le_of_ble_eq_true rfl) (Nat.le_of_ble_eq_true rfl) ⟨_, rfl, g_3, (Ext.tr e e_4), hw⟩
    · have hw := wf_26 c_1
      refine x_iload 2 dX2_had_42 rfl ?_
      refine x_bipush 10 dX2_had_44 (by decide) ?_
      refine x_irem dX2_had_46 (by decide) ?_
      refine x_istore (lv' := [(7, .int (x4 - x4 / 10 * 10)), (0, .ref (mr ρ 25)), (1, .int x1), (4, .int x4), (5, .int x5), (6, .int x6)]) dX2_had_47 (Nat.le_of_ble_eq_true rfl) rfl ?_
      refine x_iload 3 dX2_had_49 rfl ?_
      refine x_bipush 10 dX2_had_51 (by decide) ?_
      refine x_idiv dX2_had_53 (by decide) ?_
      refine x_istore (lv' := [(4, .int (x4 / 10)), (7, .int (x4 - x4 / 10 * 10)), (0, .ref (mr ρ 25)), (1, .int x1), (5, .int x5), (6, .int x6)]) dX2_had_54 (Nat.le_of_ble_eq_true rfl) rfl ?_
      refine x_iload 1 dX2_had_56 rfl ?_
      refine x_aload_n 2 dX2_had_58 rfl ?_
      refine x_get (ci := 2) (v := .int (gi h 25 44)) 44 dX2_had_59 (GI.s g (t := (12, 0)) rfl (by decide)) rfl in_X2 (by decide) q1267 (Or.inl rfl) (fv_i rfl) ?_
      obtain ⟨wt_23, wf_24⟩ := hw
      refine x_icmp_ge 76 dX2_had_62 (by decide) (fun c_7 => ?_) (fun c_7 => ?_)
      · have hw := wt_23 c_7
        refine x_aload_n 2 dX2_had_76 rfl ?_
        refine x_iconst (-1) dX2_had_77 (by decide) ?_
        refine x_callV (ci := 2) [.int (-1)] 1 dX2_had_78 (k_X2_no G g hw) (GI.s g (t := (12, 0)) rfl (by decide)) rfl q1387 q1389 qs59 q106 q1390 (by decide) rfl rfl ⟨(Nat.le_of_ble_eq_true rfl), (Nat.le_of_ble_eq_true rfl)⟩ (Nat.le_of_ble_eq_true rfl) ⟨(Nat.le_of_ble_eq_true rfl), (Nat.le_of_ble_eq_true rfl)⟩ (fun v9 h_8 hv9 => ?_) (fun _ _ _ _ _ z _ _ => False.elim z)
        obtain ⟨r_11, rfl, g_9, e_10, hw⟩ := hv9
        have hw := hw g_9 e_10
        show X ρ K_X2_had 81 [(4, .int (x4 / 10)), (7, .int (x4 - x4 / 10 * 10)), (0, .ref (mr ρ 25)), (1, .int x1), (5, .int x5), (6, .int x6)] [.int r_11] h_8 0 0 (phI h0 post) psN
        exact x_iret dX2_had_81 rfl (Nat.le_of_ble_eq_true rfl) (Nat.le_of_ble_eq_true rfl) ⟨_, rfl, g_9, (Ext.tr e e_10), hw⟩
      · have hw := wf_24 c_7
        refine x_iload 4 dX2_had_65 rfl ?_
        refine x_iload 1 dX2_had_67 rfl ?_
        refine x_ishr dX2_had_69 ?_
        refine x_iconst 1 dX2_had_70 (by decide) ?_
        refine x_iand dX2_had_71 ?_
        refine x_iconst 1 dX2_had_72 (by decide) ?_
        obtain ⟨wt_21, wf_22⟩ := hw
        refine x_icmp_ne 82 dX2_had_73 (by decide) (fun c_13 => ?_) (fun c_13 => ?_)
        · have hw := wt_21 c_13
          refine x_iload 4 dX2_had_82 rfl ?_
          refine x_iconst 1 dX2_had_84 (by decide) ?_
          refine x_iload 1 dX2_had_85 rfl ?_
          refine x_ishl dX2_had_87 ?_
          refine x_ior dX2_had_88 ?_
          refine x_nmi (fun x5_14 ex5_14 => ?_)
          have hw := hw x5_14 ex5_14
          refine x_istore (lv' := [(5, .int x5_14), (4, .int (x4 / 10)), (7, .int (x4 - x4 / 10 * 10)), (0, .ref (mr ρ 25)), (1, .int x1), (6, .int x6)]) dX2_had_89 (Nat.le_of_ble_eq_true rfl) rfl ?_
          refine x_aload_n 3 dX2_had_91 rfl ?_
          refine x_get (ci := 2) (v := .ref (mr ρ 54)) 42 dX2_had_92 (GI.s g (t := (12, 0)) rfl (by decide)) rfl in_X2 (by decide) q1265 (Or.inl rfl) (fv_rc rfl (GI.m g (n := 54) rfl (by decide)) (by decide)) ?_
          refine x_iload 5 dX2_had_95 rfl ?_
          refine x_iload 2 dX2_had_97 rfl ?_
          obtain ⟨b_15, hw⟩ := hw
          refine x_iast (n := 5) (j := (Int32.toNatClampNeg x6)) dX2_had_99 rfl (GI.s g (t := (1, 5)) rfl (by decide)) b_15 ?_
          refine x_iinc (v := (x6 + 1)) (lv' := [(6, .int (x6 + 1)), (5, .int x5_14), (4, .int (x4 / 10)), (7, .int (x4 - x4 / 10 * 10)), (0, .ref (mr ρ 25)), (1, .int x1)]) 5 dX2_had_100 rfl (by rfl) (Nat.le_of_ble_eq_true rfl) rfl ?_
          refine x_goto 36 dX2_had_103 (by decide) ?_
          refine X.sub [4, 5, 2, 1, 0] rfl ?_
          exact ih x1 (x4 / 10) x5_14 (x6 + 1) (si h 54 (Int32.toNatClampNeg x6) (x4 - x4 / 10 * 10)) (GI.i g) (Ext.i e) hw
        · have hw := wf_22 c_13
          refine x_aload_n 2 dX2_had_76 rfl ?_
          refine x_iconst (-1) dX2_had_77 (by decide) ?_
          refine x_callV (ci := 2) [.int (-1)] 1 dX2_had_78 (k_X2_no G g hw) (GI.s g (t := (12, 0)) rfl (by decide)) rfl q1387 q1389 qs59 q106 q1390 (by decide) rfl rfl ⟨(Nat.le_of_ble_eq_true rfl), (Nat.le_of_ble_eq_true rfl)⟩ (Nat.le_of_ble_eq_true rfl) ⟨(Nat.le_of_ble_eq_true rfl), (Nat.le_of_ble_eq_true rfl)⟩ (fun v9 h_16 hv9 => ?_) (fun _ _ _ _ _ z _ _ => False.elim z)
          obtain ⟨r_19, rfl, g_17, e_18, hw⟩ := hv9
          have hw := hw g_17 e_18
          show X ρ K_X2_had 81 [(4, .int (x4 / 10)), (7, .int (x4 - x4 / 10 * 10)), (0, .ref (mr ρ 25)), (1, .int x1), (5, .int x5), (6, .int x6)] [.int r_19] h_16 0 0 (phI h0 post) psN
          exact x_iret dX2_had_81 rfl (Nat.le_of_ble_eq_true rfl) (Nat.le_of_ble_eq_true rfl) ⟨_, rfl, g_17, (Ext.tr e e_18), hw⟩
set_option maxHeartbeats 4000000 in
theorem k_X2_had {ρ : Rho} {h : Hp} {post : Int32 → Hp → Prop} {p1 : Int32} {p2 : Int32} (G : G0 ρ) (g : GI h) (hw : wp_X2_had post h p1 p2) : Con ρ yX2_had (ws_ yX2_had cX2_had 8 (Option.some Jvm.ClassFile.FieldType.int)) rm_X2_had [.ref (mr ρ 25), .int p1, .int p2] h (phI h post) psN := by
  refine con_of (own := "BeforeTheEndModel") (isI := false) (l0 := [(0, .ref (mr ρ 25)), (1, .int p1), (2, .int p2)]) (by decide) rfl (fun z => by cases z) (Nat.le_of_ble_eq_true rfl) rfl (fun _ => ?_)
  show X ρ K_X2_had 0 [(0, .ref (mr ρ 25)), (1, .int p1), (2, .int p2)] [] h 0 0 (phI h post) psN
  refine x_iload_n 1 dX2_had_0 rfl ?_
  refine x_iconst 0 dX2_had_1 (by decide) ?_
  refine x_iconst 5 dX2_had_2 (by decide) ?_
  refine x_callS [.int p1, .int 0, .int 5] 3 dX2_had_3 (k_X2_bound G g hw) q1384 q1385 q106 q1386 (by decide) rfl rfl ⟨(Nat.le_of_ble_eq_true rfl), (Nat.le_of_ble_eq_true rfl)⟩ (Nat.le_of_ble_eq_true rfl) ⟨(Nat.le_of_ble_eq_true rfl), (Nat.le_of_ble_eq_true rfl)⟩ (fun v9 h_1 hv9 => ?_) (fun _ _ _ _ _ z _ _ => False.elim z)
  obtain ⟨r_4, rfl, g_2, e_3, hw⟩ := hv9
  have hw := hw g_2 e_3
  show X ρ K_X2_had 6 [(0, .ref (mr ρ 25)), (1, .int p1), (2, .int p2)] [.int r_4] h_1 0 0 (phI h post) psN
  refine x_istore_n (lv' := [(3, .int r_4), (0, .ref (mr ρ 25)), (1, .int p1), (2, .int p2)]) dX2_had_6 (Nat.le_of_ble_eq_true rfl) rfl ?_
  refine x_iload_n 0 dX2_had_7 rfl ?_
  obtain ⟨wt_20, wf_21⟩ := hw
  refine x_if_eq 17 dX2_had_8 (by decide) (fun c_6 => ?_) (fun c_6 => ?_)
  · have hw := wt_20 c_6
    refine x_iload_n 3 dX2_had_17 rfl ?_
    obtain ⟨wt_13, wf_14⟩ := hw
    refine x_if_ge 27 dX2_had_18 (by decide) (fun c_7 => ?_) (fun c_7 => ?_)
    · have hw := wt_13 c_7
      refine x_iload_n 3 dX2_had_27 rfl ?_
      refine x_istore (lv' := [(4, .int p2), (3, .int r_4), (0, .ref (mr ρ 25)), (1, .int p1), (2, .int p2)]) dX2_had_28 (Nat.le_of_ble_eq_true rfl) rfl ?_
      refine x_iconst 0 dX2_had_30 (by decide) ?_
      refine x_istore (lv' := [(5, .int 0), (4, .int p2), (3, .int r_4), (0, .ref (mr ρ 25)), (1, .int p1), (2, .int p2)]) dX2_had_31 (Nat.le_of_ble_eq_true rfl) rfl ?_
      refine x_iconst 0 dX2_had_33 (by decide) ?_
      refine x_istore (lv' := [(6, .int 0), (5, .int 0), (4, .int p2), (3, .int r_4), (0, .ref (mr ρ 25)), (1, .int p1), (2, .int p2)]) dX2_had_34 (Nat.le_of_ble_eq_true rfl) rfl ?_
      refine X.sub [4, 5, 2, 1, 0] rfl ?_
      obtain ⟨fu, hw⟩ := hw
      exact t_X2_had_36 G  fu p1 p2 0 0 h_1 g_2 e_3 hw
    · have hw := wf_14 c_7
      refine x_aload_n 1 dX2_had_21 rfl ?_
      refine x_iconst (-1) dX2_had_22 (by decide) ?_
      refine x_callV (ci := 2) [.int (-1)] 1 dX2_had_23 (k_X2_no G g_2 hw) (GI.s g_2 (t := (12, 0)) rfl (by decide)) rfl q1387 q1389 qs59 q106 q1390 (by decide) rfl rfl ⟨(Nat.le_of_ble_eq_true rfl), (Nat.le_of_ble_eq_true rfl)⟩ (Nat.le_of_ble_eq_true rfl) ⟨(Nat.le_of_ble_eq_true rfl), (Nat.le_of_ble_eq_true rfl)⟩ (fun v9 h_8 hv9 => ?_) (fun _ _ _ _ _ z _ _ => False.elim z)
      obtain ⟨r_11, rfl, g_9, e_10, hw⟩ := hv9
      have hw := hw g_9 e_10
      show X ρ K_X2_had 26 [(3, .int r_4), (0, .ref (mr ρ 25)), (1, .int p1), (2, .int p2)] [.int r_11] h_8 0 0 (phI h post) psN
      exact x_iret dX2_had_26 rfl (Nat.le_of_ble_eq_true rfl) (Nat.le_of_ble_eq_true rfl) ⟨_, rfl, g_9, (Ext.tr e_3 e_10), hw⟩
  · have hw := wf_21 c_6
    refine x_aload_n 1 dX2_had_11 rfl ?_
    refine x_iload_n 0 dX2_had_12 rfl ?_
    refine x_callV (ci := 2) [.int r_4] 1 dX2_had_13 (k_X2_no G g_2 hw) (GI.s g_2 (t := (12, 0)) rfl (by decide)) rfl q1387 q1389 qs59 q106 q1390 (by decide) rfl rfl ⟨(Nat.le_of_ble_eq_true rfl), (Nat.le_of_ble_eq_true rfl)⟩ (Nat.le_of_ble_eq_true rfl) ⟨(Nat.le_of_ble_eq_true rfl), (Nat.le_of_ble_eq_true rfl)⟩ (fun v9 h_15 hv9 => ?_) (fun _ _ _ _ _ z _ _ => False.elim z)
    obtain ⟨r_18, rfl, g_16, e_17, hw⟩ := hv9
    have hw := hw g_16 e_17
    show X ρ K_X2_had 16 [(3, .int r_4), (0, .ref (mr ρ 25)), (1, .int p1), (2, .int p2)] [.int r_18] h_15 0 0 (phI h post) psN
    exact x_iret dX2_had_16 rfl (Nat.le_of_ble_eq_true rfl) (Nat.le_of_ble_eq_true rfl) ⟨_, rfl, g_16, (Ext.tr e_3 e_17), hw⟩

/-! BeforeTheEnd.late(I)I -/
def wp_X0_late (post : Int32 → Hp → Prop) (h : Hp) (p1 : Int32) : Prop := (wp_X0_act (fun r_4 h_1 => GI h_1 → Ext h h_1 → (post r_4 h_1)) h 19 p1 0 0)
abbrev rm_X0_late : Room := ({ frames := 19, cells := 1868, slots := 13143, locals := 599 })
abbrev K_X0_late : Kx := ("BeforeTheEnd", cX0_late, 2, (Option.some Jvm.ClassFile.FieldType.int), rm_X0_late, [], false)
set_option maxHeartbeats 4000000 in
theorem k_X0_late {ρ : Rho} {h : Hp} {post : Int32 → Hp → Prop} {p1 : Int32} (G : G0 ρ) (g : GI h) (hw : wp_X0_late post h p1) : Con ρ yX0_late (ws_ yX0_late cX0_late 2 (Option.some Jvm.ClassFile.FieldType.int)) rm_X0_late [.ref (mr ρ 1), .int p1] h (phI h post) psN := by
  refine con_of (own := "BeforeTheEnd") (isI := false) (l0 := [(0, .ref (mr ρ 1)), (1, .int p1)]) (by decide) rfl (fun z => by cases z) (Nat.le_of_ble_eq_true rfl) rfl (fun _ => ?_)
  show X ρ K_X0_late 0 [(0, .ref (mr ρ 1)), (1, .int p1)] [] h 0 0 (phI h post) psN
  refine x_aload_n 0 dX0_late_0 rfl ?_
  refine x_bipush 19 dX0_late_1 (by decide) ?_
  refine x_iload_n 1 dX0_late_3 rfl ?_
  refine x_iconst 0 dX0_late_4 (by decide) ?_
  refine x_iconst 0 dX0_late_5 (by decide) ?_
  refine x_callH (ci := 0) [.int 19, .int p1, .int 0, .int 0] 4 dX0_late_6 (k_X0_act G g hw) (GI.s g (t := (10, 0)) rfl (by decide)) rfl q383 q385 qs3 q104 q386 (by decide) rfl rfl ⟨(Nat.le_of_ble_eq_true rfl), (Nat.le_of_ble_eq_true rfl)⟩ (Nat.le_of_ble_eq_true rfl) ⟨(Nat.le_of_ble_eq_true rfl), (Nat.le_of_ble_eq_true rfl)⟩ (fun v9 h_1 hv9 => ?_) (fun _ _ _ _ _ z _ _ => False.elim z)
  obtain ⟨r_4, rfl, g_2, e_3, hw⟩ := hv9
  have hw := hw g_2 e_3
  show X ρ K_X0_late 9 [(0, .ref (mr ρ 1)), (1, .int p1)] [.int r_4] h_1 1868 13143 (phI h post) psN
  exact x_iret dX0_late_9 rfl (Nat.le_of_ble_eq_true rfl) (Nat.le_of_ble_eq_true rfl) ⟨_, rfl, g_2, e_3, hw⟩

/-! BeforeTheEndModel.ordered(I)V -/
def w_X2_ordered_73 (post : Hp → Prop) (K35 : Int32 → Int32 → Int32 → Int32 → Hp → Prop) (K58 : Int32 → Int32 → Int32 → Int32 → Int32 → Int32 → Hp → Prop) (x2 : Int32) (x3 : Int32) (x4 : Int32) (x5 : Int32) (x6 : Int32) (x7 : Int32) (h : Hp) : Prop := (∀ z_2 : Int32, z_2 = ((if ((x2 >>> (x7 &&& 31)) &&& 1) = 0 then 1 else 0) : Int32) → (K58 x2 x3 x4 x5 (x6 - z_2) (x7 + 1) h))
def w_X2_ordered_58 (post : Hp → Prop) (K35 : Int32 → Int32 → Int32 → Int32 → Hp → Prop) : Nat → Int32 → Int32 → Int32 → Int32 → Int32 → Int32 → Hp → Prop
  | 0 => fun _ _ _ _ _ _ _ => False
  | n + 1 => fun x2 x3 x4 x5 x6 x7 h => ((((x2 >>> (x7 &&& 31)) &&& 1) = 1 → (w_X2_ordered_73 post K35 (w_X2_ordered_58 post K35 n) x2 x3 x4 x5 x6 x7 h)) ∧ (¬ ((x2 >>> (x7 &&& 31)) &&& 1) = 1 → ((x6 ≤ 0 → (vp_in x5 5 ∧ (((((gi (si h 54 (Int32.toNatClampNeg x5) x7) 25 44) - 1) - x5) ≤ 0 → (K35 (x2 ||| (1 <<< (x7 &&& 31))) x3 x4 (x5 + 1) (si h 54 (Int32.toNatClampNeg x5) x7))) ∧ (¬ (((gi (si h 54 (Int32.toNatClampNeg x5) x7) 25 44) - 1) - x5) ≤ 0 → (¬ (((gi (si h 54 (Int32.toNatClampNeg x5) x7) 25 44) - 1) - x5) = 0 ∧ (∀ x4_6 : Int32, x4_6 = (x4 / (((gi (si h 54 (Int32.toNatClampNeg x5) x7) 25 44) - 1) - x5)) → (K35 (x2 ||| (1 <<< (x7 &&& 31))) x3 x4_6 (x5 + 1) (si h 54 (Int32.toNatClampNeg x5) x7)))))))) ∧ (¬ x6 ≤ 0 → (w_X2_ordered_73 post K35 (w_X2_ordered_58 post K35 n) x2 x3 x4 x5 x6 x7 h)))))
def w_X2_ordered_35 (post : Hp → Prop) : Nat → Int32 → Int32 → Int32 → Int32 → Hp → Prop
  | 0 => fun _ _ _ _ _ => False
  | n + 1 => fun x2 x3 x4 x5 h => (((gi h 25 44) ≤ x5 → (post h)) ∧ (¬ (gi h 25 44) ≤ x5 → (¬ x4 = 0 ∧ (¬ x4 = 0 ∧ (∃ fu : Nat, w_X2_ordered_58 post (w_X2_ordered_35 post n) fu x2 (x3 - x3 / x4 * x4) x4 x5 (x3 / x4) 0 h)))))
def w_X2_ordered_10 (post : Hp → Prop) : Nat → Int32 → Int32 → Int32 → Int32 → Hp → Prop
  | 0 => fun _ _ _ _ _ => False
  | n + 1 => fun x2 x3 x4 x5 h => (((gi h 25 44) ≤ x5 → (∃ fu : Nat, w_X2_ordered_35 post fu x2 x3 x4 0 h)) ∧ (¬ (gi h 25 44) ≤ x5 → (w_X2_ordered_10 post n x2 x3 (x4 * x5) (x5 + 1) h)))
def wp_X2_ordered (post : Hp → Prop) (h : Hp) (p1 : Int32) : Prop := (∃ fu : Nat, w_X2_ordered_10 post fu 0 p1 1 2 h)
abbrev rm_X2_ordered : Room := ({ frames := 1, cells := 0, slots := 0, locals := 60 })
abbrev K_X2_ordered : Kx := ("BeforeTheEndModel", cX2_ordered, 8, (Option.none : Option Jvm.ClassFile.FieldType), rm_X2_ordered, [], false)
set_option maxHeartbeats 4000000 in
theorem t_X2_ordered_73 {ρ : Rho} {h0 : Hp} {post : Hp → Prop} {K35 : Int32 → Int32 → Int32 → Int32 → Hp → Prop} {K58 : Int32 → Int32 → Int32 → Int32 → Int32 → Int32 → Hp → Prop} (G : G0 ρ) (hK35 : ∀ (x2 : Int32) (x3 : Int32) (x4 : Int32) (x5 : Int32) (h : Hp), GI h → Ext h0 h → K35 x2 x3 x4 x5 h → X ρ K_X2_ordered 35 [(0, .ref (mr ρ 25)), (2, .int x2), (3, .int x3), (4, .int x4), (5, .int x5)] [] h 0 0 (phV h0 post) psN) (hK58 : ∀ (x2 : Int32) (x3 : Int32) (x4 : Int32) (x5 : Int32) (x6 : Int32) (x7 : Int32) (h : Hp), GI h → Ext h0 h → K58 x2 x3 x4 x5 x6 x7 h → X ρ K_X2_ordered 58 [(0, .ref (mr ρ 25)), (2, .int x2), (3, .int x3), (4, .int x4), (5, .int x5), (6, .int x6), (7, .int x7)] [] h 0 0 (phV h0 post) psN) :
    ∀ (x2 : Int32) (x3 : Int32) (x4 : Int32) (x5 : Int32) (x6 : Int32) (x7 : Int32) (h : Hp), GI h → Ext h0 h → w_X2_ordered_73 post K35 K58 x2 x3 x4 x5 x6 x7 h → X ρ K_X2_ordered 73 [(0, .ref (mr ρ 25)), (2, .int x2), (3, .int x3), (4, .int x4), (5, .int x5), (6, .int x6), (7, .int x7)] [] h 0 0 (phV h0 post) psN := by
  intro x2 x3 x4 x5 x6 x7 h g e hw
  refine x_iload 5 dX2_ordered_73 rfl ?_
  refine x_iload_n 1 dX2_ordered_75 rfl ?_
  refine x_iload 6 dX2_ordered_76 rfl ?_
  refine x_ishr dX2_ordered_78 ?_
  refine x_iconst 1 dX2_ordered_79 (by decide) ?_
  refine x_iand dX2_ordered_80 ?_
  have kJ_3 : ∀ z_2 : Int32, z_2 = ((if ((x2 >>> (x7 &&& 31)) &&& 1) = 0 then 1 else 0) : Int32) → X ρ K_X2_ordered 89 [(0, .ref (mr ρ 25)), (2, .int x2), (3, .int x3), (4, .int x4), (5, .int x5), (6, .int x6), (7, .int x7)] [.int z_2, .int x6] h 0 0 (phV h0 post) psN := fun z_2 ez_2 => by
    have hw := hw z_2 ez_2
    refine x_isub dX2_ordered_89 ?_
    refine x_istore (lv' := [(6, .int (x6 - z_2)), (0, .ref (mr ρ 25)), (2, .int x2), (3, .int x3), (4, .int x4), (5, .int x5), (7, .int x7)]) dX2_ordered_90 (Nat.le_of_ble_eq_true rfl) rfl ?_
    refine x_iinc (v := (x7 + 1)) (lv' := [(7, .int (x7 + 1)), (6, .int (x6 - z_2)), (0, .ref (mr ρ 25)), (2, .int x2), (3, .int x3), (4, .int x4), (5, .int x5)]) 6 dX2_ordered_92 rfl (by rfl) (Nat.le_of_ble_eq_true rfl) rfl ?_
    refine x_goto 58 dX2_ordered_95 (by decide) ?_
    refine X.sub [2, 3, 4, 5, 6, 1, 0] rfl ?_
    exact hK58 x2 x3 x4 x5 (x6 - z_2) (x7 + 1) h g e hw
  refine x_if_ne 88 dX2_ordered_81 (by decide) (fun c_1 => ?_) (fun c_1 => ?_)
  · refine x_iconst 0 dX2_ordered_88 (by decide) ?_
    exact kJ_3 _ ((if_neg c_1)).symm
  · refine x_iconst 1 dX2_ordered_84 (by decide) ?_
    refine x_goto 89 dX2_ordered_85 (by decide) ?_
    exact kJ_3 _ ((if_pos c_1)).symm
set_option maxHeartbeats 4000000 in
theorem t_X2_ordered_58 {ρ : Rho} {h0 : Hp} {post : Hp → Prop} {K35 : Int32 → Int32 → Int32 → Int32 → Hp → Prop} (G : G0 ρ) (hK35 : ∀ (x2 : Int32) (x3 : Int32) (x4 : Int32) (x5 : Int32) (h : Hp), GI h → Ext h0 h → K35 x2 x3 x4 x5 h → X ρ K_X2_ordered 35 [(0, .ref (mr ρ 25)), (2, .int x2), (3, .int x3), (4, .int x4), (5, .int x5)] [] h 0 0 (phV h0 post) psN) :
    ∀ (n : Nat), ∀ (x2 : Int32) (x3 : Int32) (x4 : Int32) (x5 : Int32) (x6 : Int32) (x7 : Int32) (h : Hp), GI h → Ext h0 h → w_X2_ordered_58 post K35 n x2 x3 x4 x5 x6 x7 h → X ρ K_X2_ordered 58 [(0, .ref (mr ρ 25)), (2, .int x2), (3, .int x3), (4, .int x4), (5, .int x5), (6, .int x6), (7, .int x7)] [] h 0 0 (phV h0 post) psN := by
  intro n
  induction n with
  | zero => intro x2 x3 x4 x5 x6 x7 h g e hw; exact False.elim hw
  | succ n ih =>
    intro x2 x3 x4 x5 x6 x7 h g e hw
    refine x_iload_n 1 dX2_ordered_58 rfl ?_
    refine x_iload 6 dX2_ordered_59 rfl ?_
    refine x_ishr dX2_ordered_61 ?_
    refine x_iconst 1 dX2_ordered_62 (by decide) ?_
    refine x_iand dX2_ordered_63 ?_
    refine x_iconst 1 dX2_ordered_64 (by decide) ?_
    obtain ⟨wt_11, wf_12⟩ := hw
    refine x_icmp_eq 73 dX2_ordered_65 (by decide) (fun c_1 => ?_) (fun c_1 => ?_)
    · have hw := wt_11 c_1
      exact t_X2_ordered_73 G hK35 ih x2 x3 x4 x5 x6 x7 h g e hw
    · have hw := wf_12 c_1
      refine x_iload 5 dX2_ordered_68 rfl ?_
      obtain ⟨wt_9, wf_10⟩ := hw
      refine x_if_le 98 dX2_ordered_70 (by decide) (fun c_2 => ?_) (fun c_2 => ?_)
      · have hw := wt_9 c_2
        refine x_aload_n 0 dX2_ordered_98 rfl ?_
        refine x_get (ci := 2) (v := .ref (mr ρ 54)) 42 dX2_ordered_99 (GI.s g (t := (12, 0)) rfl (by decide)) rfl in_X2 (by decide) q1265 (Or.inl rfl) (fv_rc rfl (GI.m g (n := 54) rfl (by decide)) (by decide)) ?_
        refine x_iload 4 dX2_ordered_102 rfl ?_
        refine x_iload 6 dX2_ordered_104 rfl ?_
        obtain ⟨b_3, hw⟩ := hw
        refine x_iast (n := 5) (j := (Int32.toNatClampNeg x5)) dX2_ordered_106 rfl (GI.s g (t := (1, 5)) rfl (by decide)) b_3 ?_
        refine x_iload_n 1 dX2_ordered_107 rfl ?_
        refine x_iconst 1 dX2_ordered_108 (by decide) ?_
        refine x_iload 6 dX2_ordered_109 rfl ?_
        refine x_ishl dX2_ordered_111 ?_
        refine x_ior dX2_ordered_112 ?_
        refine x_istore_n (lv' := [(2, .int (x2 ||| (1 <<< (x7 &&& 31)))), (0, .ref (mr ρ 25)), (3, .int x3), (4, .int x4), (5, .int x5), (6, .int x6), (7, .int x7)]) dX2_ordered_113 (Nat.le_of_ble_eq_true rfl) rfl ?_
        refine x_aload_n 1 dX2_ordered_114 rfl ?_
        refine x_get (ci := 2) (v := .int (gi (si h 54 (Int32.toNatClampNeg x5) x7) 25 44)) 44 dX2_ordered_115 (GI.s (GI.i g) (t := (12, 0)) rfl (by decide)) rfl in_X2 (by decide) q1267 (Or.inl rfl) (fv_i rfl) ?_
        refine x_iconst 1 dX2_ordered_118 (by decide) ?_
        refine x_isub dX2_ordered_119 ?_
        refine x_iload 4 dX2_ordered_120 rfl ?_
        refine x_isub dX2_ordered_122 ?_
        obtain ⟨wt_7, wf_8⟩ := hw
        refine x_if_le 140 dX2_ordered_123 (by decide) (fun c_4 => ?_) (fun c_4 => ?_)
        · have hw := wt_7 c_4
          refine x_iinc (v := (x5 + 1)) (lv' := [(5, .int (x5 + 1)), (2, .int (x2 ||| (1 <<< (x7 &&& 31)))), (0, .ref (mr ρ 25)), (3, .int x3), (4, .int x4), (6, .int x6), (7, .int x7)]) 4 dX2_ordered_140 rfl (by rfl) (Nat.le_of_ble_eq_true rfl) rfl ?_
          refine x_goto 35 dX2_ordered_143 (by decide) ?_
          refine X.sub [2, 1, 3, 4, 0] rfl ?_
          exact hK35 (x2 ||| (1 <<< (x7 &&& 31))) x3 x4 (x5 + 1) (si h 54 (Int32.toNatClampNeg x5) x7) (GI.i g) (Ext.i e) hw
        · have hw := wf_8 c_4
          refine x_iload 3 dX2_ordered_126 rfl ?_
          refine x_aload_n 1 dX2_ordered_128 rfl ?_
          refine x_get (ci := 2) (v := .int (gi (si h 54 (Int32.toNatClampNeg x5) x7) 25 44)) 44 dX2_ordered_129 (GI.s (GI.i g) (t := (12, 0)) rfl (by decide)) rfl in_X2 (by decide) q1267 (Or.inl rfl) (fv_i rfl) ?_
          refine x_iconst 1 dX2_ordered_132 (by decide) ?_
          refine x_isub dX2_ordered_133 ?_
          refine x_iload 4 dX2_ordered_134 rfl ?_
          refine x_isub dX2_ordered_136 ?_
          obtain ⟨b_5, hw⟩ := hw
          refine x_idiv dX2_ordered_137 b_5 ?_
          refine x_nmi (fun x4_6 ex4_6 => ?_)
          have hw := hw x4_6 ex4_6
          refine x_istore (lv' := [(4, .int x4_6), (2, .int (x2 ||| (1 <<< (x7 &&& 31)))), (0, .ref (mr ρ 25)), (3, .int x3), (5, .int x5), (6, .int x6), (7, .int x7)]) dX2_ordered_138 (Nat.le_of_ble_eq_true rfl) rfl ?_
          refine x_iinc (v := (x5 + 1)) (lv' := [(5, .int (x5 + 1)), (4, .int x4_6), (2, .int (x2 ||| (1 <<< (x7 &&& 31)))), (0, .ref (mr ρ 25)), (3, .int x3), (6, .int x6), (7, .int x7)]) 4 dX2_ordered_140 rfl (by rfl) (Nat.le_of_ble_eq_true rfl) rfl ?_
          refine x_goto 35 dX2_ordered_143 (by decide) ?_
          refine X.sub [3, 2, 4, 1, 0] rfl ?_
          exact hK35 (x2 ||| (1 <<< (x7 &&& 31))) x3 x4_6 (x5 + 1) (si h 54 (Int32.toNatClampNeg x5) x7) (GI.i g) (Ext.i e) hw
      · have hw := wf_10 c_2
        exact t_X2_ordered_73 G hK35 ih x2 x3 x4 x5 x6 x7 h g e hw
set_option maxHeartbeats 4000000 in
theorem t_X2_ordered_35 {ρ : Rho} {h0 : Hp} {post : Hp → Prop} (G : G0 ρ) :
    ∀ (n : Nat), ∀ (x2 : Int32) (x3 : Int32) (x4 : Int32) (x5 : Int32) (h : Hp), GI h → Ext h0 h → w_X2_ordered_35 post n x2 x3 x4 x5 h → X ρ K_X2_ordered 35 [(0, .ref (mr ρ 25)), (2, .int x2), (3, .int x3), (4, .int x4), (5, .int x5)] [] h 0 0 (phV h0 post) psN := by
  intro n
  induction n with
  | zero => intro x2 x3 x4 x5 h g e hw; exact False.elim hw
  | succ n ih =>
    intro x2 x3 x4 x5 h g e hw
    refine x_iload 4 dX2_ordered_35 rfl ?_
    refine x_aload_n 0 dX2_ordered_37 rfl ?_
    refine x_get (ci := 2) (v := .int (gi h 25 44)) 44 dX2_ordered_38 (GI.s g (t := (12, 0)) rfl (by decide)) rfl in_X2 (by decide) q1267 (Or.inl rfl) (fv_i rfl) ?_
    obtain ⟨wt_4, wf_5⟩ := hw
    refine x_icmp_ge 146 dX2_ordered_41 (by decide) (fun c_1 => ?_) (fun c_1 => ?_)
    · have hw := wt_4 c_1
      exact x_vret dX2_ordered_146 rfl (Nat.le_of_ble_eq_true rfl) (Nat.le_of_ble_eq_true rfl) ⟨rfl, g, e, hw⟩
    · have hw := wf_5 c_1
      refine x_iload_n 2 dX2_ordered_44 rfl ?_
      refine x_iload 3 dX2_ordered_45 rfl ?_
      obtain ⟨b_2, hw⟩ := hw
      refine x_idiv dX2_ordered_47 b_2 ?_
      refine x_istore (lv' := [(6, .int (x3 / x4)), (0, .ref (mr ρ 25)), (2, .int x2), (3, .int x3), (4, .int x4), (5, .int x5)]) dX2_ordered_48 (Nat.le_of_ble_eq_true rfl) rfl ?_
      refine x_iload_n 3 dX2_ordered_50 rfl ?_
      refine x_iload 4 dX2_ordered_51 rfl ?_
      obtain ⟨b_3, hw⟩ := hw
      refine x_irem dX2_ordered_53 b_3 ?_
      refine x_istore_n (lv' := [(3, .int (x3 - x3 / x4 * x4)), (6, .int (x3 / x4)), (0, .ref (mr ρ 25)), (2, .int x2), (4, .int x4), (5, .int x5)]) dX2_ordered_54 (Nat.le_of_ble_eq_true rfl) rfl ?_
      refine x_iconst 0 dX2_ordered_55 (by decide) ?_
      refine x_istore (lv' := [(7, .int 0), (3, .int (x3 - x3 / x4 * x4)), (6, .int (x3 / x4)), (0, .ref (mr ρ 25)), (2, .int x2), (4, .int x4), (5, .int x5)]) dX2_ordered_56 (Nat.le_of_ble_eq_true rfl) rfl ?_
      refine X.sub [3, 4, 1, 5, 6, 2, 0] rfl ?_
      obtain ⟨fu, hw⟩ := hw
      exact t_X2_ordered_58 G ih fu x2 (x3 - x3 / x4 * x4) x4 x5 (x3 / x4) 0 h g e hw
set_option maxHeartbeats 4000000 in
theorem t_X2_ordered_10 {ρ : Rho} {h0 : Hp} {post : Hp → Prop} (G : G0 ρ) :
    ∀ (n : Nat), ∀ (x2 : Int32) (x3 : Int32) (x4 : Int32) (x5 : Int32) (h : Hp), GI h → Ext h0 h → w_X2_ordered_10 post n x2 x3 x4 x5 h → X ρ K_X2_ordered 10 [(0, .ref (mr ρ 25)), (2, .int x2), (3, .int x3), (4, .int x4), (5, .int x5)] [] h 0 0 (phV h0 post) psN := by
  intro n
  induction n with
  | zero => intro x2 x3 x4 x5 h g e hw; exact False.elim hw
  | succ n ih =>
    intro x2 x3 x4 x5 h g e hw
    refine x_iload 4 dX2_ordered_10 rfl ?_
    refine x_aload_n 0 dX2_ordered_12 rfl ?_
    refine x_get (ci := 2) (v := .int (gi h 25 44)) 44 dX2_ordered_13 (GI.s g (t := (12, 0)) rfl (by decide)) rfl in_X2 (by decide) q1267 (Or.inl rfl) (fv_i rfl) ?_
    obtain ⟨wt_2, wf_3⟩ := hw
    refine x_icmp_ge 32 dX2_ordered_16 (by decide) (fun c_1 => ?_) (fun c_1 => ?_)
    · have hw := wt_2 c_1
      refine x_iconst 0 dX2_ordered_32 (by decide) ?_
      refine x_istore (lv' := [(5, .int 0), (0, .ref (mr ρ 25)), (2, .int x2), (3, .int x3), (4, .int x4)]) dX2_ordered_33 (Nat.le_of_ble_eq_true rfl) rfl ?_
      refine X.sub [1, 2, 3, 4, 0] rfl ?_
      obtain ⟨fu, hw⟩ := hw
      exact t_X2_ordered_35 G  fu x2 x3 x4 0 h g e hw
    · have hw := wf_3 c_1
      refine x_iload 3 dX2_ordered_19 rfl ?_
      refine x_iload 4 dX2_ordered_21 rfl ?_
      refine x_imul dX2_ordered_23 ?_
      refine x_istore (lv' := [(4, .int (x4 * x5)), (0, .ref (mr ρ 25)), (2, .int x2), (3, .int x3), (5, .int x5)]) dX2_ordered_24 (Nat.le_of_ble_eq_true rfl) rfl ?_
      refine x_iinc (v := (x5 + 1)) (lv' := [(5, .int (x5 + 1)), (4, .int (x4 * x5)), (0, .ref (mr ρ 25)), (2, .int x2), (3, .int x3)]) 4 dX2_ordered_26 rfl (by rfl) (Nat.le_of_ble_eq_true rfl) rfl ?_
      refine x_goto 10 dX2_ordered_29 (by decide) ?_
      refine X.sub [2, 3, 4, 1, 0] rfl ?_
      exact ih x2 x3 (x4 * x5) (x5 + 1) h g e hw
set_option maxHeartbeats 4000000 in
theorem k_X2_ordered {ρ : Rho} {h : Hp} {post : Hp → Prop} {p1 : Int32} (G : G0 ρ) (g : GI h) (hw : wp_X2_ordered post h p1) : Con ρ yX2_ordered (ws_ yX2_ordered cX2_ordered 8 (Option.none : Option Jvm.ClassFile.FieldType)) rm_X2_ordered [.ref (mr ρ 25), .int p1] h (phV h post) psN := by
  refine con_of (own := "BeforeTheEndModel") (isI := false) (l0 := [(0, .ref (mr ρ 25)), (1, .int p1)]) (by decide) rfl (fun z => by cases z) (Nat.le_of_ble_eq_true rfl) rfl (fun _ => ?_)
  show X ρ K_X2_ordered 0 [(0, .ref (mr ρ 25)), (1, .int p1)] [] h 0 0 (phV h post) psN
  refine x_iconst 0 dX2_ordered_0 (by decide) ?_
  refine x_istore_n (lv' := [(2, .int 0), (0, .ref (mr ρ 25)), (1, .int p1)]) dX2_ordered_1 (Nat.le_of_ble_eq_true rfl) rfl ?_
  refine x_iload_n 2 dX2_ordered_2 rfl ?_
  refine x_istore_n (lv' := [(3, .int p1), (2, .int 0), (0, .ref (mr ρ 25)), (1, .int p1)]) dX2_ordered_3 (Nat.le_of_ble_eq_true rfl) rfl ?_
  refine x_iconst 1 dX2_ordered_4 (by decide) ?_
  refine x_istore (lv' := [(4, .int 1), (3, .int p1), (2, .int 0), (0, .ref (mr ρ 25)), (1, .int p1)]) dX2_ordered_5 (Nat.le_of_ble_eq_true rfl) rfl ?_
  refine x_iconst 2 dX2_ordered_7 (by decide) ?_
  refine x_istore (lv' := [(5, .int 2), (4, .int 1), (3, .int p1), (2, .int 0), (0, .ref (mr ρ 25)), (1, .int p1)]) dX2_ordered_8 (Nat.le_of_ble_eq_true rfl) rfl ?_
  refine X.sub [4, 3, 2, 1, 0] rfl ?_
  obtain ⟨fu, hw⟩ := hw
  exact t_X2_ordered_10 G  fu 0 p1 1 2 h g Ext.rf hw

/-! BeforeTheEndModel.best(ZI)I -/
def w_X2_best_101 (post : Int32 → Hp → Prop) (K43 : Int32 → Int32 → Int32 → Int32 → Int32 → Hp → Prop) : Nat → Int32 → Int32 → Int32 → Int32 → Int32 → Int32 → Hp → Prop
  | 0 => fun _ _ _ _ _ _ _ => False
  | n + 1 => fun x1 x2 x3 x4 x5 x7 h => (((gi h 25 44) ≤ x7 → (K43 x1 x2 x3 x4 (x5 + 1) h)) ∧ (¬ (gi h 25 44) ≤ x7 → (vp_in x7 5 ∧ (vp_in x7 5 ∧ (w_X2_best_101 post K43 n x1 x2 x3 x4 x5 (x7 + 1) (si h 55 (Int32.toNatClampNeg x7) (gi h 54 (Int32.toNatClampNeg x7))))))))
def w_X2_best_43 (post : Int32 → Hp → Prop) : Nat → Int32 → Int32 → Int32 → Int32 → Int32 → Hp → Prop
  | 0 => fun _ _ _ _ _ _ => False
  | n + 1 => fun x1 x2 x3 x4 x5 h => ((x3 ≤ x5 → (((¬ x2 = (-1) → ((¬ (gi h 25 44) ≤ x2 → (vp_in x2 5))))) ∧ (∀ z_5 : Int32, z_5 = ((if x2 = (-1) then x4 else (if (gi h 25 44) ≤ x2 then (-9) else (gi h 55 (Int32.toNatClampNeg x2)))) : Int32) → (post z_5 h)))) ∧ (¬ x3 ≤ x5 → (wp_X2_ordered (fun h_8 => GI h_8 → Ext h h_8 → (wp_X2_hadOf (fun r_16 h_13 => GI h_13 → Ext h_8 h_13 → ((x5 ≤ 0 → (∃ fu : Nat, w_X2_best_101 post (w_X2_best_43 post n) fu x1 x2 x3 r_16 x5 0 h_13)) ∧ (¬ x5 ≤ 0 → ((x1 = 0 → ((r_16 < x4 → (∃ fu : Nat, w_X2_best_101 post (w_X2_best_43 post n) fu x1 x2 x3 r_16 x5 0 h_13)) ∧ (¬ r_16 < x4 → (w_X2_best_43 post n x1 x2 x3 x4 (x5 + 1) h_13)))) ∧ (¬ x1 = 0 → ((x4 < r_16 → (∃ fu : Nat, w_X2_best_101 post (w_X2_best_43 post n) fu x1 x2 x3 r_16 x5 0 h_13)) ∧ (¬ x4 < r_16 → (w_X2_best_43 post n x1 x2 x3 x4 (x5 + 1) h_13)))))))) h_8 (gi h_8 25 44))) h x5)))
def w_X2_best_17 (post : Int32 → Hp → Prop) : Nat → Int32 → Int32 → Int32 → Int32 → Hp → Prop
  | 0 => fun _ _ _ _ _ => False
  | n + 1 => fun x1 x2 x3 x4 h => (((gi h 25 44) < x4 → (∃ fu : Nat, w_X2_best_43 post fu x1 x2 x3 0 0 h)) ∧ (¬ (gi h 25 44) < x4 → (w_X2_best_17 post n x1 x2 (x3 * x4) (x4 + 1) h)))
def wp_X2_best (post : Int32 → Hp → Prop) (h : Hp) (p1 : Int32) (p2 : Int32) : Prop := (((-1) ≤ p2 → (∃ fu : Nat, w_X2_best_17 post fu p1 p2 1 2 h)) ∧ (¬ (-1) ≤ p2 → (wp_X2_no (fun r_5 h_2 => GI h_2 → Ext h h_2 → (post r_5 h_2)) h (-4))))
abbrev rm_X2_best : Room := ({ frames := 3, cells := 0, slots := 0, locals := 105 })
abbrev K_X2_best : Kx := ("BeforeTheEndModel", cX2_best, 8, (Option.some Jvm.ClassFile.FieldType.int), rm_X2_best, [], false)
set_option maxHeartbeats 4000000 in
theorem t_X2_best_101 {ρ : Rho} {h0 : Hp} {post : Int32 → Hp → Prop} {K43 : Int32 → Int32 → Int32 → Int32 → Int32 → Hp → Prop} (G : G0 ρ) (hK43 : ∀ (x1 : Int32) (x2 : Int32) (x3 : Int32) (x4 : Int32) (x5 : Int32) (h : Hp), GI h → Ext h0 h → K43 x1 x2 x3 x4 x5 h → X ρ K_X2_best 43 [(0, .ref (mr ρ 25)), (1, .int x1), (2, .int x2), (3, .int x3), (4, .int x4), (5, .int x5)] [] h 0 0 (phI h0 post) psN) :
    ∀ (n : Nat), ∀ (x1 : Int32) (x2 : Int32) (x3 : Int32) (x4 : Int32) (x5 : Int32) (x7 : Int32) (h : Hp), GI h → Ext h0 h → w_X2_best_101 post K43 n x1 x2 x3 x4 x5 x7 h → X ρ K_X2_best 101 [(0, .ref (mr ρ 25)), (1, .int x1), (2, .int x2), (3, .int x3), (4, .int x4), (5, .int x5), (7, .int x7)] [] h 0 0 (phI h0 post) psN := by
  intro n
  induction n with
  | zero => intro x1 x2 x3 x4 x5 x7 h g e hw; exact False.elim hw
  | succ n ih =>
    intro x1 x2 x3 x4 x5 x7 h g e hw
    refine x_iload 6 dX2_best_101 rfl ?_
    refine x_aload_n 0 dX2_best_103 rfl ?_
    refine x_get (ci := 2) (v := .int (gi h 25 44)) 44 dX2_best_104 (GI.s g (t := (12, 0)) rfl (by decide)) rfl in_X2 (by decide) q1267 (Or.inl rfl) (fv_i rfl) ?_
    obtain ⟨wt_4, wf_5⟩ := hw
    refine x_icmp_ge 130 dX2_best_107 (by decide) (fun c_1 => ?_) (fun c_1 => ?_)
    · have hw := wt_4 c_1
      refine x_iinc (v := (x5 + 1)) (lv' := [(5, .int (x5 + 1)), (0, .ref (mr ρ 25)), (1, .int x1), (2, .int x2), (3, .int x3), (4, .int x4), (7, .int x7)]) 5 dX2_best_130 rfl (by rfl) (Nat.le_of_ble_eq_true rfl) rfl ?_
      refine x_goto 43 dX2_best_133 (by decide) ?_
      refine X.sub [1, 2, 3, 4, 5, 0] rfl ?_
      exact hK43 x1 x2 x3 x4 (x5 + 1) h g e hw
    · have hw := wf_5 c_1
      refine x_aload_n 0 dX2_best_110 rfl ?_
      refine x_get (ci := 2) (v := .ref (mr ρ 55)) 43 dX2_best_111 (GI.s g (t := (12, 0)) rfl (by decide)) rfl in_X2 (by decide) q1266 (Or.inl rfl) (fv_rc rfl (GI.m g (n := 55) rfl (by decide)) (by decide)) ?_
      refine x_iload 6 dX2_best_114 rfl ?_
      refine x_aload_n 0 dX2_best_116 rfl ?_
      refine x_get (ci := 2) (v := .ref (mr ρ 54)) 42 dX2_best_117 (GI.s g (t := (12, 0)) rfl (by decide)) rfl in_X2 (by decide) q1265 (Or.inl rfl) (fv_rc rfl (GI.m g (n := 54) rfl (by decide)) (by decide)) ?_
      refine x_iload 6 dX2_best_120 rfl ?_
      obtain ⟨b_2, hw⟩ := hw
      refine x_iald (n := 5) (j := (Int32.toNatClampNeg x7)) dX2_best_122 rfl (GI.s g (t := (1, 5)) rfl (by decide)) b_2 ?_
      obtain ⟨b_3, hw⟩ := hw
      refine x_iast (n := 5) (j := (Int32.toNatClampNeg x7)) dX2_best_123 rfl (GI.s g (t := (1, 5)) rfl (by decide)) b_3 ?_
      refine x_iinc (v := (x7 + 1)) (lv' := [(7, .int (x7 + 1)), (0, .ref (mr ρ 25)), (1, .int x1), (2, .int x2), (3, .int x3), (4, .int x4), (5, .int x5)]) 6 dX2_best_124 rfl (by rfl) (Nat.le_of_ble_eq_true rfl) rfl ?_
      refine x_goto 101 dX2_best_127 (by decide) ?_
      refine X.sub [1, 2, 3, 4, 5, 6, 0] rfl ?_
      exact ih x1 x2 x3 x4 x5 (x7 + 1) (si h 55 (Int32.toNatClampNeg x7) (gi h 54 (Int32.toNatClampNeg x7))) (GI.i g) (Ext.i e) hw
set_option maxHeartbeats 4000000 in
theorem t_X2_best_43 {ρ : Rho} {h0 : Hp} {post : Int32 → Hp → Prop} (G : G0 ρ) :
    ∀ (n : Nat), ∀ (x1 : Int32) (x2 : Int32) (x3 : Int32) (x4 : Int32) (x5 : Int32) (h : Hp), GI h → Ext h0 h → w_X2_best_43 post n x1 x2 x3 x4 x5 h → X ρ K_X2_best 43 [(0, .ref (mr ρ 25)), (1, .int x1), (2, .int x2), (3, .int x3), (4, .int x4), (5, .int x5)] [] h 0 0 (phI h0 post) psN := by
  intro n
  induction n with
  | zero => intro x1 x2 x3 x4 x5 h g e hw; exact False.elim hw
  | succ n ih =>
    intro x1 x2 x3 x4 x5 h g e hw
    refine x_iload 5 dX2_best_43 rfl ?_
    refine x_iload_n 3 dX2_best_45 rfl ?_
    obtain ⟨wt_30, wf_31⟩ := hw
    refine x_icmp_ge 136 dX2_best_46 (by decide) (fun c_1 => ?_) (fun c_1 => ?_)
    · have hw := wt_30 c_1
      refine x_iload_n 2 dX2_best_136 rfl ?_
      refine x_iconst (-1) dX2_best_137 (by decide) ?_
      obtain ⟨hO_7, hw⟩ := hw
      have kJ_6 : ∀ z_5 : Int32, z_5 = ((if x2 = (-1) then x4 else (if (gi h 25 44) ≤ x2 then (-9) else (gi h 55 (Int32.toNatClampNeg x2)))) : Int32) → X ρ K_X2_best 165 [(0, .ref (mr ρ 25)), (1, .int x1), (2, .int x2), (3, .int x3), (4, .int x4), (5, .int x5)] [.int z_5] h 0 0 (phI h0 post) psN := fun z_5 ez_5 => by
        have hw := hw z_5 ez_5
        exact x_iret dX2_best_165 rfl (Nat.le_of_ble_eq_true rfl) (Nat.le_of_ble_eq_true rfl) ⟨_, rfl, g, e, hw⟩
      have hO_70 := hO_7
      refine x_icmp_ne 146 dX2_best_138 (by decide) (fun c_2 => ?_) (fun c_2 => ?_)
      · have hO_7_ := hO_70 c_2
        have hO_7_0 := hO_7_
        refine x_iload_n 2 dX2_best_146 rfl ?_
        refine x_aload_n 0 dX2_best_147 rfl ?_
        refine x_get (ci := 2) (v := .int (gi h 25 44)) 44 dX2_best_148 (GI.s g (t := (12, 0)) rfl (by decide)) rfl in_X2 (by decide) q1267 (Or.inl rfl) (fv_i rfl) ?_
        refine x_icmp_ge 163 dX2_best_151 (by decide) (fun c_3 => ?_) (fun c_3 => ?_)
        · refine x_bipush (-9) dX2_best_163 (by decide) ?_
          exact kJ_6 _ (((if_neg c_2).trans (if_pos c_3))).symm
        · have hO_7__ := hO_7_0 c_3
          have b_4 := hO_7__
          refine x_aload_n 0 dX2_best_154 rfl ?_
          refine x_get (ci := 2) (v := .ref (mr ρ 55)) 43 dX2_best_155 (GI.s g (t := (12, 0)) rfl (by decide)) rfl in_X2 (by decide) q1266 (Or.inl rfl) (fv_rc rfl (GI.m g (n := 55) rfl (by decide)) (by decide)) ?_
          refine x_iload_n 2 dX2_best_158 rfl ?_
          refine x_iald (n := 5) (j := (Int32.toNatClampNeg x2)) dX2_best_159 rfl (GI.s g (t := (1, 5)) rfl (by decide)) b_4 ?_
          refine x_goto 165 dX2_best_160 (by decide) ?_
          exact kJ_6 _ (((if_neg c_2).trans (if_neg c_3))).symm
      · refine x_iload 4 dX2_best_141 rfl ?_
        refine x_goto 165 dX2_best_143 (by decide) ?_
        exact kJ_6 _ ((if_pos c_2)).symm
    · have hw := wf_31 c_1
      refine x_aload_n 0 dX2_best_49 rfl ?_
      refine x_iload 5 dX2_best_50 rfl ?_
      refine x_callV (ci := 2) [.int x5] 1 dX2_best_52 (k_X2_ordered G g hw) (GI.s g (t := (12, 0)) rfl (by decide)) rfl q1662 q1664 qs97 q106 q1665 (by decide) rfl rfl ⟨(Nat.le_of_ble_eq_true rfl), (Nat.le_of_ble_eq_true rfl)⟩ (Nat.le_of_ble_eq_true rfl) ⟨(Nat.le_of_ble_eq_true rfl), (Nat.le_of_ble_eq_true rfl)⟩ (fun v9 h_8 hv9 => ?_) (fun _ _ _ _ _ z _ _ => False.elim z)
      obtain ⟨rfl, g_9, e_10, hw⟩ := hv9
      have hw := hw g_9 e_10
      show X ρ K_X2_best 55 [(0, .ref (mr ρ 25)), (1, .int x1), (2, .int x2), (3, .int x3), (4, .int x4), (5, .int x5)] [] h_8 0 0 (phI h0 post) psN
      refine x_aload_n 0 dX2_best_55 rfl ?_
      refine x_aload_n 0 dX2_best_56 rfl ?_
      refine x_get (ci := 2) (v := .int (gi h_8 25 44)) 44 dX2_best_57 (GI.s g_9 (t := (12, 0)) rfl (by decide)) rfl in_X2 (by decide) q1267 (Or.inl rfl) (fv_i rfl) ?_
      refine x_callV (ci := 2) [.int (gi h_8 25 44)] 1 dX2_best_60 (k_X2_hadOf G g_9 hw) (GI.s g_9 (t := (12, 0)) rfl (by decide)) rfl q1647 q1649 qs95 q106 q1650 (by decide) rfl rfl ⟨(Nat.le_of_ble_eq_true rfl), (Nat.le_of_ble_eq_true rfl)⟩ (Nat.le_of_ble_eq_true rfl) ⟨(Nat.le_of_ble_eq_true rfl), (Nat.le_of_ble_eq_true rfl)⟩ (fun v9 h_13 hv9 => ?_) (fun _ _ _ _ _ z _ _ => False.elim z)
      obtain ⟨r_16, rfl, g_14, e_15, hw⟩ := hv9
      have hw := hw g_14 e_15
      show X ρ K_X2_best 63 [(0, .ref (mr ρ 25)), (1, .int x1), (2, .int x2), (3, .int x3), (4, .int x4), (5, .int x5)] [.int r_16] h_13 0 0 (phI h0 post) psN
      refine x_istore (lv' := [(6, .int r_16), (0, .ref (mr ρ 25)), (1, .int x1), (2, .int x2), (3, .int x3), (4, .int x4), (5, .int x5)]) dX2_best_63 (Nat.le_of_ble_eq_true rfl) rfl ?_
      refine x_iload 6 dX2_best_65 rfl ?_
      obtain ⟨wt_28, wf_29⟩ := hw
      refine x_if_le 94 dX2_best_67 (by decide) (fun c_18 => ?_) (fun c_18 => ?_)
      · have hw := wt_28 c_18
        refine x_iload 0 dX2_best_94 rfl ?_
        refine x_istore (lv' := [(4, .int r_16), (6, .int r_16), (0, .ref (mr ρ 25)), (1, .int x1), (2, .int x2), (3, .int x3), (5, .int x5)]) dX2_best_96 (Nat.le_of_ble_eq_true rfl) rfl ?_
        refine x_iconst 0 dX2_best_98 (by decide) ?_
        refine x_istore (lv' := [(7, .int 0), (4, .int r_16), (6, .int r_16), (0, .ref (mr ρ 25)), (1, .int x1), (2, .int x2), (3, .int x3), (5, .int x5)]) dX2_best_99 (Nat.le_of_ble_eq_true rfl) rfl ?_
        refine X.sub [3, 4, 5, 6, 1, 7, 0] rfl ?_
        obtain ⟨fu, hw⟩ := hw
        exact t_X2_best_101 G ih fu x1 x2 x3 r_16 x5 0 h_13 g_14 (Ext.tr (Ext.tr e e_10) e_15) hw
      · have hw := wf_29 c_18
        refine x_iload_n 2 dX2_best_70 rfl ?_
        obtain ⟨wt_26, wf_27⟩ := hw
        refine x_if_eq 84 dX2_best_71 (by decide) (fun c_19 => ?_) (fun c_19 => ?_)
        · have hw := wt_26 c_19
          refine x_iload 0 dX2_best_84 rfl ?_
          refine x_iload 5 dX2_best_86 rfl ?_
          obtain ⟨wt_21, wf_22⟩ := hw
          refine x_icmp_lt 94 dX2_best_88 (by decide) (fun c_20 => ?_) (fun c_20 => ?_)
          · have hw := wt_21 c_20
            refine x_iload 0 dX2_best_94 rfl ?_
            refine x_istore (lv' := [(4, .int r_16), (6, .int r_16), (0, .ref (mr ρ 25)), (1, .int x1), (2, .int x2), (3, .int x3), (5, .int x5)]) dX2_best_96 (Nat.le_of_ble_eq_true rfl) rfl ?_
            refine x_iconst 0 dX2_best_98 (by decide) ?_
            refine x_istore (lv' := [(7, .int 0), (4, .int r_16), (6, .int r_16), (0, .ref (mr ρ 25)), (1, .int x1), (2, .int x2), (3, .int x3), (5, .int x5)]) dX2_best_99 (Nat.le_of_ble_eq_true rfl) rfl ?_
            refine X.sub [3, 4, 5, 6, 1, 7, 0] rfl ?_
            obtain ⟨fu, hw⟩ := hw
            exact t_X2_best_101 G ih fu x1 x2 x3 r_16 x5 0 h_13 g_14 (Ext.tr (Ext.tr e e_10) e_15) hw
          · have hw := wf_22 c_20
            refine x_goto 130 dX2_best_91 (by decide) ?_
            refine x_iinc (v := (x5 + 1)) (lv' := [(5, .int (x5 + 1)), (6, .int r_16), (0, .ref (mr ρ 25)), (1, .int x1), (2, .int x2), (3, .int x3), (4, .int x4)]) 6 dX2_best_130 rfl (by rfl) (Nat.le_of_ble_eq_true rfl) rfl ?_
            refine x_goto 43 dX2_best_133 (by decide) ?_
            refine X.sub [2, 3, 4, 5, 6, 0] rfl ?_
            exact ih x1 x2 x3 x4 (x5 + 1) h_13 g_14 (Ext.tr (Ext.tr e e_10) e_15) hw
        · have hw := wf_27 c_19
          refine x_iload 0 dX2_best_74 rfl ?_
          refine x_iload 5 dX2_best_76 rfl ?_
          obtain ⟨wt_24, wf_25⟩ := hw
          refine x_icmp_gt 94 dX2_best_78 (by decide) (fun c_23 => ?_) (fun c_23 => ?_)
          · have hw := wt_24 c_23
            refine x_iload 0 dX2_best_94 rfl ?_
            refine x_istore (lv' := [(4, .int r_16), (6, .int r_16), (0, .ref (mr ρ 25)), (1, .int x1), (2, .int x2), (3, .int x3), (5, .int x5)]) dX2_best_96 (Nat.le_of_ble_eq_true rfl) rfl ?_
            refine x_iconst 0 dX2_best_98 (by decide) ?_
            refine x_istore (lv' := [(7, .int 0), (4, .int r_16), (6, .int r_16), (0, .ref (mr ρ 25)), (1, .int x1), (2, .int x2), (3, .int x3), (5, .int x5)]) dX2_best_99 (Nat.le_of_ble_eq_true rfl) rfl ?_
            refine X.sub [3, 4, 5, 6, 1, 7, 0] rfl ?_
            obtain ⟨fu, hw⟩ := hw
            exact t_X2_best_101 G ih fu x1 x2 x3 r_16 x5 0 h_13 g_14 (Ext.tr (Ext.tr e e_10) e_15) hw
          · have hw := wf_25 c_23
            refine x_goto 130 dX2_best_81 (by decide) ?_
            refine x_iinc (v := (x5 + 1)) (lv' := [(5, .int (x5 + 1)), (6, .int r_16), (0, .ref (mr ρ 25)), (1, .int x1), (2, .int x2), (3, .int x3), (4, .int x4)]) 6 dX2_best_130 rfl (by rfl) (Nat.le_of_ble_eq_true rfl) rfl ?_
            refine x_goto 43 dX2_best_133 (by decide) ?_
            refine X.sub [2, 3, 4, 5, 6, 0] rfl ?_
            exact ih x1 x2 x3 x4 (x5 + 1) h_13 g_14 (Ext.tr (Ext.tr e e_10) e_15) hw
set_option maxHeartbeats 4000000 in
theorem t_X2_best_17 {ρ : Rho} {h0 : Hp} {post : Int32 → Hp → Prop} (G : G0 ρ) :
    ∀ (n : Nat), ∀ (x1 : Int32) (x2 : Int32) (x3 : Int32) (x4 : Int32) (h : Hp), GI h → Ext h0 h → w_X2_best_17 post n x1 x2 x3 x4 h → X ρ K_X2_best 17 [(0, .ref (mr ρ 25)), (1, .int x1), (2, .int x2), (3, .int x3), (4, .int x4)] [] h 0 0 (phI h0 post) psN := by
  intro n
  induction n with
  | zero => intro x1 x2 x3 x4 h g e hw; exact False.elim hw
  | succ n ih =>
    intro x1 x2 x3 x4 h g e hw
    refine x_iload 4 dX2_best_17 rfl ?_
    refine x_aload_n 0 dX2_best_19 rfl ?_
    refine x_get (ci := 2) (v := .int (gi h 25 44)) 44 dX2_best_20 (GI.s g (t := (12, 0)) rfl (by decide)) rfl in_X2 (by decide) q1267 (Or.inl rfl) (fv_i rfl) ?_
    obtain ⟨wt_2, wf_3⟩ := hw
    refine x_icmp_gt 37 dX2_best_23 (by decide) (fun c_1 => ?_) (fun c_1 => ?_)
    · have hw := wt_2 c_1
      refine x_iconst 0 dX2_best_37 (by decide) ?_
      refine x_istore (lv' := [(4, .int 0), (0, .ref (mr ρ 25)), (1, .int x1), (2, .int x2), (3, .int x3)]) dX2_best_38 (Nat.le_of_ble_eq_true rfl) rfl ?_
      refine x_iconst 0 dX2_best_40 (by decide) ?_
      refine x_istore (lv' := [(5, .int 0), (4, .int 0), (0, .ref (mr ρ 25)), (1, .int x1), (2, .int x2), (3, .int x3)]) dX2_best_41 (Nat.le_of_ble_eq_true rfl) rfl ?_
      refine X.sub [2, 3, 4, 5, 1, 0] rfl ?_
      obtain ⟨fu, hw⟩ := hw
      exact t_X2_best_43 G  fu x1 x2 x3 0 0 h g e hw
    · have hw := wf_3 c_1
      refine x_iload_n 3 dX2_best_26 rfl ?_
      refine x_iload 4 dX2_best_27 rfl ?_
      refine x_imul dX2_best_29 ?_
      refine x_istore_n (lv' := [(3, .int (x3 * x4)), (0, .ref (mr ρ 25)), (1, .int x1), (2, .int x2), (4, .int x4)]) dX2_best_30 (Nat.le_of_ble_eq_true rfl) rfl ?_
      refine x_iinc (v := (x4 + 1)) (lv' := [(4, .int (x4 + 1)), (3, .int (x3 * x4)), (0, .ref (mr ρ 25)), (1, .int x1), (2, .int x2)]) 4 dX2_best_31 rfl (by rfl) (Nat.le_of_ble_eq_true rfl) rfl ?_
      refine x_goto 17 dX2_best_34 (by decide) ?_
      refine X.sub [2, 3, 4, 1, 0] rfl ?_
      exact ih x1 x2 (x3 * x4) (x4 + 1) h g e hw
set_option maxHeartbeats 4000000 in
theorem k_X2_best {ρ : Rho} {h : Hp} {post : Int32 → Hp → Prop} {p1 : Int32} {p2 : Int32} (G : G0 ρ) (g : GI h) (hw : wp_X2_best post h p1 p2) : Con ρ yX2_best (ws_ yX2_best cX2_best 8 (Option.some Jvm.ClassFile.FieldType.int)) rm_X2_best [.ref (mr ρ 25), .int p1, .int p2] h (phI h post) psN := by
  refine con_of (own := "BeforeTheEndModel") (isI := false) (l0 := [(0, .ref (mr ρ 25)), (1, .int p1), (2, .int p2)]) (by decide) rfl (fun z => by cases z) (Nat.le_of_ble_eq_true rfl) rfl (fun _ => ?_)
  show X ρ K_X2_best 0 [(0, .ref (mr ρ 25)), (1, .int p1), (2, .int p2)] [] h 0 0 (phI h post) psN
  refine x_iload_n 2 dX2_best_0 rfl ?_
  refine x_iconst (-1) dX2_best_1 (by decide) ?_
  obtain ⟨wt_7, wf_8⟩ := hw
  refine x_icmp_ge 12 dX2_best_2 (by decide) (fun c_1 => ?_) (fun c_1 => ?_)
  · have hw := wt_7 c_1
    refine x_iconst 1 dX2_best_12 (by decide) ?_
    refine x_istore_n (lv' := [(3, .int 1), (0, .ref (mr ρ 25)), (1, .int p1), (2, .int p2)]) dX2_best_13 (Nat.le_of_ble_eq_true rfl) rfl ?_
    refine x_iconst 2 dX2_best_14 (by decide) ?_
    refine x_istore (lv' := [(4, .int 2), (3, .int 1), (0, .ref (mr ρ 25)), (1, .int p1), (2, .int p2)]) dX2_best_15 (Nat.le_of_ble_eq_true rfl) rfl ?_
    refine X.sub [2, 3, 4, 1, 0] rfl ?_
    obtain ⟨fu, hw⟩ := hw
    exact t_X2_best_17 G  fu p1 p2 1 2 h g Ext.rf hw
  · have hw := wf_8 c_1
    refine x_aload_n 0 dX2_best_5 rfl ?_
    refine x_bipush (-4) dX2_best_6 (by decide) ?_
    refine x_callV (ci := 2) [.int (-4)] 1 dX2_best_8 (k_X2_no G g hw) (GI.s g (t := (12, 0)) rfl (by decide)) rfl q1387 q1389 qs59 q106 q1390 (by decide) rfl rfl ⟨(Nat.le_of_ble_eq_true rfl), (Nat.le_of_ble_eq_true rfl)⟩ (Nat.le_of_ble_eq_true rfl) ⟨(Nat.le_of_ble_eq_true rfl), (Nat.le_of_ble_eq_true rfl)⟩ (fun v9 h_2 hv9 => ?_) (fun _ _ _ _ _ z _ _ => False.elim z)
    obtain ⟨r_5, rfl, g_3, e_4, hw⟩ := hv9
    have hw := hw g_3 e_4
    show X ρ K_X2_best 11 [(0, .ref (mr ρ 25)), (1, .int p1), (2, .int p2)] [.int r_5] h_2 0 0 (phI h post) psN
    exact x_iret dX2_best_11 rfl (Nat.le_of_ble_eq_true rfl) (Nat.le_of_ble_eq_true rfl) ⟨_, rfl, g_3, e_4, hw⟩

/-! BeforeTheEndModel.late(I)I -/
def wp_X2_late (post : Int32 → Hp → Prop) (h : Hp) (p1 : Int32) : Prop := (wp_X2_best (fun r_4 h_1 => GI h_1 → Ext h h_1 → (post r_4 h_1)) h 1 p1)
abbrev rm_X2_late : Room := ({ frames := 4, cells := 0, slots := 0, locals := 132 })
abbrev K_X2_late : Kx := ("BeforeTheEndModel", cX2_late, 2, (Option.some Jvm.ClassFile.FieldType.int), rm_X2_late, [], false)
set_option maxHeartbeats 4000000 in
theorem k_X2_late {ρ : Rho} {h : Hp} {post : Int32 → Hp → Prop} {p1 : Int32} (G : G0 ρ) (g : GI h) (hw : wp_X2_late post h p1) : Con ρ yX2_late (ws_ yX2_late cX2_late 2 (Option.some Jvm.ClassFile.FieldType.int)) rm_X2_late [.ref (mr ρ 25), .int p1] h (phI h post) psN := by
  refine con_of (own := "BeforeTheEndModel") (isI := false) (l0 := [(0, .ref (mr ρ 25)), (1, .int p1)]) (by decide) rfl (fun z => by cases z) (Nat.le_of_ble_eq_true rfl) rfl (fun _ => ?_)
  show X ρ K_X2_late 0 [(0, .ref (mr ρ 25)), (1, .int p1)] [] h 0 0 (phI h post) psN
  refine x_aload_n 0 dX2_late_0 rfl ?_
  refine x_iconst 1 dX2_late_1 (by decide) ?_
  refine x_iload_n 1 dX2_late_2 rfl ?_
  refine x_callV (ci := 2) [.int 1, .int p1] 2 dX2_late_3 (k_X2_best G g hw) (GI.s g (t := (12, 0)) rfl (by decide)) rfl q1658 q1660 qs96 q106 q1661 (by decide) rfl rfl ⟨(Nat.le_of_ble_eq_true rfl), (Nat.le_of_ble_eq_true rfl)⟩ (Nat.le_of_ble_eq_true rfl) ⟨(Nat.le_of_ble_eq_true rfl), (Nat.le_of_ble_eq_true rfl)⟩ (fun v9 h_1 hv9 => ?_) (fun _ _ _ _ _ z _ _ => False.elim z)
  obtain ⟨r_4, rfl, g_2, e_3, hw⟩ := hv9
  have hw := hw g_2 e_3
  show X ρ K_X2_late 6 [(0, .ref (mr ρ 25)), (1, .int p1)] [.int r_4] h_1 0 0 (phI h post) psN
  exact x_iret dX2_late_6 rfl (Nat.le_of_ble_eq_true rfl) (Nat.le_of_ble_eq_true rfl) ⟨_, rfl, g_2, e_3, hw⟩

/-! BeforeTheEnd.soon(I)I -/
def wp_X0_soon (post : Int32 → Hp → Prop) (h : Hp) (p1 : Int32) : Prop := (wp_X0_act (fun r_4 h_1 => GI h_1 → Ext h h_1 → (post r_4 h_1)) h 20 p1 0 0)
abbrev rm_X0_soon : Room := ({ frames := 19, cells := 1868, slots := 13143, locals := 599 })
abbrev K_X0_soon : Kx := ("BeforeTheEnd", cX0_soon, 2, (Option.some Jvm.ClassFile.FieldType.int), rm_X0_soon, [], false)
set_option maxHeartbeats 4000000 in
theorem k_X0_soon {ρ : Rho} {h : Hp} {post : Int32 → Hp → Prop} {p1 : Int32} (G : G0 ρ) (g : GI h) (hw : wp_X0_soon post h p1) : Con ρ yX0_soon (ws_ yX0_soon cX0_soon 2 (Option.some Jvm.ClassFile.FieldType.int)) rm_X0_soon [.ref (mr ρ 1), .int p1] h (phI h post) psN := by
  refine con_of (own := "BeforeTheEnd") (isI := false) (l0 := [(0, .ref (mr ρ 1)), (1, .int p1)]) (by decide) rfl (fun z => by cases z) (Nat.le_of_ble_eq_true rfl) rfl (fun _ => ?_)
  show X ρ K_X0_soon 0 [(0, .ref (mr ρ 1)), (1, .int p1)] [] h 0 0 (phI h post) psN
  refine x_aload_n 0 dX0_soon_0 rfl ?_
  refine x_bipush 20 dX0_soon_1 (by decide) ?_
  refine x_iload_n 1 dX0_soon_3 rfl ?_
  refine x_iconst 0 dX0_soon_4 (by decide) ?_
  refine x_iconst 0 dX0_soon_5 (by decide) ?_
  refine x_callH (ci := 0) [.int 20, .int p1, .int 0, .int 0] 4 dX0_soon_6 (k_X0_act G g hw) (GI.s g (t := (10, 0)) rfl (by decide)) rfl q383 q385 qs3 q104 q386 (by decide) rfl rfl ⟨(Nat.le_of_ble_eq_true rfl), (Nat.le_of_ble_eq_true rfl)⟩ (Nat.le_of_ble_eq_true rfl) ⟨(Nat.le_of_ble_eq_true rfl), (Nat.le_of_ble_eq_true rfl)⟩ (fun v9 h_1 hv9 => ?_) (fun _ _ _ _ _ z _ _ => False.elim z)
  obtain ⟨r_4, rfl, g_2, e_3, hw⟩ := hv9
  have hw := hw g_2 e_3
  show X ρ K_X0_soon 9 [(0, .ref (mr ρ 1)), (1, .int p1)] [.int r_4] h_1 1868 13143 (phI h post) psN
  exact x_iret dX0_soon_9 rfl (Nat.le_of_ble_eq_true rfl) (Nat.le_of_ble_eq_true rfl) ⟨_, rfl, g_2, e_3, hw⟩

/-! BeforeTheEndModel.soon(I)I -/
def wp_X2_soon (post : Int32 → Hp → Prop) (h : Hp) (p1 : Int32) : Prop := (wp_X2_best (fun r_4 h_1 => GI h_1 → Ext h h_1 → (post r_4 h_1)) h 0 p1)
abbrev rm_X2_soon : Room := ({ frames := 4, cells := 0, slots := 0, locals := 132 })
abbrev K_X2_soon : Kx := ("BeforeTheEndModel", cX2_soon, 2, (Option.some Jvm.ClassFile.FieldType.int), rm_X2_soon, [], false)
set_option maxHeartbeats 4000000 in
theorem k_X2_soon {ρ : Rho} {h : Hp} {post : Int32 → Hp → Prop} {p1 : Int32} (G : G0 ρ) (g : GI h) (hw : wp_X2_soon post h p1) : Con ρ yX2_soon (ws_ yX2_soon cX2_soon 2 (Option.some Jvm.ClassFile.FieldType.int)) rm_X2_soon [.ref (mr ρ 25), .int p1] h (phI h post) psN := by
  refine con_of (own := "BeforeTheEndModel") (isI := false) (l0 := [(0, .ref (mr ρ 25)), (1, .int p1)]) (by decide) rfl (fun z => by cases z) (Nat.le_of_ble_eq_true rfl) rfl (fun _ => ?_)
  show X ρ K_X2_soon 0 [(0, .ref (mr ρ 25)), (1, .int p1)] [] h 0 0 (phI h post) psN
  refine x_aload_n 0 dX2_soon_0 rfl ?_
  refine x_iconst 0 dX2_soon_1 (by decide) ?_
  refine x_iload_n 1 dX2_soon_2 rfl ?_
  refine x_callV (ci := 2) [.int 0, .int p1] 2 dX2_soon_3 (k_X2_best G g hw) (GI.s g (t := (12, 0)) rfl (by decide)) rfl q1658 q1660 qs96 q106 q1661 (by decide) rfl rfl ⟨(Nat.le_of_ble_eq_true rfl), (Nat.le_of_ble_eq_true rfl)⟩ (Nat.le_of_ble_eq_true rfl) ⟨(Nat.le_of_ble_eq_true rfl), (Nat.le_of_ble_eq_true rfl)⟩ (fun v9 h_1 hv9 => ?_) (fun _ _ _ _ _ z _ _ => False.elim z)
  obtain ⟨r_4, rfl, g_2, e_3, hw⟩ := hv9
  have hw := hw g_2 e_3
  show X ρ K_X2_soon 6 [(0, .ref (mr ρ 25)), (1, .int p1)] [.int r_4] h_1 0 0 (phI h post) psN
  exact x_iret dX2_soon_6 rfl (Nat.le_of_ble_eq_true rfl) (Nat.le_of_ble_eq_true rfl) ⟨_, rfl, g_2, e_3, hw⟩

/-! BeforeTheEnd.actFar(IIII)I -/
def w_X0_actFar_21 (post : Int32 → Hp → Prop) (z0 : Int32) (z2 : Int32) (h : Hp) : Prop := (wp_X0_refuse (fun r_4 h_1 => GI h_1 → Ext h h_1 → (post (z2 - r_4) h_1)) h z0)
def w_X0_actFar_10 (post : Int32 → Hp → Prop) (z0 : Nat) (h : Hp) : Prop := (wv_X3_number_isEx (fun r_4 h_1 => GI h_1 → Ext h h_1 → (w_X0_actFar_21 post r_4 1000000000 h_1)) h z0)
def wp_X0_actFar (post : Int32 → Hp → Prop) (h : Hp) (p1 : Int32) (p2 : Int32) (p3 : Int32) (p4 : Int32) : Prop := (wp_X0_doIt (fun r_4 h_1 => GI h_1 → Ext h h_1 → (post r_4 h_1)) (fun q_6 h_1x => GI h_1x → Ext h h_1x → (isEx h_1x q_6 ∧ (w_X0_actFar_10 post q_6 h_1x))) h p1 p2 p3 p4)
abbrev rm_X0_actFar : Room := ({ frames := 18, cells := 1868, slots := 13143, locals := 574 })
abbrev K_X0_actFar : Kx := ("BeforeTheEnd", cX0_actFar, 6, (Option.some Jvm.ClassFile.FieldType.int), rm_X0_actFar, [(0, 9, 10, 343)], false)
set_option maxHeartbeats 4000000 in
theorem t_X0_actFar_21 {ρ : Rho} {h0 : Hp} {post : Int32 → Hp → Prop} (G : G0 ρ) :
    ∀ (z0 : Int32) (z2 : Int32) (h : Hp), GI h → Ext h0 h → w_X0_actFar_21 post z0 z2 h → X ρ K_X0_actFar 21 [] [.int z0, .ref (mr ρ 1), .int z2] h 1868 13143 (phI h0 post) psN := by
  intro z0 z2 h g e hw
  refine x_callV (ci := 0) [.int z0] 1 dX0_actFar_21 (k_X0_refuse G g hw) (GI.s g (t := (10, 0)) rfl (by decide)) rfl q375 q377 qs2 q104 q378 (by decide) rfl rfl ⟨(Nat.le_of_ble_eq_true rfl), (Nat.le_of_ble_eq_true rfl)⟩ (Nat.le_of_ble_eq_true rfl) ⟨(Nat.le_of_ble_eq_true rfl), (Nat.le_of_ble_eq_true rfl)⟩ (fun v9 h_1 hv9 => ?_) (fun _ _ _ _ _ z _ _ => False.elim z)
  obtain ⟨r_4, rfl, g_2, e_3, hw⟩ := hv9
  have hw := hw g_2 e_3
  show X ρ K_X0_actFar 24 [] [.int r_4, .int z2] h_1 1868 13143 (phI h0 post) psN
  refine x_isub dX0_actFar_24 ?_
  exact x_iret dX0_actFar_25 rfl (Nat.le_of_ble_eq_true rfl) (Nat.le_of_ble_eq_true rfl) ⟨_, rfl, g_2, (Ext.tr e e_3), hw⟩
set_option maxHeartbeats 4000000 in
theorem t_X0_actFar_10 {ρ : Rho} {h0 : Hp} {post : Int32 → Hp → Prop} (G : G0 ρ) :
    ∀ (z0 : Nat) (h : Hp), GI h → Ext h0 h → isEx h z0 → w_X0_actFar_10 post z0 h → X ρ K_X0_actFar 10 [(0, .ref (mr ρ 1))] [.ref (mr ρ z0)] h 1868 13143 (phI h0 post) psN := by
  intro z0 h g e fz0 hw
  refine x_astore (lv' := [(5, .ref (mr ρ z0)), (0, .ref (mr ρ 1))]) dX0_actFar_10 (Nat.le_of_ble_eq_true rfl) rfl ?_
  refine x_ldcw dX0_actFar_12 q1194 ?_
  refine x_aload_n 1 dX0_actFar_15 rfl ?_
  refine x_aload 0 dX0_actFar_16 rfl ?_
  have kk_8 : ∀ (v9 : Option Value) (h_1 : Hp), (phI h (fun r_4 h_1 => GI h_1 → Ext h h_1 → (w_X0_actFar_21 post r_4 1000000000 h_1))) v9 h_1 → X ρ K_X0_actFar 21 [(5, .ref (mr ρ z0)), (0, .ref (mr ρ 1))] (v9.toList ++ [.ref (mr ρ 1), .int 1000000000]) h_1 1868 13143 (phI h0 post) psN := by
    intro v9 h_1 hv9
    obtain ⟨r_4, rfl, g_2, e_3, hw⟩ := hv9
    have hw := hw g_2 e_3
    show X ρ K_X0_actFar 21 [(5, .ref (mr ρ z0)), (0, .ref (mr ρ 1))] [.int r_4, .ref (mr ρ 1), .int 1000000000] h_1 1868 13143 (phI h0 post) psN
    refine X.sub [] rfl ?_
    exact t_X0_actFar_21 G  r_4 1000000000 h_1 g_2 (Ext.tr e e_3) hw
  obtain ⟨wc_6, wc_7⟩ := hw
  rcases fz0 with fc9 | fc9
  · exact x_callA (ci := 3) (x0 := ⟨"BeforeTheEnd$Refusal", "number", "()I"⟩) (owner := "BeforeTheEnd$Refusal") [] 0 dX0_actFar_18 (k_X4_number_c3 G g fc9 (wc_6 fc9)) fc9 rfl (lw_U q366 q368 q372 q373 q111 q374) q367 (by decide) rfl rfl ⟨(Nat.le_of_ble_eq_true rfl), (Nat.le_of_ble_eq_true rfl)⟩ (Nat.le_of_ble_eq_true rfl) ⟨(Nat.le_of_ble_eq_true rfl), (Nat.le_of_ble_eq_true rfl)⟩ kk_8 (fun _ _ _ _ _ z _ _ => False.elim z)
  · exact x_callA (ci := 5) (x0 := ⟨"BeforeTheEnd$Refusal", "number", "()I"⟩) (owner := "BeforeTheEnd$Refusal") [] 0 dX0_actFar_18 (k_X6_number_c5 G g fc9 (wc_7 fc9)) fc9 rfl (lw_U q366 q368 q369 q370 q113 q371) q367 (by decide) rfl rfl ⟨(Nat.le_of_ble_eq_true rfl), (Nat.le_of_ble_eq_true rfl)⟩ (Nat.le_of_ble_eq_true rfl) ⟨(Nat.le_of_ble_eq_true rfl), (Nat.le_of_ble_eq_true rfl)⟩ kk_8 (fun _ _ _ _ _ z _ _ => False.elim z)
set_option maxHeartbeats 4000000 in
theorem k_X0_actFar {ρ : Rho} {h : Hp} {post : Int32 → Hp → Prop} {p1 : Int32} {p2 : Int32} {p3 : Int32} {p4 : Int32} (G : G0 ρ) (g : GI h) (hw : wp_X0_actFar post h p1 p2 p3 p4) : Con ρ yX0_actFar (wsW_ yX0_actFar cX0_actFar 6 (Option.some Jvm.ClassFile.FieldType.int) [(0, 9, 10, 343)]) rm_X0_actFar [.ref (mr ρ 1), .int p1, .int p2, .int p3, .int p4] h (phI h post) psN := by
  refine con_ofH (own := "BeforeTheEnd") (l0 := [(0, .ref (mr ρ 1)), (1, .int p1), (2, .int p2), (3, .int p3), (4, .int p4)]) (by decide) rfl q1193 (Nat.le_of_ble_eq_true rfl) rfl (fun _ => ?_)
  show X ρ K_X0_actFar 0 [(0, .ref (mr ρ 1)), (1, .int p1), (2, .int p2), (3, .int p3), (4, .int p4)] [] h 0 0 (phI h post) psN
  refine x_aload_n 0 dX0_actFar_0 rfl ?_
  refine x_iload_n 1 dX0_actFar_1 rfl ?_
  refine x_iload_n 2 dX0_actFar_2 rfl ?_
  refine x_iload_n 3 dX0_actFar_3 rfl ?_
  refine x_iload 4 dX0_actFar_4 rfl ?_
  refine x_callV (ci := 0) [.int p1, .int p2, .int p3, .int p4] 4 dX0_actFar_6 (k_X0_doIt G g hw) (GI.s g (t := (10, 0)) rfl (by decide)) rfl q387 q389 qs4 q104 q390 (by decide) rfl rfl ⟨(Nat.le_of_ble_eq_true rfl), (Nat.le_of_ble_eq_true rfl)⟩ (Nat.le_of_ble_eq_true rfl) ⟨(Nat.le_of_ble_eq_true rfl), (Nat.le_of_ble_eq_true rfl)⟩ (fun v9 h_1 hv9 => ?_) (fun q_6 h_1x ci9 n9 x9 hx9 hs9 hc9 => ?_)
  · obtain ⟨r_4, rfl, g_2, e_3, hw⟩ := hv9
    have hw := hw g_2 e_3
    show X ρ K_X0_actFar 9 [(0, .ref (mr ρ 1)), (1, .int p1), (2, .int p2), (3, .int p3), (4, .int p4)] [.int r_4] h_1 1868 13143 (phI h post) psN
    exact x_iret dX0_actFar_9 rfl (Nat.le_of_ble_eq_true rfl) (Nat.le_of_ble_eq_true rfl) ⟨_, rfl, g_2, e_3, hw⟩
  · obtain ⟨g_7, e_8, hw⟩ := hx9
    have hw := hw g_7 e_8
    obtain ⟨hE8, hw⟩ := hw
    have kH9 : X ρ K_X0_actFar 10 [(0, .ref (mr ρ 1)), (1, .int p1), (2, .int p2), (3, .int p3), (4, .int p4)] [.ref (mr ρ q_6)] h_1x 1868 13143 (phI h post) psN := by
      have hE9 := hE8
      refine X.sub [0] rfl ?_
      exact t_X0_actFar_10 G  q_6 h_1x g_7 e_8 hE9 hw
    rcases hE8 with hE9 | hE9
    · refine xt_catch 0 9 10 343 hE9 (ci := 3) (x := (RX4, T3n, 2)) rfl rfl (by decide) (by decide) q289 q1726 ?_
      exact kH9
    · refine xt_catch 0 9 10 343 hE9 (ci := 5) (x := (RX6, T5n, 2)) rfl rfl (by decide) (by decide) q289 q1725 ?_
      exact kH9

/-! BeforeTheEnd.evening(III)I -/
def wp_X0_evening (post : Int32 → Hp → Prop) (h : Hp) (p1 : Int32) (p2 : Int32) (p3 : Int32) : Prop := (wp_X0_actFar (fun r_4 h_1 => GI h_1 → Ext h h_1 → (post r_4 h_1)) h 21 p1 p2 p3)
abbrev rm_X0_evening : Room := ({ frames := 19, cells := 1868, slots := 13143, locals := 599 })
abbrev K_X0_evening : Kx := ("BeforeTheEnd", cX0_evening, 4, (Option.some Jvm.ClassFile.FieldType.int), rm_X0_evening, [], false)
set_option maxHeartbeats 4000000 in
theorem k_X0_evening {ρ : Rho} {h : Hp} {post : Int32 → Hp → Prop} {p1 : Int32} {p2 : Int32} {p3 : Int32} (G : G0 ρ) (g : GI h) (hw : wp_X0_evening post h p1 p2 p3) : Con ρ yX0_evening (ws_ yX0_evening cX0_evening 4 (Option.some Jvm.ClassFile.FieldType.int)) rm_X0_evening [.ref (mr ρ 1), .int p1, .int p2, .int p3] h (phI h post) psN := by
  refine con_of (own := "BeforeTheEnd") (isI := false) (l0 := [(0, .ref (mr ρ 1)), (1, .int p1), (2, .int p2), (3, .int p3)]) (by decide) rfl (fun z => by cases z) (Nat.le_of_ble_eq_true rfl) rfl (fun _ => ?_)
  show X ρ K_X0_evening 0 [(0, .ref (mr ρ 1)), (1, .int p1), (2, .int p2), (3, .int p3)] [] h 0 0 (phI h post) psN
  refine x_aload_n 0 dX0_evening_0 rfl ?_
  refine x_bipush 21 dX0_evening_1 (by decide) ?_
  refine x_iload_n 1 dX0_evening_3 rfl ?_
  refine x_iload_n 2 dX0_evening_4 rfl ?_
  refine x_iload_n 3 dX0_evening_5 rfl ?_
  refine x_callH (ci := 0) [.int 21, .int p1, .int p2, .int p3] 4 dX0_evening_6 (k_X0_actFar G g hw) (GI.s g (t := (10, 0)) rfl (by decide)) rfl q1190 q1192 qs58 q104 q1193 (by decide) rfl rfl ⟨(Nat.le_of_ble_eq_true rfl), (Nat.le_of_ble_eq_true rfl)⟩ (Nat.le_of_ble_eq_true rfl) ⟨(Nat.le_of_ble_eq_true rfl), (Nat.le_of_ble_eq_true rfl)⟩ (fun v9 h_1 hv9 => ?_) (fun _ _ _ _ _ z _ _ => False.elim z)
  obtain ⟨r_4, rfl, g_2, e_3, hw⟩ := hv9
  have hw := hw g_2 e_3
  show X ρ K_X0_evening 9 [(0, .ref (mr ρ 1)), (1, .int p1), (2, .int p2), (3, .int p3)] [.int r_4] h_1 1868 13143 (phI h post) psN
  exact x_iret dX0_evening_9 rfl (Nat.le_of_ble_eq_true rfl) (Nat.le_of_ble_eq_true rfl) ⟨_, rfl, g_2, e_3, hw⟩

/-! BeforeTheEndModel.lower(I)I -/
def wp_X2_lower (post : Int32 → Hp → Prop) (h : Hp) (p1 : Int32) : Prop := (vp_in (-p1) 7 ∧ (vp_in (-p1) 7 ∧ (post (1000000000 - p1) (si h 26 (Int32.toNatClampNeg (-p1)) ((gi h 26 (Int32.toNatClampNeg (-p1))) + 1)))))
abbrev rm_X2_lower : Room := ({ frames := 1, cells := 0, slots := 0, locals := 60 })
abbrev K_X2_lower : Kx := ("BeforeTheEndModel", cX2_lower, 2, (Option.some Jvm.ClassFile.FieldType.int), rm_X2_lower, [], false)
set_option maxHeartbeats 4000000 in
theorem k_X2_lower {ρ : Rho} {h : Hp} {post : Int32 → Hp → Prop} {p1 : Int32} (G : G0 ρ) (g : GI h) (hw : wp_X2_lower post h p1) : Con ρ yX2_lower (ws_ yX2_lower cX2_lower 2 (Option.some Jvm.ClassFile.FieldType.int)) rm_X2_lower [.ref (mr ρ 25), .int p1] h (phI h post) psN := by
  refine con_of (own := "BeforeTheEndModel") (isI := false) (l0 := [(0, .ref (mr ρ 25)), (1, .int p1)]) (by decide) rfl (fun z => by cases z) (Nat.le_of_ble_eq_true rfl) rfl (fun _ => ?_)
  show X ρ K_X2_lower 0 [(0, .ref (mr ρ 25)), (1, .int p1)] [] h 0 0 (phI h post) psN
  refine x_aload_n 0 dX2_lower_0 rfl ?_
  refine x_get (ci := 2) (v := .ref (mr ρ 26)) 0 dX2_lower_1 (GI.s g (t := (12, 0)) rfl (by decide)) rfl in_X2 (by decide) q1223 (Or.inl rfl) (fv_rc rfl (GI.m g (n := 26) rfl (by decide)) (by decide)) ?_
  refine x_iload_n 1 dX2_lower_4 rfl ?_
  refine x_ineg dX2_lower_5 ?_
  refine x_dup2 dX2_lower_6 rfl rfl ?_
  obtain ⟨b_1, hw⟩ := hw
  refine x_iald (n := 7) (j := (Int32.toNatClampNeg (-p1))) dX2_lower_7 rfl (GI.s g (t := (1, 7)) rfl (by decide)) b_1 ?_
  refine x_iconst 1 dX2_lower_8 (by decide) ?_
  refine x_iadd dX2_lower_9 ?_
  obtain ⟨b_2, hw⟩ := hw
  refine x_iast (n := 7) (j := (Int32.toNatClampNeg (-p1))) dX2_lower_10 rfl (GI.s g (t := (1, 7)) rfl (by decide)) b_2 ?_
  refine x_ldc dX2_lower_11 q1678 ?_
  refine x_iload_n 1 dX2_lower_13 rfl ?_
  refine x_isub dX2_lower_14 ?_
  exact x_iret dX2_lower_15 rfl (Nat.le_of_ble_eq_true rfl) (Nat.le_of_ble_eq_true rfl) ⟨_, rfl, (GI.i g), (Ext.i Ext.rf), hw⟩

/-! BeforeTheEndModel.drawn()I -/
def w_X2_drawn_70 (post : Int32 → Hp → Prop) (K2 : Int32 → Hp → Prop) (K50 : Int32 → Int32 → Int32 → Hp → Prop) (x1 : Int32) (x2 : Int32) (x3 : Int32) (h : Hp) : Prop := (vp_in x3 24 ∧ ((((gi h 27 (Int32.toNatClampNeg x3)) = x1 → (vp_in x3 24))) ∧ (∀ z_4 : Int32, z_4 = ((if (gi h 27 (Int32.toNatClampNeg x3)) = x1 then (gi h 28 (Int32.toNatClampNeg x3)) else 0) : Int32) → (K50 x1 (x2 - z_4) (x3 + 1) h))))
def w_X2_drawn_50 (post : Int32 → Hp → Prop) (K2 : Int32 → Hp → Prop) : Nat → Int32 → Int32 → Int32 → Hp → Prop
  | 0 => fun _ _ _ _ => False
  | n + 1 => fun x1 x2 x3 h => (vp_in x3 24 ∧ ((¬ (gi h 27 (Int32.toNatClampNeg x3)) = x1 → (w_X2_drawn_70 post K2 (w_X2_drawn_50 post K2 n) x1 x2 x3 h)) ∧ ((gi h 27 (Int32.toNatClampNeg x3)) = x1 → (vp_in x3 24 ∧ ((x2 < (gi h 28 (Int32.toNatClampNeg x3)) → (K2 x3 h)) ∧ (¬ x2 < (gi h 28 (Int32.toNatClampNeg x3)) → (w_X2_drawn_70 post K2 (w_X2_drawn_50 post K2 n) x1 x2 x3 h)))))))
def w_X2_drawn_2 (post : Int32 → Hp → Prop) : Nat → Int32 → Hp → Prop
  | 0 => fun _ _ => False
  | n + 1 => fun x1 h => (vp_in x1 24 ∧ ((¬ (gi h 29 (Int32.toNatClampNeg x1)) = 0 → (post x1 h)) ∧ ((gi h 29 (Int32.toNatClampNeg x1)) = 0 → (wp_X2_sumOf (fun r_6 h_3 => GI h_3 → Ext (si h 25 45 (((gi h 25 45) * 1664525) + 1013904223)) h_3 → (¬ r_6 = 0 ∧ (∀ x2_9 : Int32, x2_9 = ((((gi (si h 25 45 (((gi h 25 45) * 1664525) + 1013904223)) 25 45) &&& 2147483647) / 256) - (((gi (si h 25 45 (((gi h 25 45) * 1664525) + 1013904223)) 25 45) &&& 2147483647) / 256) / r_6 * r_6) → (∃ fu : Nat, w_X2_drawn_50 post (w_X2_drawn_2 post n) fu x1 x2_9 (x1 + 1) h_3)))) (si h 25 45 (((gi h 25 45) * 1664525) + 1013904223)) x1))))
def wp_X2_drawn (post : Int32 → Hp → Prop) (h : Hp) : Prop := (∃ fu : Nat, w_X2_drawn_2 post fu 0 h)
abbrev rm_X2_drawn : Room := ({ frames := 2, cells := 0, slots := 0, locals := 83 })
abbrev K_X2_drawn : Kx := ("BeforeTheEndModel", cX2_drawn, 4, (Option.some Jvm.ClassFile.FieldType.int), rm_X2_drawn, [], false)
set_option maxHeartbeats 4000000 in
theorem t_X2_drawn_70 {ρ : Rho} {h0 : Hp} {post : Int32 → Hp → Prop} {K2 : Int32 → Hp → Prop} {K50 : Int32 → Int32 → Int32 → Hp → Prop} (G : G0 ρ) (hK2 : ∀ (x1 : Int32) (h : Hp), GI h → Ext h0 h → K2 x1 h → X ρ K_X2_drawn 2 [(0, .ref (mr ρ 25)), (1, .int x1)] [] h 0 0 (phI h0 post) psN) (hK50 : ∀ (x1 : Int32) (x2 : Int32) (x3 : Int32) (h : Hp), GI h → Ext h0 h → K50 x1 x2 x3 h → X ρ K_X2_drawn 50 [(0, .ref (mr ρ 25)), (1, .int x1), (2, .int x2), (3, .int x3)] [] h 0 0 (phI h0 post) psN) :
    ∀ (x1 : Int32) (x2 : Int32) (x3 : Int32) (h : Hp), GI h → Ext h0 h → w_X2_drawn_70 post K2 K50 x1 x2 x3 h → X ρ K_X2_drawn 70 [(0, .ref (mr ρ 25)), (1, .int x1), (2, .int x2), (3, .int x3)] [] h 0 0 (phI h0 post) psN := by
  intro x1 x2 x3 h g e hw
  refine x_iload_n 2 dX2_drawn_70 rfl ?_
  refine x_aload_n 0 dX2_drawn_71 rfl ?_
  refine x_get (ci := 2) (v := .ref (mr ρ 27)) 1 dX2_drawn_72 (GI.s g (t := (12, 0)) rfl (by decide)) rfl in_X2 (by decide) q1224 (Or.inl rfl) (fv_rc rfl (GI.m g (n := 27) rfl (by decide)) (by decide)) ?_
  refine x_iload_n 3 dX2_drawn_75 rfl ?_
  obtain ⟨b_1, hw⟩ := hw
  refine x_iald (n := 24) (j := (Int32.toNatClampNeg x3)) dX2_drawn_76 rfl (GI.s g (t := (1, 24)) rfl (by decide)) b_1 ?_
  refine x_iload_n 1 dX2_drawn_77 rfl ?_
  obtain ⟨hO_6, hw⟩ := hw
  have kJ_5 : ∀ z_4 : Int32, z_4 = ((if (gi h 27 (Int32.toNatClampNeg x3)) = x1 then (gi h 28 (Int32.toNatClampNeg x3)) else 0) : Int32) → X ρ K_X2_drawn 91 [(0, .ref (mr ρ 25)), (1, .int x1), (2, .int x2), (3, .int x3)] [.int z_4, .int x2] h 0 0 (phI h0 post) psN := fun z_4 ez_4 => by
    have hw := hw z_4 ez_4
    refine x_isub dX2_drawn_91 ?_
    refine x_istore_n (lv' := [(2, .int (x2 - z_4)), (0, .ref (mr ρ 25)), (1, .int x1), (3, .int x3)]) dX2_drawn_92 (Nat.le_of_ble_eq_true rfl) rfl ?_
    refine x_iinc (v := (x3 + 1)) (lv' := [(3, .int (x3 + 1)), (2, .int (x2 - z_4)), (0, .ref (mr ρ 25)), (1, .int x1)]) 3 dX2_drawn_93 rfl (by rfl) (Nat.le_of_ble_eq_true rfl) rfl ?_
    refine x_goto 50 dX2_drawn_96 (by decide) ?_
    refine X.sub [2, 3, 1, 0] rfl ?_
    exact hK50 x1 (x2 - z_4) (x3 + 1) h g e hw
  have hO_60 := hO_6
  refine x_icmp_ne 90 dX2_drawn_78 (by decide) (fun c_2 => ?_) (fun c_2 => ?_)
  · refine x_iconst 0 dX2_drawn_90 (by decide) ?_
    exact kJ_5 _ ((if_neg c_2)).symm
  · have hO_6_ := hO_60 c_2
    have b_3 := hO_6_
    refine x_aload_n 0 dX2_drawn_81 rfl ?_
    refine x_get (ci := 2) (v := .ref (mr ρ 28)) 2 dX2_drawn_82 (GI.s g (t := (12, 0)) rfl (by decide)) rfl in_X2 (by decide) q1225 (Or.inl rfl) (fv_rc rfl (GI.m g (n := 28) rfl (by decide)) (by decide)) ?_
    refine x_iload_n 3 dX2_drawn_85 rfl ?_
    refine x_iald (n := 24) (j := (Int32.toNatClampNeg x3)) dX2_drawn_86 rfl (GI.s g (t := (1, 24)) rfl (by decide)) b_3 ?_
    refine x_goto 91 dX2_drawn_87 (by decide) ?_
    exact kJ_5 _ ((if_pos c_2)).symm
set_option maxHeartbeats 4000000 in
theorem t_X2_drawn_50 {ρ : Rho} {h0 : Hp} {post : Int32 → Hp → Prop} {K2 : Int32 → Hp → Prop} (G : G0 ρ) (hK2 : ∀ (x1 : Int32) (h : Hp), GI h → Ext h0 h → K2 x1 h → X ρ K_X2_drawn 2 [(0, .ref (mr ρ 25)), (1, .int x1)] [] h 0 0 (phI h0 post) psN) :
    ∀ (n : Nat), ∀ (x1 : Int32) (x2 : Int32) (x3 : Int32) (h : Hp), GI h → Ext h0 h → w_X2_drawn_50 post K2 n x1 x2 x3 h → X ρ K_X2_drawn 50 [(0, .ref (mr ρ 25)), (1, .int x1), (2, .int x2), (3, .int x3)] [] h 0 0 (phI h0 post) psN := by
  intro n
  induction n with
  | zero => intro x1 x2 x3 h g e hw; exact False.elim hw
  | succ n ih =>
    intro x1 x2 x3 h g e hw
    refine x_aload_n 0 dX2_drawn_50 rfl ?_
    refine x_get (ci := 2) (v := .ref (mr ρ 27)) 1 dX2_drawn_51 (GI.s g (t := (12, 0)) rfl (by decide)) rfl in_X2 (by decide) q1224 (Or.inl rfl) (fv_rc rfl (GI.m g (n := 27) rfl (by decide)) (by decide)) ?_
    refine x_iload_n 3 dX2_drawn_54 rfl ?_
    obtain ⟨b_1, hw⟩ := hw
    refine x_iald (n := 24) (j := (Int32.toNatClampNeg x3)) dX2_drawn_55 rfl (GI.s g (t := (1, 24)) rfl (by decide)) b_1 ?_
    refine x_iload_n 1 dX2_drawn_56 rfl ?_
    obtain ⟨wt_7, wf_8⟩ := hw
    refine x_icmp_ne 70 dX2_drawn_57 (by decide) (fun c_2 => ?_) (fun c_2 => ?_)
    · have hw := wt_7 c_2
      exact t_X2_drawn_70 G hK2 ih x1 x2 x3 h g e hw
    · have hw := wf_8 c_2
      refine x_iload_n 2 dX2_drawn_60 rfl ?_
      refine x_aload_n 0 dX2_drawn_61 rfl ?_
      refine x_get (ci := 2) (v := .ref (mr ρ 28)) 2 dX2_drawn_62 (GI.s g (t := (12, 0)) rfl (by decide)) rfl in_X2 (by decide) q1225 (Or.inl rfl) (fv_rc rfl (GI.m g (n := 28) rfl (by decide)) (by decide)) ?_
      refine x_iload_n 3 dX2_drawn_65 rfl ?_
      obtain ⟨b_3, hw⟩ := hw
      refine x_iald (n := 24) (j := (Int32.toNatClampNeg x3)) dX2_drawn_66 rfl (GI.s g (t := (1, 24)) rfl (by decide)) b_3 ?_
      obtain ⟨wt_5, wf_6⟩ := hw
      refine x_icmp_lt 99 dX2_drawn_67 (by decide) (fun c_4 => ?_) (fun c_4 => ?_)
      · have hw := wt_5 c_4
        refine x_iload_n 3 dX2_drawn_99 rfl ?_
        refine x_istore_n (lv' := [(1, .int x3), (0, .ref (mr ρ 25)), (2, .int x2), (3, .int x3)]) dX2_drawn_100 (Nat.le_of_ble_eq_true rfl) rfl ?_
        refine x_goto 2 dX2_drawn_101 (by decide) ?_
        refine X.sub [1, 0] rfl ?_
        exact hK2 x3 h g e hw
      · have hw := wf_6 c_4
        exact t_X2_drawn_70 G hK2 ih x1 x2 x3 h g e hw
set_option maxHeartbeats 4000000 in
theorem t_X2_drawn_2 {ρ : Rho} {h0 : Hp} {post : Int32 → Hp → Prop} (G : G0 ρ) :
    ∀ (n : Nat), ∀ (x1 : Int32) (h : Hp), GI h → Ext h0 h → w_X2_drawn_2 post n x1 h → X ρ K_X2_drawn 2 [(0, .ref (mr ρ 25)), (1, .int x1)] [] h 0 0 (phI h0 post) psN := by
  intro n
  induction n with
  | zero => intro x1 h g e hw; exact False.elim hw
  | succ n ih =>
    intro x1 h g e hw
    refine x_aload_n 0 dX2_drawn_2 rfl ?_
    refine x_get (ci := 2) (v := .ref (mr ρ 29)) 3 dX2_drawn_3 (GI.s g (t := (12, 0)) rfl (by decide)) rfl in_X2 (by decide) q1226 (Or.inl rfl) (fv_rc rfl (GI.m g (n := 29) rfl (by decide)) (by decide)) ?_
    refine x_iload_n 1 dX2_drawn_6 rfl ?_
    obtain ⟨b_1, hw⟩ := hw
    refine x_iald (n := 24) (j := (Int32.toNatClampNeg x1)) dX2_drawn_7 rfl (GI.s g (t := (1, 24)) rfl (by decide)) b_1 ?_
    obtain ⟨wt_10, wf_11⟩ := hw
    refine x_if_ne 104 dX2_drawn_8 (by decide) (fun c_2 => ?_) (fun c_2 => ?_)
    · have hw := wt_10 c_2
      refine x_iload_n 1 dX2_drawn_104 rfl ?_
      exact x_iret dX2_drawn_105 rfl (Nat.le_of_ble_eq_true rfl) (Nat.le_of_ble_eq_true rfl) ⟨_, rfl, g, e, hw⟩
    · have hw := wf_11 c_2
      refine x_aload_n 0 dX2_drawn_11 rfl ?_
      refine x_aload_n 0 dX2_drawn_12 rfl ?_
      refine x_get (ci := 2) (v := .int (gi h 25 45)) 45 dX2_drawn_13 (GI.s g (t := (12, 0)) rfl (by decide)) rfl in_X2 (by decide) q1268 (Or.inl rfl) (fv_i rfl) ?_
      refine x_ldcw dX2_drawn_16 q1683 ?_
      refine x_imul dX2_drawn_19 ?_
      refine x_ldcw dX2_drawn_20 q1684 ?_
      refine x_iadd dX2_drawn_23 ?_
      refine x_put (ci := 2) 45 dX2_drawn_24 (GI.s g (t := (12, 0)) rfl (by decide)) rfl in_X2 tyX2 tyX2_ok nmX2 (by decide) q1268 (Or.inl rfl) rfl rfl rfl (isPut_i rfl) ?_
      refine x_aload_n 0 dX2_drawn_27 rfl ?_
      refine x_get (ci := 2) (v := .int (gi (si h 25 45 (((gi h 25 45) * 1664525) + 1013904223)) 25 45)) 45 dX2_drawn_28 (GI.s (GI.i g) (t := (12, 0)) rfl (by decide)) rfl in_X2 (by decide) q1268 (Or.inl rfl) (fv_i rfl) ?_
      refine x_ldcw dX2_drawn_31 q1685 ?_
      refine x_iand dX2_drawn_34 ?_
      refine x_sipush 256 dX2_drawn_35 (by decide) ?_
      refine x_idiv dX2_drawn_38 (by decide) ?_
      refine x_aload_n 0 dX2_drawn_39 rfl ?_
      refine x_iload_n 1 dX2_drawn_40 rfl ?_
      refine x_callV (ci := 2) [.int x1] 1 dX2_drawn_41 (k_X2_sumOf G (GI.i g) hw) (GI.s (GI.i g) (t := (12, 0)) rfl (by decide)) rfl q1487 q1489 qs76 q106 q1490 (by decide) rfl rfl ⟨(Nat.le_of_ble_eq_true rfl), (Nat.le_of_ble_eq_true rfl)⟩ (Nat.le_of_ble_eq_true rfl) ⟨(Nat.le_of_ble_eq_true rfl), (Nat.le_of_ble_eq_true rfl)⟩ (fun v9 h_3 hv9 => ?_) (fun _ _ _ _ _ z _ _ => False.elim z)
      obtain ⟨r_6, rfl, g_4, e_5, hw⟩ := hv9
      have hw := hw g_4 e_5
      show X ρ K_X2_drawn 44 [(0, .ref (mr ρ 25)), (1, .int x1)] [.int r_6, .int (((gi (si h 25 45 (((gi h 25 45) * 1664525) + 1013904223)) 25 45) &&& 2147483647) / 256)] h_3 0 0 (phI h0 post) psN
      obtain ⟨b_8, hw⟩ := hw
      refine x_irem dX2_drawn_44 b_8 ?_
      refine x_nmi (fun x2_9 ex2_9 => ?_)
      have hw := hw x2_9 ex2_9
      refine x_istore_n (lv' := [(2, .int x2_9), (0, .ref (mr ρ 25)), (1, .int x1)]) dX2_drawn_45 (Nat.le_of_ble_eq_true rfl) rfl ?_
      refine x_iload_n 2 dX2_drawn_46 rfl ?_
      refine x_iconst 1 dX2_drawn_47 (by decide) ?_
      refine x_iadd dX2_drawn_48 ?_
      refine x_istore_n (lv' := [(3, .int (x1 + 1)), (2, .int x2_9), (0, .ref (mr ρ 25)), (1, .int x1)]) dX2_drawn_49 (Nat.le_of_ble_eq_true rfl) rfl ?_
      refine X.sub [2, 3, 1, 0] rfl ?_
      obtain ⟨fu, hw⟩ := hw
      exact t_X2_drawn_50 G ih fu x1 x2_9 (x1 + 1) h_3 g_4 (Ext.tr (Ext.i e) e_5) hw
set_option maxHeartbeats 4000000 in
theorem k_X2_drawn {ρ : Rho} {h : Hp} {post : Int32 → Hp → Prop} (G : G0 ρ) (g : GI h) (hw : wp_X2_drawn post h) : Con ρ yX2_drawn (ws_ yX2_drawn cX2_drawn 4 (Option.some Jvm.ClassFile.FieldType.int)) rm_X2_drawn [.ref (mr ρ 25)] h (phI h post) psN := by
  refine con_of (own := "BeforeTheEndModel") (isI := false) (l0 := [(0, .ref (mr ρ 25))]) (by decide) rfl (fun z => by cases z) (Nat.le_of_ble_eq_true rfl) rfl (fun _ => ?_)
  show X ρ K_X2_drawn 0 [(0, .ref (mr ρ 25))] [] h 0 0 (phI h post) psN
  refine x_iconst 0 dX2_drawn_0 (by decide) ?_
  refine x_istore_n (lv' := [(1, .int 0), (0, .ref (mr ρ 25))]) dX2_drawn_1 (Nat.le_of_ble_eq_true rfl) rfl ?_
  refine X.sub [1, 0] rfl ?_
  obtain ⟨fu, hw⟩ := hw
  exact t_X2_drawn_2 G  fu 0 h g Ext.rf hw

/-! BeforeTheEndModel.evening(III)I -/
def w_X2_evening_66 (post : Int32 → Hp → Prop) : Nat → Int32 → Int32 → Int32 → Int32 → Hp → Prop
  | 0 => fun _ _ _ _ _ => False
  | n + 1 => fun x1 x3 x5 x6 h => ((x1 ≤ x6 → (post x5 h)) ∧ (¬ x1 ≤ x6 → (wp_X2_drawn (fun r_5 h_2 => GI h_2 → Ext h h_2 → (wp_X2_runs (fun h_7 => GI h_7 → Ext h_2 h_7 → (vp_in x3 4 ∧ (∀ x5_13 : Int32, x5_13 = (x5 + (gi h_7 52 (Int32.toNatClampNeg x3))) → (w_X2_evening_66 post n x1 x3 x5_13 (x6 + 1) h_7)))) h_2 r_5)) h)))
def w_X2_evening_39 (post : Int32 → Hp → Prop) (x1 : Int32) (x2 : Int32) (x3 : Int32) (x4 : Int32) (h : Hp) : Prop := ((x4 = 0 → (wp_X2_finds (fun h_2 => GI h_2 → Ext h h_2 → (∃ fu : Nat, w_X2_evening_66 post fu x1 x3 0 0 (si h_2 25 45 x2))) h)) ∧ (¬ x4 = 0 → (wp_X2_lower (fun r_10 h_7 => GI h_7 → Ext h h_7 → (post r_10 h_7)) h x4)))
def wp_X2_evening (post : Int32 → Hp → Prop) (h : Hp) (p1 : Int32) (p2 : Int32) (p3 : Int32) : Prop := (wp_X2_isPlayer (fun r_4 h_1 => GI h_1 → Ext h h_1 → ((¬ r_4 = 0 → (wp_X2_bound (fun r_10 h_7 => GI h_7 → Ext h_1 h_7 → ((¬ r_10 = 0 → (w_X2_evening_39 post p1 p2 p3 r_10 h_7)) ∧ (r_10 = 0 → (wp_X2_isWhole (fun r_16 h_13 => GI h_13 → Ext h_7 h_13 → ((¬ r_16 = 0 → (w_X2_evening_39 post p1 p2 p3 r_10 h_13)) ∧ (r_16 = 0 → (w_X2_evening_39 post p1 p2 p3 (-3) h_13)))) h_7)))) h_1 p1 1 20)) ∧ (r_4 = 0 → (wp_X2_lower (fun r_26 h_23 => GI h_23 → Ext h_1 h_23 → (post r_26 h_23)) h_1 (-1))))) h p3)
abbrev rm_X2_evening : Room := ({ frames := 6, cells := 0, slots := 0, locals := 175 })
abbrev K_X2_evening : Kx := ("BeforeTheEndModel", cX2_evening, 7, (Option.some Jvm.ClassFile.FieldType.int), rm_X2_evening, [], false)
set_option maxHeartbeats 4000000 in
theorem t_X2_evening_66 {ρ : Rho} {h0 : Hp} {post : Int32 → Hp → Prop} (G : G0 ρ) :
    ∀ (n : Nat), ∀ (x1 : Int32) (x3 : Int32) (x5 : Int32) (x6 : Int32) (h : Hp), GI h → Ext h0 h → w_X2_evening_66 post n x1 x3 x5 x6 h → X ρ K_X2_evening 66 [(0, .ref (mr ρ 25)), (1, .int x1), (3, .int x3), (5, .int x5), (6, .int x6)] [] h 0 0 (phI h0 post) psN := by
  intro n
  induction n with
  | zero => intro x1 x3 x5 x6 h g e hw; exact False.elim hw
  | succ n ih =>
    intro x1 x3 x5 x6 h g e hw
    refine x_iload 4 dX2_evening_66 rfl ?_
    refine x_iload_n 1 dX2_evening_68 rfl ?_
    obtain ⟨wt_14, wf_15⟩ := hw
    refine x_icmp_ge 97 dX2_evening_69 (by decide) (fun c_1 => ?_) (fun c_1 => ?_)
    · have hw := wt_14 c_1
      refine x_iload 3 dX2_evening_97 rfl ?_
      exact x_iret dX2_evening_99 rfl (Nat.le_of_ble_eq_true rfl) (Nat.le_of_ble_eq_true rfl) ⟨_, rfl, g, e, hw⟩
    · have hw := wf_15 c_1
      refine x_aload_n 0 dX2_evening_72 rfl ?_
      refine x_aload_n 0 dX2_evening_73 rfl ?_
      refine x_callV (ci := 2) [] 0 dX2_evening_74 (k_X2_drawn G g hw) (GI.s g (t := (12, 0)) rfl (by decide)) rfl q1679 q1681 qs99 q106 q1682 (by decide) rfl rfl ⟨(Nat.le_of_ble_eq_true rfl), (Nat.le_of_ble_eq_true rfl)⟩ (Nat.le_of_ble_eq_true rfl) ⟨(Nat.le_of_ble_eq_true rfl), (Nat.le_of_ble_eq_true rfl)⟩ (fun v9 h_2 hv9 => ?_) (fun _ _ _ _ _ z _ _ => False.elim z)
      obtain ⟨r_5, rfl, g_3, e_4, hw⟩ := hv9
      have hw := hw g_3 e_4
      show X ρ K_X2_evening 77 [(0, .ref (mr ρ 25)), (1, .int x1), (3, .int x3), (5, .int x5), (6, .int x6)] [.int r_5, .ref (mr ρ 25)] h_2 0 0 (phI h0 post) psN
      refine x_callV (ci := 2) [.int r_5] 1 dX2_evening_77 (k_X2_runs G g_3 hw) (GI.s g_3 (t := (12, 0)) rfl (by decide)) rfl q1558 q1560 qs87 q106 q1561 (by decide) rfl rfl ⟨(Nat.le_of_ble_eq_true rfl), (Nat.le_of_ble_eq_true rfl)⟩ (Nat.le_of_ble_eq_true rfl) ⟨(Nat.le_of_ble_eq_true rfl), (Nat.le_of_ble_eq_true rfl)⟩ (fun v9 h_7 hv9 => ?_) (fun _ _ _ _ _ z _ _ => False.elim z)
      obtain ⟨rfl, g_8, e_9, hw⟩ := hv9
      have hw := hw g_8 e_9
      show X ρ K_X2_evening 80 [(0, .ref (mr ρ 25)), (1, .int x1), (3, .int x3), (5, .int x5), (6, .int x6)] [] h_7 0 0 (phI h0 post) psN
      refine x_iload 3 dX2_evening_80 rfl ?_
      refine x_aload_n 0 dX2_evening_82 rfl ?_
      refine x_get (ci := 2) (v := .ref (mr ρ 52)) 33 dX2_evening_83 (GI.s g_8 (t := (12, 0)) rfl (by decide)) rfl in_X2 (by decide) q1256 (Or.inl rfl) (fv_rc rfl (GI.m g_8 (n := 52) rfl (by decide)) (by decide)) ?_
      refine x_iload_n 2 dX2_evening_86 rfl ?_
      obtain ⟨b_12, hw⟩ := hw
      refine x_iald (n := 4) (j := (Int32.toNatClampNeg x3)) dX2_evening_87 rfl (GI.s g_8 (t := (1, 4)) rfl (by decide)) b_12 ?_
      refine x_iadd dX2_evening_88 ?_
      refine x_nmi (fun x5_13 ex5_13 => ?_)
      have hw := hw x5_13 ex5_13
      refine x_istore (lv' := [(5, .int x5_13), (0, .ref (mr ρ 25)), (1, .int x1), (3, .int x3), (6, .int x6)]) dX2_evening_89 (Nat.le_of_ble_eq_true rfl) rfl ?_
      refine x_iinc (v := (x6 + 1)) (lv' := [(6, .int (x6 + 1)), (5, .int x5_13), (0, .ref (mr ρ 25)), (1, .int x1), (3, .int x3)]) 4 dX2_evening_91 rfl (by rfl) (Nat.le_of_ble_eq_true rfl) rfl ?_
      refine x_goto 66 dX2_evening_94 (by decide) ?_
      refine X.sub [2, 3, 4, 1, 0] rfl ?_
      exact ih x1 x3 x5_13 (x6 + 1) h_7 g_8 (Ext.tr (Ext.tr e e_4) e_9) hw
set_option maxHeartbeats 4000000 in
theorem t_X2_evening_39 {ρ : Rho} {h0 : Hp} {post : Int32 → Hp → Prop} (G : G0 ρ) :
    ∀ (x1 : Int32) (x2 : Int32) (x3 : Int32) (x4 : Int32) (h : Hp), GI h → Ext h0 h → w_X2_evening_39 post x1 x2 x3 x4 h → X ρ K_X2_evening 39 [(0, .ref (mr ρ 25)), (1, .int x1), (2, .int x2), (3, .int x3), (4, .int x4)] [] h 0 0 (phI h0 post) psN := by
  intro x1 x2 x3 x4 h g e hw
  refine x_iload 4 dX2_evening_39 rfl ?_
  obtain ⟨wt_12, wf_13⟩ := hw
  refine x_if_eq 51 dX2_evening_41 (by decide) (fun c_1 => ?_) (fun c_1 => ?_)
  · have hw := wt_12 c_1
    refine x_aload_n 0 dX2_evening_51 rfl ?_
    refine x_callV (ci := 2) [] 0 dX2_evening_52 (k_X2_finds G g hw) (GI.s g (t := (12, 0)) rfl (by decide)) rfl q1521 q1523 qs79 q106 q1524 (by decide) rfl rfl ⟨(Nat.le_of_ble_eq_true rfl), (Nat.le_of_ble_eq_true rfl)⟩ (Nat.le_of_ble_eq_true rfl) ⟨(Nat.le_of_ble_eq_true rfl), (Nat.le_of_ble_eq_true rfl)⟩ (fun v9 h_2 hv9 => ?_) (fun _ _ _ _ _ z _ _ => False.elim z)
    obtain ⟨rfl, g_3, e_4, hw⟩ := hv9
    have hw := hw g_3 e_4
    show X ρ K_X2_evening 55 [(0, .ref (mr ρ 25)), (1, .int x1), (2, .int x2), (3, .int x3), (4, .int x4)] [] h_2 0 0 (phI h0 post) psN
    refine x_aload_n 0 dX2_evening_55 rfl ?_
    refine x_iload_n 2 dX2_evening_56 rfl ?_
    refine x_put (ci := 2) 45 dX2_evening_57 (GI.s g_3 (t := (12, 0)) rfl (by decide)) rfl in_X2 tyX2 tyX2_ok nmX2 (by decide) q1268 (Or.inl rfl) rfl rfl rfl (isPut_i rfl) ?_
    refine x_iconst 0 dX2_evening_60 (by decide) ?_
    refine x_istore (lv' := [(5, .int 0), (0, .ref (mr ρ 25)), (1, .int x1), (2, .int x2), (3, .int x3), (4, .int x4)]) dX2_evening_61 (Nat.le_of_ble_eq_true rfl) rfl ?_
    refine x_iconst 0 dX2_evening_63 (by decide) ?_
    refine x_istore (lv' := [(6, .int 0), (5, .int 0), (0, .ref (mr ρ 25)), (1, .int x1), (2, .int x2), (3, .int x3), (4, .int x4)]) dX2_evening_64 (Nat.le_of_ble_eq_true rfl) rfl ?_
    refine X.sub [2, 3, 5, 1, 0] rfl ?_
    obtain ⟨fu, hw⟩ := hw
    exact t_X2_evening_66 G  fu x1 x3 0 0 (si h_2 25 45 x2) (GI.i g_3) (Ext.i (Ext.tr e e_4)) hw
  · have hw := wf_13 c_1
    refine x_aload_n 0 dX2_evening_44 rfl ?_
    refine x_iload 4 dX2_evening_45 rfl ?_
    refine x_callV (ci := 2) [.int x4] 1 dX2_evening_47 (k_X2_lower G g hw) (GI.s g (t := (12, 0)) rfl (by decide)) rfl q1674 q1676 qs98 q106 q1677 (by decide) rfl rfl ⟨(Nat.le_of_ble_eq_true rfl), (Nat.le_of_ble_eq_true rfl)⟩ (Nat.le_of_ble_eq_true rfl) ⟨(Nat.le_of_ble_eq_true rfl), (Nat.le_of_ble_eq_true rfl)⟩ (fun v9 h_7 hv9 => ?_) (fun _ _ _ _ _ z _ _ => False.elim z)
    obtain ⟨r_10, rfl, g_8, e_9, hw⟩ := hv9
    have hw := hw g_8 e_9
    show X ρ K_X2_evening 50 [(0, .ref (mr ρ 25)), (1, .int x1), (2, .int x2), (3, .int x3), (4, .int x4)] [.int r_10] h_7 0 0 (phI h0 post) psN
    exact x_iret dX2_evening_50 rfl (Nat.le_of_ble_eq_true rfl) (Nat.le_of_ble_eq_true rfl) ⟨_, rfl, g_8, (Ext.tr e e_9), hw⟩
set_option maxHeartbeats 4000000 in
theorem k_X2_evening {ρ : Rho} {h : Hp} {post : Int32 → Hp → Prop} {p1 : Int32} {p2 : Int32} {p3 : Int32} (G : G0 ρ) (g : GI h) (hw : wp_X2_evening post h p1 p2 p3) : Con ρ yX2_evening (ws_ yX2_evening cX2_evening 7 (Option.some Jvm.ClassFile.FieldType.int)) rm_X2_evening [.ref (mr ρ 25), .int p1, .int p2, .int p3] h (phI h post) psN := by
  refine con_of (own := "BeforeTheEndModel") (isI := false) (l0 := [(0, .ref (mr ρ 25)), (1, .int p1), (2, .int p2), (3, .int p3)]) (by decide) rfl (fun z => by cases z) (Nat.le_of_ble_eq_true rfl) rfl (fun _ => ?_)
  show X ρ K_X2_evening 0 [(0, .ref (mr ρ 25)), (1, .int p1), (2, .int p2), (3, .int p3)] [] h 0 0 (phI h post) psN
  refine x_aload_n 0 dX2_evening_0 rfl ?_
  refine x_iload_n 3 dX2_evening_1 rfl ?_
  refine x_callV (ci := 2) [.int p3] 1 dX2_evening_2 (k_X2_isPlayer G g hw) (GI.s g (t := (12, 0)) rfl (by decide)) rfl q1454 q1456 qs71 q106 q1457 (by decide) rfl rfl ⟨(Nat.le_of_ble_eq_true rfl), (Nat.le_of_ble_eq_true rfl)⟩ (Nat.le_of_ble_eq_true rfl) ⟨(Nat.le_of_ble_eq_true rfl), (Nat.le_of_ble_eq_true rfl)⟩ (fun v9 h_1 hv9 => ?_) (fun _ _ _ _ _ z _ _ => False.elim z)
  obtain ⟨r_4, rfl, g_2, e_3, b_5, hw⟩ := hv9
  have hw := hw g_2 e_3
  show X ρ K_X2_evening 5 [(0, .ref (mr ρ 25)), (1, .int p1), (2, .int p2), (3, .int p3)] [.int r_4] h_1 0 0 (phI h post) psN
  obtain ⟨wt_28, wf_29⟩ := hw
  refine x_if_ne 14 dX2_evening_5 (by decide) (fun c_6 => ?_) (fun c_6 => ?_)
  · have hw := wt_28 c_6
    refine x_iload_n 1 dX2_evening_14 rfl ?_
    refine x_iconst 1 dX2_evening_15 (by decide) ?_
    refine x_bipush 20 dX2_evening_16 (by decide) ?_
    refine x_callS [.int p1, .int 1, .int 20] 3 dX2_evening_18 (k_X2_bound G g_2 hw) q1384 q1385 q106 q1386 (by decide) rfl rfl ⟨(Nat.le_of_ble_eq_true rfl), (Nat.le_of_ble_eq_true rfl)⟩ (Nat.le_of_ble_eq_true rfl) ⟨(Nat.le_of_ble_eq_true rfl), (Nat.le_of_ble_eq_true rfl)⟩ (fun v9 h_7 hv9 => ?_) (fun _ _ _ _ _ z _ _ => False.elim z)
    obtain ⟨r_10, rfl, g_8, e_9, hw⟩ := hv9
    have hw := hw g_8 e_9
    show X ρ K_X2_evening 21 [(0, .ref (mr ρ 25)), (1, .int p1), (2, .int p2), (3, .int p3)] [.int r_10] h_7 0 0 (phI h post) psN
    refine x_istore (lv' := [(4, .int r_10), (0, .ref (mr ρ 25)), (1, .int p1), (2, .int p2), (3, .int p3)]) dX2_evening_21 (Nat.le_of_ble_eq_true rfl) rfl ?_
    refine x_iload 0 dX2_evening_23 rfl ?_
    obtain ⟨wt_21, wf_22⟩ := hw
    refine x_if_ne 39 dX2_evening_25 (by decide) (fun c_12 => ?_) (fun c_12 => ?_)
    · have hw := wt_21 c_12
      refine X.sub [1, 2, 3, 4, 0] rfl ?_
      exact t_X2_evening_39 G  p1 p2 p3 r_10 h_7 g_8 (Ext.tr e_3 e_9) hw
    · have hw := wf_22 c_12
      refine x_aload_n 1 dX2_evening_28 rfl ?_
      refine x_callV (ci := 2) [] 0 dX2_evening_29 (k_X2_isWhole G g_8 hw) (GI.s g_8 (t := (12, 0)) rfl (by decide)) rfl q1462 q1464 qs72 q106 q1465 (by decide) rfl rfl ⟨(Nat.le_of_ble_eq_true rfl), (Nat.le_of_ble_eq_true rfl)⟩ (Nat.le_of_ble_eq_true rfl) ⟨(Nat.le_of_ble_eq_true rfl), (Nat.le_of_ble_eq_true rfl)⟩ (fun v9 h_13 hv9 => ?_) (fun _ _ _ _ _ z _ _ => False.elim z)
      obtain ⟨r_16, rfl, g_14, e_15, b_17, hw⟩ := hv9
      have hw := hw g_14 e_15
      show X ρ K_X2_evening 32 [(4, .int r_10), (0, .ref (mr ρ 25)), (1, .int p1), (2, .int p2), (3, .int p3)] [.int r_16] h_13 0 0 (phI h post) psN
      obtain ⟨wt_19, wf_20⟩ := hw
      refine x_if_ne 39 dX2_evening_32 (by decide) (fun c_18 => ?_) (fun c_18 => ?_)
      · have hw := wt_19 c_18
        refine X.sub [1, 2, 3, 4, 0] rfl ?_
        exact t_X2_evening_39 G  p1 p2 p3 r_10 h_13 g_14 (Ext.tr (Ext.tr e_3 e_9) e_15) hw
      · have hw := wf_20 c_18
        refine x_bipush (-3) dX2_evening_35 (by decide) ?_
        refine x_istore (lv' := [(4, .int (-3)), (0, .ref (mr ρ 25)), (1, .int p1), (2, .int p2), (3, .int p3)]) dX2_evening_37 (Nat.le_of_ble_eq_true rfl) rfl ?_
        refine X.sub [1, 2, 3, 4, 0] rfl ?_
        exact t_X2_evening_39 G  p1 p2 p3 (-3) h_13 g_14 (Ext.tr (Ext.tr e_3 e_9) e_15) hw
  · have hw := wf_29 c_6
    refine x_aload_n 0 dX2_evening_8 rfl ?_
    refine x_iconst (-1) dX2_evening_9 (by decide) ?_
    refine x_callV (ci := 2) [.int (-1)] 1 dX2_evening_10 (k_X2_lower G g_2 hw) (GI.s g_2 (t := (12, 0)) rfl (by decide)) rfl q1674 q1676 qs98 q106 q1677 (by decide) rfl rfl ⟨(Nat.le_of_ble_eq_true rfl), (Nat.le_of_ble_eq_true rfl)⟩ (Nat.le_of_ble_eq_true rfl) ⟨(Nat.le_of_ble_eq_true rfl), (Nat.le_of_ble_eq_true rfl)⟩ (fun v9 h_23 hv9 => ?_) (fun _ _ _ _ _ z _ _ => False.elim z)
    obtain ⟨r_26, rfl, g_24, e_25, hw⟩ := hv9
    have hw := hw g_24 e_25
    show X ρ K_X2_evening 13 [(0, .ref (mr ρ 25)), (1, .int p1), (2, .int p2), (3, .int p3)] [.int r_26] h_23 0 0 (phI h post) psN
    exact x_iret dX2_evening_13 rfl (Nat.le_of_ble_eq_true rfl) (Nat.le_of_ble_eq_true rfl) ⟨_, rfl, g_24, (Ext.tr e_3 e_25), hw⟩

/-! BeforeTheEnd.row(I)I -/
def wp_X0_row (post : Int32 → Hp → Prop) (h : Hp) (p1 : Int32) : Prop := (wp_X0_act (fun r_4 h_1 => GI h_1 → Ext h h_1 → (post r_4 h_1)) h 22 p1 0 0)
abbrev rm_X0_row : Room := ({ frames := 19, cells := 1868, slots := 13143, locals := 599 })
abbrev K_X0_row : Kx := ("BeforeTheEnd", cX0_row, 2, (Option.some Jvm.ClassFile.FieldType.int), rm_X0_row, [], false)
set_option maxHeartbeats 4000000 in
theorem k_X0_row {ρ : Rho} {h : Hp} {post : Int32 → Hp → Prop} {p1 : Int32} (G : G0 ρ) (g : GI h) (hw : wp_X0_row post h p1) : Con ρ yX0_row (ws_ yX0_row cX0_row 2 (Option.some Jvm.ClassFile.FieldType.int)) rm_X0_row [.ref (mr ρ 1), .int p1] h (phI h post) psN := by
  refine con_of (own := "BeforeTheEnd") (isI := false) (l0 := [(0, .ref (mr ρ 1)), (1, .int p1)]) (by decide) rfl (fun z => by cases z) (Nat.le_of_ble_eq_true rfl) rfl (fun _ => ?_)
  show X ρ K_X0_row 0 [(0, .ref (mr ρ 1)), (1, .int p1)] [] h 0 0 (phI h post) psN
  refine x_aload_n 0 dX0_row_0 rfl ?_
  refine x_bipush 22 dX0_row_1 (by decide) ?_
  refine x_iload_n 1 dX0_row_3 rfl ?_
  refine x_iconst 0 dX0_row_4 (by decide) ?_
  refine x_iconst 0 dX0_row_5 (by decide) ?_
  refine x_callH (ci := 0) [.int 22, .int p1, .int 0, .int 0] 4 dX0_row_6 (k_X0_act G g hw) (GI.s g (t := (10, 0)) rfl (by decide)) rfl q383 q385 qs3 q104 q386 (by decide) rfl rfl ⟨(Nat.le_of_ble_eq_true rfl), (Nat.le_of_ble_eq_true rfl)⟩ (Nat.le_of_ble_eq_true rfl) ⟨(Nat.le_of_ble_eq_true rfl), (Nat.le_of_ble_eq_true rfl)⟩ (fun v9 h_1 hv9 => ?_) (fun _ _ _ _ _ z _ _ => False.elim z)
  obtain ⟨r_4, rfl, g_2, e_3, hw⟩ := hv9
  have hw := hw g_2 e_3
  show X ρ K_X0_row 9 [(0, .ref (mr ρ 1)), (1, .int p1)] [.int r_4] h_1 1868 13143 (phI h post) psN
  exact x_iret dX0_row_9 rfl (Nat.le_of_ble_eq_true rfl) (Nat.le_of_ble_eq_true rfl) ⟨_, rfl, g_2, e_3, hw⟩

/-! BeforeTheEndModel.row(I)I -/
def w_X2_row_24 (post : Int32 → Hp → Prop) (x1 : Int32) (x2 : Int32) (h : Hp) : Prop := ((x2 = 0 → (vp_in (gi h 25 47) 20 ∧ (post (gi (si (si h 56 (Int32.toNatClampNeg (gi h 25 47)) x1) 25 47 ((gi (si h 56 (Int32.toNatClampNeg (gi h 25 47)) x1) 25 47) + 1)) 25 47) (si (si h 56 (Int32.toNatClampNeg (gi h 25 47)) x1) 25 47 ((gi (si h 56 (Int32.toNatClampNeg (gi h 25 47)) x1) 25 47) + 1))))) ∧ (¬ x2 = 0 → (wp_X2_no (fun r_6 h_3 => GI h_3 → Ext h h_3 → (post r_6 h_3)) h x2)))
def wp_X2_row (post : Int32 → Hp → Prop) (h : Hp) (p1 : Int32) : Prop := (wp_X2_bound (fun r_4 h_1 => GI h_1 → Ext h h_1 → ((¬ r_4 = 0 → (w_X2_row_24 post p1 r_4 h_1)) ∧ (r_4 = 0 → ((¬ (gi h_1 25 47) = 20 → (w_X2_row_24 post p1 r_4 h_1)) ∧ ((gi h_1 25 47) = 20 → (w_X2_row_24 post p1 (-6) h_1)))))) h p1 0 9)
abbrev rm_X2_row : Room := ({ frames := 2, cells := 0, slots := 0, locals := 82 })
abbrev K_X2_row : Kx := ("BeforeTheEndModel", cX2_row, 3, (Option.some Jvm.ClassFile.FieldType.int), rm_X2_row, [], false)
set_option maxHeartbeats 4000000 in
theorem t_X2_row_24 {ρ : Rho} {h0 : Hp} {post : Int32 → Hp → Prop} (G : G0 ρ) :
    ∀ (x1 : Int32) (x2 : Int32) (h : Hp), GI h → Ext h0 h → w_X2_row_24 post x1 x2 h → X ρ K_X2_row 24 [(0, .ref (mr ρ 25)), (1, .int x1), (2, .int x2)] [] h 0 0 (phI h0 post) psN := by
  intro x1 x2 h g e hw
  refine x_iload_n 2 dX2_row_24 rfl ?_
  obtain ⟨wt_8, wf_9⟩ := hw
  refine x_if_eq 34 dX2_row_25 (by decide) (fun c_1 => ?_) (fun c_1 => ?_)
  · have hw := wt_8 c_1
    refine x_aload_n 0 dX2_row_34 rfl ?_
    refine x_get (ci := 2) (v := .ref (mr ρ 56)) 46 dX2_row_35 (GI.s g (t := (12, 0)) rfl (by decide)) rfl in_X2 (by decide) q1269 (Or.inl rfl) (fv_rc rfl (GI.m g (n := 56) rfl (by decide)) (by decide)) ?_
    refine x_aload_n 0 dX2_row_38 rfl ?_
    refine x_get (ci := 2) (v := .int (gi h 25 47)) 47 dX2_row_39 (GI.s g (t := (12, 0)) rfl (by decide)) rfl in_X2 (by decide) q1270 (Or.inl rfl) (fv_i rfl) ?_
    refine x_iload_n 1 dX2_row_42 rfl ?_
    obtain ⟨b_2, hw⟩ := hw
    refine x_iast (n := 20) (j := (Int32.toNatClampNeg (gi h 25 47))) dX2_row_43 rfl (GI.s g (t := (1, 20)) rfl (by decide)) b_2 ?_
    refine x_aload_n 0 dX2_row_44 rfl ?_
    refine x_dup dX2_row_45 rfl ?_
    refine x_get (ci := 2) (v := .int (gi (si h 56 (Int32.toNatClampNeg (gi h 25 47)) x1) 25 47)) 47 dX2_row_46 (GI.s (GI.i g) (t := (12, 0)) rfl (by decide)) rfl in_X2 (by decide) q1270 (Or.inl rfl) (fv_i rfl) ?_
    refine x_iconst 1 dX2_row_49 (by decide) ?_
    refine x_iadd dX2_row_50 ?_
    refine x_put (ci := 2) 47 dX2_row_51 (GI.s (GI.i g) (t := (12, 0)) rfl (by decide)) rfl in_X2 tyX2 tyX2_ok nmX2 (by decide) q1270 (Or.inl rfl) rfl rfl rfl (isPut_i rfl) ?_
    refine x_aload_n 0 dX2_row_54 rfl ?_
    refine x_get (ci := 2) (v := .int (gi (si (si h 56 (Int32.toNatClampNeg (gi h 25 47)) x1) 25 47 ((gi (si h 56 (Int32.toNatClampNeg (gi h 25 47)) x1) 25 47) + 1)) 25 47)) 47 dX2_row_55 (GI.s (GI.i (GI.i g)) (t := (12, 0)) rfl (by decide)) rfl in_X2 (by decide) q1270 (Or.inl rfl) (fv_i rfl) ?_
    exact x_iret dX2_row_58 rfl (Nat.le_of_ble_eq_true rfl) (Nat.le_of_ble_eq_true rfl) ⟨_, rfl, (GI.i (GI.i g)), (Ext.i (Ext.i e)), hw⟩
  · have hw := wf_9 c_1
    refine x_aload_n 0 dX2_row_28 rfl ?_
    refine x_iload_n 2 dX2_row_29 rfl ?_
    refine x_callV (ci := 2) [.int x2] 1 dX2_row_30 (k_X2_no G g hw) (GI.s g (t := (12, 0)) rfl (by decide)) rfl q1387 q1389 qs59 q106 q1390 (by decide) rfl rfl ⟨(Nat.le_of_ble_eq_true rfl), (Nat.le_of_ble_eq_true rfl)⟩ (Nat.le_of_ble_eq_true rfl) ⟨(Nat.le_of_ble_eq_true rfl), (Nat.le_of_ble_eq_true rfl)⟩ (fun v9 h_3 hv9 => ?_) (fun _ _ _ _ _ z _ _ => False.elim z)
    obtain ⟨r_6, rfl, g_4, e_5, hw⟩ := hv9
    have hw := hw g_4 e_5
    show X ρ K_X2_row 33 [(0, .ref (mr ρ 25)), (1, .int x1), (2, .int x2)] [.int r_6] h_3 0 0 (phI h0 post) psN
    exact x_iret dX2_row_33 rfl (Nat.le_of_ble_eq_true rfl) (Nat.le_of_ble_eq_true rfl) ⟨_, rfl, g_4, (Ext.tr e e_5), hw⟩
set_option maxHeartbeats 4000000 in
theorem k_X2_row {ρ : Rho} {h : Hp} {post : Int32 → Hp → Prop} {p1 : Int32} (G : G0 ρ) (g : GI h) (hw : wp_X2_row post h p1) : Con ρ yX2_row (ws_ yX2_row cX2_row 3 (Option.some Jvm.ClassFile.FieldType.int)) rm_X2_row [.ref (mr ρ 25), .int p1] h (phI h post) psN := by
  refine con_of (own := "BeforeTheEndModel") (isI := false) (l0 := [(0, .ref (mr ρ 25)), (1, .int p1)]) (by decide) rfl (fun z => by cases z) (Nat.le_of_ble_eq_true rfl) rfl (fun _ => ?_)
  show X ρ K_X2_row 0 [(0, .ref (mr ρ 25)), (1, .int p1)] [] h 0 0 (phI h post) psN
  refine x_iload_n 1 dX2_row_0 rfl ?_
  refine x_iconst 0 dX2_row_1 (by decide) ?_
  refine x_bipush 9 dX2_row_2 (by decide) ?_
  refine x_callS [.int p1, .int 0, .int 9] 3 dX2_row_4 (k_X2_bound G g hw) q1384 q1385 q106 q1386 (by decide) rfl rfl ⟨(Nat.le_of_ble_eq_true rfl), (Nat.le_of_ble_eq_true rfl)⟩ (Nat.le_of_ble_eq_true rfl) ⟨(Nat.le_of_ble_eq_true rfl), (Nat.le_of_ble_eq_true rfl)⟩ (fun v9 h_1 hv9 => ?_) (fun _ _ _ _ _ z _ _ => False.elim z)
  obtain ⟨r_4, rfl, g_2, e_3, hw⟩ := hv9
  have hw := hw g_2 e_3
  show X ρ K_X2_row 7 [(0, .ref (mr ρ 25)), (1, .int p1)] [.int r_4] h_1 0 0 (phI h post) psN
  refine x_istore_n (lv' := [(2, .int r_4), (0, .ref (mr ρ 25)), (1, .int p1)]) dX2_row_7 (Nat.le_of_ble_eq_true rfl) rfl ?_
  refine x_iload_n 0 dX2_row_8 rfl ?_
  obtain ⟨wt_10, wf_11⟩ := hw
  refine x_if_ne 24 dX2_row_9 (by decide) (fun c_6 => ?_) (fun c_6 => ?_)
  · have hw := wt_10 c_6
    refine X.sub [1, 2, 0] rfl ?_
    exact t_X2_row_24 G  p1 r_4 h_1 g_2 e_3 hw
  · have hw := wf_11 c_6
    refine x_aload_n 1 dX2_row_12 rfl ?_
    refine x_get (ci := 2) (v := .int (gi h_1 25 47)) 47 dX2_row_13 (GI.s g_2 (t := (12, 0)) rfl (by decide)) rfl in_X2 (by decide) q1270 (Or.inl rfl) (fv_i rfl) ?_
    refine x_bipush 20 dX2_row_16 (by decide) ?_
    obtain ⟨wt_8, wf_9⟩ := hw
    refine x_icmp_ne 24 dX2_row_18 (by decide) (fun c_7 => ?_) (fun c_7 => ?_)
    · have hw := wt_8 c_7
      refine X.sub [1, 2, 0] rfl ?_
      exact t_X2_row_24 G  p1 r_4 h_1 g_2 e_3 hw
    · have hw := wf_9 c_7
      refine x_bipush (-6) dX2_row_21 (by decide) ?_
      refine x_istore_n (lv' := [(2, .int (-6)), (0, .ref (mr ρ 25)), (1, .int p1)]) dX2_row_23 (Nat.le_of_ble_eq_true rfl) rfl ?_
      refine X.sub [1, 2, 0] rfl ?_
      exact t_X2_row_24 G  p1 (-6) h_1 g_2 e_3 hw

/-! BeforeTheEnd.judge(I)I -/
def wp_X0_judge (post : Int32 → Hp → Prop) (h : Hp) (p1 : Int32) : Prop := (wp_X0_act (fun r_4 h_1 => GI h_1 → Ext h h_1 → (post r_4 h_1)) h 23 p1 0 0)
abbrev rm_X0_judge : Room := ({ frames := 19, cells := 1868, slots := 13143, locals := 599 })
abbrev K_X0_judge : Kx := ("BeforeTheEnd", cX0_judge, 2, (Option.some Jvm.ClassFile.FieldType.int), rm_X0_judge, [], false)
set_option maxHeartbeats 4000000 in
theorem k_X0_judge {ρ : Rho} {h : Hp} {post : Int32 → Hp → Prop} {p1 : Int32} (G : G0 ρ) (g : GI h) (hw : wp_X0_judge post h p1) : Con ρ yX0_judge (ws_ yX0_judge cX0_judge 2 (Option.some Jvm.ClassFile.FieldType.int)) rm_X0_judge [.ref (mr ρ 1), .int p1] h (phI h post) psN := by
  refine con_of (own := "BeforeTheEnd") (isI := false) (l0 := [(0, .ref (mr ρ 1)), (1, .int p1)]) (by decide) rfl (fun z => by cases z) (Nat.le_of_ble_eq_true rfl) rfl (fun _ => ?_)
  show X ρ K_X0_judge 0 [(0, .ref (mr ρ 1)), (1, .int p1)] [] h 0 0 (phI h post) psN
  refine x_aload_n 0 dX0_judge_0 rfl ?_
  refine x_bipush 23 dX0_judge_1 (by decide) ?_
  refine x_iload_n 1 dX0_judge_3 rfl ?_
  refine x_iconst 0 dX0_judge_4 (by decide) ?_
  refine x_iconst 0 dX0_judge_5 (by decide) ?_
  refine x_callH (ci := 0) [.int 23, .int p1, .int 0, .int 0] 4 dX0_judge_6 (k_X0_act G g hw) (GI.s g (t := (10, 0)) rfl (by decide)) rfl q383 q385 qs3 q104 q386 (by decide) rfl rfl ⟨(Nat.le_of_ble_eq_true rfl), (Nat.le_of_ble_eq_true rfl)⟩ (Nat.le_of_ble_eq_true rfl) ⟨(Nat.le_of_ble_eq_true rfl), (Nat.le_of_ble_eq_true rfl)⟩ (fun v9 h_1 hv9 => ?_) (fun _ _ _ _ _ z _ _ => False.elim z)
  obtain ⟨r_4, rfl, g_2, e_3, hw⟩ := hv9
  have hw := hw g_2 e_3
  show X ρ K_X0_judge 9 [(0, .ref (mr ρ 1)), (1, .int p1)] [.int r_4] h_1 1868 13143 (phI h post) psN
  exact x_iret dX0_judge_9 rfl (Nat.le_of_ble_eq_true rfl) (Nat.le_of_ble_eq_true rfl) ⟨_, rfl, g_2, e_3, hw⟩

/-! BeforeTheEndModel.judge(I)I -/
def w_X2_judge_35 (post : Int32 → Hp → Prop) : Nat → Int32 → Int32 → Hp → Prop
  | 0 => fun _ _ _ => False
  | n + 1 => fun x2 x3 h => ((x2 ≤ x3 → (post (-9) h)) ∧ (¬ x2 ≤ x3 → (wp_X2_drawn (fun r_5 h_2 => GI h_2 → Ext h h_2 → (wp_X2_runs (fun h_7 => GI h_7 → Ext h_2 h_7 → (vp_in x3 20 ∧ (∀ z_14 : Int32, z_14 = ((if 0 ≤ (gi h_7 25 36) then (gi h_7 25 36) else 9) : Int32) → (((gi h_7 56 (Int32.toNatClampNeg x3)) = z_14 → (w_X2_judge_35 post n x2 (x3 + 1) h_7)) ∧ (¬ (gi h_7 56 (Int32.toNatClampNeg x3)) = z_14 → (post x3 h_7)))))) h_2 r_5)) h)))
def wp_X2_judge (post : Int32 → Hp → Prop) (h : Hp) (p1 : Int32) : Prop := (wp_X2_isWhole (fun r_4 h_1 => GI h_1 → Ext h h_1 → ((¬ r_4 = 0 → (wp_X2_finds (fun h_7 => GI h_7 → Ext h_1 h_7 → (∃ fu : Nat, w_X2_judge_35 post fu (gi h_7 25 47) 0 (si (si h_7 25 47 0) 25 45 p1))) h_1)) ∧ (r_4 = 0 → (wp_X2_no (fun r_15 h_12 => GI h_12 → Ext h_1 h_12 → (post r_15 h_12)) h_1 (-3))))) h)
abbrev rm_X2_judge : Room := ({ frames := 6, cells := 0, slots := 0, locals := 175 })
abbrev K_X2_judge : Kx := ("BeforeTheEndModel", cX2_judge, 4, (Option.some Jvm.ClassFile.FieldType.int), rm_X2_judge, [], false)
set_option maxHeartbeats 4000000 in
theorem t_X2_judge_35 {ρ : Rho} {h0 : Hp} {post : Int32 → Hp → Prop} (G : G0 ρ) :
    ∀ (n : Nat), ∀ (x2 : Int32) (x3 : Int32) (h : Hp), GI h → Ext h0 h → w_X2_judge_35 post n x2 x3 h → X ρ K_X2_judge 35 [(0, .ref (mr ρ 25)), (2, .int x2), (3, .int x3)] [] h 0 0 (phI h0 post) psN := by
  intro n
  induction n with
  | zero => intro x2 x3 h g e hw; exact False.elim hw
  | succ n ih =>
    intro x2 x3 h g e hw
    refine x_iload_n 2 dX2_judge_35 rfl ?_
    refine x_iload_n 1 dX2_judge_36 rfl ?_
    obtain ⟨wt_19, wf_20⟩ := hw
    refine x_icmp_ge 81 dX2_judge_37 (by decide) (fun c_1 => ?_) (fun c_1 => ?_)
    · have hw := wt_19 c_1
      refine x_bipush (-9) dX2_judge_81 (by decide) ?_
      exact x_iret dX2_judge_83 rfl (Nat.le_of_ble_eq_true rfl) (Nat.le_of_ble_eq_true rfl) ⟨_, rfl, g, e, hw⟩
    · have hw := wf_20 c_1
      refine x_aload_n 0 dX2_judge_40 rfl ?_
      refine x_aload_n 0 dX2_judge_41 rfl ?_
      refine x_callV (ci := 2) [] 0 dX2_judge_42 (k_X2_drawn G g hw) (GI.s g (t := (12, 0)) rfl (by decide)) rfl q1679 q1681 qs99 q106 q1682 (by decide) rfl rfl ⟨(Nat.le_of_ble_eq_true rfl), (Nat.le_of_ble_eq_true rfl)⟩ (Nat.le_of_ble_eq_true rfl) ⟨(Nat.le_of_ble_eq_true rfl), (Nat.le_of_ble_eq_true rfl)⟩ (fun v9 h_2 hv9 => ?_) (fun _ _ _ _ _ z _ _ => False.elim z)
      obtain ⟨r_5, rfl, g_3, e_4, hw⟩ := hv9
      have hw := hw g_3 e_4
      show X ρ K_X2_judge 45 [(0, .ref (mr ρ 25)), (2, .int x2), (3, .int x3)] [.int r_5, .ref (mr ρ 25)] h_2 0 0 (phI h0 post) psN
      refine x_callV (ci := 2) [.int r_5] 1 dX2_judge_45 (k_X2_runs G g_3 hw) (GI.s g_3 (t := (12, 0)) rfl (by decide)) rfl q1558 q1560 qs87 q106 q1561 (by decide) rfl rfl ⟨(Nat.le_of_ble_eq_true rfl), (Nat.le_of_ble_eq_true rfl)⟩ (Nat.le_of_ble_eq_true rfl) ⟨(Nat.le_of_ble_eq_true rfl), (Nat.le_of_ble_eq_true rfl)⟩ (fun v9 h_7 hv9 => ?_) (fun _ _ _ _ _ z _ _ => False.elim z)
      obtain ⟨rfl, g_8, e_9, hw⟩ := hv9
      have hw := hw g_8 e_9
      show X ρ K_X2_judge 48 [(0, .ref (mr ρ 25)), (2, .int x2), (3, .int x3)] [] h_7 0 0 (phI h0 post) psN
      refine x_aload_n 0 dX2_judge_48 rfl ?_
      refine x_get (ci := 2) (v := .ref (mr ρ 56)) 46 dX2_judge_49 (GI.s g_8 (t := (12, 0)) rfl (by decide)) rfl in_X2 (by decide) q1269 (Or.inl rfl) (fv_rc rfl (GI.m g_8 (n := 56) rfl (by decide)) (by decide)) ?_
      refine x_iload_n 2 dX2_judge_52 rfl ?_
      obtain ⟨b_12, hw⟩ := hw
      refine x_iald (n := 20) (j := (Int32.toNatClampNeg x3)) dX2_judge_53 rfl (GI.s g_8 (t := (1, 20)) rfl (by decide)) b_12 ?_
      refine x_aload_n 0 dX2_judge_54 rfl ?_
      refine x_get (ci := 2) (v := .int (gi h_7 25 36)) 36 dX2_judge_55 (GI.s g_8 (t := (12, 0)) rfl (by decide)) rfl in_X2 (by decide) q1259 (Or.inl rfl) (fv_i rfl) ?_
      have kJ_18 : ∀ z_14 : Int32, z_14 = ((if 0 ≤ (gi h_7 25 36) then (gi h_7 25 36) else 9) : Int32) → X ρ K_X2_judge 70 [(0, .ref (mr ρ 25)), (2, .int x2), (3, .int x3)] [.int z_14, .int (gi h_7 56 (Int32.toNatClampNeg x3))] h_7 0 0 (phI h0 post) psN := fun z_14 ez_14 => by
        have hw := hw z_14 ez_14
        obtain ⟨wt_16, wf_17⟩ := hw
        refine x_icmp_eq 75 dX2_judge_70 (by decide) (fun c_15 => ?_) (fun c_15 => ?_)
        · have hw := wt_16 c_15
          refine x_iinc (v := (x3 + 1)) (lv' := [(3, .int (x3 + 1)), (0, .ref (mr ρ 25)), (2, .int x2)]) 2 dX2_judge_75 rfl (by rfl) (Nat.le_of_ble_eq_true rfl) rfl ?_
          refine x_goto 35 dX2_judge_78 (by decide) ?_
          refine X.sub [1, 2, 0] rfl ?_
          exact ih x2 (x3 + 1) h_7 g_8 (Ext.tr (Ext.tr e e_4) e_9) hw
        · have hw := wf_17 c_15
          refine x_iload_n 2 dX2_judge_73 rfl ?_
          exact x_iret dX2_judge_74 rfl (Nat.le_of_ble_eq_true rfl) (Nat.le_of_ble_eq_true rfl) ⟨_, rfl, g_8, (Ext.tr (Ext.tr e e_4) e_9), hw⟩
      refine x_if_ge 66 dX2_judge_58 (by decide) (fun c_13 => ?_) (fun c_13 => ?_)
      · refine x_aload_n 0 dX2_judge_66 rfl ?_
        refine x_get (ci := 2) (v := .int (gi h_7 25 36)) 36 dX2_judge_67 (GI.s g_8 (t := (12, 0)) rfl (by decide)) rfl in_X2 (by decide) q1259 (Or.inl rfl) (fv_i rfl) ?_
        exact kJ_18 _ ((if_pos c_13)).symm
      · refine x_bipush 9 dX2_judge_61 (by decide) ?_
        refine x_goto 70 dX2_judge_63 (by decide) ?_
        exact kJ_18 _ ((if_neg c_13)).symm
set_option maxHeartbeats 4000000 in
theorem k_X2_judge {ρ : Rho} {h : Hp} {post : Int32 → Hp → Prop} {p1 : Int32} (G : G0 ρ) (g : GI h) (hw : wp_X2_judge post h p1) : Con ρ yX2_judge (ws_ yX2_judge cX2_judge 4 (Option.some Jvm.ClassFile.FieldType.int)) rm_X2_judge [.ref (mr ρ 25), .int p1] h (phI h post) psN := by
  refine con_of (own := "BeforeTheEndModel") (isI := false) (l0 := [(0, .ref (mr ρ 25)), (1, .int p1)]) (by decide) rfl (fun z => by cases z) (Nat.le_of_ble_eq_true rfl) rfl (fun _ => ?_)
  show X ρ K_X2_judge 0 [(0, .ref (mr ρ 25)), (1, .int p1)] [] h 0 0 (phI h post) psN
  refine x_aload_n 0 dX2_judge_0 rfl ?_
  refine x_callV (ci := 2) [] 0 dX2_judge_1 (k_X2_isWhole G g hw) (GI.s g (t := (12, 0)) rfl (by decide)) rfl q1462 q1464 qs72 q106 q1465 (by decide) rfl rfl ⟨(Nat.le_of_ble_eq_true rfl), (Nat.le_of_ble_eq_true rfl)⟩ (Nat.le_of_ble_eq_true rfl) ⟨(Nat.le_of_ble_eq_true rfl), (Nat.le_of_ble_eq_true rfl)⟩ (fun v9 h_1 hv9 => ?_) (fun _ _ _ _ _ z _ _ => False.elim z)
  obtain ⟨r_4, rfl, g_2, e_3, b_5, hw⟩ := hv9
  have hw := hw g_2 e_3
  show X ρ K_X2_judge 4 [(0, .ref (mr ρ 25)), (1, .int p1)] [.int r_4] h_1 0 0 (phI h post) psN
  obtain ⟨wt_17, wf_18⟩ := hw
  refine x_if_ne 14 dX2_judge_4 (by decide) (fun c_6 => ?_) (fun c_6 => ?_)
  · have hw := wt_17 c_6
    refine x_aload_n 0 dX2_judge_14 rfl ?_
    refine x_callV (ci := 2) [] 0 dX2_judge_15 (k_X2_finds G g_2 hw) (GI.s g_2 (t := (12, 0)) rfl (by decide)) rfl q1521 q1523 qs79 q106 q1524 (by decide) rfl rfl ⟨(Nat.le_of_ble_eq_true rfl), (Nat.le_of_ble_eq_true rfl)⟩ (Nat.le_of_ble_eq_true rfl) ⟨(Nat.le_of_ble_eq_true rfl), (Nat.le_of_ble_eq_true rfl)⟩ (fun v9 h_7 hv9 => ?_) (fun _ _ _ _ _ z _ _ => False.elim z)
    obtain ⟨rfl, g_8, e_9, hw⟩ := hv9
    have hw := hw g_8 e_9
    show X ρ K_X2_judge 18 [(0, .ref (mr ρ 25)), (1, .int p1)] [] h_7 0 0 (phI h post) psN
    refine x_aload_n 0 dX2_judge_18 rfl ?_
    refine x_get (ci := 2) (v := .int (gi h_7 25 47)) 47 dX2_judge_19 (GI.s g_8 (t := (12, 0)) rfl (by decide)) rfl in_X2 (by decide) q1270 (Or.inl rfl) (fv_i rfl) ?_
    refine x_istore_n (lv' := [(2, .int (gi h_7 25 47)), (0, .ref (mr ρ 25)), (1, .int p1)]) dX2_judge_22 (Nat.le_of_ble_eq_true rfl) rfl ?_
    refine x_aload_n 1 dX2_judge_23 rfl ?_
    refine x_iconst 0 dX2_judge_24 (by decide) ?_
    refine x_put (ci := 2) 47 dX2_judge_25 (GI.s g_8 (t := (12, 0)) rfl (by decide)) rfl in_X2 tyX2 tyX2_ok nmX2 (by decide) q1270 (Or.inl rfl) rfl rfl rfl (isPut_i rfl) ?_
    refine x_aload_n 1 dX2_judge_28 rfl ?_
    refine x_iload_n 2 dX2_judge_29 rfl ?_
    refine x_put (ci := 2) 45 dX2_judge_30 (GI.s (GI.i g_8) (t := (12, 0)) rfl (by decide)) rfl in_X2 tyX2 tyX2_ok nmX2 (by decide) q1268 (Or.inl rfl) rfl rfl rfl (isPut_i rfl) ?_
    refine x_iconst 0 dX2_judge_33 (by decide) ?_
    refine x_istore_n (lv' := [(3, .int 0), (2, .int (gi h_7 25 47)), (0, .ref (mr ρ 25)), (1, .int p1)]) dX2_judge_34 (Nat.le_of_ble_eq_true rfl) rfl ?_
    refine X.sub [2, 1, 0] rfl ?_
    obtain ⟨fu, hw⟩ := hw
    exact t_X2_judge_35 G  fu (gi h_7 25 47) 0 (si (si h_7 25 47 0) 25 45 p1) (GI.i (GI.i g_8)) (Ext.i (Ext.i (Ext.tr e_3 e_9))) hw
  · have hw := wf_18 c_6
    refine x_aload_n 0 dX2_judge_7 rfl ?_
    refine x_bipush (-3) dX2_judge_8 (by decide) ?_
    refine x_callV (ci := 2) [.int (-3)] 1 dX2_judge_10 (k_X2_no G g_2 hw) (GI.s g_2 (t := (12, 0)) rfl (by decide)) rfl q1387 q1389 qs59 q106 q1390 (by decide) rfl rfl ⟨(Nat.le_of_ble_eq_true rfl), (Nat.le_of_ble_eq_true rfl)⟩ (Nat.le_of_ble_eq_true rfl) ⟨(Nat.le_of_ble_eq_true rfl), (Nat.le_of_ble_eq_true rfl)⟩ (fun v9 h_12 hv9 => ?_) (fun _ _ _ _ _ z _ _ => False.elim z)
    obtain ⟨r_15, rfl, g_13, e_14, hw⟩ := hv9
    have hw := hw g_13 e_14
    show X ρ K_X2_judge 13 [(0, .ref (mr ρ 25)), (1, .int p1)] [.int r_15] h_12 0 0 (phI h post) psN
    exact x_iret dX2_judge_13 rfl (Nat.le_of_ble_eq_true rfl) (Nat.le_of_ble_eq_true rfl) ⟨_, rfl, g_13, (Ext.tr e_3 e_14), hw⟩

/-! BeforeTheEnd.image()I -/
def wp_X0_image (post : Int32 → Hp → Prop) (h : Hp) : Prop := (wp_X0_act (fun r_4 h_1 => GI h_1 → Ext h h_1 → (post r_4 h_1)) h 24 0 0 0)
abbrev rm_X0_image : Room := ({ frames := 19, cells := 1868, slots := 13143, locals := 599 })
abbrev K_X0_image : Kx := ("BeforeTheEnd", cX0_image, 1, (Option.some Jvm.ClassFile.FieldType.int), rm_X0_image, [], false)
set_option maxHeartbeats 4000000 in
theorem k_X0_image {ρ : Rho} {h : Hp} {post : Int32 → Hp → Prop} (G : G0 ρ) (g : GI h) (hw : wp_X0_image post h) : Con ρ yX0_image (ws_ yX0_image cX0_image 1 (Option.some Jvm.ClassFile.FieldType.int)) rm_X0_image [.ref (mr ρ 1)] h (phI h post) psN := by
  refine con_of (own := "BeforeTheEnd") (isI := false) (l0 := [(0, .ref (mr ρ 1))]) (by decide) rfl (fun z => by cases z) (Nat.le_of_ble_eq_true rfl) rfl (fun _ => ?_)
  show X ρ K_X0_image 0 [(0, .ref (mr ρ 1))] [] h 0 0 (phI h post) psN
  refine x_aload_n 0 dX0_image_0 rfl ?_
  refine x_bipush 24 dX0_image_1 (by decide) ?_
  refine x_iconst 0 dX0_image_3 (by decide) ?_
  refine x_iconst 0 dX0_image_4 (by decide) ?_
  refine x_iconst 0 dX0_image_5 (by decide) ?_
  refine x_callH (ci := 0) [.int 24, .int 0, .int 0, .int 0] 4 dX0_image_6 (k_X0_act G g hw) (GI.s g (t := (10, 0)) rfl (by decide)) rfl q383 q385 qs3 q104 q386 (by decide) rfl rfl ⟨(Nat.le_of_ble_eq_true rfl), (Nat.le_of_ble_eq_true rfl)⟩ (Nat.le_of_ble_eq_true rfl) ⟨(Nat.le_of_ble_eq_true rfl), (Nat.le_of_ble_eq_true rfl)⟩ (fun v9 h_1 hv9 => ?_) (fun _ _ _ _ _ z _ _ => False.elim z)
  obtain ⟨r_4, rfl, g_2, e_3, hw⟩ := hv9
  have hw := hw g_2 e_3
  show X ρ K_X0_image 9 [(0, .ref (mr ρ 1))] [.int r_4] h_1 1868 13143 (phI h post) psN
  exact x_iret dX0_image_9 rfl (Nat.le_of_ble_eq_true rfl) (Nat.le_of_ble_eq_true rfl) ⟨_, rfl, g_2, e_3, hw⟩

/-! BeforeTheEndModel.passes([I)V -/
def w_X2_passes_42 (post : Hp → Prop) (K2 : Nat → Nat → Int32 → Hp → Prop) (x1 : Nat) (np1 : Nat) (x2 : Int32) (h : Hp) : Prop := (K2 x1 np1 (x2 + 1) (si h 25 51 ((gi h 25 51) + 1)))
def w_X2_passes_2 (post : Hp → Prop) : Nat → Nat → Nat → Int32 → Hp → Prop
  | 0 => fun _ _ _ _ => False
  | n + 1 => fun x1 np1 x2 h => (((Nat.toInt32 np1) ≤ x2 → (post h)) ∧ (¬ (Nat.toInt32 np1) ≤ x2 → (((gi h 25 50) = 0 → (vp_in (gi h 25 51) 140 ∧ (vp_in x2 np1 ∧ (w_X2_passes_42 post (w_X2_passes_2 post n) x1 np1 x2 (si h x1 (Int32.toNatClampNeg x2) (gi h 57 (Int32.toNatClampNeg (gi h 25 51)))))))) ∧ (¬ (gi h 25 50) = 0 → (vp_in x2 np1 ∧ (vp_in (gi h 25 51) 140 ∧ (w_X2_passes_42 post (w_X2_passes_2 post n) x1 np1 x2 (si h 57 (Int32.toNatClampNeg (gi h 25 51)) (gi h x1 (Int32.toNatClampNeg x2))))))))))
def wp_X2_passes (post : Hp → Prop) (h : Hp) (p1 : Nat) (np1 : Nat) : Prop := (∃ fu : Nat, w_X2_passes_2 post fu p1 np1 0 h)
abbrev rm_X2_passes : Room := ({ frames := 1, cells := 0, slots := 0, locals := 60 })
abbrev K_X2_passes : Kx := ("BeforeTheEndModel", cX2_passes, 3, (Option.none : Option Jvm.ClassFile.FieldType), rm_X2_passes, [], false)
set_option maxHeartbeats 4000000 in
theorem t_X2_passes_42 {ρ : Rho} {h0 : Hp} {post : Hp → Prop} {K2 : Nat → Nat → Int32 → Hp → Prop} (G : G0 ρ) (hK2 : ∀ (x1 : Nat) (np1 : Nat) (x2 : Int32) (h : Hp), GI h → Ext h0 h → sh h x1 = (1, np1) → K2 x1 np1 x2 h → X ρ K_X2_passes 2 [(0, .ref (mr ρ 25)), (1, .ref (mr ρ x1)), (2, .int x2)] [] h 0 0 (phV h0 post) psN) :
    ∀ (x1 : Nat) (np1 : Nat) (x2 : Int32) (h : Hp), GI h → Ext h0 h → sh h x1 = (1, np1) → w_X2_passes_42 post K2 x1 np1 x2 h → X ρ K_X2_passes 42 [(0, .ref (mr ρ 25)), (1, .ref (mr ρ x1)), (2, .int x2)] [] h 0 0 (phV h0 post) psN := by
  intro x1 np1 x2 h g e fx1 hw
  refine x_aload_n 0 dX2_passes_42 rfl ?_
  refine x_dup dX2_passes_43 rfl ?_
  refine x_get (ci := 2) (v := .int (gi h 25 51)) 51 dX2_passes_44 (GI.s g (t := (12, 0)) rfl (by decide)) rfl in_X2 (by decide) q1274 (Or.inl rfl) (fv_i rfl) ?_
  refine x_iconst 1 dX2_passes_47 (by decide) ?_
  refine x_iadd dX2_passes_48 ?_
  refine x_put (ci := 2) 51 dX2_passes_49 (GI.s g (t := (12, 0)) rfl (by decide)) rfl in_X2 tyX2 tyX2_ok nmX2 (by decide) q1274 (Or.inl rfl) rfl rfl rfl (isPut_i rfl) ?_
  refine x_iinc (v := (x2 + 1)) (lv' := [(2, .int (x2 + 1)), (0, .ref (mr ρ 25)), (1, .ref (mr ρ x1))]) 2 dX2_passes_52 rfl (by rfl) (Nat.le_of_ble_eq_true rfl) rfl ?_
  refine x_goto 2 dX2_passes_55 (by decide) ?_
  refine X.sub [1, 2, 0] rfl ?_
  exact hK2 x1 np1 (x2 + 1) (si h 25 51 ((gi h 25 51) + 1)) (GI.i g) (Ext.i e) fx1 hw
set_option maxHeartbeats 4000000 in
theorem t_X2_passes_2 {ρ : Rho} {h0 : Hp} {post : Hp → Prop} (G : G0 ρ) :
    ∀ (n : Nat), ∀ (x1 : Nat) (np1 : Nat) (x2 : Int32) (h : Hp), GI h → Ext h0 h → sh h x1 = (1, np1) → w_X2_passes_2 post n x1 np1 x2 h → X ρ K_X2_passes 2 [(0, .ref (mr ρ 25)), (1, .ref (mr ρ x1)), (2, .int x2)] [] h 0 0 (phV h0 post) psN := by
  intro n
  induction n with
  | zero => intro x1 np1 x2 h g e fx1 hw; exact False.elim hw
  | succ n ih =>
    intro x1 np1 x2 h g e fx1 hw
    refine x_iload_n 2 dX2_passes_2 rfl ?_
    refine x_aload_n 1 dX2_passes_3 rfl ?_
    refine x_alen dX2_passes_4 fx1 (by decide) (by decide) rfl ?_
    obtain ⟨wt_9, wf_10⟩ := hw
    refine x_icmp_ge 58 dX2_passes_5 (by decide) (fun c_1 => ?_) (fun c_1 => ?_)
    · have hw := wt_9 c_1
      exact x_vret dX2_passes_58 rfl (Nat.le_of_ble_eq_true rfl) (Nat.le_of_ble_eq_true rfl) ⟨rfl, g, e, hw⟩
    · have hw := wf_10 c_1
      refine x_aload_n 0 dX2_passes_8 rfl ?_
      refine x_get (ci := 2) (v := .int (gi h 25 50)) 50 dX2_passes_9 (GI.s g (t := (12, 0)) rfl (by decide)) rfl in_X2 (by decide) q1273 (Or.inl rfl) (fv_i rfl) ?_
      obtain ⟨wt_7, wf_8⟩ := hw
      refine x_if_eq 30 dX2_passes_12 (by decide) (fun c_2 => ?_) (fun c_2 => ?_)
      · have hw := wt_7 c_2
        refine x_aload_n 1 dX2_passes_30 rfl ?_
        refine x_iload_n 2 dX2_passes_31 rfl ?_
        refine x_aload_n 0 dX2_passes_32 rfl ?_
        refine x_get (ci := 2) (v := .ref (mr ρ 57)) 48 dX2_passes_33 (GI.s g (t := (12, 0)) rfl (by decide)) rfl in_X2 (by decide) q1271 (Or.inl rfl) (fv_rc rfl (GI.m g (n := 57) rfl (by decide)) (by decide)) ?_
        refine x_aload_n 0 dX2_passes_36 rfl ?_
        refine x_get (ci := 2) (v := .int (gi h 25 51)) 51 dX2_passes_37 (GI.s g (t := (12, 0)) rfl (by decide)) rfl in_X2 (by decide) q1274 (Or.inl rfl) (fv_i rfl) ?_
        obtain ⟨b_3, hw⟩ := hw
        refine x_iald (n := 140) (j := (Int32.toNatClampNeg (gi h 25 51))) dX2_passes_40 rfl (GI.s g (t := (1, 140)) rfl (by decide)) b_3 ?_
        obtain ⟨b_4, hw⟩ := hw
        refine x_iast (n := np1) (j := (Int32.toNatClampNeg x2)) dX2_passes_41 rfl fx1 b_4 ?_
        exact t_X2_passes_42 G ih x1 np1 x2 (si h x1 (Int32.toNatClampNeg x2) (gi h 57 (Int32.toNatClampNeg (gi h 25 51)))) (GI.i g) (Ext.i e) fx1 hw
      · have hw := wf_8 c_2
        refine x_aload_n 0 dX2_passes_15 rfl ?_
        refine x_get (ci := 2) (v := .ref (mr ρ 57)) 48 dX2_passes_16 (GI.s g (t := (12, 0)) rfl (by decide)) rfl in_X2 (by decide) q1271 (Or.inl rfl) (fv_rc rfl (GI.m g (n := 57) rfl (by decide)) (by decide)) ?_
        refine x_aload_n 0 dX2_passes_19 rfl ?_
        refine x_get (ci := 2) (v := .int (gi h 25 51)) 51 dX2_passes_20 (GI.s g (t := (12, 0)) rfl (by decide)) rfl in_X2 (by decide) q1274 (Or.inl rfl) (fv_i rfl) ?_
        refine x_aload_n 1 dX2_passes_23 rfl ?_
        refine x_iload_n 2 dX2_passes_24 rfl ?_
        obtain ⟨b_5, hw⟩ := hw
        refine x_iald (n := np1) (j := (Int32.toNatClampNeg x2)) dX2_passes_25 rfl fx1 b_5 ?_
        obtain ⟨b_6, hw⟩ := hw
        refine x_iast (n := 140) (j := (Int32.toNatClampNeg (gi h 25 51))) dX2_passes_26 rfl (GI.s g (t := (1, 140)) rfl (by decide)) b_6 ?_
        refine x_goto 42 dX2_passes_27 (by decide) ?_
        exact t_X2_passes_42 G ih x1 np1 x2 (si h 57 (Int32.toNatClampNeg (gi h 25 51)) (gi h x1 (Int32.toNatClampNeg x2))) (GI.i g) (Ext.i e) fx1 hw
set_option maxHeartbeats 4000000 in
theorem k_X2_passes {ρ : Rho} {h : Hp} {post : Hp → Prop} {p1 : Nat} {np1 : Nat} (G : G0 ρ) (g : GI h) (fp1 : sh h p1 = (1, np1)) (hw : wp_X2_passes post h p1 np1) : Con ρ yX2_passes (ws_ yX2_passes cX2_passes 3 (Option.none : Option Jvm.ClassFile.FieldType)) rm_X2_passes [.ref (mr ρ 25), .ref (mr ρ p1)] h (phV h post) psN := by
  refine con_of (own := "BeforeTheEndModel") (isI := false) (l0 := [(0, .ref (mr ρ 25)), (1, .ref (mr ρ p1))]) (by decide) rfl (fun z => by cases z) (Nat.le_of_ble_eq_true rfl) rfl (fun _ => ?_)
  show X ρ K_X2_passes 0 [(0, .ref (mr ρ 25)), (1, .ref (mr ρ p1))] [] h 0 0 (phV h post) psN
  refine x_iconst 0 dX2_passes_0 (by decide) ?_
  refine x_istore_n (lv' := [(2, .int 0), (0, .ref (mr ρ 25)), (1, .ref (mr ρ p1))]) dX2_passes_1 (Nat.le_of_ble_eq_true rfl) rfl ?_
  refine X.sub [1, 2, 0] rfl ?_
  obtain ⟨fu, hw⟩ := hw
  exact t_X2_passes_2 G  fu p1 np1 0 h g Ext.rf fp1 hw
