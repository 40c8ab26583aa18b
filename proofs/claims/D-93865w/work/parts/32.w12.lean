/-! THE WALK, printed by wip/D-93865w/gen/main.py -/
set_option maxRecDepth 100000
/-! BeforeTheEnd.wins(II)J -/
def wp_X0_wins (post : Int64 → Hp → Prop) (h : Hp) (p1 : Int32) (p2 : Int32) : Prop := (wp_X0_allTold (fun r_4 h_1 => GI h_1 → Ext h h_1 → (post r_4 h_1)) h 0 p1 p2)
abbrev rm_X0_wins : Room := ({ frames := 14, cells := 3, slots := 21, locals := 385 })
abbrev K_X0_wins : Kx := ("BeforeTheEnd", cX0_wins, 3, (Option.some Jvm.ClassFile.FieldType.long), rm_X0_wins, [], false)
set_option maxHeartbeats 4000000 in
theorem k_X0_wins {ρ : Rho} {h : Hp} {post : Int64 → Hp → Prop} {p1 : Int32} {p2 : Int32} (G : G0 ρ) (g : GI h) (hw : wp_X0_wins post h p1 p2) : Con ρ yX0_wins (ws_ yX0_wins cX0_wins 3 (Option.some Jvm.ClassFile.FieldType.long)) rm_X0_wins [.ref (mr ρ 1), .int p1, .int p2] h (phL h post) psN := by
  refine con_of (own := "BeforeTheEnd") (isI := false) (l0 := [(0, .ref (mr ρ 1)), (1, .int p1), (2, .int p2)]) (by decide) rfl (fun z => by cases z) (Nat.le_of_ble_eq_true rfl) rfl (fun _ => ?_)
  show X ρ K_X0_wins 0 [(0, .ref (mr ρ 1)), (1, .int p1), (2, .int p2)] [] h 0 0 (phL h post) psN
  refine x_aload_n 0 dX0_wins_0 rfl ?_
  refine x_iconst 0 dX0_wins_1 (by decide) ?_
  refine x_iload_n 1 dX0_wins_2 rfl ?_
  refine x_iload_n 2 dX0_wins_3 rfl ?_
  refine x_callH (ci := 0) [.int 0, .int p1, .int p2] 3 dX0_wins_4 (k_X0_allTold G g hw) (GI.s g (t := (10, 0)) rfl (by decide)) rfl q1118 q1120 qs56 q104 q1121 (by decide) rfl rfl ⟨(Nat.le_of_ble_eq_true rfl), (Nat.le_of_ble_eq_true rfl)⟩ (Nat.le_of_ble_eq_true rfl) ⟨(Nat.le_of_ble_eq_true rfl), (Nat.le_of_ble_eq_true rfl)⟩ (fun v9 h_1 hv9 => ?_) (fun _ _ _ _ _ z _ _ => False.elim z)
  obtain ⟨r_4, rfl, g_2, e_3, hw⟩ := hv9
  have hw := hw g_2 e_3
  show X ρ K_X0_wins 7 [(0, .ref (mr ρ 1)), (1, .int p1), (2, .int p2)] [.long r_4] h_1 3 21 (phL h post) psN
  exact x_lret dX0_wins_7 rfl (Nat.le_of_ble_eq_true rfl) (Nat.le_of_ble_eq_true rfl) ⟨_, rfl, g_2, e_3, hw⟩

/-! BeforeTheEndModel.sumOver(II)J -/
def w_X2_sumOver_108 (post : Int64 → Hp → Prop) (K5 : Int32 → Int32 → Int64 → Int32 → Hp → Prop) (x1 : Int32) (x2 : Int32) (x3 : Int64) (x5 : Int32) (h : Hp) : Prop := ((¬ x1 = 3 → (K5 x1 x2 x3 (x5 + 1) h)) ∧ (x1 = 3 → ((((gi h 25 35) < 0 → (vp_in x5 24)) ∧ (¬ (gi h 25 35) < 0 → (((gi h 25 35) = x5 → (vp_in x5 24))))) ∧ (∀ z_6 : Int64, z_6 = ((if (gi h 25 35) < 0 then (gl h 45 (Int32.toNatClampNeg x5)) else (if (gi h 25 35) = x5 then (gl h 45 (Int32.toNatClampNeg x5)) else 0)) : Int64) → (K5 x1 x2 (x3 + z_6) (x5 + 1) h)))))
def w_X2_sumOver_82 (post : Int64 → Hp → Prop) (K5 : Int32 → Int32 → Int64 → Int32 → Hp → Prop) (x1 : Int32) (x2 : Int32) (x3 : Int64) (x5 : Int32) (h : Hp) : Prop := ((¬ x1 = 2 → (w_X2_sumOver_108 post K5 x1 x2 x3 x5 h)) ∧ (x1 = 2 → (((¬ 0 ≤ (gi h 25 34) → (vp_in x5 24))) ∧ (∀ z_4 : Int64, z_4 = ((if 0 ≤ (gi h 25 34) then 0 else (gl h 45 (Int32.toNatClampNeg x5))) : Int64) → (w_X2_sumOver_108 post K5 x1 x2 (x3 + z_4) x5 h)))))
def w_X2_sumOver_59 (post : Int64 → Hp → Prop) (K5 : Int32 → Int32 → Int64 → Int32 → Hp → Prop) (x1 : Int32) (x2 : Int32) (x3 : Int64) (x5 : Int32) (h : Hp) : Prop := ((¬ x1 = 1 → (w_X2_sumOver_82 post K5 x1 x2 x3 x5 h)) ∧ (x1 = 1 → (vp_in x5 24 ∧ (vp_in x2 4 ∧ (∀ x3_4 : Int64, x3_4 = (x3 + ((gl h 45 (Int32.toNatClampNeg x5)) * (Int32.toInt64 (gi h 52 (Int32.toNatClampNeg x2))))) → (w_X2_sumOver_82 post K5 x1 x2 x3_4 x5 h))))))
def w_X2_sumOver_5 (post : Int64 → Hp → Prop) : Nat → Int32 → Int32 → Int64 → Int32 → Hp → Prop
  | 0 => fun _ _ _ _ _ => False
  | n + 1 => fun x1 x2 x3 x5 h => (((gi h 25 12) ≤ x5 → (post x3 h)) ∧ (¬ (gi h 25 12) ≤ x5 → (vp_in x5 24 ∧ ((¬ (gi h 29 (Int32.toNatClampNeg x5)) = 0 → (wp_X2_runs (fun h_4 => GI h_4 → Ext h h_4 → ((¬ x1 = 0 → (w_X2_sumOver_59 post (w_X2_sumOver_5 post n) x1 x2 x3 x5 h_4)) ∧ (x1 = 0 → ((((gi h_4 25 34) = x2 → (vp_in x5 24))) ∧ (∀ z_12 : Int64, z_12 = ((if (gi h_4 25 34) = x2 then (gl h_4 45 (Int32.toNatClampNeg x5)) else 0) : Int64) → (w_X2_sumOver_59 post (w_X2_sumOver_5 post n) x1 x2 (x3 + z_12) x5 h_4)))))) h x5)) ∧ ((gi h 29 (Int32.toNatClampNeg x5)) = 0 → (w_X2_sumOver_5 post n x1 x2 x3 (x5 + 1) h))))))
def wp_X2_sumOver (post : Int64 → Hp → Prop) (h : Hp) (p1 : Int32) (p2 : Int32) : Prop := (∃ fu : Nat, w_X2_sumOver_5 post fu p1 p2 0 1 h)
abbrev rm_X2_sumOver : Room := ({ frames := 3, cells := 0, slots := 0, locals := 108 })
abbrev K_X2_sumOver : Kx := ("BeforeTheEndModel", cX2_sumOver, 6, (Option.some Jvm.ClassFile.FieldType.long), rm_X2_sumOver, [], false)
set_option maxHeartbeats 4000000 in
theorem t_X2_sumOver_108 {ρ : Rho} {h0 : Hp} {post : Int64 → Hp → Prop} {K5 : Int32 → Int32 → Int64 → Int32 → Hp → Prop} (G : G0 ρ) (hK5 : ∀ (x1 : Int32) (x2 : Int32) (x3 : Int64) (x5 : Int32) (h : Hp), GI h → Ext h0 h → K5 x1 x2 x3 x5 h → X ρ K_X2_sumOver 5 [(0, .ref (mr ρ 25)), (1, .int x1), (2, .int x2), (3, .long x3), (5, .int x5)] [] h 0 0 (phL h0 post) psN) :
    ∀ (x1 : Int32) (x2 : Int32) (x3 : Int64) (x5 : Int32) (h : Hp), GI h → Ext h0 h → w_X2_sumOver_108 post K5 x1 x2 x3 x5 h → X ρ K_X2_sumOver 108 [(0, .ref (mr ρ 25)), (1, .int x1), (2, .int x2), (3, .long x3), (5, .int x5)] [] h 0 0 (phL h0 post) psN := by
  intro x1 x2 x3 x5 h g e hw
  refine x_iload_n 1 dX2_sumOver_108 rfl ?_
  refine x_iconst 3 dX2_sumOver_109 (by decide) ?_
  obtain ⟨wt_9, wf_10⟩ := hw
  refine x_icmp_ne 143 dX2_sumOver_110 (by decide) (fun c_1 => ?_) (fun c_1 => ?_)
  · have hw := wt_9 c_1
    refine x_iinc (v := (x5 + 1)) (lv' := [(5, .int (x5 + 1)), (0, .ref (mr ρ 25)), (1, .int x1), (2, .int x2), (3, .long x3)]) 4 dX2_sumOver_143 rfl (by rfl) (Nat.le_of_ble_eq_true rfl) rfl ?_
    refine x_goto 5 dX2_sumOver_146 (by decide) ?_
    refine X.sub [1, 2, 3, 4, 0] rfl ?_
    exact hK5 x1 x2 x3 (x5 + 1) h g e hw
  · have hw := wf_10 c_1
    refine x_lload_n 3 dX2_sumOver_113 rfl ?_
    refine x_aload_n 0 dX2_sumOver_114 rfl ?_
    refine x_get (ci := 2) (v := .int (gi h 25 35)) 35 dX2_sumOver_115 (GI.s g (t := (12, 0)) rfl (by decide)) rfl in_X2 (by decide) q1258 (Or.inl rfl) (fv_i rfl) ?_
    obtain ⟨hO_8, hw⟩ := hw
    have kJ_7 : ∀ z_6 : Int64, z_6 = ((if (gi h 25 35) < 0 then (gl h 45 (Int32.toNatClampNeg x5)) else (if (gi h 25 35) = x5 then (gl h 45 (Int32.toNatClampNeg x5)) else 0)) : Int64) → X ρ K_X2_sumOver 141 [(0, .ref (mr ρ 25)), (1, .int x1), (2, .int x2), (3, .long x3), (5, .int x5)] [.long z_6, .long x3] h 0 0 (phL h0 post) psN := fun z_6 ez_6 => by
      have hw := hw z_6 ez_6
      refine x_ladd dX2_sumOver_141 ?_
      refine x_lstore_n (lv' := [(3, .long (x3 + z_6)), (0, .ref (mr ρ 25)), (1, .int x1), (2, .int x2), (5, .int x5)]) dX2_sumOver_142 (Nat.le_of_ble_eq_true rfl) rfl ?_
      refine x_iinc (v := (x5 + 1)) (lv' := [(5, .int (x5 + 1)), (3, .long (x3 + z_6)), (0, .ref (mr ρ 25)), (1, .int x1), (2, .int x2)]) 4 dX2_sumOver_143 rfl (by rfl) (Nat.le_of_ble_eq_true rfl) rfl ?_
      refine x_goto 5 dX2_sumOver_146 (by decide) ?_
      refine X.sub [2, 3, 4, 1, 0] rfl ?_
      exact hK5 x1 x2 (x3 + z_6) (x5 + 1) h g e hw
    obtain ⟨hO_80, hO_81⟩ := hO_8
    refine x_if_lt 130 dX2_sumOver_118 (by decide) (fun c_2 => ?_) (fun c_2 => ?_)
    · have hO_8_ := hO_80 c_2
      have b_3 := hO_8_
      refine x_aload_n 0 dX2_sumOver_130 rfl ?_
      refine x_get (ci := 2) (v := .ref (mr ρ 45)) 24 dX2_sumOver_131 (GI.s g (t := (12, 0)) rfl (by decide)) rfl in_X2 (by decide) q1247 (Or.inl rfl) (fv_rc rfl (GI.m g (n := 45) rfl (by decide)) (by decide)) ?_
      refine x_iload 4 dX2_sumOver_134 rfl ?_
      refine x_lald (n := 24) (j := (Int32.toNatClampNeg x5)) dX2_sumOver_136 rfl (GI.s g (t := (2, 24)) rfl (by decide)) b_3 ?_
      refine x_goto 141 dX2_sumOver_137 (by decide) ?_
      exact kJ_7 _ ((if_pos c_2)).symm
    · have hO_8_ := hO_81 c_2
      have hO_8_0 := hO_8_
      refine x_aload_n 0 dX2_sumOver_121 rfl ?_
      refine x_get (ci := 2) (v := .int (gi h 25 35)) 35 dX2_sumOver_122 (GI.s g (t := (12, 0)) rfl (by decide)) rfl in_X2 (by decide) q1258 (Or.inl rfl) (fv_i rfl) ?_
      refine x_iload 4 dX2_sumOver_125 rfl ?_
      refine x_icmp_ne 140 dX2_sumOver_127 (by decide) (fun c_4 => ?_) (fun c_4 => ?_)
      · refine x_lconst 0 dX2_sumOver_140 (by decide) ?_
        exact kJ_7 _ (((if_neg c_2).trans (if_neg c_4))).symm
      · have hO_8__ := hO_8_0 c_4
        have b_5 := hO_8__
        refine x_aload_n 0 dX2_sumOver_130 rfl ?_
        refine x_get (ci := 2) (v := .ref (mr ρ 45)) 24 dX2_sumOver_131 (GI.s g (t := (12, 0)) rfl (by decide)) rfl in_X2 (by decide) q1247 (Or.inl rfl) (fv_rc rfl (GI.m g (n := 45) rfl (by decide)) (by decide)) ?_
        refine x_iload 4 dX2_sumOver_134 rfl ?_
        refine x_lald (n := 24) (j := (Int32.toNatClampNeg x5)) dX2_sumOver_136 rfl (GI.s g (t := (2, 24)) rfl (by decide)) b_5 ?_
        refine x_goto 141 dX2_sumOver_137 (by decide) ?_
        exact kJ_7 _ (((if_neg c_2).trans (if_pos c_4))).symm
set_option maxHeartbeats 4000000 in
theorem t_X2_sumOver_82 {ρ : Rho} {h0 : Hp} {post : Int64 → Hp → Prop} {K5 : Int32 → Int32 → Int64 → Int32 → Hp → Prop} (G : G0 ρ) (hK5 : ∀ (x1 : Int32) (x2 : Int32) (x3 : Int64) (x5 : Int32) (h : Hp), GI h → Ext h0 h → K5 x1 x2 x3 x5 h → X ρ K_X2_sumOver 5 [(0, .ref (mr ρ 25)), (1, .int x1), (2, .int x2), (3, .long x3), (5, .int x5)] [] h 0 0 (phL h0 post) psN) :
    ∀ (x1 : Int32) (x2 : Int32) (x3 : Int64) (x5 : Int32) (h : Hp), GI h → Ext h0 h → w_X2_sumOver_82 post K5 x1 x2 x3 x5 h → X ρ K_X2_sumOver 82 [(0, .ref (mr ρ 25)), (1, .int x1), (2, .int x2), (3, .long x3), (5, .int x5)] [] h 0 0 (phL h0 post) psN := by
  intro x1 x2 x3 x5 h g e hw
  refine x_iload_n 1 dX2_sumOver_82 rfl ?_
  refine x_iconst 2 dX2_sumOver_83 (by decide) ?_
  obtain ⟨wt_7, wf_8⟩ := hw
  refine x_icmp_ne 108 dX2_sumOver_84 (by decide) (fun c_1 => ?_) (fun c_1 => ?_)
  · have hw := wt_7 c_1
    exact t_X2_sumOver_108 G hK5 x1 x2 x3 x5 h g e hw
  · have hw := wf_8 c_1
    refine x_lload_n 3 dX2_sumOver_87 rfl ?_
    refine x_aload_n 0 dX2_sumOver_88 rfl ?_
    refine x_get (ci := 2) (v := .int (gi h 25 34)) 34 dX2_sumOver_89 (GI.s g (t := (12, 0)) rfl (by decide)) rfl in_X2 (by decide) q1257 (Or.inl rfl) (fv_i rfl) ?_
    obtain ⟨hO_6, hw⟩ := hw
    have kJ_5 : ∀ z_4 : Int64, z_4 = ((if 0 ≤ (gi h 25 34) then 0 else (gl h 45 (Int32.toNatClampNeg x5))) : Int64) → X ρ K_X2_sumOver 106 [(0, .ref (mr ρ 25)), (1, .int x1), (2, .int x2), (3, .long x3), (5, .int x5)] [.long z_4, .long x3] h 0 0 (phL h0 post) psN := fun z_4 ez_4 => by
      have hw := hw z_4 ez_4
      refine x_ladd dX2_sumOver_106 ?_
      refine x_lstore_n (lv' := [(3, .long (x3 + z_4)), (0, .ref (mr ρ 25)), (1, .int x1), (2, .int x2), (5, .int x5)]) dX2_sumOver_107 (Nat.le_of_ble_eq_true rfl) rfl ?_
      refine X.sub [1, 2, 3, 0, 4] rfl ?_
      exact t_X2_sumOver_108 G hK5 x1 x2 (x3 + z_4) x5 h g e hw
    have hO_60 := hO_6
    refine x_if_ge 105 dX2_sumOver_92 (by decide) (fun c_2 => ?_) (fun c_2 => ?_)
    · refine x_lconst 0 dX2_sumOver_105 (by decide) ?_
      exact kJ_5 _ ((if_pos c_2)).symm
    · have hO_6_ := hO_60 c_2
      have b_3 := hO_6_
      refine x_aload_n 0 dX2_sumOver_95 rfl ?_
      refine x_get (ci := 2) (v := .ref (mr ρ 45)) 24 dX2_sumOver_96 (GI.s g (t := (12, 0)) rfl (by decide)) rfl in_X2 (by decide) q1247 (Or.inl rfl) (fv_rc rfl (GI.m g (n := 45) rfl (by decide)) (by decide)) ?_
      refine x_iload 4 dX2_sumOver_99 rfl ?_
      refine x_lald (n := 24) (j := (Int32.toNatClampNeg x5)) dX2_sumOver_101 rfl (GI.s g (t := (2, 24)) rfl (by decide)) b_3 ?_
      refine x_goto 106 dX2_sumOver_102 (by decide) ?_
      exact kJ_5 _ ((if_neg c_2)).symm
set_option maxHeartbeats 4000000 in
theorem t_X2_sumOver_59 {ρ : Rho} {h0 : Hp} {post : Int64 → Hp → Prop} {K5 : Int32 → Int32 → Int64 → Int32 → Hp → Prop} (G : G0 ρ) (hK5 : ∀ (x1 : Int32) (x2 : Int32) (x3 : Int64) (x5 : Int32) (h : Hp), GI h → Ext h0 h → K5 x1 x2 x3 x5 h → X ρ K_X2_sumOver 5 [(0, .ref (mr ρ 25)), (1, .int x1), (2, .int x2), (3, .long x3), (5, .int x5)] [] h 0 0 (phL h0 post) psN) :
    ∀ (x1 : Int32) (x2 : Int32) (x3 : Int64) (x5 : Int32) (h : Hp), GI h → Ext h0 h → w_X2_sumOver_59 post K5 x1 x2 x3 x5 h → X ρ K_X2_sumOver 59 [(0, .ref (mr ρ 25)), (1, .int x1), (2, .int x2), (3, .long x3), (5, .int x5)] [] h 0 0 (phL h0 post) psN := by
  intro x1 x2 x3 x5 h g e hw
  refine x_iload_n 1 dX2_sumOver_59 rfl ?_
  refine x_iconst 1 dX2_sumOver_60 (by decide) ?_
  obtain ⟨wt_5, wf_6⟩ := hw
  refine x_icmp_ne 82 dX2_sumOver_61 (by decide) (fun c_1 => ?_) (fun c_1 => ?_)
  · have hw := wt_5 c_1
    exact t_X2_sumOver_82 G hK5 x1 x2 x3 x5 h g e hw
  · have hw := wf_6 c_1
    refine x_lload_n 3 dX2_sumOver_64 rfl ?_
    refine x_aload_n 0 dX2_sumOver_65 rfl ?_
    refine x_get (ci := 2) (v := .ref (mr ρ 45)) 24 dX2_sumOver_66 (GI.s g (t := (12, 0)) rfl (by decide)) rfl in_X2 (by decide) q1247 (Or.inl rfl) (fv_rc rfl (GI.m g (n := 45) rfl (by decide)) (by decide)) ?_
    refine x_iload 4 dX2_sumOver_69 rfl ?_
    obtain ⟨b_2, hw⟩ := hw
    refine x_lald (n := 24) (j := (Int32.toNatClampNeg x5)) dX2_sumOver_71 rfl (GI.s g (t := (2, 24)) rfl (by decide)) b_2 ?_
    refine x_aload_n 0 dX2_sumOver_72 rfl ?_
    refine x_get (ci := 2) (v := .ref (mr ρ 52)) 33 dX2_sumOver_73 (GI.s g (t := (12, 0)) rfl (by decide)) rfl in_X2 (by decide) q1256 (Or.inl rfl) (fv_rc rfl (GI.m g (n := 52) rfl (by decide)) (by decide)) ?_
    refine x_iload_n 2 dX2_sumOver_76 rfl ?_
    obtain ⟨b_3, hw⟩ := hw
    refine x_iald (n := 4) (j := (Int32.toNatClampNeg x2)) dX2_sumOver_77 rfl (GI.s g (t := (1, 4)) rfl (by decide)) b_3 ?_
    refine x_i2l dX2_sumOver_78 ?_
    refine x_lmul dX2_sumOver_79 ?_
    refine x_ladd dX2_sumOver_80 ?_
    refine x_nml (fun x3_4 ex3_4 => ?_)
    have hw := hw x3_4 ex3_4
    refine x_lstore_n (lv' := [(3, .long x3_4), (0, .ref (mr ρ 25)), (1, .int x1), (2, .int x2), (5, .int x5)]) dX2_sumOver_81 (Nat.le_of_ble_eq_true rfl) rfl ?_
    refine X.sub [1, 2, 3, 0, 4] rfl ?_
    exact t_X2_sumOver_82 G hK5 x1 x2 x3_4 x5 h g e hw
set_option maxHeartbeats 4000000 in
theorem t_X2_sumOver_5 {ρ : Rho} {h0 : Hp} {post : Int64 → Hp → Prop} (G : G0 ρ) :
    ∀ (n : Nat), ∀ (x1 : Int32) (x2 : Int32) (x3 : Int64) (x5 : Int32) (h : Hp), GI h → Ext h0 h → w_X2_sumOver_5 post n x1 x2 x3 x5 h → X ρ K_X2_sumOver 5 [(0, .ref (mr ρ 25)), (1, .int x1), (2, .int x2), (3, .long x3), (5, .int x5)] [] h 0 0 (phL h0 post) psN := by
  intro n
  induction n with
  | zero => intro x1 x2 x3 x5 h g e hw; exact False.elim hw
  | succ n ih =>
    intro x1 x2 x3 x5 h g e hw
    refine x_iload 4 dX2_sumOver_5 rfl ?_
    refine x_aload_n 0 dX2_sumOver_7 rfl ?_
    refine x_get (ci := 2) (v := .int (gi h 25 12)) 12 dX2_sumOver_8 (GI.s g (t := (12, 0)) rfl (by decide)) rfl in_X2 (by decide) q1235 (Or.inl rfl) (fv_i rfl) ?_
    obtain ⟨wt_19, wf_20⟩ := hw
    refine x_icmp_ge 149 dX2_sumOver_11 (by decide) (fun c_1 => ?_) (fun c_1 => ?_)
    · have hw := wt_19 c_1
      refine x_lload_n 3 dX2_sumOver_149 rfl ?_
      exact x_lret dX2_sumOver_150 rfl (Nat.le_of_ble_eq_true rfl) (Nat.le_of_ble_eq_true rfl) ⟨_, rfl, g, e, hw⟩
    · have hw := wf_20 c_1
      refine x_aload_n 0 dX2_sumOver_14 rfl ?_
      refine x_get (ci := 2) (v := .ref (mr ρ 29)) 3 dX2_sumOver_15 (GI.s g (t := (12, 0)) rfl (by decide)) rfl in_X2 (by decide) q1226 (Or.inl rfl) (fv_rc rfl (GI.m g (n := 29) rfl (by decide)) (by decide)) ?_
      refine x_iload 4 dX2_sumOver_18 rfl ?_
      obtain ⟨b_2, hw⟩ := hw
      refine x_iald (n := 24) (j := (Int32.toNatClampNeg x5)) dX2_sumOver_20 rfl (GI.s g (t := (1, 24)) rfl (by decide)) b_2 ?_
      obtain ⟨wt_17, wf_18⟩ := hw
      refine x_if_ne 27 dX2_sumOver_21 (by decide) (fun c_3 => ?_) (fun c_3 => ?_)
      · have hw := wt_17 c_3
        refine x_aload_n 0 dX2_sumOver_27 rfl ?_
        refine x_iload 4 dX2_sumOver_28 rfl ?_
        refine x_callV (ci := 2) [.int x5] 1 dX2_sumOver_30 (k_X2_runs G g hw) (GI.s g (t := (12, 0)) rfl (by decide)) rfl q1558 q1560 qs87 q106 q1561 (by decide) rfl rfl ⟨(Nat.le_of_ble_eq_true rfl), (Nat.le_of_ble_eq_true rfl)⟩ (Nat.le_of_ble_eq_true rfl) ⟨(Nat.le_of_ble_eq_true rfl), (Nat.le_of_ble_eq_true rfl)⟩ (fun v9 h_4 hv9 => ?_) (fun _ _ _ _ _ z _ _ => False.elim z)
        obtain ⟨rfl, g_5, e_6, hw⟩ := hv9
        have hw := hw g_5 e_6
        show X ρ K_X2_sumOver 33 [(0, .ref (mr ρ 25)), (1, .int x1), (2, .int x2), (3, .long x3), (5, .int x5)] [] h_4 0 0 (phL h0 post) psN
        refine x_iload_n 1 dX2_sumOver_33 rfl ?_
        obtain ⟨wt_15, wf_16⟩ := hw
        refine x_if_ne 59 dX2_sumOver_34 (by decide) (fun c_9 => ?_) (fun c_9 => ?_)
        · have hw := wt_15 c_9
          exact t_X2_sumOver_59 G ih x1 x2 x3 x5 h_4 g_5 (Ext.tr e e_6) hw
        · have hw := wf_16 c_9
          refine x_lload_n 3 dX2_sumOver_37 rfl ?_
          refine x_aload_n 0 dX2_sumOver_38 rfl ?_
          refine x_get (ci := 2) (v := .int (gi h_4 25 34)) 34 dX2_sumOver_39 (GI.s g_5 (t := (12, 0)) rfl (by decide)) rfl in_X2 (by decide) q1257 (Or.inl rfl) (fv_i rfl) ?_
          refine x_iload_n 2 dX2_sumOver_42 rfl ?_
          obtain ⟨hO_14, hw⟩ := hw
          have kJ_13 : ∀ z_12 : Int64, z_12 = ((if (gi h_4 25 34) = x2 then (gl h_4 45 (Int32.toNatClampNeg x5)) else 0) : Int64) → X ρ K_X2_sumOver 57 [(0, .ref (mr ρ 25)), (1, .int x1), (2, .int x2), (3, .long x3), (5, .int x5)] [.long z_12, .long x3] h_4 0 0 (phL h0 post) psN := fun z_12 ez_12 => by
            have hw := hw z_12 ez_12
            refine x_ladd dX2_sumOver_57 ?_
            refine x_lstore_n (lv' := [(3, .long (x3 + z_12)), (0, .ref (mr ρ 25)), (1, .int x1), (2, .int x2), (5, .int x5)]) dX2_sumOver_58 (Nat.le_of_ble_eq_true rfl) rfl ?_
            refine X.sub [1, 2, 3, 0, 4] rfl ?_
            exact t_X2_sumOver_59 G ih x1 x2 (x3 + z_12) x5 h_4 g_5 (Ext.tr e e_6) hw
          have hO_140 := hO_14
          refine x_icmp_ne 56 dX2_sumOver_43 (by decide) (fun c_10 => ?_) (fun c_10 => ?_)
          · refine x_lconst 0 dX2_sumOver_56 (by decide) ?_
            exact kJ_13 _ ((if_neg c_10)).symm
          · have hO_14_ := hO_140 c_10
            have b_11 := hO_14_
            refine x_aload_n 0 dX2_sumOver_46 rfl ?_
            refine x_get (ci := 2) (v := .ref (mr ρ 45)) 24 dX2_sumOver_47 (GI.s g_5 (t := (12, 0)) rfl (by decide)) rfl in_X2 (by decide) q1247 (Or.inl rfl) (fv_rc rfl (GI.m g_5 (n := 45) rfl (by decide)) (by decide)) ?_
            refine x_iload 4 dX2_sumOver_50 rfl ?_
            refine x_lald (n := 24) (j := (Int32.toNatClampNeg x5)) dX2_sumOver_52 rfl (GI.s g_5 (t := (2, 24)) rfl (by decide)) b_11 ?_
            refine x_goto 57 dX2_sumOver_53 (by decide) ?_
            exact kJ_13 _ ((if_pos c_10)).symm
      · have hw := wf_18 c_3
        refine x_goto 143 dX2_sumOver_24 (by decide) ?_
        refine x_iinc (v := (x5 + 1)) (lv' := [(5, .int (x5 + 1)), (0, .ref (mr ρ 25)), (1, .int x1), (2, .int x2), (3, .long x3)]) 4 dX2_sumOver_143 rfl (by rfl) (Nat.le_of_ble_eq_true rfl) rfl ?_
        refine x_goto 5 dX2_sumOver_146 (by decide) ?_
        refine X.sub [1, 2, 3, 4, 0] rfl ?_
        exact ih x1 x2 x3 (x5 + 1) h g e hw
set_option maxHeartbeats 4000000 in
theorem k_X2_sumOver {ρ : Rho} {h : Hp} {post : Int64 → Hp → Prop} {p1 : Int32} {p2 : Int32} (G : G0 ρ) (g : GI h) (hw : wp_X2_sumOver post h p1 p2) : Con ρ yX2_sumOver (ws_ yX2_sumOver cX2_sumOver 6 (Option.some Jvm.ClassFile.FieldType.long)) rm_X2_sumOver [.ref (mr ρ 25), .int p1, .int p2] h (phL h post) psN := by
  refine con_of (own := "BeforeTheEndModel") (isI := false) (l0 := [(0, .ref (mr ρ 25)), (1, .int p1), (2, .int p2)]) (by decide) rfl (fun z => by cases z) (Nat.le_of_ble_eq_true rfl) rfl (fun _ => ?_)
  show X ρ K_X2_sumOver 0 [(0, .ref (mr ρ 25)), (1, .int p1), (2, .int p2)] [] h 0 0 (phL h post) psN
  refine x_lconst 0 dX2_sumOver_0 (by decide) ?_
  refine x_lstore_n (lv' := [(3, .long 0), (0, .ref (mr ρ 25)), (1, .int p1), (2, .int p2)]) dX2_sumOver_1 (Nat.le_of_ble_eq_true rfl) rfl ?_
  refine x_iconst 1 dX2_sumOver_2 (by decide) ?_
  refine x_istore (lv' := [(5, .int 1), (3, .long 0), (0, .ref (mr ρ 25)), (1, .int p1), (2, .int p2)]) dX2_sumOver_3 (Nat.le_of_ble_eq_true rfl) rfl ?_
  refine X.sub [2, 3, 4, 1, 0] rfl ?_
  obtain ⟨fu, hw⟩ := hw
  exact t_X2_sumOver_5 G  fu p1 p2 0 1 h g Ext.rf hw

/-! BeforeTheEndModel.inAll(III)J -/
def w_X2_inAll_19 (post : Int64 → Hp → Prop) (x1 : Int32) (x2 : Int32) (x3 : Int32) (h : Hp) : Prop := (wp_X2_isIn (fun r_4 h_1 => GI h_1 → Ext h h_1 → ((¬ r_4 = 0 → (wp_X2_isWhole (fun r_10 h_7 => GI h_7 → Ext h_1 h_7 → ((¬ r_10 = 0 → (wp_X2_finds (fun h_13 => GI h_13 → Ext h_7 h_13 → (wp_X2_sumOver (fun r_21 h_18 => GI h_18 → Ext h_13 h_18 → (wp_X2_inLeast (fun r_26 h_23 => GI h_23 → Ext h_18 h_23 → (post r_26 h_23)) h_18 r_21 (gl h_18 25 29) x3)) h_13 x1 x2)) h_7)) ∧ (r_10 = 0 → (wp_X2_noLong (fun r_31 h_28 => GI h_28 → Ext h_7 h_28 → (post r_31 h_28)) h_7 (-3))))) h_1)) ∧ (r_4 = 0 → (wp_X2_noLong (fun r_38 h_35 => GI h_35 → Ext h_1 h_35 → (post r_38 h_35)) h_1 (-2))))) h x3 0 1)
def wp_X2_inAll (post : Int64 → Hp → Prop) (h : Hp) (p1 : Int32) (p2 : Int32) (p3 : Int32) : Prop := ((2 ≤ p1 → (w_X2_inAll_19 post p1 p2 p3 h)) ∧ (¬ 2 ≤ p1 → (wp_X2_isPlayer (fun r_5 h_2 => GI h_2 → Ext h h_2 → ((¬ r_5 = 0 → (w_X2_inAll_19 post p1 p2 p3 h_2)) ∧ (r_5 = 0 → (wp_X2_noLong (fun r_11 h_8 => GI h_8 → Ext h_2 h_8 → (post r_11 h_8)) h_2 (-1))))) h p2)))
abbrev rm_X2_inAll : Room := ({ frames := 6, cells := 0, slots := 0, locals := 175 })
abbrev K_X2_inAll : Kx := ("BeforeTheEndModel", cX2_inAll, 4, (Option.some Jvm.ClassFile.FieldType.long), rm_X2_inAll, [], false)
set_option maxHeartbeats 4000000 in
theorem t_X2_inAll_19 {ρ : Rho} {h0 : Hp} {post : Int64 → Hp → Prop} (G : G0 ρ) :
    ∀ (x1 : Int32) (x2 : Int32) (x3 : Int32) (h : Hp), GI h → Ext h0 h → w_X2_inAll_19 post x1 x2 x3 h → X ρ K_X2_inAll 19 [(0, .ref (mr ρ 25)), (1, .int x1), (2, .int x2), (3, .int x3)] [] h 0 0 (phL h0 post) psN := by
  intro x1 x2 x3 h g e hw
  refine x_iload_n 3 dX2_inAll_19 rfl ?_
  refine x_iconst 0 dX2_inAll_20 (by decide) ?_
  refine x_iconst 1 dX2_inAll_21 (by decide) ?_
  refine x_callS [.int x3, .int 0, .int 1] 3 dX2_inAll_22 (k_X2_isIn G g hw) q1412 q1413 q106 q1414 (by decide) rfl rfl ⟨(Nat.le_of_ble_eq_true rfl), (Nat.le_of_ble_eq_true rfl)⟩ (Nat.le_of_ble_eq_true rfl) ⟨(Nat.le_of_ble_eq_true rfl), (Nat.le_of_ble_eq_true rfl)⟩ (fun v9 h_1 hv9 => ?_) (fun _ _ _ _ _ z _ _ => False.elim z)
  obtain ⟨r_4, rfl, g_2, e_3, b_5, hw⟩ := hv9
  have hw := hw g_2 e_3
  show X ρ K_X2_inAll 25 [(0, .ref (mr ρ 25)), (1, .int x1), (2, .int x2), (3, .int x3)] [.int r_4] h_1 0 0 (phL h0 post) psN
  obtain ⟨wt_40, wf_41⟩ := hw
  refine x_if_ne 35 dX2_inAll_25 (by decide) (fun c_6 => ?_) (fun c_6 => ?_)
  · have hw := wt_40 c_6
    refine x_aload_n 0 dX2_inAll_35 rfl ?_
    refine x_callV (ci := 2) [] 0 dX2_inAll_36 (k_X2_isWhole G g_2 hw) (GI.s g_2 (t := (12, 0)) rfl (by decide)) rfl q1462 q1464 qs72 q106 q1465 (by decide) rfl rfl ⟨(Nat.le_of_ble_eq_true rfl), (Nat.le_of_ble_eq_true rfl)⟩ (Nat.le_of_ble_eq_true rfl) ⟨(Nat.le_of_ble_eq_true rfl), (Nat.le_of_ble_eq_true rfl)⟩ (fun v9 h_7 hv9 => ?_) (fun _ _ _ _ _ z _ _ => False.elim z)
    obtain ⟨r_10, rfl, g_8, e_9, b_11, hw⟩ := hv9
    have hw := hw g_8 e_9
    show X ρ K_X2_inAll 39 [(0, .ref (mr ρ 25)), (1, .int x1), (2, .int x2), (3, .int x3)] [.int r_10] h_7 0 0 (phL h0 post) psN
    obtain ⟨wt_33, wf_34⟩ := hw
    refine x_if_ne 49 dX2_inAll_39 (by decide) (fun c_12 => ?_) (fun c_12 => ?_)
    · have hw := wt_33 c_12
      refine x_aload_n 0 dX2_inAll_49 rfl ?_
      refine x_callV (ci := 2) [] 0 dX2_inAll_50 (k_X2_finds G g_8 hw) (GI.s g_8 (t := (12, 0)) rfl (by decide)) rfl q1521 q1523 qs79 q106 q1524 (by decide) rfl rfl ⟨(Nat.le_of_ble_eq_true rfl), (Nat.le_of_ble_eq_true rfl)⟩ (Nat.le_of_ble_eq_true rfl) ⟨(Nat.le_of_ble_eq_true rfl), (Nat.le_of_ble_eq_true rfl)⟩ (fun v9 h_13 hv9 => ?_) (fun _ _ _ _ _ z _ _ => False.elim z)
      obtain ⟨rfl, g_14, e_15, hw⟩ := hv9
      have hw := hw g_14 e_15
      show X ρ K_X2_inAll 53 [(0, .ref (mr ρ 25)), (1, .int x1), (2, .int x2), (3, .int x3)] [] h_13 0 0 (phL h0 post) psN
      refine x_aload_n 0 dX2_inAll_53 rfl ?_
      refine x_iload_n 1 dX2_inAll_54 rfl ?_
      refine x_iload_n 2 dX2_inAll_55 rfl ?_
      refine x_callV (ci := 2) [.int x1, .int x2] 2 dX2_inAll_56 (k_X2_sumOver G g_14 hw) (GI.s g_14 (t := (12, 0)) rfl (by decide)) rfl q1578 q1580 qs91 q106 q1581 (by decide) rfl rfl ⟨(Nat.le_of_ble_eq_true rfl), (Nat.le_of_ble_eq_true rfl)⟩ (Nat.le_of_ble_eq_true rfl) ⟨(Nat.le_of_ble_eq_true rfl), (Nat.le_of_ble_eq_true rfl)⟩ (fun v9 h_18 hv9 => ?_) (fun _ _ _ _ _ z _ _ => False.elim z)
      obtain ⟨r_21, rfl, g_19, e_20, hw⟩ := hv9
      have hw := hw g_19 e_20
      show X ρ K_X2_inAll 59 [(0, .ref (mr ρ 25)), (1, .int x1), (2, .int x2), (3, .int x3)] [.long r_21] h_18 0 0 (phL h0 post) psN
      refine x_aload_n 0 dX2_inAll_59 rfl ?_
      refine x_get (ci := 2) (v := .long (gl h_18 25 29)) 29 dX2_inAll_60 (GI.s g_19 (t := (12, 0)) rfl (by decide)) rfl in_X2 (by decide) q1252 (Or.inl rfl) (fv_l rfl) ?_
      refine x_iload_n 3 dX2_inAll_63 rfl ?_
      refine x_callS [.long r_21, .long (gl h_18 25 29), .int x3] 3 dX2_inAll_64 (k_X2_inLeast G g_19 hw) q1498 q1499 q106 q1500 (by decide) rfl rfl ⟨(Nat.le_of_ble_eq_true rfl), (Nat.le_of_ble_eq_true rfl)⟩ (Nat.le_of_ble_eq_true rfl) ⟨(Nat.le_of_ble_eq_true rfl), (Nat.le_of_ble_eq_true rfl)⟩ (fun v9 h_23 hv9 => ?_) (fun _ _ _ _ _ z _ _ => False.elim z)
      obtain ⟨r_26, rfl, g_24, e_25, hw⟩ := hv9
      have hw := hw g_24 e_25
      show X ρ K_X2_inAll 67 [(0, .ref (mr ρ 25)), (1, .int x1), (2, .int x2), (3, .int x3)] [.long r_26] h_23 0 0 (phL h0 post) psN
      exact x_lret dX2_inAll_67 rfl (Nat.le_of_ble_eq_true rfl) (Nat.le_of_ble_eq_true rfl) ⟨_, rfl, g_24, (Ext.tr (Ext.tr (Ext.tr (Ext.tr (Ext.tr e e_3) e_9) e_15) e_20) e_25), hw⟩
    · have hw := wf_34 c_12
      refine x_aload_n 0 dX2_inAll_42 rfl ?_
      refine x_bipush (-3) dX2_inAll_43 (by decide) ?_
      refine x_callV (ci := 2) [.int (-3)] 1 dX2_inAll_45 (k_X2_noLong G g_8 hw) (GI.s g_8 (t := (12, 0)) rfl (by decide)) rfl q1478 q1480 qs74 q106 q1481 (by decide) rfl rfl ⟨(Nat.le_of_ble_eq_true rfl), (Nat.le_of_ble_eq_true rfl)⟩ (Nat.le_of_ble_eq_true rfl) ⟨(Nat.le_of_ble_eq_true rfl), (Nat.le_of_ble_eq_true rfl)⟩ (fun v9 h_28 hv9 => ?_) (fun _ _ _ _ _ z _ _ => False.elim z)
      obtain ⟨r_31, rfl, g_29, e_30, hw⟩ := hv9
      have hw := hw g_29 e_30
      show X ρ K_X2_inAll 48 [(0, .ref (mr ρ 25)), (1, .int x1), (2, .int x2), (3, .int x3)] [.long r_31] h_28 0 0 (phL h0 post) psN
      exact x_lret dX2_inAll_48 rfl (Nat.le_of_ble_eq_true rfl) (Nat.le_of_ble_eq_true rfl) ⟨_, rfl, g_29, (Ext.tr (Ext.tr (Ext.tr e e_3) e_9) e_30), hw⟩
  · have hw := wf_41 c_6
    refine x_aload_n 0 dX2_inAll_28 rfl ?_
    refine x_bipush (-2) dX2_inAll_29 (by decide) ?_
    refine x_callV (ci := 2) [.int (-2)] 1 dX2_inAll_31 (k_X2_noLong G g_2 hw) (GI.s g_2 (t := (12, 0)) rfl (by decide)) rfl q1478 q1480 qs74 q106 q1481 (by decide) rfl rfl ⟨(Nat.le_of_ble_eq_true rfl), (Nat.le_of_ble_eq_true rfl)⟩ (Nat.le_of_ble_eq_true rfl) ⟨(Nat.le_of_ble_eq_true rfl), (Nat.le_of_ble_eq_true rfl)⟩ (fun v9 h_35 hv9 => ?_) (fun _ _ _ _ _ z _ _ => False.elim z)
    obtain ⟨r_38, rfl, g_36, e_37, hw⟩ := hv9
    have hw := hw g_36 e_37
    show X ρ K_X2_inAll 34 [(0, .ref (mr ρ 25)), (1, .int x1), (2, .int x2), (3, .int x3)] [.long r_38] h_35 0 0 (phL h0 post) psN
    exact x_lret dX2_inAll_34 rfl (Nat.le_of_ble_eq_true rfl) (Nat.le_of_ble_eq_true rfl) ⟨_, rfl, g_36, (Ext.tr (Ext.tr e e_3) e_37), hw⟩
set_option maxHeartbeats 4000000 in
theorem k_X2_inAll {ρ : Rho} {h : Hp} {post : Int64 → Hp → Prop} {p1 : Int32} {p2 : Int32} {p3 : Int32} (G : G0 ρ) (g : GI h) (hw : wp_X2_inAll post h p1 p2 p3) : Con ρ yX2_inAll (ws_ yX2_inAll cX2_inAll 4 (Option.some Jvm.ClassFile.FieldType.long)) rm_X2_inAll [.ref (mr ρ 25), .int p1, .int p2, .int p3] h (phL h post) psN := by
  refine con_of (own := "BeforeTheEndModel") (isI := false) (l0 := [(0, .ref (mr ρ 25)), (1, .int p1), (2, .int p2), (3, .int p3)]) (by decide) rfl (fun z => by cases z) (Nat.le_of_ble_eq_true rfl) rfl (fun _ => ?_)
  show X ρ K_X2_inAll 0 [(0, .ref (mr ρ 25)), (1, .int p1), (2, .int p2), (3, .int p3)] [] h 0 0 (phL h post) psN
  refine x_iload_n 1 dX2_inAll_0 rfl ?_
  refine x_iconst 2 dX2_inAll_1 (by decide) ?_
  obtain ⟨wt_15, wf_16⟩ := hw
  refine x_icmp_ge 19 dX2_inAll_2 (by decide) (fun c_1 => ?_) (fun c_1 => ?_)
  · have hw := wt_15 c_1
    exact t_X2_inAll_19 G  p1 p2 p3 h g Ext.rf hw
  · have hw := wf_16 c_1
    refine x_aload_n 0 dX2_inAll_5 rfl ?_
    refine x_iload_n 2 dX2_inAll_6 rfl ?_
    refine x_callV (ci := 2) [.int p2] 1 dX2_inAll_7 (k_X2_isPlayer G g hw) (GI.s g (t := (12, 0)) rfl (by decide)) rfl q1454 q1456 qs71 q106 q1457 (by decide) rfl rfl ⟨(Nat.le_of_ble_eq_true rfl), (Nat.le_of_ble_eq_true rfl)⟩ (Nat.le_of_ble_eq_true rfl) ⟨(Nat.le_of_ble_eq_true rfl), (Nat.le_of_ble_eq_true rfl)⟩ (fun v9 h_2 hv9 => ?_) (fun _ _ _ _ _ z _ _ => False.elim z)
    obtain ⟨r_5, rfl, g_3, e_4, b_6, hw⟩ := hv9
    have hw := hw g_3 e_4
    show X ρ K_X2_inAll 10 [(0, .ref (mr ρ 25)), (1, .int p1), (2, .int p2), (3, .int p3)] [.int r_5] h_2 0 0 (phL h post) psN
    obtain ⟨wt_13, wf_14⟩ := hw
    refine x_if_ne 19 dX2_inAll_10 (by decide) (fun c_7 => ?_) (fun c_7 => ?_)
    · have hw := wt_13 c_7
      exact t_X2_inAll_19 G  p1 p2 p3 h_2 g_3 e_4 hw
    · have hw := wf_14 c_7
      refine x_aload_n 0 dX2_inAll_13 rfl ?_
      refine x_iconst (-1) dX2_inAll_14 (by decide) ?_
      refine x_callV (ci := 2) [.int (-1)] 1 dX2_inAll_15 (k_X2_noLong G g_3 hw) (GI.s g_3 (t := (12, 0)) rfl (by decide)) rfl q1478 q1480 qs74 q106 q1481 (by decide) rfl rfl ⟨(Nat.le_of_ble_eq_true rfl), (Nat.le_of_ble_eq_true rfl)⟩ (Nat.le_of_ble_eq_true rfl) ⟨(Nat.le_of_ble_eq_true rfl), (Nat.le_of_ble_eq_true rfl)⟩ (fun v9 h_8 hv9 => ?_) (fun _ _ _ _ _ z _ _ => False.elim z)
      obtain ⟨r_11, rfl, g_9, e_10, hw⟩ := hv9
      have hw := hw g_9 e_10
      show X ρ K_X2_inAll 18 [(0, .ref (mr ρ 25)), (1, .int p1), (2, .int p2), (3, .int p3)] [.long r_11] h_8 0 0 (phL h post) psN
      exact x_lret dX2_inAll_18 rfl (Nat.le_of_ble_eq_true rfl) (Nat.le_of_ble_eq_true rfl) ⟨_, rfl, g_9, (Ext.tr e_4 e_10), hw⟩

/-! BeforeTheEndModel.wins(II)J -/
def wp_X2_wins (post : Int64 → Hp → Prop) (h : Hp) (p1 : Int32) (p2 : Int32) : Prop := (wp_X2_inAll (fun r_4 h_1 => GI h_1 → Ext h h_1 → (post r_4 h_1)) h 0 p1 p2)
abbrev rm_X2_wins : Room := ({ frames := 7, cells := 0, slots := 0, locals := 198 })
abbrev K_X2_wins : Kx := ("BeforeTheEndModel", cX2_wins, 3, (Option.some Jvm.ClassFile.FieldType.long), rm_X2_wins, [], false)
set_option maxHeartbeats 4000000 in
theorem k_X2_wins {ρ : Rho} {h : Hp} {post : Int64 → Hp → Prop} {p1 : Int32} {p2 : Int32} (G : G0 ρ) (g : GI h) (hw : wp_X2_wins post h p1 p2) : Con ρ yX2_wins (ws_ yX2_wins cX2_wins 3 (Option.some Jvm.ClassFile.FieldType.long)) rm_X2_wins [.ref (mr ρ 25), .int p1, .int p2] h (phL h post) psN := by
  refine con_of (own := "BeforeTheEndModel") (isI := false) (l0 := [(0, .ref (mr ρ 25)), (1, .int p1), (2, .int p2)]) (by decide) rfl (fun z => by cases z) (Nat.le_of_ble_eq_true rfl) rfl (fun _ => ?_)
  show X ρ K_X2_wins 0 [(0, .ref (mr ρ 25)), (1, .int p1), (2, .int p2)] [] h 0 0 (phL h post) psN
  refine x_aload_n 0 dX2_wins_0 rfl ?_
  refine x_iconst 0 dX2_wins_1 (by decide) ?_
  refine x_iload_n 1 dX2_wins_2 rfl ?_
  refine x_iload_n 2 dX2_wins_3 rfl ?_
  refine x_callV (ci := 2) [.int 0, .int p1, .int p2] 3 dX2_wins_4 (k_X2_inAll G g hw) (GI.s g (t := (12, 0)) rfl (by decide)) rfl q1574 q1576 qs90 q106 q1577 (by decide) rfl rfl ⟨(Nat.le_of_ble_eq_true rfl), (Nat.le_of_ble_eq_true rfl)⟩ (Nat.le_of_ble_eq_true rfl) ⟨(Nat.le_of_ble_eq_true rfl), (Nat.le_of_ble_eq_true rfl)⟩ (fun v9 h_1 hv9 => ?_) (fun _ _ _ _ _ z _ _ => False.elim z)
  obtain ⟨r_4, rfl, g_2, e_3, hw⟩ := hv9
  have hw := hw g_2 e_3
  show X ρ K_X2_wins 7 [(0, .ref (mr ρ 25)), (1, .int p1), (2, .int p2)] [.long r_4] h_1 0 0 (phL h post) psN
  exact x_lret dX2_wins_7 rfl (Nat.le_of_ble_eq_true rfl) (Nat.le_of_ble_eq_true rfl) ⟨_, rfl, g_2, e_3, hw⟩

/-! BeforeTheEnd.worth(II)J -/
def wp_X0_worth (post : Int64 → Hp → Prop) (h : Hp) (p1 : Int32) (p2 : Int32) : Prop := (wp_X0_allTold (fun r_4 h_1 => GI h_1 → Ext h h_1 → (post r_4 h_1)) h 1 p1 p2)
abbrev rm_X0_worth : Room := ({ frames := 14, cells := 3, slots := 21, locals := 385 })
abbrev K_X0_worth : Kx := ("BeforeTheEnd", cX0_worth, 3, (Option.some Jvm.ClassFile.FieldType.long), rm_X0_worth, [], false)
set_option maxHeartbeats 4000000 in
theorem k_X0_worth {ρ : Rho} {h : Hp} {post : Int64 → Hp → Prop} {p1 : Int32} {p2 : Int32} (G : G0 ρ) (g : GI h) (hw : wp_X0_worth post h p1 p2) : Con ρ yX0_worth (ws_ yX0_worth cX0_worth 3 (Option.some Jvm.ClassFile.FieldType.long)) rm_X0_worth [.ref (mr ρ 1), .int p1, .int p2] h (phL h post) psN := by
  refine con_of (own := "BeforeTheEnd") (isI := false) (l0 := [(0, .ref (mr ρ 1)), (1, .int p1), (2, .int p2)]) (by decide) rfl (fun z => by cases z) (Nat.le_of_ble_eq_true rfl) rfl (fun _ => ?_)
  show X ρ K_X0_worth 0 [(0, .ref (mr ρ 1)), (1, .int p1), (2, .int p2)] [] h 0 0 (phL h post) psN
  refine x_aload_n 0 dX0_worth_0 rfl ?_
  refine x_iconst 1 dX0_worth_1 (by decide) ?_
  refine x_iload_n 1 dX0_worth_2 rfl ?_
  refine x_iload_n 2 dX0_worth_3 rfl ?_
  refine x_callH (ci := 0) [.int 1, .int p1, .int p2] 3 dX0_worth_4 (k_X0_allTold G g hw) (GI.s g (t := (10, 0)) rfl (by decide)) rfl q1118 q1120 qs56 q104 q1121 (by decide) rfl rfl ⟨(Nat.le_of_ble_eq_true rfl), (Nat.le_of_ble_eq_true rfl)⟩ (Nat.le_of_ble_eq_true rfl) ⟨(Nat.le_of_ble_eq_true rfl), (Nat.le_of_ble_eq_true rfl)⟩ (fun v9 h_1 hv9 => ?_) (fun _ _ _ _ _ z _ _ => False.elim z)
  obtain ⟨r_4, rfl, g_2, e_3, hw⟩ := hv9
  have hw := hw g_2 e_3
  show X ρ K_X0_worth 7 [(0, .ref (mr ρ 1)), (1, .int p1), (2, .int p2)] [.long r_4] h_1 3 21 (phL h post) psN
  exact x_lret dX0_worth_7 rfl (Nat.le_of_ble_eq_true rfl) (Nat.le_of_ble_eq_true rfl) ⟨_, rfl, g_2, e_3, hw⟩

/-! BeforeTheEndModel.worth(II)J -/
def wp_X2_worth (post : Int64 → Hp → Prop) (h : Hp) (p1 : Int32) (p2 : Int32) : Prop := (wp_X2_inAll (fun r_4 h_1 => GI h_1 → Ext h h_1 → (post r_4 h_1)) h 1 p1 p2)
abbrev rm_X2_worth : Room := ({ frames := 7, cells := 0, slots := 0, locals := 198 })
abbrev K_X2_worth : Kx := ("BeforeTheEndModel", cX2_worth, 3, (Option.some Jvm.ClassFile.FieldType.long), rm_X2_worth, [], false)
set_option maxHeartbeats 4000000 in
theorem k_X2_worth {ρ : Rho} {h : Hp} {post : Int64 → Hp → Prop} {p1 : Int32} {p2 : Int32} (G : G0 ρ) (g : GI h) (hw : wp_X2_worth post h p1 p2) : Con ρ yX2_worth (ws_ yX2_worth cX2_worth 3 (Option.some Jvm.ClassFile.FieldType.long)) rm_X2_worth [.ref (mr ρ 25), .int p1, .int p2] h (phL h post) psN := by
  refine con_of (own := "BeforeTheEndModel") (isI := false) (l0 := [(0, .ref (mr ρ 25)), (1, .int p1), (2, .int p2)]) (by decide) rfl (fun z => by cases z) (Nat.le_of_ble_eq_true rfl) rfl (fun _ => ?_)
  show X ρ K_X2_worth 0 [(0, .ref (mr ρ 25)), (1, .int p1), (2, .int p2)] [] h 0 0 (phL h post) psN
  refine x_aload_n 0 dX2_worth_0 rfl ?_
  refine x_iconst 1 dX2_worth_1 (by decide) ?_
  refine x_iload_n 1 dX2_worth_2 rfl ?_
  refine x_iload_n 2 dX2_worth_3 rfl ?_
  refine x_callV (ci := 2) [.int 1, .int p1, .int p2] 3 dX2_worth_4 (k_X2_inAll G g hw) (GI.s g (t := (12, 0)) rfl (by decide)) rfl q1574 q1576 qs90 q106 q1577 (by decide) rfl rfl ⟨(Nat.le_of_ble_eq_true rfl), (Nat.le_of_ble_eq_true rfl)⟩ (Nat.le_of_ble_eq_true rfl) ⟨(Nat.le_of_ble_eq_true rfl), (Nat.le_of_ble_eq_true rfl)⟩ (fun v9 h_1 hv9 => ?_) (fun _ _ _ _ _ z _ _ => False.elim z)
  obtain ⟨r_4, rfl, g_2, e_3, hw⟩ := hv9
  have hw := hw g_2 e_3
  show X ρ K_X2_worth 7 [(0, .ref (mr ρ 25)), (1, .int p1), (2, .int p2)] [.long r_4] h_1 0 0 (phL h post) psN
  exact x_lret dX2_worth_7 rfl (Nat.le_of_ble_eq_true rfl) (Nat.le_of_ble_eq_true rfl) ⟨_, rfl, g_2, e_3, hw⟩

/-! BeforeTheEnd.nobody(I)J -/
def wp_X0_nobody (post : Int64 → Hp → Prop) (h : Hp) (p1 : Int32) : Prop := (wp_X0_allTold (fun r_4 h_1 => GI h_1 → Ext h h_1 → (post r_4 h_1)) h 2 0 p1)
abbrev rm_X0_nobody : Room := ({ frames := 14, cells := 3, slots := 21, locals := 385 })
abbrev K_X0_nobody : Kx := ("BeforeTheEnd", cX0_nobody, 2, (Option.some Jvm.ClassFile.FieldType.long), rm_X0_nobody, [], false)
set_option maxHeartbeats 4000000 in
theorem k_X0_nobody {ρ : Rho} {h : Hp} {post : Int64 → Hp → Prop} {p1 : Int32} (G : G0 ρ) (g : GI h) (hw : wp_X0_nobody post h p1) : Con ρ yX0_nobody (ws_ yX0_nobody cX0_nobody 2 (Option.some Jvm.ClassFile.FieldType.long)) rm_X0_nobody [.ref (mr ρ 1), .int p1] h (phL h post) psN := by
  refine con_of (own := "BeforeTheEnd") (isI := false) (l0 := [(0, .ref (mr ρ 1)), (1, .int p1)]) (by decide) rfl (fun z => by cases z) (Nat.le_of_ble_eq_true rfl) rfl (fun _ => ?_)
  show X ρ K_X0_nobody 0 [(0, .ref (mr ρ 1)), (1, .int p1)] [] h 0 0 (phL h post) psN
  refine x_aload_n 0 dX0_nobody_0 rfl ?_
  refine x_iconst 2 dX0_nobody_1 (by decide) ?_
  refine x_iconst 0 dX0_nobody_2 (by decide) ?_
  refine x_iload_n 1 dX0_nobody_3 rfl ?_
  refine x_callH (ci := 0) [.int 2, .int 0, .int p1] 3 dX0_nobody_4 (k_X0_allTold G g hw) (GI.s g (t := (10, 0)) rfl (by decide)) rfl q1118 q1120 qs56 q104 q1121 (by decide) rfl rfl ⟨(Nat.le_of_ble_eq_true rfl), (Nat.le_of_ble_eq_true rfl)⟩ (Nat.le_of_ble_eq_true rfl) ⟨(Nat.le_of_ble_eq_true rfl), (Nat.le_of_ble_eq_true rfl)⟩ (fun v9 h_1 hv9 => ?_) (fun _ _ _ _ _ z _ _ => False.elim z)
  obtain ⟨r_4, rfl, g_2, e_3, hw⟩ := hv9
  have hw := hw g_2 e_3
  show X ρ K_X0_nobody 7 [(0, .ref (mr ρ 1)), (1, .int p1)] [.long r_4] h_1 3 21 (phL h post) psN
  exact x_lret dX0_nobody_7 rfl (Nat.le_of_ble_eq_true rfl) (Nat.le_of_ble_eq_true rfl) ⟨_, rfl, g_2, e_3, hw⟩

/-! BeforeTheEndModel.nobody(I)J -/
def wp_X2_nobody (post : Int64 → Hp → Prop) (h : Hp) (p1 : Int32) : Prop := (wp_X2_inAll (fun r_4 h_1 => GI h_1 → Ext h h_1 → (post r_4 h_1)) h 2 0 p1)
abbrev rm_X2_nobody : Room := ({ frames := 7, cells := 0, slots := 0, locals := 198 })
abbrev K_X2_nobody : Kx := ("BeforeTheEndModel", cX2_nobody, 2, (Option.some Jvm.ClassFile.FieldType.long), rm_X2_nobody, [], false)
set_option maxHeartbeats 4000000 in
theorem k_X2_nobody {ρ : Rho} {h : Hp} {post : Int64 → Hp → Prop} {p1 : Int32} (G : G0 ρ) (g : GI h) (hw : wp_X2_nobody post h p1) : Con ρ yX2_nobody (ws_ yX2_nobody cX2_nobody 2 (Option.some Jvm.ClassFile.FieldType.long)) rm_X2_nobody [.ref (mr ρ 25), .int p1] h (phL h post) psN := by
  refine con_of (own := "BeforeTheEndModel") (isI := false) (l0 := [(0, .ref (mr ρ 25)), (1, .int p1)]) (by decide) rfl (fun z => by cases z) (Nat.le_of_ble_eq_true rfl) rfl (fun _ => ?_)
  show X ρ K_X2_nobody 0 [(0, .ref (mr ρ 25)), (1, .int p1)] [] h 0 0 (phL h post) psN
  refine x_aload_n 0 dX2_nobody_0 rfl ?_
  refine x_iconst 2 dX2_nobody_1 (by decide) ?_
  refine x_iconst 0 dX2_nobody_2 (by decide) ?_
  refine x_iload_n 1 dX2_nobody_3 rfl ?_
  refine x_callV (ci := 2) [.int 2, .int 0, .int p1] 3 dX2_nobody_4 (k_X2_inAll G g hw) (GI.s g (t := (12, 0)) rfl (by decide)) rfl q1574 q1576 qs90 q106 q1577 (by decide) rfl rfl ⟨(Nat.le_of_ble_eq_true rfl), (Nat.le_of_ble_eq_true rfl)⟩ (Nat.le_of_ble_eq_true rfl) ⟨(Nat.le_of_ble_eq_true rfl), (Nat.le_of_ble_eq_true rfl)⟩ (fun v9 h_1 hv9 => ?_) (fun _ _ _ _ _ z _ _ => False.elim z)
  obtain ⟨r_4, rfl, g_2, e_3, hw⟩ := hv9
  have hw := hw g_2 e_3
  show X ρ K_X2_nobody 7 [(0, .ref (mr ρ 25)), (1, .int p1)] [.long r_4] h_1 0 0 (phL h post) psN
  exact x_lret dX2_nobody_7 rfl (Nat.le_of_ble_eq_true rfl) (Nat.le_of_ble_eq_true rfl) ⟨_, rfl, g_2, e_3, hw⟩

/-! BeforeTheEnd.dull(I)J -/
def wp_X0_dull (post : Int64 → Hp → Prop) (h : Hp) (p1 : Int32) : Prop := (wp_X0_allTold (fun r_4 h_1 => GI h_1 → Ext h h_1 → (post r_4 h_1)) h 3 0 p1)
abbrev rm_X0_dull : Room := ({ frames := 14, cells := 3, slots := 21, locals := 385 })
abbrev K_X0_dull : Kx := ("BeforeTheEnd", cX0_dull, 2, (Option.some Jvm.ClassFile.FieldType.long), rm_X0_dull, [], false)
set_option maxHeartbeats 4000000 in
theorem k_X0_dull {ρ : Rho} {h : Hp} {post : Int64 → Hp → Prop} {p1 : Int32} (G : G0 ρ) (g : GI h) (hw : wp_X0_dull post h p1) : Con ρ yX0_dull (ws_ yX0_dull cX0_dull 2 (Option.some Jvm.ClassFile.FieldType.long)) rm_X0_dull [.ref (mr ρ 1), .int p1] h (phL h post) psN := by
  refine con_of (own := "BeforeTheEnd") (isI := false) (l0 := [(0, .ref (mr ρ 1)), (1, .int p1)]) (by decide) rfl (fun z => by cases z) (Nat.le_of_ble_eq_true rfl) rfl (fun _ => ?_)
  show X ρ K_X0_dull 0 [(0, .ref (mr ρ 1)), (1, .int p1)] [] h 0 0 (phL h post) psN
  refine x_aload_n 0 dX0_dull_0 rfl ?_
  refine x_iconst 3 dX0_dull_1 (by decide) ?_
  refine x_iconst 0 dX0_dull_2 (by decide) ?_
  refine x_iload_n 1 dX0_dull_3 rfl ?_
  refine x_callH (ci := 0) [.int 3, .int 0, .int p1] 3 dX0_dull_4 (k_X0_allTold G g hw) (GI.s g (t := (10, 0)) rfl (by decide)) rfl q1118 q1120 qs56 q104 q1121 (by decide) rfl rfl ⟨(Nat.le_of_ble_eq_true rfl), (Nat.le_of_ble_eq_true rfl)⟩ (Nat.le_of_ble_eq_true rfl) ⟨(Nat.le_of_ble_eq_true rfl), (Nat.le_of_ble_eq_true rfl)⟩ (fun v9 h_1 hv9 => ?_) (fun _ _ _ _ _ z _ _ => False.elim z)
  obtain ⟨r_4, rfl, g_2, e_3, hw⟩ := hv9
  have hw := hw g_2 e_3
  show X ρ K_X0_dull 7 [(0, .ref (mr ρ 1)), (1, .int p1)] [.long r_4] h_1 3 21 (phL h post) psN
  exact x_lret dX0_dull_7 rfl (Nat.le_of_ble_eq_true rfl) (Nat.le_of_ble_eq_true rfl) ⟨_, rfl, g_2, e_3, hw⟩

/-! BeforeTheEndModel.dull(I)J -/
def wp_X2_dull (post : Int64 → Hp → Prop) (h : Hp) (p1 : Int32) : Prop := (wp_X2_inAll (fun r_4 h_1 => GI h_1 → Ext h h_1 → (post r_4 h_1)) h 3 0 p1)
abbrev rm_X2_dull : Room := ({ frames := 7, cells := 0, slots := 0, locals := 198 })
abbrev K_X2_dull : Kx := ("BeforeTheEndModel", cX2_dull, 2, (Option.some Jvm.ClassFile.FieldType.long), rm_X2_dull, [], false)
set_option maxHeartbeats 4000000 in
theorem k_X2_dull {ρ : Rho} {h : Hp} {post : Int64 → Hp → Prop} {p1 : Int32} (G : G0 ρ) (g : GI h) (hw : wp_X2_dull post h p1) : Con ρ yX2_dull (ws_ yX2_dull cX2_dull 2 (Option.some Jvm.ClassFile.FieldType.long)) rm_X2_dull [.ref (mr ρ 25), .int p1] h (phL h post) psN := by
  refine con_of (own := "BeforeTheEndModel") (isI := false) (l0 := [(0, .ref (mr ρ 25)), (1, .int p1)]) (by decide) rfl (fun z => by cases z) (Nat.le_of_ble_eq_true rfl) rfl (fun _ => ?_)
  show X ρ K_X2_dull 0 [(0, .ref (mr ρ 25)), (1, .int p1)] [] h 0 0 (phL h post) psN
  refine x_aload_n 0 dX2_dull_0 rfl ?_
  refine x_iconst 3 dX2_dull_1 (by decide) ?_
  refine x_iconst 0 dX2_dull_2 (by decide) ?_
  refine x_iload_n 1 dX2_dull_3 rfl ?_
  refine x_callV (ci := 2) [.int 3, .int 0, .int p1] 3 dX2_dull_4 (k_X2_inAll G g hw) (GI.s g (t := (12, 0)) rfl (by decide)) rfl q1574 q1576 qs90 q106 q1577 (by decide) rfl rfl ⟨(Nat.le_of_ble_eq_true rfl), (Nat.le_of_ble_eq_true rfl)⟩ (Nat.le_of_ble_eq_true rfl) ⟨(Nat.le_of_ble_eq_true rfl), (Nat.le_of_ble_eq_true rfl)⟩ (fun v9 h_1 hv9 => ?_) (fun _ _ _ _ _ z _ _ => False.elim z)
  obtain ⟨r_4, rfl, g_2, e_3, hw⟩ := hv9
  have hw := hw g_2 e_3
  show X ρ K_X2_dull 7 [(0, .ref (mr ρ 25)), (1, .int p1)] [.long r_4] h_1 0 0 (phL h post) psN
  exact x_lret dX2_dull_7 rfl (Nat.le_of_ble_eq_true rfl) (Nat.le_of_ble_eq_true rfl) ⟨_, rfl, g_2, e_3, hw⟩

/-! BeforeTheEnd.valueTold(III)J -/
def w_X0_valueTold_59 (post : Int64 → Hp → Prop) (z0 : Int32) (z2 : Int64) (h : Hp) : Prop := (wp_X0_refuse (fun r_4 h_1 => GI h_1 → Ext h h_1 → (post (z2 - (Int32.toInt64 r_4)) h_1)) h z0)
def w_X0_valueTold_48 (post : Int64 → Hp → Prop) (z0 : Nat) (h : Hp) : Prop := (wv_X3_number_isEx (fun r_4 h_1 => GI h_1 → Ext h h_1 → (w_X0_valueTold_59 post r_4 4000000000000000000 h_1)) h z0)
def wp_X0_valueTold (post : Int64 → Hp → Prop) (h : Hp) (p1 : Int32) (p2 : Int32) (p3 : Int32) : Prop := (wp_X0_mustBePlayer (fun h_1 => GI h_1 → Ext h h_1 → (wp_X0_mustBeWord (fun h_9 => GI h_9 → Ext h_1 h_9 → (wp_X0_mustBePart (fun h_17 => GI h_17 → Ext h_9 h_17 → (wp_X0_mustBeWhole (fun h_25 => GI h_25 → Ext h_17 h_25 → (vp_in p1 4 ∧ (isPl h_25 (gr h_25 10 (Int32.toNatClampNeg p1)) ∧ (wp_X0_findValues (fun r_38 h_35 => GI h_35 → Ext h_25 h_35 → (vp_in p2 24 ∧ (wp_X1_units (fun r_44 h_41 => GI h_41 → Ext h_35 h_41 → (wp_X0_partTold (fun r_49 h_46 => GI h_46 → Ext h_41 h_46 → (post r_49 h_46)) h_41 (gl h_35 22 (Int32.toNatClampNeg p2)) r_44 p3)) h_35 (gr h_35 1 1) p2))) h_25 (gr h_25 10 (Int32.toNatClampNeg p1)))))) (fun q_30 h_25x => GI h_25x → Ext h_17 h_25x → (isEx h_25x q_30 ∧ (w_X0_valueTold_48 post q_30 h_25x))) h_17)) (fun q_22 h_17x => GI h_17x → Ext h_9 h_17x → (isEx h_17x q_22 ∧ (w_X0_valueTold_48 post q_22 h_17x))) h_9 p3)) (fun q_14 h_9x => GI h_9x → Ext h_1 h_9x → (isEx h_9x q_14 ∧ (w_X0_valueTold_48 post q_14 h_9x))) h_1 p2)) (fun q_6 h_1x => GI h_1x → Ext h h_1x → (isEx h_1x q_6 ∧ (w_X0_valueTold_48 post q_6 h_1x))) h p1)
abbrev rm_X0_valueTold : Room := ({ frames := 12, cells := 4, slots := 28, locals := 284 })
abbrev K_X0_valueTold : Kx := ("BeforeTheEnd", cX0_valueTold, 5, (Option.some Jvm.ClassFile.FieldType.long), rm_X0_valueTold, [(0, 47, 48, 343)], false)
set_option maxHeartbeats 4000000 in
theorem t_X0_valueTold_59 {ρ : Rho} {h0 : Hp} {post : Int64 → Hp → Prop} (G : G0 ρ) :
    ∀ (z0 : Int32) (z2 : Int64) (h : Hp), GI h → Ext h0 h → w_X0_valueTold_59 post z0 z2 h → X ρ K_X0_valueTold 59 [] [.int z0, .ref (mr ρ 1), .long z2] h 4 28 (phL h0 post) psN := by
  intro z0 z2 h g e hw
  refine x_callV (ci := 0) [.int z0] 1 dX0_valueTold_59 (k_X0_refuse G g hw) (GI.s g (t := (10, 0)) rfl (by decide)) rfl q375 q377 qs2 q104 q378 (by decide) rfl rfl ⟨(Nat.le_of_ble_eq_true rfl), (Nat.le_of_ble_eq_true rfl)⟩ (Nat.le_of_ble_eq_true rfl) ⟨(Nat.le_of_ble_eq_true rfl), (Nat.le_of_ble_eq_true rfl)⟩ (fun v9 h_1 hv9 => ?_) (fun _ _ _ _ _ z _ _ => False.elim z)
  obtain ⟨r_4, rfl, g_2, e_3, hw⟩ := hv9
  have hw := hw g_2 e_3
  show X ρ K_X0_valueTold 62 [] [.int r_4, .long z2] h_1 4 28 (phL h0 post) psN
  refine x_i2l dX0_valueTold_62 ?_
  refine x_lsub dX0_valueTold_63 ?_
  exact x_lret dX0_valueTold_64 rfl (Nat.le_of_ble_eq_true rfl) (Nat.le_of_ble_eq_true rfl) ⟨_, rfl, g_2, (Ext.tr e e_3), hw⟩
set_option maxHeartbeats 4000000 in
theorem t_X0_valueTold_48 {ρ : Rho} {h0 : Hp} {post : Int64 → Hp → Prop} (G : G0 ρ) :
    ∀ (z0 : Nat) (h : Hp), GI h → Ext h0 h → isEx h z0 → w_X0_valueTold_48 post z0 h → X ρ K_X0_valueTold 48 [(0, .ref (mr ρ 1))] [.ref (mr ρ z0)] h 4 28 (phL h0 post) psN := by
  intro z0 h g e fz0 hw
  refine x_astore (lv' := [(4, .ref (mr ρ z0)), (0, .ref (mr ρ 1))]) dX0_valueTold_48 (Nat.le_of_ble_eq_true rfl) rfl ?_
  refine x_ldc2 dX0_valueTold_50 q1093 ?_
  refine x_aload_n 1 dX0_valueTold_53 rfl ?_
  refine x_aload 0 dX0_valueTold_54 rfl ?_
  have kk_8 : ∀ (v9 : Option Value) (h_1 : Hp), (phI h (fun r_4 h_1 => GI h_1 → Ext h h_1 → (w_X0_valueTold_59 post r_4 4000000000000000000 h_1))) v9 h_1 → X ρ K_X0_valueTold 59 [(4, .ref (mr ρ z0)), (0, .ref (mr ρ 1))] (v9.toList ++ [.ref (mr ρ 1), .long 4000000000000000000]) h_1 4 28 (phL h0 post) psN := by
    intro v9 h_1 hv9
    obtain ⟨r_4, rfl, g_2, e_3, hw⟩ := hv9
    have hw := hw g_2 e_3
    show X ρ K_X0_valueTold 59 [(4, .ref (mr ρ z0)), (0, .ref (mr ρ 1))] [.int r_4, .ref (mr ρ 1), .long 4000000000000000000] h_1 4 28 (phL h0 post) psN
    refine X.sub [] rfl ?_
    exact t_X0_valueTold_59 G  r_4 4000000000000000000 h_1 g_2 (Ext.tr e e_3) hw
  obtain ⟨wc_6, wc_7⟩ := hw
  rcases fz0 with fc9 | fc9
  · exact x_callA (ci := 3) (x0 := ⟨"BeforeTheEnd$Refusal", "number", "()I"⟩) (owner := "BeforeTheEnd$Refusal") [] 0 dX0_valueTold_56 (k_X4_number_c3 G g fc9 (wc_6 fc9)) fc9 rfl (lw_U q366 q368 q372 q373 q111 q374) q367 (by decide) rfl rfl ⟨(Nat.le_of_ble_eq_true rfl), (Nat.le_of_ble_eq_true rfl)⟩ (Nat.le_of_ble_eq_true rfl) ⟨(Nat.le_of_ble_eq_true rfl), (Nat.le_of_ble_eq_true rfl)⟩ kk_8 (fun _ _ _ _ _ z _ _ => False.elim z)
  · exact x_callA (ci := 5) (x0 := ⟨"BeforeTheEnd$Refusal", "number", "()I"⟩) (owner := "BeforeTheEnd$Refusal") [] 0 dX0_valueTold_56 (k_X6_number_c5 G g fc9 (wc_7 fc9)) fc9 rfl (lw_U q366 q368 q369 q370 q113 q371) q367 (by decide) rfl rfl ⟨(Nat.le_of_ble_eq_true rfl), (Nat.le_of_ble_eq_true rfl)⟩ (Nat.le_of_ble_eq_true rfl) ⟨(Nat.le_of_ble_eq_true rfl), (Nat.le_of_ble_eq_true rfl)⟩ kk_8 (fun _ _ _ _ _ z _ _ => False.elim z)
set_option maxHeartbeats 4000000 in
theorem k_X0_valueTold {ρ : Rho} {h : Hp} {post : Int64 → Hp → Prop} {p1 : Int32} {p2 : Int32} {p3 : Int32} (G : G0 ρ) (g : GI h) (hw : wp_X0_valueTold post h p1 p2 p3) : Con ρ yX0_valueTold (wsW_ yX0_valueTold cX0_valueTold 5 (Option.some Jvm.ClassFile.FieldType.long) [(0, 47, 48, 343)]) rm_X0_valueTold [.ref (mr ρ 1), .int p1, .int p2, .int p3] h (phL h post) psN := by
  refine con_ofH (own := "BeforeTheEnd") (l0 := [(0, .ref (mr ρ 1)), (1, .int p1), (2, .int p2), (3, .int p3)]) (by decide) rfl q1141 (Nat.le_of_ble_eq_true rfl) rfl (fun _ => ?_)
  show X ρ K_X0_valueTold 0 [(0, .ref (mr ρ 1)), (1, .int p1), (2, .int p2), (3, .int p3)] [] h 0 0 (phL h post) psN
  refine x_aload_n 0 dX0_valueTold_0 rfl ?_
  refine x_iload_n 1 dX0_valueTold_1 rfl ?_
  refine x_callV (ci := 0) [.int p1] 1 dX0_valueTold_2 (k_X0_mustBePlayer G g hw) (GI.s g (t := (10, 0)) rfl (by decide)) rfl q751 q753 qs17 q104 q754 (by decide) rfl rfl ⟨(Nat.le_of_ble_eq_true rfl), (Nat.le_of_ble_eq_true rfl)⟩ (Nat.le_of_ble_eq_true rfl) ⟨(Nat.le_of_ble_eq_true rfl), (Nat.le_of_ble_eq_true rfl)⟩ (fun v9 h_1 hv9 => ?_) (fun q_6 h_1x ci9 n9 x9 hx9 hs9 hc9 => ?_)
  · obtain ⟨rfl, g_2, e_3, hw⟩ := hv9
    have hw := hw g_2 e_3
    show X ρ K_X0_valueTold 5 [(0, .ref (mr ρ 1)), (1, .int p1), (2, .int p2), (3, .int p3)] [] h_1 1 7 (phL h post) psN
    refine x_aload_n 0 dX0_valueTold_5 rfl ?_
    refine x_iload_n 2 dX0_valueTold_6 rfl ?_
    refine x_callV (ci := 0) [.int p2] 1 dX0_valueTold_7 (k_X0_mustBeWord G g_2 hw) (GI.s g_2 (t := (10, 0)) rfl (by decide)) rfl q738 q740 qs15 q104 q741 (by decide) rfl rfl ⟨(Nat.le_of_ble_eq_true rfl), (Nat.le_of_ble_eq_true rfl)⟩ (Nat.le_of_ble_eq_true rfl) ⟨(Nat.le_of_ble_eq_true rfl), (Nat.le_of_ble_eq_true rfl)⟩ (fun v9 h_9 hv9 => ?_) (fun q_14 h_9x ci9 n9 x9 hx9 hs9 hc9 => ?_)
    · obtain ⟨rfl, g_10, e_11, hw⟩ := hv9
      have hw := hw g_10 e_11
      show X ρ K_X0_valueTold 10 [(0, .ref (mr ρ 1)), (1, .int p1), (2, .int p2), (3, .int p3)] [] h_9 2 14 (phL h post) psN
      refine x_iload_n 3 dX0_valueTold_10 rfl ?_
      refine x_callS [.int p3] 1 dX0_valueTold_11 (k_X0_mustBePart G g_10 hw) q1083 q1084 q104 q1085 (by decide) rfl rfl ⟨(Nat.le_of_ble_eq_true rfl), (Nat.le_of_ble_eq_true rfl)⟩ (Nat.le_of_ble_eq_true rfl) ⟨(Nat.le_of_ble_eq_true rfl), (Nat.le_of_ble_eq_true rfl)⟩ (fun v9 h_17 hv9 => ?_) (fun q_22 h_17x ci9 n9 x9 hx9 hs9 hc9 => ?_)
      · obtain ⟨rfl, g_18, e_19, hw⟩ := hv9
        have hw := hw g_18 e_19
        show X ρ K_X0_valueTold 14 [(0, .ref (mr ρ 1)), (1, .int p1), (2, .int p2), (3, .int p3)] [] h_17 3 21 (phL h post) psN
        refine x_aload_n 0 dX0_valueTold_14 rfl ?_
        refine x_callV (ci := 0) [] 0 dX0_valueTold_15 (k_X0_mustBeWhole G g_18 hw) (GI.s g_18 (t := (10, 0)) rfl (by decide)) rfl q801 q803 qs18 q104 q804 (by decide) rfl rfl ⟨(Nat.le_of_ble_eq_true rfl), (Nat.le_of_ble_eq_true rfl)⟩ (Nat.le_of_ble_eq_true rfl) ⟨(Nat.le_of_ble_eq_true rfl), (Nat.le_of_ble_eq_true rfl)⟩ (fun v9 h_25 hv9 => ?_) (fun q_30 h_25x ci9 n9 x9 hx9 hs9 hc9 => ?_)
        · obtain ⟨rfl, g_26, e_27, hw⟩ := hv9
          have hw := hw g_26 e_27
          show X ρ K_X0_valueTold 18 [(0, .ref (mr ρ 1)), (1, .int p1), (2, .int p2), (3, .int p3)] [] h_25 4 28 (phL h post) psN
          refine x_aload_n 0 dX0_valueTold_18 rfl ?_
          refine x_aload_n 0 dX0_valueTold_19 rfl ?_
          refine x_get (ci := 0) (v := .ref (mr ρ 10)) 2 dX0_valueTold_20 (GI.s g_26 (t := (10, 0)) rfl (by decide)) rfl in_X0 (by decide) q189 (Or.inl rfl) (fv_rc rfl (GI.x g_26 (n := 10) rfl (by decide)) (by decide)) ?_
          refine x_iload_n 1 dX0_valueTold_23 rfl ?_
          obtain ⟨b_33, hw⟩ := hw
          obtain ⟨b_34, hw⟩ := hw
          refine x_aald5 (n := 4) (j := (Int32.toNatClampNeg p1)) dX0_valueTold_24 rfl (GI.s g_26 (t := (5, 4)) rfl (by decide)) b_33 ?_
          refine x_nn (isPl.nz b_34 (GI.live g_26)) ?_
          refine x_callV (ci := 0) [.ref (mr ρ (gr h_25 10 (Int32.toNatClampNeg p1)))] 1 dX0_valueTold_25 (k_X0_findValues G g_26 b_34 hw) (GI.s g_26 (t := (10, 0)) rfl (by decide)) rfl q933 q864 qs26 q104 q865 (by decide) rfl rfl ⟨(Nat.le_of_ble_eq_true rfl), (Nat.le_of_ble_eq_true rfl)⟩ (Nat.le_of_ble_eq_true rfl) ⟨(Nat.le_of_ble_eq_true rfl), (Nat.le_of_ble_eq_true rfl)⟩ (fun v9 h_35 hv9 => ?_) (fun _ _ _ _ _ z _ _ => False.elim z)
          obtain ⟨r_38, rfl, g_36, e_37, hw⟩ := hv9
          have hw := hw g_36 e_37
          show X ρ K_X0_valueTold 28 [(0, .ref (mr ρ 1)), (1, .int p1), (2, .int p2), (3, .int p3)] [.int r_38] h_35 4 28 (phL h post) psN
          refine x_pop dX0_valueTold_28 rfl ?_
          refine x_aload_n 0 dX0_valueTold_29 rfl ?_
          refine x_get (ci := 0) (v := .ref (mr ρ 22)) 26 dX0_valueTold_30 (GI.s g_36 (t := (10, 0)) rfl (by decide)) rfl in_X0 (by decide) q215 (Or.inl rfl) (fv_rc rfl (GI.x g_36 (n := 22) rfl (by decide)) (by decide)) ?_
          refine x_iload_n 2 dX0_valueTold_33 rfl ?_
          obtain ⟨b_40, hw⟩ := hw
          refine x_lald (n := 24) (j := (Int32.toNatClampNeg p2)) dX0_valueTold_34 rfl (GI.s g_36 (t := (2, 24)) rfl (by decide)) b_40 ?_
          refine x_aload_n 0 dX0_valueTold_35 rfl ?_
          refine x_get (ci := 0) (v := .ref (mr ρ (gr h_35 1 1))) 1 dX0_valueTold_36 (GI.s g_36 (t := (10, 0)) rfl (by decide)) rfl in_X0 (by decide) q188 (Or.inl rfl) (fv_rc rfl rfl (isTree.nz (GI.t g_36) (GI.live g_36))) ?_
          refine x_iload_n 2 dX0_valueTold_39 rfl ?_
          refine x_callV (ci := 1) [.int p2] 1 dX0_valueTold_40 (k_X1_units G g_36 (GI.t g_36) hw) (isTree.s (GI.t g_36)) rfl q872 q873 q874 q105 q875 (by decide) rfl rfl ⟨(Nat.le_of_ble_eq_true rfl), (Nat.le_of_ble_eq_true rfl)⟩ (Nat.le_of_ble_eq_true rfl) ⟨(Nat.le_of_ble_eq_true rfl), (Nat.le_of_ble_eq_true rfl)⟩ (fun v9 h_41 hv9 => ?_) (fun _ _ _ _ _ z _ _ => False.elim z)
          obtain ⟨r_44, rfl, g_42, e_43, hw⟩ := hv9
          have hw := hw g_42 e_43
          show X ρ K_X0_valueTold 43 [(0, .ref (mr ρ 1)), (1, .int p1), (2, .int p2), (3, .int p3)] [.long r_44, .long (gl h_35 22 (Int32.toNatClampNeg p2))] h_41 4 28 (phL h post) psN
          refine x_iload_n 3 dX0_valueTold_43 rfl ?_
          refine x_callS [.long (gl h_35 22 (Int32.toNatClampNeg p2)), .long r_44, .int p3] 3 dX0_valueTold_44 (k_X0_partTold G g_42 hw) q1086 q1087 q104 q1088 (by decide) rfl rfl ⟨(Nat.le_of_ble_eq_true rfl), (Nat.le_of_ble_eq_true rfl)⟩ (Nat.le_of_ble_eq_true rfl) ⟨(Nat.le_of_ble_eq_true rfl), (Nat.le_of_ble_eq_true rfl)⟩ (fun v9 h_46 hv9 => ?_) (fun _ _ _ _ _ z _ _ => False.elim z)
          obtain ⟨r_49, rfl, g_47, e_48, hw⟩ := hv9
          have hw := hw g_47 e_48
          show X ρ K_X0_valueTold 47 [(0, .ref (mr ρ 1)), (1, .int p1), (2, .int p2), (3, .int p3)] [.long r_49] h_46 4 28 (phL h post) psN
          exact x_lret dX0_valueTold_47 rfl (Nat.le_of_ble_eq_true rfl) (Nat.le_of_ble_eq_true rfl) ⟨_, rfl, g_47, (Ext.tr (Ext.tr (Ext.tr (Ext.tr (Ext.tr (Ext.tr e_3 e_11) e_19) e_27) e_37) e_43) e_48), hw⟩
        · obtain ⟨g_31, e_32, hw⟩ := hx9
          have hw := hw g_31 e_32
          obtain ⟨hE8, hw⟩ := hw
          have kH9 : X ρ K_X0_valueTold 48 [(0, .ref (mr ρ 1)), (1, .int p1), (2, .int p2), (3, .int p3)] [.ref (mr ρ q_30)] h_25x 4 28 (phL h post) psN := by
            have hE9 := hE8
            refine X.sub [0] rfl ?_
            exact t_X0_valueTold_48 G  q_30 h_25x g_31 (Ext.tr (Ext.tr (Ext.tr e_3 e_11) e_19) e_32) hE9 hw
          rcases hE8 with hE9 | hE9
          · refine xt_catch 0 47 48 343 hE9 (ci := 3) (x := (RX4, T3n, 2)) rfl rfl (by decide) (by decide) q289 q1726 ?_
            exact kH9
          · refine xt_catch 0 47 48 343 hE9 (ci := 5) (x := (RX6, T5n, 2)) rfl rfl (by decide) (by decide) q289 q1725 ?_
            exact kH9
      · obtain ⟨g_23, e_24, hw⟩ := hx9
        have hw := hw g_23 e_24
        obtain ⟨hE8, hw⟩ := hw
        have kH9 : X ρ K_X0_valueTold 48 [(0, .ref (mr ρ 1)), (1, .int p1), (2, .int p2), (3, .int p3)] [.ref (mr ρ q_22)] h_17x 3 21 (phL h post) psN := by
          have hE9 := hE8
          refine X.widen (k := 4) (n := 28) (Nat.le_of_ble_eq_true rfl) (Nat.le_of_ble_eq_true rfl) ?_
          refine X.sub [0] rfl ?_
          exact t_X0_valueTold_48 G  q_22 h_17x g_23 (Ext.tr (Ext.tr e_3 e_11) e_24) hE9 hw
        rcases hE8 with hE9 | hE9
        · refine xt_catch 0 47 48 343 hE9 (ci := 3) (x := (RX4, T3n, 2)) rfl rfl (by decide) (by decide) q289 q1726 ?_
          exact kH9
        · refine xt_catch 0 47 48 343 hE9 (ci := 5) (x := (RX6, T5n, 2)) rfl rfl (by decide) (by decide) q289 q1725 ?_
          exact kH9
    · obtain ⟨g_15, e_16, hw⟩ := hx9
      have hw := hw g_15 e_16
      obtain ⟨hE8, hw⟩ := hw
      have kH9 : X ρ K_X0_valueTold 48 [(0, .ref (mr ρ 1)), (1, .int p1), (2, .int p2), (3, .int p3)] [.ref (mr ρ q_14)] h_9x 2 14 (phL h post) psN := by
        have hE9 := hE8
        refine X.widen (k := 4) (n := 28) (Nat.le_of_ble_eq_true rfl) (Nat.le_of_ble_eq_true rfl) ?_
        refine X.sub [0] rfl ?_
        exact t_X0_valueTold_48 G  q_14 h_9x g_15 (Ext.tr e_3 e_16) hE9 hw
      rcases hE8 with hE9 | hE9
      · refine xt_catch 0 47 48 343 hE9 (ci := 3) (x := (RX4, T3n, 2)) rfl rfl (by decide) (by decide) q289 q1726 ?_
        exact kH9
      · refine xt_catch 0 47 48 343 hE9 (ci := 5) (x := (RX6, T5n, 2)) rfl rfl (by decide) (by decide) q289 q1725 ?_
        exact kH9
  · obtain ⟨g_7, e_8, hw⟩ := hx9
    have hw := hw g_7 e_8
    obtain ⟨hE8, hw⟩ := hw
    have kH9 : X ρ K_X0_valueTold 48 [(0, .ref (mr ρ 1)), (1, .int p1), (2, .int p2), (3, .int p3)] [.ref (mr ρ q_6)] h_1x 1 7 (phL h post) psN := by
      have hE9 := hE8
      refine X.widen (k := 4) (n := 28) (Nat.le_of_ble_eq_true rfl) (Nat.le_of_ble_eq_true rfl) ?_
      refine X.sub [0] rfl ?_
      exact t_X0_valueTold_48 G  q_6 h_1x g_7 e_8 hE9 hw
    rcases hE8 with hE9 | hE9
    · refine xt_catch 0 47 48 343 hE9 (ci := 3) (x := (RX4, T3n, 2)) rfl rfl (by decide) (by decide) q289 q1726 ?_
      exact kH9
    · refine xt_catch 0 47 48 343 hE9 (ci := 5) (x := (RX6, T5n, 2)) rfl rfl (by decide) (by decide) q289 q1725 ?_
      exact kH9

/-! BeforeTheEnd.value(III)J -/
def wp_X0_value (post : Int64 → Hp → Prop) (h : Hp) (p1 : Int32) (p2 : Int32) (p3 : Int32) : Prop := (wp_X0_valueTold (fun r_4 h_1 => GI h_1 → Ext h h_1 → (post r_4 h_1)) h p1 p2 p3)
abbrev rm_X0_value : Room := ({ frames := 13, cells := 4, slots := 28, locals := 308 })
abbrev K_X0_value : Kx := ("BeforeTheEnd", cX0_value, 4, (Option.some Jvm.ClassFile.FieldType.long), rm_X0_value, [], false)
set_option maxHeartbeats 4000000 in
theorem k_X0_value {ρ : Rho} {h : Hp} {post : Int64 → Hp → Prop} {p1 : Int32} {p2 : Int32} {p3 : Int32} (G : G0 ρ) (g : GI h) (hw : wp_X0_value post h p1 p2 p3) : Con ρ yX0_value (ws_ yX0_value cX0_value 4 (Option.some Jvm.ClassFile.FieldType.long)) rm_X0_value [.ref (mr ρ 1), .int p1, .int p2, .int p3] h (phL h post) psN := by
  refine con_of (own := "BeforeTheEnd") (isI := false) (l0 := [(0, .ref (mr ρ 1)), (1, .int p1), (2, .int p2), (3, .int p3)]) (by decide) rfl (fun z => by cases z) (Nat.le_of_ble_eq_true rfl) rfl (fun _ => ?_)
  show X ρ K_X0_value 0 [(0, .ref (mr ρ 1)), (1, .int p1), (2, .int p2), (3, .int p3)] [] h 0 0 (phL h post) psN
  refine x_aload_n 0 dX0_value_0 rfl ?_
  refine x_iload_n 1 dX0_value_1 rfl ?_
  refine x_iload_n 2 dX0_value_2 rfl ?_
  refine x_iload_n 3 dX0_value_3 rfl ?_
  refine x_callH (ci := 0) [.int p1, .int p2, .int p3] 3 dX0_value_4 (k_X0_valueTold G g hw) (GI.s g (t := (10, 0)) rfl (by decide)) rfl q1138 q1140 qs57 q104 q1141 (by decide) rfl rfl ⟨(Nat.le_of_ble_eq_true rfl), (Nat.le_of_ble_eq_true rfl)⟩ (Nat.le_of_ble_eq_true rfl) ⟨(Nat.le_of_ble_eq_true rfl), (Nat.le_of_ble_eq_true rfl)⟩ (fun v9 h_1 hv9 => ?_) (fun _ _ _ _ _ z _ _ => False.elim z)
  obtain ⟨r_4, rfl, g_2, e_3, hw⟩ := hv9
  have hw := hw g_2 e_3
  show X ρ K_X0_value 7 [(0, .ref (mr ρ 1)), (1, .int p1), (2, .int p2), (3, .int p3)] [.long r_4] h_1 4 28 (phL h post) psN
  exact x_lret dX0_value_7 rfl (Nat.le_of_ble_eq_true rfl) (Nat.le_of_ble_eq_true rfl) ⟨_, rfl, g_2, e_3, hw⟩

/-! BeforeTheEndModel.value(III)J -/
def wp_X2_value (post : Int64 → Hp → Prop) (h : Hp) (p1 : Int32) (p2 : Int32) (p3 : Int32) : Prop := (wp_X2_isPlayer (fun r_4 h_1 => GI h_1 → Ext h h_1 → ((r_4 = 0 → (wp_X2_noLong (fun r_10 h_7 => GI h_7 → Ext h_1 h_7 → (post r_10 h_7)) h_1 (-1))) ∧ (¬ r_4 = 0 → (wp_X2_isWord (fun r_15 h_12 => GI h_12 → Ext h_1 h_12 → ((¬ r_15 = 0 → (wp_X2_isIn (fun r_21 h_18 => GI h_18 → Ext h_12 h_18 → ((¬ r_21 = 0 → (wp_X2_isWhole (fun r_27 h_24 => GI h_24 → Ext h_18 h_24 → ((¬ r_27 = 0 → (wp_X2_finds (fun h_30 => GI h_30 → Ext h_24 h_30 → (wp_X2_findAlone (fun h_35 => GI h_35 → Ext h_30 h_35 → (vp_in p2 24 ∧ (vp_in p2 24 ∧ (wp_X2_inLeast (fun r_45 h_42 => GI h_42 → Ext h_35 h_42 → (post r_45 h_42)) h_35 (gl h_35 50 (Int32.toNatClampNeg p2)) (gl h_35 45 (Int32.toNatClampNeg p2)) p3)))) h_30 p1)) h_24)) ∧ (r_27 = 0 → (wp_X2_noLong (fun r_50 h_47 => GI h_47 → Ext h_24 h_47 → (post r_50 h_47)) h_24 (-3))))) h_18)) ∧ (r_21 = 0 → (wp_X2_noLong (fun r_57 h_54 => GI h_54 → Ext h_18 h_54 → (post r_57 h_54)) h_18 (-2))))) h_12 p3 0 1)) ∧ (r_15 = 0 → (wp_X2_noLong (fun r_64 h_61 => GI h_61 → Ext h_12 h_61 → (post r_64 h_61)) h_12 (-1))))) h_1 p2)))) h p1)
abbrev rm_X2_value : Room := ({ frames := 6, cells := 0, slots := 0, locals := 175 })
abbrev K_X2_value : Kx := ("BeforeTheEndModel", cX2_value, 4, (Option.some Jvm.ClassFile.FieldType.long), rm_X2_value, [], false)
set_option maxHeartbeats 4000000 in
theorem k_X2_value {ρ : Rho} {h : Hp} {post : Int64 → Hp → Prop} {p1 : Int32} {p2 : Int32} {p3 : Int32} (G : G0 ρ) (g : GI h) (hw : wp_X2_value post h p1 p2 p3) : Con ρ yX2_value (ws_ yX2_value cX2_value 4 (Option.some Jvm.ClassFile.FieldType.long)) rm_X2_value [.ref (mr ρ 25), .int p1, .int p2, .int p3] h (phL h post) psN := by
  refine con_of (own := "BeforeTheEndModel") (isI := false) (l0 := [(0, .ref (mr ρ 25)), (1, .int p1), (2, .int p2), (3, .int p3)]) (by decide) rfl (fun z => by cases z) (Nat.le_of_ble_eq_true rfl) rfl (fun _ => ?_)
  show X ρ K_X2_value 0 [(0, .ref (mr ρ 25)), (1, .int p1), (2, .int p2), (3, .int p3)] [] h 0 0 (phL h post) psN
  refine x_aload_n 0 dX2_value_0 rfl ?_
  refine x_iload_n 1 dX2_value_1 rfl ?_
  refine x_callV (ci := 2) [.int p1] 1 dX2_value_2 (k_X2_isPlayer G g hw) (GI.s g (t := (12, 0)) rfl (by decide)) rfl q1454 q1456 qs71 q106 q1457 (by decide) rfl rfl ⟨(Nat.le_of_ble_eq_true rfl), (Nat.le_of_ble_eq_true rfl)⟩ (Nat.le_of_ble_eq_true rfl) ⟨(Nat.le_of_ble_eq_true rfl), (Nat.le_of_ble_eq_true rfl)⟩ (fun v9 h_1 hv9 => ?_) (fun _ _ _ _ _ z _ _ => False.elim z)
  obtain ⟨r_4, rfl, g_2, e_3, b_5, hw⟩ := hv9
  have hw := hw g_2 e_3
  show X ρ K_X2_value 5 [(0, .ref (mr ρ 25)), (1, .int p1), (2, .int p2), (3, .int p3)] [.int r_4] h_1 0 0 (phL h post) psN
  obtain ⟨wt_68, wf_69⟩ := hw
  refine x_if_eq 16 dX2_value_5 (by decide) (fun c_6 => ?_) (fun c_6 => ?_)
  · have hw := wt_68 c_6
    refine x_aload_n 0 dX2_value_16 rfl ?_
    refine x_iconst (-1) dX2_value_17 (by decide) ?_
    refine x_callV (ci := 2) [.int (-1)] 1 dX2_value_18 (k_X2_noLong G g_2 hw) (GI.s g_2 (t := (12, 0)) rfl (by decide)) rfl q1478 q1480 qs74 q106 q1481 (by decide) rfl rfl ⟨(Nat.le_of_ble_eq_true rfl), (Nat.le_of_ble_eq_true rfl)⟩ (Nat.le_of_ble_eq_true rfl) ⟨(Nat.le_of_ble_eq_true rfl), (Nat.le_of_ble_eq_true rfl)⟩ (fun v9 h_7 hv9 => ?_) (fun _ _ _ _ _ z _ _ => False.elim z)
    obtain ⟨r_10, rfl, g_8, e_9, hw⟩ := hv9
    have hw := hw g_8 e_9
    show X ρ K_X2_value 21 [(0, .ref (mr ρ 25)), (1, .int p1), (2, .int p2), (3, .int p3)] [.long r_10] h_7 0 0 (phL h post) psN
    exact x_lret dX2_value_21 rfl (Nat.le_of_ble_eq_true rfl) (Nat.le_of_ble_eq_true rfl) ⟨_, rfl, g_8, (Ext.tr e_3 e_9), hw⟩
  · have hw := wf_69 c_6
    refine x_aload_n 0 dX2_value_8 rfl ?_
    refine x_iload_n 2 dX2_value_9 rfl ?_
    refine x_callV (ci := 2) [.int p2] 1 dX2_value_10 (k_X2_isWord G g_2 hw) (GI.s g_2 (t := (12, 0)) rfl (by decide)) rfl q1434 q1436 qs68 q106 q1437 (by decide) rfl rfl ⟨(Nat.le_of_ble_eq_true rfl), (Nat.le_of_ble_eq_true rfl)⟩ (Nat.le_of_ble_eq_true rfl) ⟨(Nat.le_of_ble_eq_true rfl), (Nat.le_of_ble_eq_true rfl)⟩ (fun v9 h_12 hv9 => ?_) (fun _ _ _ _ _ z _ _ => False.elim z)
    obtain ⟨r_15, rfl, g_13, e_14, b_16, hw⟩ := hv9
    have hw := hw g_13 e_14
    show X ρ K_X2_value 13 [(0, .ref (mr ρ 25)), (1, .int p1), (2, .int p2), (3, .int p3)] [.int r_15] h_12 0 0 (phL h post) psN
    obtain ⟨wt_66, wf_67⟩ := hw
    refine x_if_ne 22 dX2_value_13 (by decide) (fun c_17 => ?_) (fun c_17 => ?_)
    · have hw := wt_66 c_17
      refine x_iload_n 3 dX2_value_22 rfl ?_
      refine x_iconst 0 dX2_value_23 (by decide) ?_
      refine x_iconst 1 dX2_value_24 (by decide) ?_
      refine x_callS [.int p3, .int 0, .int 1] 3 dX2_value_25 (k_X2_isIn G g_13 hw) q1412 q1413 q106 q1414 (by decide) rfl rfl ⟨(Nat.le_of_ble_eq_true rfl), (Nat.le_of_ble_eq_true rfl)⟩ (Nat.le_of_ble_eq_true rfl) ⟨(Nat.le_of_ble_eq_true rfl), (Nat.le_of_ble_eq_true rfl)⟩ (fun v9 h_18 hv9 => ?_) (fun _ _ _ _ _ z _ _ => False.elim z)
      obtain ⟨r_21, rfl, g_19, e_20, b_22, hw⟩ := hv9
      have hw := hw g_19 e_20
      show X ρ K_X2_value 28 [(0, .ref (mr ρ 25)), (1, .int p1), (2, .int p2), (3, .int p3)] [.int r_21] h_18 0 0 (phL h post) psN
      obtain ⟨wt_59, wf_60⟩ := hw
      refine x_if_ne 38 dX2_value_28 (by decide) (fun c_23 => ?_) (fun c_23 => ?_)
      · have hw := wt_59 c_23
        refine x_aload_n 0 dX2_value_38 rfl ?_
        refine x_callV (ci := 2) [] 0 dX2_value_39 (k_X2_isWhole G g_19 hw) (GI.s g_19 (t := (12, 0)) rfl (by decide)) rfl q1462 q1464 qs72 q106 q1465 (by decide) rfl rfl ⟨(Nat.le_of_ble_eq_true rfl), (Nat.le_of_ble_eq_true rfl)⟩ (Nat.le_of_ble_eq_true rfl) ⟨(Nat.le_of_ble_eq_true rfl), (Nat.le_of_ble_eq_true rfl)⟩ (fun v9 h_24 hv9 => ?_) (fun _ _ _ _ _ z _ _ => False.elim z)
        obtain ⟨r_27, rfl, g_25, e_26, b_28, hw⟩ := hv9
        have hw := hw g_25 e_26
        show X ρ K_X2_value 42 [(0, .ref (mr ρ 25)), (1, .int p1), (2, .int p2), (3, .int p3)] [.int r_27] h_24 0 0 (phL h post) psN
        obtain ⟨wt_52, wf_53⟩ := hw
        refine x_if_ne 52 dX2_value_42 (by decide) (fun c_29 => ?_) (fun c_29 => ?_)
        · have hw := wt_52 c_29
          refine x_aload_n 0 dX2_value_52 rfl ?_
          refine x_callV (ci := 2) [] 0 dX2_value_53 (k_X2_finds G g_25 hw) (GI.s g_25 (t := (12, 0)) rfl (by decide)) rfl q1521 q1523 qs79 q106 q1524 (by decide) rfl rfl ⟨(Nat.le_of_ble_eq_true rfl), (Nat.le_of_ble_eq_true rfl)⟩ (Nat.le_of_ble_eq_true rfl) ⟨(Nat.le_of_ble_eq_true rfl), (Nat.le_of_ble_eq_true rfl)⟩ (fun v9 h_30 hv9 => ?_) (fun _ _ _ _ _ z _ _ => False.elim z)
          obtain ⟨rfl, g_31, e_32, hw⟩ := hv9
          have hw := hw g_31 e_32
          show X ρ K_X2_value 56 [(0, .ref (mr ρ 25)), (1, .int p1), (2, .int p2), (3, .int p3)] [] h_30 0 0 (phL h post) psN
          refine x_aload_n 0 dX2_value_56 rfl ?_
          refine x_iload_n 1 dX2_value_57 rfl ?_
          refine x_callV (ci := 2) [.int p1] 1 dX2_value_58 (k_X2_findAlone G g_31 hw) (GI.s g_31 (t := (12, 0)) rfl (by decide)) rfl q1529 q1531 qs81 q106 q1532 (by decide) rfl rfl ⟨(Nat.le_of_ble_eq_true rfl), (Nat.le_of_ble_eq_true rfl)⟩ (Nat.le_of_ble_eq_true rfl) ⟨(Nat.le_of_ble_eq_true rfl), (Nat.le_of_ble_eq_true rfl)⟩ (fun v9 h_35 hv9 => ?_) (fun _ _ _ _ _ z _ _ => False.elim z)
          obtain ⟨rfl, g_36, e_37, hw⟩ := hv9
          have hw := hw g_36 e_37
          show X ρ K_X2_value 61 [(0, .ref (mr ρ 25)), (1, .int p1), (2, .int p2), (3, .int p3)] [] h_35 0 0 (phL h post) psN
          refine x_aload_n 0 dX2_value_61 rfl ?_
          refine x_get (ci := 2) (v := .ref (mr ρ 50)) 30 dX2_value_62 (GI.s g_36 (t := (12, 0)) rfl (by decide)) rfl in_X2 (by decide) q1253 (Or.inl rfl) (fv_rc rfl (GI.m g_36 (n := 50) rfl (by decide)) (by decide)) ?_
          refine x_iload_n 2 dX2_value_65 rfl ?_
          obtain ⟨b_40, hw⟩ := hw
          refine x_lald (n := 24) (j := (Int32.toNatClampNeg p2)) dX2_value_66 rfl (GI.s g_36 (t := (2, 24)) rfl (by decide)) b_40 ?_
          refine x_aload_n 0 dX2_value_67 rfl ?_
          refine x_get (ci := 2) (v := .ref (mr ρ 45)) 24 dX2_value_68 (GI.s g_36 (t := (12, 0)) rfl (by decide)) rfl in_X2 (by decide) q1247 (Or.inl rfl) (fv_rc rfl (GI.m g_36 (n := 45) rfl (by decide)) (by decide)) ?_
          refine x_iload_n 2 dX2_value_71 rfl ?_
          obtain ⟨b_41, hw⟩ := hw
          refine x_lald (n := 24) (j := (Int32.toNatClampNeg p2)) dX2_value_72 rfl (GI.s g_36 (t := (2, 24)) rfl (by decide)) b_41 ?_
          refine x_iload_n 3 dX2_value_73 rfl ?_
          refine x_callS [.long (gl h_35 50 (Int32.toNatClampNeg p2)), .long (gl h_35 45 (Int32.toNatClampNeg p2)), .int p3] 3 dX2_value_74 (k_X2_inLeast G g_36 hw) q1498 q1499 q106 q1500 (by decide) rfl rfl ⟨(Nat.le_of_ble_eq_true rfl), (Nat.le_of_ble_eq_true rfl)⟩ (Nat.le_of_ble_eq_true rfl) ⟨(Nat.le_of_ble_eq_true rfl), (Nat.le_of_ble_eq_true rfl)⟩ (fun v9 h_42 hv9 => ?_) (fun _ _ _ _ _ z _ _ => False.elim z)
          obtain ⟨r_45, rfl, g_43, e_44, hw⟩ := hv9
          have hw := hw g_43 e_44
          show X ρ K_X2_value 77 [(0, .ref (mr ρ 25)), (1, .int p1), (2, .int p2), (3, .int p3)] [.long r_45] h_42 0 0 (phL h post) psN
          exact x_lret dX2_value_77 rfl (Nat.le_of_ble_eq_true rfl) (Nat.le_of_ble_eq_true rfl) ⟨_, rfl, g_43, (Ext.tr (Ext.tr (Ext.tr (Ext.tr (Ext.tr (Ext.tr e_3 e_14) e_20) e_26) e_32) e_37) e_44), hw⟩
        · have hw := wf_53 c_29
          refine x_aload_n 0 dX2_value_45 rfl ?_
          refine x_bipush (-3) dX2_value_46 (by decide) ?_
          refine x_callV (ci := 2) [.int (-3)] 1 dX2_value_48 (k_X2_noLong G g_25 hw) (GI.s g_25 (t := (12, 0)) rfl (by decide)) rfl q1478 q1480 qs74 q106 q1481 (by decide) rfl rfl ⟨(Nat.le_of_ble_eq_true rfl), (Nat.le_of_ble_eq_true rfl)⟩ (Nat.le_of_ble_eq_true rfl) ⟨(Nat.le_of_ble_eq_true rfl), (Nat.le_of_ble_eq_true rfl)⟩ (fun v9 h_47 hv9 => ?_) (fun _ _ _ _ _ z _ _ => False.elim z)
          obtain ⟨r_50, rfl, g_48, e_49, hw⟩ := hv9
          have hw := hw g_48 e_49
          show X ρ K_X2_value 51 [(0, .ref (mr ρ 25)), (1, .int p1), (2, .int p2), (3, .int p3)] [.long r_50] h_47 0 0 (phL h post) psN
          exact x_lret dX2_value_51 rfl (Nat.le_of_ble_eq_true rfl) (Nat.le_of_ble_eq_true rfl) ⟨_, rfl, g_48, (Ext.tr (Ext.tr (Ext.tr (Ext.tr e_3 e_14) e_20) e_26) e_49), hw⟩
      · have hw := wf_60 c_23
        refine x_aload_n 0 dX2_value_31 rfl ?_
        refine x_bipush (-2) dX2_value_32 (by decide) ?_
        refine x_callV (ci := 2) [.int (-2)] 1 dX2_value_34 (k_X2_noLong G g_19 hw) (GI.s g_19 (t := (12, 0)) rfl (by decide)) rfl q1478 q1480 qs74 q106 q1481 (by decide) rfl rfl ⟨(Nat.le_of_ble_eq_true rfl), (Nat.le_of_ble_eq_true rfl)⟩ (Nat.le_of_ble_eq_true rfl) ⟨(Nat.le_of_ble_eq_true rfl), (Nat.le_of_ble_eq_true rfl)⟩ (fun v9 h_54 hv9 => ?_) (fun _ _ _ _ _ z _ _ => False.elim z)
        obtain ⟨r_57, rfl, g_55, e_56, hw⟩ := hv9
        have hw := hw g_55 e_56
        show X ρ K_X2_value 37 [(0, .ref (mr ρ 25)), (1, .int p1), (2, .int p2), (3, .int p3)] [.long r_57] h_54 0 0 (phL h post) psN
        exact x_lret dX2_value_37 rfl (Nat.le_of_ble_eq_true rfl) (Nat.le_of_ble_eq_true rfl) ⟨_, rfl, g_55, (Ext.tr (Ext.tr (Ext.tr e_3 e_14) e_20) e_56), hw⟩
    · have hw := wf_67 c_17
      refine x_aload_n 0 dX2_value_16 rfl ?_
      refine x_iconst (-1) dX2_value_17 (by decide) ?_
      refine x_callV (ci := 2) [.int (-1)] 1 dX2_value_18 (k_X2_noLong G g_13 hw) (GI.s g_13 (t := (12, 0)) rfl (by decide)) rfl q1478 q1480 qs74 q106 q1481 (by decide) rfl rfl ⟨(Nat.le_of_ble_eq_true rfl), (Nat.le_of_ble_eq_true rfl)⟩ (Nat.le_of_ble_eq_true rfl) ⟨(Nat.le_of_ble_eq_true rfl), (Nat.le_of_ble_eq_true rfl)⟩ (fun v9 h_61 hv9 => ?_) (fun _ _ _ _ _ z _ _ => False.elim z)
      obtain ⟨r_64, rfl, g_62, e_63, hw⟩ := hv9
      have hw := hw g_62 e_63
      show X ρ K_X2_value 21 [(0, .ref (mr ρ 25)), (1, .int p1), (2, .int p2), (3, .int p3)] [.long r_64] h_61 0 0 (phL h post) psN
      exact x_lret dX2_value_21 rfl (Nat.le_of_ble_eq_true rfl) (Nat.le_of_ble_eq_true rfl) ⟨_, rfl, g_62, (Ext.tr (Ext.tr e_3 e_14) e_63), hw⟩

/-! BeforeTheEnd.alone(I)I -/
def wp_X0_alone (post : Int32 → Hp → Prop) (h : Hp) (p1 : Int32) : Prop := (wp_X0_act (fun r_4 h_1 => GI h_1 → Ext h h_1 → (post r_4 h_1)) h 10 p1 0 0)
abbrev rm_X0_alone : Room := ({ frames := 19, cells := 1868, slots := 13143, locals := 599 })
abbrev K_X0_alone : Kx := ("BeforeTheEnd", cX0_alone, 2, (Option.some Jvm.ClassFile.FieldType.int), rm_X0_alone, [], false)
set_option maxHeartbeats 4000000 in
theorem k_X0_alone {ρ : Rho} {h : Hp} {post : Int32 → Hp → Prop} {p1 : Int32} (G : G0 ρ) (g : GI h) (hw : wp_X0_alone post h p1) : Con ρ yX0_alone (ws_ yX0_alone cX0_alone 2 (Option.some Jvm.ClassFile.FieldType.int)) rm_X0_alone [.ref (mr ρ 1), .int p1] h (phI h post) psN := by
  refine con_of (own := "BeforeTheEnd") (isI := false) (l0 := [(0, .ref (mr ρ 1)), (1, .int p1)]) (by decide) rfl (fun z => by cases z) (Nat.le_of_ble_eq_true rfl) rfl (fun _ => ?_)
  show X ρ K_X0_alone 0 [(0, .ref (mr ρ 1)), (1, .int p1)] [] h 0 0 (phI h post) psN
  refine x_aload_n 0 dX0_alone_0 rfl ?_
  refine x_bipush 10 dX0_alone_1 (by decide) ?_
  refine x_iload_n 1 dX0_alone_3 rfl ?_
  refine x_iconst 0 dX0_alone_4 (by decide) ?_
  refine x_iconst 0 dX0_alone_5 (by decide) ?_
  refine x_callH (ci := 0) [.int 10, .int p1, .int 0, .int 0] 4 dX0_alone_6 (k_X0_act G g hw) (GI.s g (t := (10, 0)) rfl (by decide)) rfl q383 q385 qs3 q104 q386 (by decide) rfl rfl ⟨(Nat.le_of_ble_eq_true rfl), (Nat.le_of_ble_eq_true rfl)⟩ (Nat.le_of_ble_eq_true rfl) ⟨(Nat.le_of_ble_eq_true rfl), (Nat.le_of_ble_eq_true rfl)⟩ (fun v9 h_1 hv9 => ?_) (fun _ _ _ _ _ z _ _ => False.elim z)
  obtain ⟨r_4, rfl, g_2, e_3, hw⟩ := hv9
  have hw := hw g_2 e_3
  show X ρ K_X0_alone 9 [(0, .ref (mr ρ 1)), (1, .int p1)] [.int r_4] h_1 1868 13143 (phI h post) psN
  exact x_iret dX0_alone_9 rfl (Nat.le_of_ble_eq_true rfl) (Nat.le_of_ble_eq_true rfl) ⟨_, rfl, g_2, e_3, hw⟩

/-! BeforeTheEndModel.alone(I)I -/
def wp_X2_alone (post : Int32 → Hp → Prop) (h : Hp) (p1 : Int32) : Prop := (wp_X2_isPlayer (fun r_4 h_1 => GI h_1 → Ext h h_1 → ((¬ r_4 = 0 → (wp_X2_isWhole (fun r_10 h_7 => GI h_7 → Ext h_1 h_7 → ((¬ r_10 = 0 → (wp_X2_finds (fun h_13 => GI h_13 → Ext h_7 h_13 → (wp_X2_findAlone (fun h_18 => GI h_18 → Ext h_13 h_18 → (post (gi h_18 25 31) h_18)) h_13 p1)) h_7)) ∧ (r_10 = 0 → (wp_X2_no (fun r_26 h_23 => GI h_23 → Ext h_7 h_23 → (post r_26 h_23)) h_7 (-3))))) h_1)) ∧ (r_4 = 0 → (wp_X2_no (fun r_33 h_30 => GI h_30 → Ext h_1 h_30 → (post r_33 h_30)) h_1 (-1))))) h p1)
abbrev rm_X2_alone : Room := ({ frames := 6, cells := 0, slots := 0, locals := 175 })
abbrev K_X2_alone : Kx := ("BeforeTheEndModel", cX2_alone, 2, (Option.some Jvm.ClassFile.FieldType.int), rm_X2_alone, [], false)
set_option maxHeartbeats 4000000 in
theorem k_X2_alone {ρ : Rho} {h : Hp} {post : Int32 → Hp → Prop} {p1 : Int32} (G : G0 ρ) (g : GI h) (hw : wp_X2_alone post h p1) : Con ρ yX2_alone (ws_ yX2_alone cX2_alone 2 (Option.some Jvm.ClassFile.FieldType.int)) rm_X2_alone [.ref (mr ρ 25), .int p1] h (phI h post) psN := by
  refine con_of (own := "BeforeTheEndModel") (isI := false) (l0 := [(0, .ref (mr ρ 25)), (1, .int p1)]) (by decide) rfl (fun z => by cases z) (Nat.le_of_ble_eq_true rfl) rfl (fun _ => ?_)
  show X ρ K_X2_alone 0 [(0, .ref (mr ρ 25)), (1, .int p1)] [] h 0 0 (phI h post) psN
  refine x_aload_n 0 dX2_alone_0 rfl ?_
  refine x_iload_n 1 dX2_alone_1 rfl ?_
  refine x_callV (ci := 2) [.int p1] 1 dX2_alone_2 (k_X2_isPlayer G g hw) (GI.s g (t := (12, 0)) rfl (by decide)) rfl q1454 q1456 qs71 q106 q1457 (by decide) rfl rfl ⟨(Nat.le_of_ble_eq_true rfl), (Nat.le_of_ble_eq_true rfl)⟩ (Nat.le_of_ble_eq_true rfl) ⟨(Nat.le_of_ble_eq_true rfl), (Nat.le_of_ble_eq_true rfl)⟩ (fun v9 h_1 hv9 => ?_) (fun _ _ _ _ _ z _ _ => False.elim z)
  obtain ⟨r_4, rfl, g_2, e_3, b_5, hw⟩ := hv9
  have hw := hw g_2 e_3
  show X ρ K_X2_alone 5 [(0, .ref (mr ρ 25)), (1, .int p1)] [.int r_4] h_1 0 0 (phI h post) psN
  obtain ⟨wt_35, wf_36⟩ := hw
  refine x_if_ne 14 dX2_alone_5 (by decide) (fun c_6 => ?_) (fun c_6 => ?_)
  · have hw := wt_35 c_6
    refine x_aload_n 0 dX2_alone_14 rfl ?_
    refine x_callV (ci := 2) [] 0 dX2_alone_15 (k_X2_isWhole G g_2 hw) (GI.s g_2 (t := (12, 0)) rfl (by decide)) rfl q1462 q1464 qs72 q106 q1465 (by decide) rfl rfl ⟨(Nat.le_of_ble_eq_true rfl), (Nat.le_of_ble_eq_true rfl)⟩ (Nat.le_of_ble_eq_true rfl) ⟨(Nat.le_of_ble_eq_true rfl), (Nat.le_of_ble_eq_true rfl)⟩ (fun v9 h_7 hv9 => ?_) (fun _ _ _ _ _ z _ _ => False.elim z)
    obtain ⟨r_10, rfl, g_8, e_9, b_11, hw⟩ := hv9
    have hw := hw g_8 e_9
    show X ρ K_X2_alone 18 [(0, .ref (mr ρ 25)), (1, .int p1)] [.int r_10] h_7 0 0 (phI h post) psN
    obtain ⟨wt_28, wf_29⟩ := hw
    refine x_if_ne 28 dX2_alone_18 (by decide) (fun c_12 => ?_) (fun c_12 => ?_)
    · have hw := wt_28 c_12
      refine x_aload_n 0 dX2_alone_28 rfl ?_
      refine x_callV (ci := 2) [] 0 dX2_alone_29 (k_X2_finds G g_8 hw) (GI.s g_8 (t := (12, 0)) rfl (by decide)) rfl q1521 q1523 qs79 q106 q1524 (by decide) rfl rfl ⟨(Nat.le_of_ble_eq_true rfl), (Nat.le_of_ble_eq_true rfl)⟩ (Nat.le_of_ble_eq_true rfl) ⟨(Nat.le_of_ble_eq_true rfl), (Nat.le_of_ble_eq_true rfl)⟩ (fun v9 h_13 hv9 => ?_) (fun _ _ _ _ _ z _ _ => False.elim z)
      obtain ⟨rfl, g_14, e_15, hw⟩ := hv9
      have hw := hw g_14 e_15
      show X ρ K_X2_alone 32 [(0, .ref (mr ρ 25)), (1, .int p1)] [] h_13 0 0 (phI h post) psN
      refine x_aload_n 0 dX2_alone_32 rfl ?_
      refine x_iload_n 1 dX2_alone_33 rfl ?_
      refine x_callV (ci := 2) [.int p1] 1 dX2_alone_34 (k_X2_findAlone G g_14 hw) (GI.s g_14 (t := (12, 0)) rfl (by decide)) rfl q1529 q1531 qs81 q106 q1532 (by decide) rfl rfl ⟨(Nat.le_of_ble_eq_true rfl), (Nat.le_of_ble_eq_true rfl)⟩ (Nat.le_of_ble_eq_true rfl) ⟨(Nat.le_of_ble_eq_true rfl), (Nat.le_of_ble_eq_true rfl)⟩ (fun v9 h_18 hv9 => ?_) (fun _ _ _ _ _ z _ _ => False.elim z)
      obtain ⟨rfl, g_19, e_20, hw⟩ := hv9
      have hw := hw g_19 e_20
      show X ρ K_X2_alone 37 [(0, .ref (mr ρ 25)), (1, .int p1)] [] h_18 0 0 (phI h post) psN
      refine x_aload_n 0 dX2_alone_37 rfl ?_
      refine x_get (ci := 2) (v := .int (gi h_18 25 31)) 31 dX2_alone_38 (GI.s g_19 (t := (12, 0)) rfl (by decide)) rfl in_X2 (by decide) q1254 (Or.inl rfl) (fv_i rfl) ?_
      exact x_iret dX2_alone_41 rfl (Nat.le_of_ble_eq_true rfl) (Nat.le_of_ble_eq_true rfl) ⟨_, rfl, g_19, (Ext.tr (Ext.tr (Ext.tr e_3 e_9) e_15) e_20), hw⟩
    · have hw := wf_29 c_12
      refine x_aload_n 0 dX2_alone_21 rfl ?_
      refine x_bipush (-3) dX2_alone_22 (by decide) ?_
      refine x_callV (ci := 2) [.int (-3)] 1 dX2_alone_24 (k_X2_no G g_8 hw) (GI.s g_8 (t := (12, 0)) rfl (by decide)) rfl q1387 q1389 qs59 q106 q1390 (by decide) rfl rfl ⟨(Nat.le_of_ble_eq_true rfl), (Nat.le_of_ble_eq_true rfl)⟩ (Nat.le_of_ble_eq_true rfl) ⟨(Nat.le_of_ble_eq_true rfl), (Nat.le_of_ble_eq_true rfl)⟩ (fun v9 h_23 hv9 => ?_) (fun _ _ _ _ _ z _ _ => False.elim z)
      obtain ⟨r_26, rfl, g_24, e_25, hw⟩ := hv9
      have hw := hw g_24 e_25
      show X ρ K_X2_alone 27 [(0, .ref (mr ρ 25)), (1, .int p1)] [.int r_26] h_23 0 0 (phI h post) psN
      exact x_iret dX2_alone_27 rfl (Nat.le_of_ble_eq_true rfl) (Nat.le_of_ble_eq_true rfl) ⟨_, rfl, g_24, (Ext.tr (Ext.tr e_3 e_9) e_25), hw⟩
  · have hw := wf_36 c_6
    refine x_aload_n 0 dX2_alone_8 rfl ?_
    refine x_iconst (-1) dX2_alone_9 (by decide) ?_
    refine x_callV (ci := 2) [.int (-1)] 1 dX2_alone_10 (k_X2_no G g_2 hw) (GI.s g_2 (t := (12, 0)) rfl (by decide)) rfl q1387 q1389 qs59 q106 q1390 (by decide) rfl rfl ⟨(Nat.le_of_ble_eq_true rfl), (Nat.le_of_ble_eq_true rfl)⟩ (Nat.le_of_ble_eq_true rfl) ⟨(Nat.le_of_ble_eq_true rfl), (Nat.le_of_ble_eq_true rfl)⟩ (fun v9 h_30 hv9 => ?_) (fun _ _ _ _ _ z _ _ => False.elim z)
    obtain ⟨r_33, rfl, g_31, e_32, hw⟩ := hv9
    have hw := hw g_31 e_32
    show X ρ K_X2_alone 13 [(0, .ref (mr ρ 25)), (1, .int p1)] [.int r_33] h_30 0 0 (phI h post) psN
    exact x_iret dX2_alone_13 rfl (Nat.le_of_ble_eq_true rfl) (Nat.le_of_ble_eq_true rfl) ⟨_, rfl, g_31, (Ext.tr e_3 e_32), hw⟩

/-! BeforeTheEnd.reply(II)I -/
def wp_X0_reply (post : Int32 → Hp → Prop) (h : Hp) (p1 : Int32) (p2 : Int32) : Prop := (wp_X0_act (fun r_4 h_1 => GI h_1 → Ext h h_1 → (post r_4 h_1)) h 11 p1 p2 0)
abbrev rm_X0_reply : Room := ({ frames := 19, cells := 1868, slots := 13143, locals := 599 })
abbrev K_X0_reply : Kx := ("BeforeTheEnd", cX0_reply, 3, (Option.some Jvm.ClassFile.FieldType.int), rm_X0_reply, [], false)
set_option maxHeartbeats 4000000 in
theorem k_X0_reply {ρ : Rho} {h : Hp} {post : Int32 → Hp → Prop} {p1 : Int32} {p2 : Int32} (G : G0 ρ) (g : GI h) (hw : wp_X0_reply post h p1 p2) : Con ρ yX0_reply (ws_ yX0_reply cX0_reply 3 (Option.some Jvm.ClassFile.FieldType.int)) rm_X0_reply [.ref (mr ρ 1), .int p1, .int p2] h (phI h post) psN := by
  refine con_of (own := "BeforeTheEnd") (isI := false) (l0 := [(0, .ref (mr ρ 1)), (1, .int p1), (2, .int p2)]) (by decide) rfl (fun z => by cases z) (Nat.le_of_ble_eq_true rfl) rfl (fun _ => ?_)
  show X ρ K_X0_reply 0 [(0, .ref (mr ρ 1)), (1, .int p1), (2, .int p2)] [] h 0 0 (phI h post) psN
  refine x_aload_n 0 dX0_reply_0 rfl ?_
  refine x_bipush 11 dX0_reply_1 (by decide) ?_
  refine x_iload_n 1 dX0_reply_3 rfl ?_
  refine x_iload_n 2 dX0_reply_4 rfl ?_
  refine x_iconst 0 dX0_reply_5 (by decide) ?_
  refine x_callH (ci := 0) [.int 11, .int p1, .int p2, .int 0] 4 dX0_reply_6 (k_X0_act G g hw) (GI.s g (t := (10, 0)) rfl (by decide)) rfl q383 q385 qs3 q104 q386 (by decide) rfl rfl ⟨(Nat.le_of_ble_eq_true rfl), (Nat.le_of_ble_eq_true rfl)⟩ (Nat.le_of_ble_eq_true rfl) ⟨(Nat.le_of_ble_eq_true rfl), (Nat.le_of_ble_eq_true rfl)⟩ (fun v9 h_1 hv9 => ?_) (fun _ _ _ _ _ z _ _ => False.elim z)
  obtain ⟨r_4, rfl, g_2, e_3, hw⟩ := hv9
  have hw := hw g_2 e_3
  show X ρ K_X0_reply 9 [(0, .ref (mr ρ 1)), (1, .int p1), (2, .int p2)] [.int r_4] h_1 1868 13143 (phI h post) psN
  exact x_iret dX0_reply_9 rfl (Nat.le_of_ble_eq_true rfl) (Nat.le_of_ble_eq_true rfl) ⟨_, rfl, g_2, e_3, hw⟩

/-! BeforeTheEndModel.tries(II)V -/
def w_X2_tries_96 (post : Hp → Prop) (x2 : Int32) (x4 : Int64) (h : Hp) : Prop := (post (si (sl h 25 39 x4) 25 40 x2))
def w_X2_tries_5 (post : Hp → Prop) : Nat → Int32 → Int32 → Int32 → Int32 → Hp → Prop
  | 0 => fun _ _ _ _ _ => False
  | n + 1 => fun x1 x2 x3 x4 h => (((gi h 25 12) ≤ x4 → (vp_in x1 4 ∧ (vp_in x1 4 ∧ (wp_X2_sumOver (fun r_7 h_4 => GI h_4 → Ext (si (si h 48 (Int32.toNatClampNeg x1) x3) 49 (Int32.toNatClampNeg x1) x3) h_4 → (((gi h_4 25 40) < 0 → (w_X2_tries_96 post x2 r_7 h_4)) ∧ (¬ (gi h_4 25 40) < 0 → (((gl h_4 25 39) < r_7 → (w_X2_tries_96 post x2 r_7 h_4)) ∧ (¬ (gl h_4 25 39) < r_7 → (post h_4)))))) (si (si h 48 (Int32.toNatClampNeg x1) x3) 49 (Int32.toNatClampNeg x1) x3) 1 x1)))) ∧ (¬ (gi h 25 12) ≤ x4 → (((((x2 >>> (x4 &&& 31)) &&& 1) = 1 → (vp_in ((24 * x1) + x4) 96))) ∧ (∀ z_18 : Int32, z_18 = ((if ((x2 >>> (x4 &&& 31)) &&& 1) = 1 then (if (gi h 47 (Int32.toNatClampNeg ((24 * x1) + x4))) = 0 then 0 else (1 <<< (x4 &&& 31))) else 0) : Int32) → (w_X2_tries_5 post n x1 x2 (x3 ||| z_18) (x4 + 1) h)))))
def wp_X2_tries (post : Hp → Prop) (h : Hp) (p1 : Int32) (p2 : Int32) : Prop := (∃ fu : Nat, w_X2_tries_5 post fu p1 p2 0 1 h)
abbrev rm_X2_tries : Room := ({ frames := 4, cells := 0, slots := 0, locals := 133 })
abbrev K_X2_tries : Kx := ("BeforeTheEndModel", cX2_tries, 6, (Option.none : Option Jvm.ClassFile.FieldType), rm_X2_tries, [], false)
set_option maxHeartbeats 4000000 in
theorem t_X2_tries_96 {ρ : Rho} {h0 : Hp} {post : Hp → Prop} (G : G0 ρ) :
    ∀ (x2 : Int32) (x4 : Int64) (h : Hp), GI h → Ext h0 h → w_X2_tries_96 post x2 x4 h → X ρ K_X2_tries 96 [(0, .ref (mr ρ 25)), (2, .int x2), (4, .long x4)] [] h 0 0 (phV h0 post) psN := by
  intro x2 x4 h g e hw
  refine x_aload_n 0 dX2_tries_96 rfl ?_
  refine x_lload 2 dX2_tries_97 rfl ?_
  refine x_put (ci := 2) 39 dX2_tries_99 (GI.s g (t := (12, 0)) rfl (by decide)) rfl in_X2 tyX2 tyX2_ok nmX2 (by decide) q1262 (Or.inl rfl) rfl rfl rfl (isPut_l rfl) ?_
  refine x_aload_n 0 dX2_tries_102 rfl ?_
  refine x_iload_n 1 dX2_tries_103 rfl ?_
  refine x_put (ci := 2) 40 dX2_tries_104 (GI.s (GI.l g) (t := (12, 0)) rfl (by decide)) rfl in_X2 tyX2 tyX2_ok nmX2 (by decide) q1263 (Or.inl rfl) rfl rfl rfl (isPut_i rfl) ?_
  exact x_vret dX2_tries_107 rfl (Nat.le_of_ble_eq_true rfl) (Nat.le_of_ble_eq_true rfl) ⟨rfl, (GI.i (GI.l g)), (Ext.i (Ext.l e)), hw⟩
set_option maxHeartbeats 4000000 in
theorem t_X2_tries_5 {ρ : Rho} {h0 : Hp} {post : Hp → Prop} (G : G0 ρ) :
    ∀ (n : Nat), ∀ (x1 : Int32) (x2 : Int32) (x3 : Int32) (x4 : Int32) (h : Hp), GI h → Ext h0 h → w_X2_tries_5 post n x1 x2 x3 x4 h → X ρ K_X2_tries 5 [(0, .ref (mr ρ 25)), (1, .int x1), (2, .int x2), (3, .int x3), (4, .int x4)] [] h 0 0 (phV h0 post) psN := by
  intro n
  induction n with
  | zero => intro x1 x2 x3 x4 h g e hw; exact False.elim hw
  | succ n ih =>
    intro x1 x2 x3 x4 h g e hw
    refine x_iload 4 dX2_tries_5 rfl ?_
    refine x_aload_n 0 dX2_tries_7 rfl ?_
    refine x_get (ci := 2) (v := .int (gi h 25 12)) 12 dX2_tries_8 (GI.s g (t := (12, 0)) rfl (by decide)) rfl in_X2 (by decide) q1235 (Or.inl rfl) (fv_i rfl) ?_
    obtain ⟨wt_21, wf_22⟩ := hw
    refine x_icmp_ge 56 dX2_tries_11 (by decide) (fun c_1 => ?_) (fun c_1 => ?_)
    · have hw := wt_21 c_1
      refine x_aload_n 0 dX2_tries_56 rfl ?_
      refine x_get (ci := 2) (v := .ref (mr ρ 48)) 27 dX2_tries_57 (GI.s g (t := (12, 0)) rfl (by decide)) rfl in_X2 (by decide) q1250 (Or.inl rfl) (fv_rc rfl (GI.m g (n := 48) rfl (by decide)) (by decide)) ?_
      refine x_iload_n 1 dX2_tries_60 rfl ?_
      refine x_iload_n 3 dX2_tries_61 rfl ?_
      obtain ⟨b_2, hw⟩ := hw
      refine x_iast (n := 4) (j := (Int32.toNatClampNeg x1)) dX2_tries_62 rfl (GI.s g (t := (1, 4)) rfl (by decide)) b_2 ?_
      refine x_aload_n 0 dX2_tries_63 rfl ?_
      refine x_get (ci := 2) (v := .ref (mr ρ 49)) 28 dX2_tries_64 (GI.s (GI.i g) (t := (12, 0)) rfl (by decide)) rfl in_X2 (by decide) q1251 (Or.inl rfl) (fv_rc rfl (GI.m (GI.i g) (n := 49) rfl (by decide)) (by decide)) ?_
      refine x_iload_n 1 dX2_tries_67 rfl ?_
      refine x_iload_n 3 dX2_tries_68 rfl ?_
      obtain ⟨b_3, hw⟩ := hw
      refine x_iast (n := 4) (j := (Int32.toNatClampNeg x1)) dX2_tries_69 rfl (GI.s (GI.i g) (t := (1, 4)) rfl (by decide)) b_3 ?_
      refine x_aload_n 0 dX2_tries_70 rfl ?_
      refine x_iconst 1 dX2_tries_71 (by decide) ?_
      refine x_iload_n 1 dX2_tries_72 rfl ?_
      refine x_callV (ci := 2) [.int 1, .int x1] 2 dX2_tries_73 (k_X2_sumOver G (GI.i (GI.i g)) hw) (GI.s (GI.i (GI.i g)) (t := (12, 0)) rfl (by decide)) rfl q1578 q1580 qs91 q106 q1581 (by decide) rfl rfl ⟨(Nat.le_of_ble_eq_true rfl), (Nat.le_of_ble_eq_true rfl)⟩ (Nat.le_of_ble_eq_true rfl) ⟨(Nat.le_of_ble_eq_true rfl), (Nat.le_of_ble_eq_true rfl)⟩ (fun v9 h_4 hv9 => ?_) (fun _ _ _ _ _ z _ _ => False.elim z)
      obtain ⟨r_7, rfl, g_5, e_6, hw⟩ := hv9
      have hw := hw g_5 e_6
      show X ρ K_X2_tries 76 [(0, .ref (mr ρ 25)), (1, .int x1), (2, .int x2), (3, .int x3), (4, .int x4)] [.long r_7] h_4 0 0 (phV h0 post) psN
      refine x_lstore (lv' := [(4, .long r_7), (0, .ref (mr ρ 25)), (1, .int x1), (2, .int x2), (3, .int x3)]) dX2_tries_76 (Nat.le_of_ble_eq_true rfl) rfl ?_
      refine x_aload_n 1 dX2_tries_78 rfl ?_
      refine x_get (ci := 2) (v := .int (gi h_4 25 40)) 40 dX2_tries_79 (GI.s g_5 (t := (12, 0)) rfl (by decide)) rfl in_X2 (by decide) q1263 (Or.inl rfl) (fv_i rfl) ?_
      obtain ⟨wt_13, wf_14⟩ := hw
      refine x_if_lt 96 dX2_tries_82 (by decide) (fun c_9 => ?_) (fun c_9 => ?_)
      · have hw := wt_13 c_9
        refine X.sub [1, 3, 0] rfl ?_
        exact t_X2_tries_96 G  x2 r_7 h_4 g_5 (Ext.tr (Ext.i (Ext.i e)) e_6) hw
      · have hw := wf_14 c_9
        refine x_lload 0 dX2_tries_85 rfl ?_
        refine x_aload_n 1 dX2_tries_87 rfl ?_
        refine x_get (ci := 2) (v := .long (gl h_4 25 39)) 39 dX2_tries_88 (GI.s g_5 (t := (12, 0)) rfl (by decide)) rfl in_X2 (by decide) q1262 (Or.inl rfl) (fv_l rfl) ?_
        obtain ⟨wt_11, wf_12⟩ := hw
        refine x_lif_gt 96 dX2_tries_91 dX2_tries_92 (by decide) (fun c_10 => ?_) (fun c_10 => ?_)
        · have hw := wt_11 c_10
          refine X.sub [1, 3, 0] rfl ?_
          exact t_X2_tries_96 G  x2 r_7 h_4 g_5 (Ext.tr (Ext.i (Ext.i e)) e_6) hw
        · have hw := wf_12 c_10
          exact x_vret dX2_tries_95 rfl (Nat.le_of_ble_eq_true rfl) (Nat.le_of_ble_eq_true rfl) ⟨rfl, g_5, (Ext.tr (Ext.i (Ext.i e)) e_6), hw⟩
    · have hw := wf_22 c_1
      refine x_iload_n 3 dX2_tries_14 rfl ?_
      refine x_iload_n 2 dX2_tries_15 rfl ?_
      refine x_iload 4 dX2_tries_16 rfl ?_
      refine x_ishr dX2_tries_18 ?_
      refine x_iconst 1 dX2_tries_19 (by decide) ?_
      refine x_iand dX2_tries_20 ?_
      refine x_iconst 1 dX2_tries_21 (by decide) ?_
      obtain ⟨hO_20, hw⟩ := hw
      have kJ_19 : ∀ z_18 : Int32, z_18 = ((if ((x2 >>> (x4 &&& 31)) &&& 1) = 1 then (if (gi h 47 (Int32.toNatClampNeg ((24 * x1) + x4))) = 0 then 0 else (1 <<< (x4 &&& 31))) else 0) : Int32) → X ρ K_X2_tries 48 [(0, .ref (mr ρ 25)), (1, .int x1), (2, .int x2), (3, .int x3), (4, .int x4)] [.int z_18, .int x3] h 0 0 (phV h0 post) psN := fun z_18 ez_18 => by
        have hw := hw z_18 ez_18
        refine x_ior dX2_tries_48 ?_
        refine x_istore_n (lv' := [(3, .int (x3 ||| z_18)), (0, .ref (mr ρ 25)), (1, .int x1), (2, .int x2), (4, .int x4)]) dX2_tries_49 (Nat.le_of_ble_eq_true rfl) rfl ?_
        refine x_iinc (v := (x4 + 1)) (lv' := [(4, .int (x4 + 1)), (3, .int (x3 ||| z_18)), (0, .ref (mr ρ 25)), (1, .int x1), (2, .int x2)]) 4 dX2_tries_50 rfl (by rfl) (Nat.le_of_ble_eq_true rfl) rfl ?_
        refine x_goto 5 dX2_tries_53 (by decide) ?_
        refine X.sub [2, 3, 4, 1, 0] rfl ?_
        exact ih x1 x2 (x3 ||| z_18) (x4 + 1) h g e hw
      have hO_200 := hO_20
      refine x_icmp_ne 47 dX2_tries_22 (by decide) (fun c_15 => ?_) (fun c_15 => ?_)
      · refine x_iconst 0 dX2_tries_47 (by decide) ?_
        exact kJ_19 _ ((if_neg c_15)).symm
      · have hO_20_ := hO_200 c_15
        have b_16 := hO_20_
        refine x_aload_n 0 dX2_tries_25 rfl ?_
        refine x_get (ci := 2) (v := .ref (mr ρ 47)) 26 dX2_tries_26 (GI.s g (t := (12, 0)) rfl (by decide)) rfl in_X2 (by decide) q1249 (Or.inl rfl) (fv_rc rfl (GI.m g (n := 47) rfl (by decide)) (by decide)) ?_
        refine x_bipush 24 dX2_tries_29 (by decide) ?_
        refine x_iload_n 1 dX2_tries_31 rfl ?_
        refine x_imul dX2_tries_32 ?_
        refine x_iload 4 dX2_tries_33 rfl ?_
        refine x_iadd dX2_tries_35 ?_
        refine x_iald (n := 96) (j := (Int32.toNatClampNeg ((24 * x1) + x4))) dX2_tries_36 rfl (GI.s g (t := (1, 96)) rfl (by decide)) b_16 ?_
        refine x_if_eq 47 dX2_tries_37 (by decide) (fun c_17 => ?_) (fun c_17 => ?_)
        · refine x_iconst 0 dX2_tries_47 (by decide) ?_
          exact kJ_19 _ (((if_pos c_15).trans (if_pos c_17))).symm
        · refine x_iconst 1 dX2_tries_40 (by decide) ?_
          refine x_iload 4 dX2_tries_41 rfl ?_
          refine x_ishl dX2_tries_43 ?_
          refine x_goto 48 dX2_tries_44 (by decide) ?_
          exact kJ_19 _ (((if_pos c_15).trans (if_neg c_17))).symm
set_option maxHeartbeats 4000000 in
theorem k_X2_tries {ρ : Rho} {h : Hp} {post : Hp → Prop} {p1 : Int32} {p2 : Int32} (G : G0 ρ) (g : GI h) (hw : wp_X2_tries post h p1 p2) : Con ρ yX2_tries (ws_ yX2_tries cX2_tries 6 (Option.none : Option Jvm.ClassFile.FieldType)) rm_X2_tries [.ref (mr ρ 25), .int p1, .int p2] h (phV h post) psN := by
  refine con_of (own := "BeforeTheEndModel") (isI := false) (l0 := [(0, .ref (mr ρ 25)), (1, .int p1), (2, .int p2)]) (by decide) rfl (fun z => by cases z) (Nat.le_of_ble_eq_true rfl) rfl (fun _ => ?_)
  show X ρ K_X2_tries 0 [(0, .ref (mr ρ 25)), (1, .int p1), (2, .int p2)] [] h 0 0 (phV h post) psN
  refine x_iconst 0 dX2_tries_0 (by decide) ?_
  refine x_istore_n (lv' := [(3, .int 0), (0, .ref (mr ρ 25)), (1, .int p1), (2, .int p2)]) dX2_tries_1 (Nat.le_of_ble_eq_true rfl) rfl ?_
  refine x_iconst 1 dX2_tries_2 (by decide) ?_
  refine x_istore (lv' := [(4, .int 1), (3, .int 0), (0, .ref (mr ρ 25)), (1, .int p1), (2, .int p2)]) dX2_tries_3 (Nat.le_of_ble_eq_true rfl) rfl ?_
  refine X.sub [2, 3, 4, 1, 0] rfl ?_
  obtain ⟨fu, hw⟩ := hw
  exact t_X2_tries_5 G  fu p1 p2 0 1 h g Ext.rf hw

/-! BeforeTheEndModel.replyOf(II)I -/
def w_X2_replyOf_57 (post : Int32 → Hp → Prop) (K41 : Int32 → Int32 → Int32 → Hp → Prop) : Nat → Int32 → Int32 → Int32 → Int32 → Hp → Prop
  | 0 => fun _ _ _ _ _ => False
  | n + 1 => fun x1 x2 x3 x4 h => ((x3 ≤ x4 → (K41 x1 x2 (x3 + 1) h)) ∧ (¬ x3 ≤ x4 → (wp_X2_tries (fun h_2 => GI h_2 → Ext h h_2 → (w_X2_replyOf_57 post K41 n x1 x2 x3 (x4 + 1) h_2)) h x1 ((1 <<< (x4 &&& 31)) ||| (1 <<< (x3 &&& 31))))))
def w_X2_replyOf_41 (post : Int32 → Hp → Prop) : Nat → Int32 → Int32 → Int32 → Hp → Prop
  | 0 => fun _ _ _ _ => False
  | n + 1 => fun x1 x2 x3 h => (((gi h 25 12) ≤ x3 → (post (gi h 25 40) h)) ∧ (¬ (gi h 25 12) ≤ x3 → ((x2 ≤ 1 → (post (gi h 25 40) h)) ∧ (¬ x2 ≤ 1 → (∃ fu : Nat, w_X2_replyOf_57 post (w_X2_replyOf_41 post n) fu x1 x2 x3 0 h)))))
def w_X2_replyOf_13 (post : Int32 → Hp → Prop) : Nat → Int32 → Int32 → Int32 → Hp → Prop
  | 0 => fun _ _ _ _ => False
  | n + 1 => fun x1 x2 x3 h => (((gi h 25 12) ≤ x3 → (∃ fu : Nat, w_X2_replyOf_41 post fu x1 x2 1 h)) ∧ (¬ (gi h 25 12) ≤ x3 → ((x2 ≤ 0 → (∃ fu : Nat, w_X2_replyOf_41 post fu x1 x2 1 h)) ∧ (¬ x2 ≤ 0 → (wp_X2_tries (fun h_3 => GI h_3 → Ext h h_3 → (w_X2_replyOf_13 post n x1 x2 (x3 + 1) h_3)) h x1 (1 <<< (x3 &&& 31)))))))
def wp_X2_replyOf (post : Int32 → Hp → Prop) (h : Hp) (p1 : Int32) (p2 : Int32) : Prop := (wp_X2_tries (fun h_1 => GI h_1 → Ext (si h 25 40 (-1)) h_1 → (∃ fu : Nat, w_X2_replyOf_13 post fu p1 p2 0 h_1)) (si h 25 40 (-1)) p1 0)
abbrev rm_X2_replyOf : Room := ({ frames := 5, cells := 0, slots := 0, locals := 158 })
abbrev K_X2_replyOf : Kx := ("BeforeTheEndModel", cX2_replyOf, 5, (Option.some Jvm.ClassFile.FieldType.int), rm_X2_replyOf, [], false)
set_option maxHeartbeats 4000000 in
theorem t_X2_replyOf_57 {ρ : Rho} {h0 : Hp} {post : Int32 → Hp → Prop} {K41 : Int32 → Int32 → Int32 → Hp → Prop} (G : G0 ρ) (hK41 : ∀ (x1 : Int32) (x2 : Int32) (x3 : Int32) (h : Hp), GI h → Ext h0 h → K41 x1 x2 x3 h → X ρ K_X2_replyOf 41 [(0, .ref (mr ρ 25)), (1, .int x1), (2, .int x2), (3, .int x3)] [] h 0 0 (phI h0 post) psN) :
    ∀ (n : Nat), ∀ (x1 : Int32) (x2 : Int32) (x3 : Int32) (x4 : Int32) (h : Hp), GI h → Ext h0 h → w_X2_replyOf_57 post K41 n x1 x2 x3 x4 h → X ρ K_X2_replyOf 57 [(0, .ref (mr ρ 25)), (1, .int x1), (2, .int x2), (3, .int x3), (4, .int x4)] [] h 0 0 (phI h0 post) psN := by
  intro n
  induction n with
  | zero => intro x1 x2 x3 x4 h g e hw; exact False.elim hw
  | succ n ih =>
    intro x1 x2 x3 x4 h g e hw
    refine x_iload 4 dX2_replyOf_57 rfl ?_
    refine x_iload_n 3 dX2_replyOf_59 rfl ?_
    obtain ⟨wt_7, wf_8⟩ := hw
    refine x_icmp_ge 82 dX2_replyOf_60 (by decide) (fun c_1 => ?_) (fun c_1 => ?_)
    · have hw := wt_7 c_1
      refine x_iinc (v := (x3 + 1)) (lv' := [(3, .int (x3 + 1)), (0, .ref (mr ρ 25)), (1, .int x1), (2, .int x2), (4, .int x4)]) 3 dX2_replyOf_82 rfl (by rfl) (Nat.le_of_ble_eq_true rfl) rfl ?_
      refine x_goto 41 dX2_replyOf_85 (by decide) ?_
      refine X.sub [1, 2, 3, 0] rfl ?_
      exact hK41 x1 x2 (x3 + 1) h g e hw
    · have hw := wf_8 c_1
      refine x_aload_n 0 dX2_replyOf_63 rfl ?_
      refine x_iload_n 1 dX2_replyOf_64 rfl ?_
      refine x_iconst 1 dX2_replyOf_65 (by decide) ?_
      refine x_iload 4 dX2_replyOf_66 rfl ?_
      refine x_ishl dX2_replyOf_68 ?_
      refine x_iconst 1 dX2_replyOf_69 (by decide) ?_
      refine x_iload_n 3 dX2_replyOf_70 rfl ?_
      refine x_ishl dX2_replyOf_71 ?_
      refine x_ior dX2_replyOf_72 ?_
      refine x_callV (ci := 2) [.int x1, .int ((1 <<< (x4 &&& 31)) ||| (1 <<< (x3 &&& 31)))] 2 dX2_replyOf_73 (k_X2_tries G g hw) (GI.s g (t := (12, 0)) rfl (by decide)) rfl q1610 q1612 qs93 q106 q1613 (by decide) rfl rfl ⟨(Nat.le_of_ble_eq_true rfl), (Nat.le_of_ble_eq_true rfl)⟩ (Nat.le_of_ble_eq_true rfl) ⟨(Nat.le_of_ble_eq_true rfl), (Nat.le_of_ble_eq_true rfl)⟩ (fun v9 h_2 hv9 => ?_) (fun _ _ _ _ _ z _ _ => False.elim z)
      obtain ⟨rfl, g_3, e_4, hw⟩ := hv9
      have hw := hw g_3 e_4
      show X ρ K_X2_replyOf 76 [(0, .ref (mr ρ 25)), (1, .int x1), (2, .int x2), (3, .int x3), (4, .int x4)] [] h_2 0 0 (phI h0 post) psN
      refine x_iinc (v := (x4 + 1)) (lv' := [(4, .int (x4 + 1)), (0, .ref (mr ρ 25)), (1, .int x1), (2, .int x2), (3, .int x3)]) 4 dX2_replyOf_76 rfl (by rfl) (Nat.le_of_ble_eq_true rfl) rfl ?_
      refine x_goto 57 dX2_replyOf_79 (by decide) ?_
      refine X.sub [1, 2, 3, 4, 0] rfl ?_
      exact ih x1 x2 x3 (x4 + 1) h_2 g_3 (Ext.tr e e_4) hw
set_option maxHeartbeats 4000000 in
theorem t_X2_replyOf_41 {ρ : Rho} {h0 : Hp} {post : Int32 → Hp → Prop} (G : G0 ρ) :
    ∀ (n : Nat), ∀ (x1 : Int32) (x2 : Int32) (x3 : Int32) (h : Hp), GI h → Ext h0 h → w_X2_replyOf_41 post n x1 x2 x3 h → X ρ K_X2_replyOf 41 [(0, .ref (mr ρ 25)), (1, .int x1), (2, .int x2), (3, .int x3)] [] h 0 0 (phI h0 post) psN := by
  intro n
  induction n with
  | zero => intro x1 x2 x3 h g e hw; exact False.elim hw
  | succ n ih =>
    intro x1 x2 x3 h g e hw
    refine x_iload_n 3 dX2_replyOf_41 rfl ?_
    refine x_aload_n 0 dX2_replyOf_42 rfl ?_
    refine x_get (ci := 2) (v := .int (gi h 25 12)) 12 dX2_replyOf_43 (GI.s g (t := (12, 0)) rfl (by decide)) rfl in_X2 (by decide) q1235 (Or.inl rfl) (fv_i rfl) ?_
    obtain ⟨wt_5, wf_6⟩ := hw
    refine x_icmp_ge 88 dX2_replyOf_46 (by decide) (fun c_1 => ?_) (fun c_1 => ?_)
    · have hw := wt_5 c_1
      refine x_aload_n 0 dX2_replyOf_88 rfl ?_
      refine x_get (ci := 2) (v := .int (gi h 25 40)) 40 dX2_replyOf_89 (GI.s g (t := (12, 0)) rfl (by decide)) rfl in_X2 (by decide) q1263 (Or.inl rfl) (fv_i rfl) ?_
      exact x_iret dX2_replyOf_92 rfl (Nat.le_of_ble_eq_true rfl) (Nat.le_of_ble_eq_true rfl) ⟨_, rfl, g, e, hw⟩
    · have hw := wf_6 c_1
      refine x_iload_n 2 dX2_replyOf_49 rfl ?_
      refine x_iconst 1 dX2_replyOf_50 (by decide) ?_
      obtain ⟨wt_3, wf_4⟩ := hw
      refine x_icmp_le 88 dX2_replyOf_51 (by decide) (fun c_2 => ?_) (fun c_2 => ?_)
      · have hw := wt_3 c_2
        refine x_aload_n 0 dX2_replyOf_88 rfl ?_
        refine x_get (ci := 2) (v := .int (gi h 25 40)) 40 dX2_replyOf_89 (GI.s g (t := (12, 0)) rfl (by decide)) rfl in_X2 (by decide) q1263 (Or.inl rfl) (fv_i rfl) ?_
        exact x_iret dX2_replyOf_92 rfl (Nat.le_of_ble_eq_true rfl) (Nat.le_of_ble_eq_true rfl) ⟨_, rfl, g, e, hw⟩
      · have hw := wf_4 c_2
        refine x_iconst 0 dX2_replyOf_54 (by decide) ?_
        refine x_istore (lv' := [(4, .int 0), (0, .ref (mr ρ 25)), (1, .int x1), (2, .int x2), (3, .int x3)]) dX2_replyOf_55 (Nat.le_of_ble_eq_true rfl) rfl ?_
        refine X.sub [1, 2, 3, 4, 0] rfl ?_
        obtain ⟨fu, hw⟩ := hw
        exact t_X2_replyOf_57 G ih fu x1 x2 x3 0 h g e hw
set_option maxHeartbeats 4000000 in
theorem t_X2_replyOf_13 {ρ : Rho} {h0 : Hp} {post : Int32 → Hp → Prop} (G : G0 ρ) :
    ∀ (n : Nat), ∀ (x1 : Int32) (x2 : Int32) (x3 : Int32) (h : Hp), GI h → Ext h0 h → w_X2_replyOf_13 post n x1 x2 x3 h → X ρ K_X2_replyOf 13 [(0, .ref (mr ρ 25)), (1, .int x1), (2, .int x2), (3, .int x3)] [] h 0 0 (phI h0 post) psN := by
  intro n
  induction n with
  | zero => intro x1 x2 x3 h g e hw; exact False.elim hw
  | succ n ih =>
    intro x1 x2 x3 h g e hw
    refine x_iload_n 3 dX2_replyOf_13 rfl ?_
    refine x_aload_n 0 dX2_replyOf_14 rfl ?_
    refine x_get (ci := 2) (v := .int (gi h 25 12)) 12 dX2_replyOf_15 (GI.s g (t := (12, 0)) rfl (by decide)) rfl in_X2 (by decide) q1235 (Or.inl rfl) (fv_i rfl) ?_
    obtain ⟨wt_10, wf_11⟩ := hw
    refine x_icmp_ge 39 dX2_replyOf_18 (by decide) (fun c_1 => ?_) (fun c_1 => ?_)
    · have hw := wt_10 c_1
      refine x_iconst 1 dX2_replyOf_39 (by decide) ?_
      refine x_istore_n (lv' := [(3, .int 1), (0, .ref (mr ρ 25)), (1, .int x1), (2, .int x2)]) dX2_replyOf_40 (Nat.le_of_ble_eq_true rfl) rfl ?_
      refine X.sub [1, 2, 3, 0] rfl ?_
      obtain ⟨fu, hw⟩ := hw
      exact t_X2_replyOf_41 G  fu x1 x2 1 h g e hw
    · have hw := wf_11 c_1
      refine x_iload_n 2 dX2_replyOf_21 rfl ?_
      obtain ⟨wt_8, wf_9⟩ := hw
      refine x_if_le 39 dX2_replyOf_22 (by decide) (fun c_2 => ?_) (fun c_2 => ?_)
      · have hw := wt_8 c_2
        refine x_iconst 1 dX2_replyOf_39 (by decide) ?_
        refine x_istore_n (lv' := [(3, .int 1), (0, .ref (mr ρ 25)), (1, .int x1), (2, .int x2)]) dX2_replyOf_40 (Nat.le_of_ble_eq_true rfl) rfl ?_
        refine X.sub [1, 2, 3, 0] rfl ?_
        obtain ⟨fu, hw⟩ := hw
        exact t_X2_replyOf_41 G  fu x1 x2 1 h g e hw
      · have hw := wf_9 c_2
        refine x_aload_n 0 dX2_replyOf_25 rfl ?_
        refine x_iload_n 1 dX2_replyOf_26 rfl ?_
        refine x_iconst 1 dX2_replyOf_27 (by decide) ?_
        refine x_iload_n 3 dX2_replyOf_28 rfl ?_
        refine x_ishl dX2_replyOf_29 ?_
        refine x_callV (ci := 2) [.int x1, .int (1 <<< (x3 &&& 31))] 2 dX2_replyOf_30 (k_X2_tries G g hw) (GI.s g (t := (12, 0)) rfl (by decide)) rfl q1610 q1612 qs93 q106 q1613 (by decide) rfl rfl ⟨(Nat.le_of_ble_eq_true rfl), (Nat.le_of_ble_eq_true rfl)⟩ (Nat.le_of_ble_eq_true rfl) ⟨(Nat.le_of_ble_eq_true rfl), (Nat.le_of_ble_eq_true rfl)⟩ (fun v9 h_3 hv9 => ?_) (fun _ _ _ _ _ z _ _ => False.elim z)
        obtain ⟨rfl, g_4, e_5, hw⟩ := hv9
        have hw := hw g_4 e_5
        show X ρ K_X2_replyOf 33 [(0, .ref (mr ρ 25)), (1, .int x1), (2, .int x2), (3, .int x3)] [] h_3 0 0 (phI h0 post) psN
        refine x_iinc (v := (x3 + 1)) (lv' := [(3, .int (x3 + 1)), (0, .ref (mr ρ 25)), (1, .int x1), (2, .int x2)]) 3 dX2_replyOf_33 rfl (by rfl) (Nat.le_of_ble_eq_true rfl) rfl ?_
        refine x_goto 13 dX2_replyOf_36 (by decide) ?_
        refine X.sub [1, 2, 3, 0] rfl ?_
        exact ih x1 x2 (x3 + 1) h_3 g_4 (Ext.tr e e_5) hw
set_option maxHeartbeats 4000000 in
theorem k_X2_replyOf {ρ : Rho} {h : Hp} {post : Int32 → Hp → Prop} {p1 : Int32} {p2 : Int32} (G : G0 ρ) (g : GI h) (hw : wp_X2_replyOf post h p1 p2) : Con ρ yX2_replyOf (ws_ yX2_replyOf cX2_replyOf 5 (Option.some Jvm.ClassFile.FieldType.int)) rm_X2_replyOf [.ref (mr ρ 25), .int p1, .int p2] h (phI h post) psN := by
  refine con_of (own := "BeforeTheEndModel") (isI := false) (l0 := [(0, .ref (mr ρ 25)), (1, .int p1), (2, .int p2)]) (by decide) rfl (fun z => by cases z) (Nat.le_of_ble_eq_true rfl) rfl (fun _ => ?_)
  show X ρ K_X2_replyOf 0 [(0, .ref (mr ρ 25)), (1, .int p1), (2, .int p2)] [] h 0 0 (phI h post) psN
  refine x_aload_n 0 dX2_replyOf_0 rfl ?_
  refine x_iconst (-1) dX2_replyOf_1 (by decide) ?_
  refine x_put (ci := 2) 40 dX2_replyOf_2 (GI.s g (t := (12, 0)) rfl (by decide)) rfl in_X2 tyX2 tyX2_ok nmX2 (by decide) q1263 (Or.inl rfl) rfl rfl rfl (isPut_i rfl) ?_
  refine x_aload_n 0 dX2_replyOf_5 rfl ?_
  refine x_iload_n 1 dX2_replyOf_6 rfl ?_
  refine x_iconst 0 dX2_replyOf_7 (by decide) ?_
  refine x_callV (ci := 2) [.int p1, .int 0] 2 dX2_replyOf_8 (k_X2_tries G (GI.i g) hw) (GI.s (GI.i g) (t := (12, 0)) rfl (by decide)) rfl q1610 q1612 qs93 q106 q1613 (by decide) rfl rfl ⟨(Nat.le_of_ble_eq_true rfl), (Nat.le_of_ble_eq_true rfl)⟩ (Nat.le_of_ble_eq_true rfl) ⟨(Nat.le_of_ble_eq_true rfl), (Nat.le_of_ble_eq_true rfl)⟩ (fun v9 h_1 hv9 => ?_) (fun _ _ _ _ _ z _ _ => False.elim z)
  obtain ⟨rfl, g_2, e_3, hw⟩ := hv9
  have hw := hw g_2 e_3
  show X ρ K_X2_replyOf 11 [(0, .ref (mr ρ 25)), (1, .int p1), (2, .int p2)] [] h_1 0 0 (phI h post) psN
  refine x_iconst 0 dX2_replyOf_11 (by decide) ?_
  refine x_istore_n (lv' := [(3, .int 0), (0, .ref (mr ρ 25)), (1, .int p1), (2, .int p2)]) dX2_replyOf_12 (Nat.le_of_ble_eq_true rfl) rfl ?_
  refine X.sub [1, 2, 3, 0] rfl ?_
  obtain ⟨fu, hw⟩ := hw
  exact t_X2_replyOf_13 G  fu p1 p2 0 h_1 g_2 (Ext.tr (Ext.i Ext.rf) e_3) hw

/-! BeforeTheEndModel.reply(II)I -/
def w_X2_reply_35 (post : Int32 → Hp → Prop) (x1 : Int32) (x2 : Int32) (x3 : Int32) (h : Hp) : Prop := ((x3 = 0 → (wp_X2_finds (fun h_2 => GI h_2 → Ext h h_2 → (wp_X2_replyOf (fun r_10 h_7 => GI h_7 → Ext h_2 h_7 → (post r_10 h_7)) h_2 x1 x2)) h)) ∧ (¬ x3 = 0 → (wp_X2_no (fun r_15 h_12 => GI h_12 → Ext h h_12 → (post r_15 h_12)) h x3)))
def wp_X2_reply (post : Int32 → Hp → Prop) (h : Hp) (p1 : Int32) (p2 : Int32) : Prop := (wp_X2_isPlayer (fun r_4 h_1 => GI h_1 → Ext h h_1 → ((¬ r_4 = 0 → (wp_X2_bound (fun r_10 h_7 => GI h_7 → Ext h_1 h_7 → ((¬ r_10 = 0 → (w_X2_reply_35 post p1 p2 r_10 h_7)) ∧ (r_10 = 0 → (wp_X2_isWhole (fun r_16 h_13 => GI h_13 → Ext h_7 h_13 → ((¬ r_16 = 0 → (w_X2_reply_35 post p1 p2 r_10 h_13)) ∧ (r_16 = 0 → (w_X2_reply_35 post p1 p2 (-3) h_13)))) h_7)))) h_1 p2 0 2)) ∧ (r_4 = 0 → (wp_X2_no (fun r_26 h_23 => GI h_23 → Ext h_1 h_23 → (post r_26 h_23)) h_1 (-1))))) h p1)
abbrev rm_X2_reply : Room := ({ frames := 6, cells := 0, slots := 0, locals := 182 })
abbrev K_X2_reply : Kx := ("BeforeTheEndModel", cX2_reply, 4, (Option.some Jvm.ClassFile.FieldType.int), rm_X2_reply, [], false)
set_option maxHeartbeats 4000000 in
theorem t_X2_reply_35 {ρ : Rho} {h0 : Hp} {post : Int32 → Hp → Prop} (G : G0 ρ) :
    ∀ (x1 : Int32) (x2 : Int32) (x3 : Int32) (h : Hp), GI h → Ext h0 h → w_X2_reply_35 post x1 x2 x3 h → X ρ K_X2_reply 35 [(0, .ref (mr ρ 25)), (1, .int x1), (2, .int x2), (3, .int x3)] [] h 0 0 (phI h0 post) psN := by
  intro x1 x2 x3 h g e hw
  refine x_iload_n 3 dX2_reply_35 rfl ?_
  obtain ⟨wt_17, wf_18⟩ := hw
  refine x_if_eq 45 dX2_reply_36 (by decide) (fun c_1 => ?_) (fun c_1 => ?_)
  · have hw := wt_17 c_1
    refine x_aload_n 0 dX2_reply_45 rfl ?_
    refine x_callV (ci := 2) [] 0 dX2_reply_46 (k_X2_finds G g hw) (GI.s g (t := (12, 0)) rfl (by decide)) rfl q1521 q1523 qs79 q106 q1524 (by decide) rfl rfl ⟨(Nat.le_of_ble_eq_true rfl), (Nat.le_of_ble_eq_true rfl)⟩ (Nat.le_of_ble_eq_true rfl) ⟨(Nat.le_of_ble_eq_true rfl), (Nat.le_of_ble_eq_true rfl)⟩ (fun v9 h_2 hv9 => ?_) (fun _ _ _ _ _ z _ _ => False.elim z)
    obtain ⟨rfl, g_3, e_4, hw⟩ := hv9
    have hw := hw g_3 e_4
    show X ρ K_X2_reply 49 [(0, .ref (mr ρ 25)), (1, .int x1), (2, .int x2), (3, .int x3)] [] h_2 0 0 (phI h0 post) psN
    refine x_aload_n 0 dX2_reply_49 rfl ?_
    refine x_iload_n 1 dX2_reply_50 rfl ?_
    refine x_iload_n 2 dX2_reply_51 rfl ?_
    refine x_callV (ci := 2) [.int x1, .int x2] 2 dX2_reply_52 (k_X2_replyOf G g_3 hw) (GI.s g_3 (t := (12, 0)) rfl (by decide)) rfl q1606 q1608 qs92 q106 q1609 (by decide) rfl rfl ⟨(Nat.le_of_ble_eq_true rfl), (Nat.le_of_ble_eq_true rfl)⟩ (Nat.le_of_ble_eq_true rfl) ⟨(Nat.le_of_ble_eq_true rfl), (Nat.le_of_ble_eq_true rfl)⟩ (fun v9 h_7 hv9 => ?_) (fun _ _ _ _ _ z _ _ => False.elim z)
    obtain ⟨r_10, rfl, g_8, e_9, hw⟩ := hv9
    have hw := hw g_8 e_9
    show X ρ K_X2_reply 55 [(0, .ref (mr ρ 25)), (1, .int x1), (2, .int x2), (3, .int x3)] [.int r_10] h_7 0 0 (phI h0 post) psN
    exact x_iret dX2_reply_55 rfl (Nat.le_of_ble_eq_true rfl) (Nat.le_of_ble_eq_true rfl) ⟨_, rfl, g_8, (Ext.tr (Ext.tr e e_4) e_9), hw⟩
  · have hw := wf_18 c_1
    refine x_aload_n 0 dX2_reply_39 rfl ?_
    refine x_iload_n 3 dX2_reply_40 rfl ?_
    refine x_callV (ci := 2) [.int x3] 1 dX2_reply_41 (k_X2_no G g hw) (GI.s g (t := (12, 0)) rfl (by decide)) rfl q1387 q1389 qs59 q106 q1390 (by decide) rfl rfl ⟨(Nat.le_of_ble_eq_true rfl), (Nat.le_of_ble_eq_true rfl)⟩ (Nat.le_of_ble_eq_true rfl) ⟨(Nat.le_of_ble_eq_true rfl), (Nat.le_of_ble_eq_true rfl)⟩ (fun v9 h_12 hv9 => ?_) (fun _ _ _ _ _ z _ _ => False.elim z)
    obtain ⟨r_15, rfl, g_13, e_14, hw⟩ := hv9
    have hw := hw g_13 e_14
    show X ρ K_X2_reply 44 [(0, .ref (mr ρ 25)), (1, .int x1), (2, .int x2), (3, .int x3)] [.int r_15] h_12 0 0 (phI h0 post) psN
    exact x_iret dX2_reply_44 rfl (Nat.le_of_ble_eq_true rfl) (Nat.le_of_ble_eq_true rfl) ⟨_, rfl, g_13, (Ext.tr e e_14), hw⟩
set_option maxHeartbeats 4000000 in
theorem k_X2_reply {ρ : Rho} {h : Hp} {post : Int32 → Hp → Prop} {p1 : Int32} {p2 : Int32} (G : G0 ρ) (g : GI h) (hw : wp_X2_reply post h p1 p2) : Con ρ yX2_reply (ws_ yX2_reply cX2_reply 4 (Option.some Jvm.ClassFile.FieldType.int)) rm_X2_reply [.ref (mr ρ 25), .int p1, .int p2] h (phI h post) psN := by
  refine con_of (own := "BeforeTheEndModel") (isI := false) (l0 := [(0, .ref (mr ρ 25)), (1, .int p1), (2, .int p2)]) (by decide) rfl (fun z => by cases z) (Nat.le_of_ble_eq_true rfl) rfl (fun _ => ?_)
  show X ρ K_X2_reply 0 [(0, .ref (mr ρ 25)), (1, .int p1), (2, .int p2)] [] h 0 0 (phI h post) psN
  refine x_aload_n 0 dX2_reply_0 rfl ?_
  refine x_iload_n 1 dX2_reply_1 rfl ?_
  refine x_callV (ci := 2) [.int p1] 1 dX2_reply_2 (k_X2_isPlayer G g hw) (GI.s g (t := (12, 0)) rfl (by decide)) rfl q1454 q1456 qs71 q106 q1457 (by decide) rfl rfl ⟨(Nat.le_of_ble_eq_true rfl), (Nat.le_of_ble_eq_true rfl)⟩ (Nat.le_of_ble_eq_true rfl) ⟨(Nat.le_of_ble_eq_true rfl), (Nat.le_of_ble_eq_true rfl)⟩ (fun v9 h_1 hv9 => ?_) (fun _ _ _ _ _ z _ _ => False.elim z)
  obtain ⟨r_4, rfl, g_2, e_3, b_5, hw⟩ := hv9
  have hw := hw g_2 e_3
  show X ρ K_X2_reply 5 [(0, .ref (mr ρ 25)), (1, .int p1), (2, .int p2)] [.int r_4] h_1 0 0 (phI h post) psN
  obtain ⟨wt_28, wf_29⟩ := hw
  refine x_if_ne 14 dX2_reply_5 (by decide) (fun c_6 => ?_) (fun c_6 => ?_)
  · have hw := wt_28 c_6
    refine x_iload_n 2 dX2_reply_14 rfl ?_
    refine x_iconst 0 dX2_reply_15 (by decide) ?_
    refine x_iconst 2 dX2_reply_16 (by decide) ?_
    refine x_callS [.int p2, .int 0, .int 2] 3 dX2_reply_17 (k_X2_bound G g_2 hw) q1384 q1385 q106 q1386 (by decide) rfl rfl ⟨(Nat.le_of_ble_eq_true rfl), (Nat.le_of_ble_eq_true rfl)⟩ (Nat.le_of_ble_eq_true rfl) ⟨(Nat.le_of_ble_eq_true rfl), (Nat.le_of_ble_eq_true rfl)⟩ (fun v9 h_7 hv9 => ?_) (fun _ _ _ _ _ z _ _ => False.elim z)
    obtain ⟨r_10, rfl, g_8, e_9, hw⟩ := hv9
    have hw := hw g_8 e_9
    show X ρ K_X2_reply 20 [(0, .ref (mr ρ 25)), (1, .int p1), (2, .int p2)] [.int r_10] h_7 0 0 (phI h post) psN
    refine x_istore_n (lv' := [(3, .int r_10), (0, .ref (mr ρ 25)), (1, .int p1), (2, .int p2)]) dX2_reply_20 (Nat.le_of_ble_eq_true rfl) rfl ?_
    refine x_iload_n 0 dX2_reply_21 rfl ?_
    obtain ⟨wt_21, wf_22⟩ := hw
    refine x_if_ne 35 dX2_reply_22 (by decide) (fun c_12 => ?_) (fun c_12 => ?_)
    · have hw := wt_21 c_12
      refine X.sub [1, 2, 3, 0] rfl ?_
      exact t_X2_reply_35 G  p1 p2 r_10 h_7 g_8 (Ext.tr e_3 e_9) hw
    · have hw := wf_22 c_12
      refine x_aload_n 1 dX2_reply_25 rfl ?_
      refine x_callV (ci := 2) [] 0 dX2_reply_26 (k_X2_isWhole G g_8 hw) (GI.s g_8 (t := (12, 0)) rfl (by decide)) rfl q1462 q1464 qs72 q106 q1465 (by decide) rfl rfl ⟨(Nat.le_of_ble_eq_true rfl), (Nat.le_of_ble_eq_true rfl)⟩ (Nat.le_of_ble_eq_true rfl) ⟨(Nat.le_of_ble_eq_true rfl), (Nat.le_of_ble_eq_true rfl)⟩ (fun v9 h_13 hv9 => ?_) (fun _ _ _ _ _ z _ _ => False.elim z)
      obtain ⟨r_16, rfl, g_14, e_15, b_17, hw⟩ := hv9
      have hw := hw g_14 e_15
      show X ρ K_X2_reply 29 [(3, .int r_10), (0, .ref (mr ρ 25)), (1, .int p1), (2, .int p2)] [.int r_16] h_13 0 0 (phI h post) psN
      obtain ⟨wt_19, wf_20⟩ := hw
      refine x_if_ne 35 dX2_reply_29 (by decide) (fun c_18 => ?_) (fun c_18 => ?_)
      · have hw := wt_19 c_18
        refine X.sub [1, 2, 3, 0] rfl ?_
        exact t_X2_reply_35 G  p1 p2 r_10 h_13 g_14 (Ext.tr (Ext.tr e_3 e_9) e_15) hw
      · have hw := wf_20 c_18
        refine x_bipush (-3) dX2_reply_32 (by decide) ?_
        refine x_istore_n (lv' := [(3, .int (-3)), (0, .ref (mr ρ 25)), (1, .int p1), (2, .int p2)]) dX2_reply_34 (Nat.le_of_ble_eq_true rfl) rfl ?_
        refine X.sub [1, 2, 3, 0] rfl ?_
        exact t_X2_reply_35 G  p1 p2 (-3) h_13 g_14 (Ext.tr (Ext.tr e_3 e_9) e_15) hw
  · have hw := wf_29 c_6
    refine x_aload_n 0 dX2_reply_8 rfl ?_
    refine x_iconst (-1) dX2_reply_9 (by decide) ?_
    refine x_callV (ci := 2) [.int (-1)] 1 dX2_reply_10 (k_X2_no G g_2 hw) (GI.s g_2 (t := (12, 0)) rfl (by decide)) rfl q1387 q1389 qs59 q106 q1390 (by decide) rfl rfl ⟨(Nat.le_of_ble_eq_true rfl), (Nat.le_of_ble_eq_true rfl)⟩ (Nat.le_of_ble_eq_true rfl) ⟨(Nat.le_of_ble_eq_true rfl), (Nat.le_of_ble_eq_true rfl)⟩ (fun v9 h_23 hv9 => ?_) (fun _ _ _ _ _ z _ _ => False.elim z)
    obtain ⟨r_26, rfl, g_24, e_25, hw⟩ := hv9
    have hw := hw g_24 e_25
    show X ρ K_X2_reply 13 [(0, .ref (mr ρ 25)), (1, .int p1), (2, .int p2)] [.int r_26] h_23 0 0 (phI h post) psN
    exact x_iret dX2_reply_13 rfl (Nat.le_of_ble_eq_true rfl) (Nat.le_of_ble_eq_true rfl) ⟨_, rfl, g_24, (Ext.tr e_3 e_25), hw⟩

/-! BeforeTheEnd.rest(II)I -/
def wp_X0_rest (post : Int32 → Hp → Prop) (h : Hp) (p1 : Int32) (p2 : Int32) : Prop := (wp_X0_act (fun r_4 h_1 => GI h_1 → Ext h h_1 → (post r_4 h_1)) h 12 p1 p2 0)
abbrev rm_X0_rest : Room := ({ frames := 19, cells := 1868, slots := 13143, locals := 599 })
abbrev K_X0_rest : Kx := ("BeforeTheEnd", cX0_rest, 3, (Option.some Jvm.ClassFile.FieldType.int), rm_X0_rest, [], false)
set_option maxHeartbeats 4000000 in
theorem k_X0_rest {ρ : Rho} {h : Hp} {post : Int32 → Hp → Prop} {p1 : Int32} {p2 : Int32} (G : G0 ρ) (g : GI h) (hw : wp_X0_rest post h p1 p2) : Con ρ yX0_rest (ws_ yX0_rest cX0_rest 3 (Option.some Jvm.ClassFile.FieldType.int)) rm_X0_rest [.ref (mr ρ 1), .int p1, .int p2] h (phI h post) psN := by
  refine con_of (own := "BeforeTheEnd") (isI := false) (l0 := [(0, .ref (mr ρ 1)), (1, .int p1), (2, .int p2)]) (by decide) rfl (fun z => by cases z) (Nat.le_of_ble_eq_true rfl) rfl (fun _ => ?_)
  show X ρ K_X0_rest 0 [(0, .ref (mr ρ 1)), (1, .int p1), (2, .int p2)] [] h 0 0 (phI h post) psN
  refine x_aload_n 0 dX0_rest_0 rfl ?_
  refine x_bipush 12 dX0_rest_1 (by decide) ?_
  refine x_iload_n 1 dX0_rest_3 rfl ?_
  refine x_iload_n 2 dX0_rest_4 rfl ?_
  refine x_iconst 0 dX0_rest_5 (by decide) ?_
  refine x_callH (ci := 0) [.int 12, .int p1, .int p2, .int 0] 4 dX0_rest_6 (k_X0_act G g hw) (GI.s g (t := (10, 0)) rfl (by decide)) rfl q383 q385 qs3 q104 q386 (by decide) rfl rfl ⟨(Nat.le_of_ble_eq_true rfl), (Nat.le_of_ble_eq_true rfl)⟩ (Nat.le_of_ble_eq_true rfl) ⟨(Nat.le_of_ble_eq_true rfl), (Nat.le_of_ble_eq_true rfl)⟩ (fun v9 h_1 hv9 => ?_) (fun _ _ _ _ _ z _ _ => False.elim z)
  obtain ⟨r_4, rfl, g_2, e_3, hw⟩ := hv9
  have hw := hw g_2 e_3
  show X ρ K_X0_rest 9 [(0, .ref (mr ρ 1)), (1, .int p1), (2, .int p2)] [.int r_4] h_1 1868 13143 (phI h post) psN
  exact x_iret dX0_rest_9 rfl (Nat.le_of_ble_eq_true rfl) (Nat.le_of_ble_eq_true rfl) ⟨_, rfl, g_2, e_3, hw⟩

/-! BeforeTheEndModel.takesReply(I)Z -/
def wp_X2_takesReply (post : Int32 → Hp → Prop) (h : Hp) (p1 : Int32) : Prop := (wp_X2_finds (fun h_1 => GI h_1 → Ext h h_1 → (wp_X2_replyOf (fun r_9 h_6 => GI h_6 → Ext h_1 h_6 → (vp_in p1 4 ∧ (∀ z_13 : Int32, z_13 = ((if r_9 = (gi h_6 35 (Int32.toNatClampNeg p1)) then 0 else 1) : Int32) → (vp_in p1 4 ∧ (post z_13 (si h_6 35 (Int32.toNatClampNeg p1) r_9)))))) h_1 p1 2)) h)
abbrev rm_X2_takesReply : Room := ({ frames := 6, cells := 0, slots := 0, locals := 182 })
abbrev K_X2_takesReply : Kx := ("BeforeTheEndModel", cX2_takesReply, 4, (Option.some Jvm.ClassFile.FieldType.boolean), rm_X2_takesReply, [], false)
set_option maxHeartbeats 4000000 in
theorem k_X2_takesReply {ρ : Rho} {h : Hp} {post : Int32 → Hp → Prop} {p1 : Int32} (G : G0 ρ) (g : GI h) (hw : wp_X2_takesReply post h p1) : Con ρ yX2_takesReply (ws_ yX2_takesReply cX2_takesReply 4 (Option.some Jvm.ClassFile.FieldType.boolean)) rm_X2_takesReply [.ref (mr ρ 25), .int p1] h (phB h post) psN := by
  refine con_of (own := "BeforeTheEndModel") (isI := false) (l0 := [(0, .ref (mr ρ 25)), (1, .int p1)]) (by decide) rfl (fun z => by cases z) (Nat.le_of_ble_eq_true rfl) rfl (fun _ => ?_)
  show X ρ K_X2_takesReply 0 [(0, .ref (mr ρ 25)), (1, .int p1)] [] h 0 0 (phB h post) psN
  refine x_aload_n 0 dX2_takesReply_0 rfl ?_
  refine x_callV (ci := 2) [] 0 dX2_takesReply_1 (k_X2_finds G g hw) (GI.s g (t := (12, 0)) rfl (by decide)) rfl q1521 q1523 qs79 q106 q1524 (by decide) rfl rfl ⟨(Nat.le_of_ble_eq_true rfl), (Nat.le_of_ble_eq_true rfl)⟩ (Nat.le_of_ble_eq_true rfl) ⟨(Nat.le_of_ble_eq_true rfl), (Nat.le_of_ble_eq_true rfl)⟩ (fun v9 h_1 hv9 => ?_) (fun _ _ _ _ _ z _ _ => False.elim z)
  obtain ⟨rfl, g_2, e_3, hw⟩ := hv9
  have hw := hw g_2 e_3
  show X ρ K_X2_takesReply 4 [(0, .ref (mr ρ 25)), (1, .int p1)] [] h_1 0 0 (phB h post) psN
  refine x_aload_n 0 dX2_takesReply_4 rfl ?_
  refine x_iload_n 1 dX2_takesReply_5 rfl ?_
  refine x_iconst 2 dX2_takesReply_6 (by decide) ?_
  refine x_callV (ci := 2) [.int p1, .int 2] 2 dX2_takesReply_7 (k_X2_replyOf G g_2 hw) (GI.s g_2 (t := (12, 0)) rfl (by decide)) rfl q1606 q1608 qs92 q106 q1609 (by decide) rfl rfl ⟨(Nat.le_of_ble_eq_true rfl), (Nat.le_of_ble_eq_true rfl)⟩ (Nat.le_of_ble_eq_true rfl) ⟨(Nat.le_of_ble_eq_true rfl), (Nat.le_of_ble_eq_true rfl)⟩ (fun v9 h_6 hv9 => ?_) (fun _ _ _ _ _ z _ _ => False.elim z)
  obtain ⟨r_9, rfl, g_7, e_8, hw⟩ := hv9
  have hw := hw g_7 e_8
  show X ρ K_X2_takesReply 10 [(0, .ref (mr ρ 25)), (1, .int p1)] [.int r_9] h_6 0 0 (phB h post) psN
  refine x_istore_n (lv' := [(2, .int r_9), (0, .ref (mr ρ 25)), (1, .int p1)]) dX2_takesReply_10 (Nat.le_of_ble_eq_true rfl) rfl ?_
  refine x_iload_n 0 dX2_takesReply_11 rfl ?_
  refine x_aload_n 1 dX2_takesReply_12 rfl ?_
  refine x_get (ci := 2) (v := .ref (mr ρ 35)) 9 dX2_takesReply_13 (GI.s g_7 (t := (12, 0)) rfl (by decide)) rfl in_X2 (by decide) q1232 (Or.inl rfl) (fv_rc rfl (GI.m g_7 (n := 35) rfl (by decide)) (by decide)) ?_
  refine x_iload_n 2 dX2_takesReply_16 rfl ?_
  obtain ⟨b_11, hw⟩ := hw
  refine x_iald (n := 4) (j := (Int32.toNatClampNeg p1)) dX2_takesReply_17 rfl (GI.s g_7 (t := (1, 4)) rfl (by decide)) b_11 ?_
  have kJ_15 : ∀ z_13 : Int32, z_13 = ((if r_9 = (gi h_6 35 (Int32.toNatClampNeg p1)) then 0 else 1) : Int32) → X ρ K_X2_takesReply 26 [(2, .int r_9), (0, .ref (mr ρ 25)), (1, .int p1)] [.int z_13] h_6 0 0 (phB h post) psN := fun z_13 ez_13 => by
    have hw := hw z_13 ez_13
    refine x_istore_n (lv' := [(3, .int z_13), (2, .int r_9), (0, .ref (mr ρ 25)), (1, .int p1)]) dX2_takesReply_26 (Nat.le_of_ble_eq_true rfl) rfl ?_
    refine x_aload_n 2 dX2_takesReply_27 rfl ?_
    refine x_get (ci := 2) (v := .ref (mr ρ 35)) 9 dX2_takesReply_28 (GI.s g_7 (t := (12, 0)) rfl (by decide)) rfl in_X2 (by decide) q1232 (Or.inl rfl) (fv_rc rfl (GI.m g_7 (n := 35) rfl (by decide)) (by decide)) ?_
    refine x_iload_n 3 dX2_takesReply_31 rfl ?_
    refine x_iload_n 1 dX2_takesReply_32 rfl ?_
    obtain ⟨b_14, hw⟩ := hw
    refine x_iast (n := 4) (j := (Int32.toNatClampNeg p1)) dX2_takesReply_33 rfl (GI.s g_7 (t := (1, 4)) rfl (by decide)) b_14 ?_
    refine x_iload_n 0 dX2_takesReply_34 rfl ?_
    exact x_zret dX2_takesReply_35 rfl (isB.n (Eq.mpr (congrArg isB ez_13) (isB_ite isB_0 isB_1))) (Nat.le_of_ble_eq_true rfl) (Nat.le_of_ble_eq_true rfl) ⟨_, rfl, (GI.i g_7), (Ext.i (Ext.tr e_3 e_8)), (Eq.mpr (congrArg isB ez_13) (isB_ite isB_0 isB_1)), hw⟩
  refine x_icmp_eq 25 dX2_takesReply_18 (by decide) (fun c_12 => ?_) (fun c_12 => ?_)
  · refine x_iconst 0 dX2_takesReply_25 (by decide) ?_
    exact kJ_15 _ ((if_pos c_12)).symm
  · refine x_iconst 1 dX2_takesReply_21 (by decide) ?_
    refine x_goto 26 dX2_takesReply_22 (by decide) ?_
    exact kJ_15 _ ((if_neg c_12)).symm
