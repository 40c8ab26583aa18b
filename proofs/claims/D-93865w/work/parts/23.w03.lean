/-! THE WALK, printed by wip/D-93865w/gen/main.py -/
set_option maxRecDepth 100000
/-! BeforeTheEnd$Tree.sumOf(IZ)J -/
def w_X1_sumOf_8 (post : Int64 → Hp → Prop) : Nat → Nat → Int32 → Int32 → Int64 → Int64 → Int32 → Hp → Prop
  | 0 => fun _ _ _ _ _ _ _ => False
  | n + 1 => fun x0 x1 x2 x3 x5 x7 h => (((gi h x0 0) ≤ x7 → (((¬ x2 = 0 → ((¬ x5 ≤ 0 → (¬ x5 = 0))))) ∧ (∀ z_5 : Int64, z_5 = ((if x2 = 0 then x3 else (if x5 ≤ 0 then x3 else (x3 / x5))) : Int64) → (post z_5 h)))) ∧ (¬ (gi h x0 0) ≤ x7 → (vp_in x7 24 ∧ ((¬ (gi h (x0 + 1) (Int32.toNatClampNeg x7)) = x1 → (w_X1_sumOf_8 post n x0 x1 x2 x3 x5 (x7 + 1) h)) ∧ ((gi h (x0 + 1) (Int32.toNatClampNeg x7)) = x1 → (vp_in x7 24 ∧ (∀ x3_11 : Int64, x3_11 = (x3 + (Int32.toInt64 (gi h (x0 + 2) (Int32.toNatClampNeg x7)))) → (vp_in x7 24 ∧ (wp_X0_divisor (fun r_16 h_13 => GI h_13 → Ext h h_13 → (w_X1_sumOf_8 post n x0 x1 x2 x3_11 r_16 (x7 + 1) h_13)) h (Int32.toInt64 (gi h (x0 + 2) (Int32.toNatClampNeg x7))) x5)))))))))
def wp_X1_sumOf (post : Int64 → Hp → Prop) (h : Hp) (r0 : Nat) (p1 : Int32) (p2 : Int32) : Prop := (∃ fu : Nat, w_X1_sumOf_8 post fu r0 p1 p2 0 0 1 h)
abbrev rm_X1_sumOf : Room := ({ frames := 2, cells := 0, slots := 0, locals := 89 })
abbrev K_X1_sumOf : Kx := ("BeforeTheEnd$Tree", cX1_sumOf, 8, (Option.some Jvm.ClassFile.FieldType.long), rm_X1_sumOf, [], false)
set_option maxHeartbeats 4000000 in
theorem t_X1_sumOf_8 {ρ : Rho} {h0 : Hp} {post : Int64 → Hp → Prop} (G : G0 ρ) :
    ∀ (n : Nat), ∀ (x0 : Nat) (x1 : Int32) (x2 : Int32) (x3 : Int64) (x5 : Int64) (x7 : Int32) (h : Hp), GI h → Ext h0 h → isTree h x0 → w_X1_sumOf_8 post n x0 x1 x2 x3 x5 x7 h → X ρ K_X1_sumOf 8 [(0, .ref (mr ρ x0)), (1, .int x1), (2, .int x2), (3, .long x3), (5, .long x5), (7, .int x7)] [] h 0 0 (phL h0 post) psN := by
  intro n
  induction n with
  | zero => intro x0 x1 x2 x3 x5 x7 h g e fx0 hw; exact False.elim hw
  | succ n ih =>
    intro x0 x1 x2 x3 x5 x7 h g e fx0 hw
    refine x_iload 5 dX1_sumOf_8 rfl ?_
    refine x_aload_n 0 dX1_sumOf_10 rfl ?_
    refine x_get (ci := 1) (v := .int (gi h x0 0)) 0 dX1_sumOf_11 (isTree.s fx0) rfl in_X1 (by decide) q145 (Or.inl rfl) (fv_i rfl) ?_
    obtain ⟨wt_20, wf_21⟩ := hw
    refine x_icmp_ge 60 dX1_sumOf_14 (by decide) (fun c_1 => ?_) (fun c_1 => ?_)
    · have hw := wt_20 c_1
      refine x_iload_n 2 dX1_sumOf_60 rfl ?_
      obtain ⟨hO_7, hw⟩ := hw
      have kJ_6 : ∀ z_5 : Int64, z_5 = ((if x2 = 0 then x3 else (if x5 ≤ 0 then x3 else (x3 / x5))) : Int64) → X ρ K_X1_sumOf 79 [(0, .ref (mr ρ x0)), (1, .int x1), (2, .int x2), (3, .long x3), (5, .long x5), (7, .int x7)] [.long z_5] h 0 0 (phL h0 post) psN := fun z_5 ez_5 => by
        have hw := hw z_5 ez_5
        exact x_lret dX1_sumOf_79 rfl (Nat.le_of_ble_eq_true rfl) (Nat.le_of_ble_eq_true rfl) ⟨_, rfl, g, e, hw⟩
      have hO_70 := hO_7
      refine x_if_eq 78 dX1_sumOf_61 (by decide) (fun c_2 => ?_) (fun c_2 => ?_)
      · refine x_lload_n 3 dX1_sumOf_78 rfl ?_
        exact kJ_6 _ ((if_pos c_2)).symm
      · have hO_7_ := hO_70 c_2
        have hO_7_0 := hO_7_
        refine x_lload 4 dX1_sumOf_64 rfl ?_
        refine x_lconst 0 dX1_sumOf_66 (by decide) ?_
        refine x_lif_le 78 dX1_sumOf_67 dX1_sumOf_68 (by decide) (fun c_3 => ?_) (fun c_3 => ?_)
        · refine x_lload_n 3 dX1_sumOf_78 rfl ?_
          exact kJ_6 _ (((if_neg c_2).trans (if_pos c_3))).symm
        · have hO_7__ := hO_7_0 c_3
          have b_4 := hO_7__
          refine x_lload_n 3 dX1_sumOf_71 rfl ?_
          refine x_lload 4 dX1_sumOf_72 rfl ?_
          refine x_ldiv dX1_sumOf_74 b_4 ?_
          refine x_goto 79 dX1_sumOf_75 (by decide) ?_
          exact kJ_6 _ (((if_neg c_2).trans (if_neg c_3))).symm
    · have hw := wf_21 c_1
      refine x_aload_n 0 dX1_sumOf_17 rfl ?_
      refine x_get (ci := 1) (v := .ref (mr ρ (x0 + 1))) 1 dX1_sumOf_18 (isTree.s fx0) rfl in_X1 (by decide) q148 (Or.inl rfl) (fv_rc rfl (isTree.p fx0 1 (by decide) (by decide)) (Nat.succ_ne_zero _)) ?_
      refine x_iload 5 dX1_sumOf_21 rfl ?_
      obtain ⟨b_8, hw⟩ := hw
      refine x_iald (n := 24) (j := (Int32.toNatClampNeg x7)) dX1_sumOf_23 rfl (isTree.a fx0 1 (by decide) (by decide)) b_8 ?_
      refine x_iload_n 1 dX1_sumOf_24 rfl ?_
      obtain ⟨wt_18, wf_19⟩ := hw
      refine x_icmp_ne 54 dX1_sumOf_25 (by decide) (fun c_9 => ?_) (fun c_9 => ?_)
      · have hw := wt_18 c_9
        refine x_iinc (v := (x7 + 1)) (lv' := [(7, .int (x7 + 1)), (0, .ref (mr ρ x0)), (1, .int x1), (2, .int x2), (3, .long x3), (5, .long x5)]) 5 dX1_sumOf_54 rfl (by rfl) (Nat.le_of_ble_eq_true rfl) rfl ?_
        refine x_goto 8 dX1_sumOf_57 (by decide) ?_
        refine X.sub [1, 2, 3, 4, 5, 0] rfl ?_
        exact ih x0 x1 x2 x3 x5 (x7 + 1) h g e fx0 hw
      · have hw := wf_19 c_9
        refine x_lload_n 3 dX1_sumOf_28 rfl ?_
        refine x_aload_n 0 dX1_sumOf_29 rfl ?_
        refine x_get (ci := 1) (v := .ref (mr ρ (x0 + 2))) 2 dX1_sumOf_30 (isTree.s fx0) rfl in_X1 (by decide) q150 (Or.inl rfl) (fv_rc rfl (isTree.p fx0 2 (by decide) (by decide)) (Nat.succ_ne_zero _)) ?_
        refine x_iload 5 dX1_sumOf_33 rfl ?_
        obtain ⟨b_10, hw⟩ := hw
        refine x_iald (n := 24) (j := (Int32.toNatClampNeg x7)) dX1_sumOf_35 rfl (isTree.a fx0 2 (by decide) (by decide)) b_10 ?_
        refine x_i2l dX1_sumOf_36 ?_
        refine x_ladd dX1_sumOf_37 ?_
        refine x_nml (fun x3_11 ex3_11 => ?_)
        have hw := hw x3_11 ex3_11
        refine x_lstore_n (lv' := [(3, .long x3_11), (0, .ref (mr ρ x0)), (1, .int x1), (2, .int x2), (5, .long x5), (7, .int x7)]) dX1_sumOf_38 (Nat.le_of_ble_eq_true rfl) rfl ?_
        refine x_aload_n 1 dX1_sumOf_39 rfl ?_
        refine x_get (ci := 1) (v := .ref (mr ρ (x0 + 2))) 2 dX1_sumOf_40 (isTree.s fx0) rfl in_X1 (by decide) q150 (Or.inl rfl) (fv_rc rfl (isTree.p fx0 2 (by decide) (by decide)) (Nat.succ_ne_zero _)) ?_
        refine x_iload 5 dX1_sumOf_43 rfl ?_
        obtain ⟨b_12, hw⟩ := hw
        refine x_iald (n := 24) (j := (Int32.toNatClampNeg x7)) dX1_sumOf_45 rfl (isTree.a fx0 2 (by decide) (by decide)) b_12 ?_
        refine x_i2l dX1_sumOf_46 ?_
        refine x_lload 4 dX1_sumOf_47 rfl ?_
        refine x_callSN [.long (Int32.toInt64 (gi h (x0 + 2) (Int32.toNatClampNeg x7))), .long x5] 2 dX1_sumOf_49 (k_X0_divisor G g hw) q821 q822 q104 q823 (by decide) rfl rfl ⟨(Nat.le_of_ble_eq_true rfl), (Nat.le_of_ble_eq_true rfl)⟩ (Nat.le_of_ble_eq_true rfl) ⟨(Nat.le_of_ble_eq_true rfl), (Nat.le_of_ble_eq_true rfl)⟩ (fun v9 h_13 hv9 => ?_) (fun _ _ _ _ _ z _ _ => False.elim z)
        obtain ⟨r_16, rfl, g_14, e_15, hw⟩ := hv9
        have hw := hw g_14 e_15
        show X ρ K_X1_sumOf 52 [(3, .long x3_11), (0, .ref (mr ρ x0)), (1, .int x1), (2, .int x2), (5, .long x5), (7, .int x7)] [.long r_16] h_13 0 0 (phL h0 post) psN
        refine x_lstore (lv' := [(5, .long r_16), (3, .long x3_11), (0, .ref (mr ρ x0)), (1, .int x1), (2, .int x2), (7, .int x7)]) dX1_sumOf_52 (Nat.le_of_ble_eq_true rfl) rfl ?_
        refine x_iinc (v := (x7 + 1)) (lv' := [(7, .int (x7 + 1)), (5, .long r_16), (3, .long x3_11), (0, .ref (mr ρ x0)), (1, .int x1), (2, .int x2)]) 5 dX1_sumOf_54 rfl (by rfl) (Nat.le_of_ble_eq_true rfl) rfl ?_
        refine x_goto 8 dX1_sumOf_57 (by decide) ?_
        refine X.sub [3, 4, 5, 2, 1, 0] rfl ?_
        exact ih x0 x1 x2 x3_11 r_16 (x7 + 1) h_13 g_14 (Ext.tr e e_15) (isTree.ext fx0 e_15) hw
set_option maxHeartbeats 4000000 in
theorem k_X1_sumOf {ρ : Rho} {h : Hp} {post : Int64 → Hp → Prop} {r0 : Nat} {p1 : Int32} {p2 : Int32} (G : G0 ρ) (g : GI h) (fr0 : isTree h r0) (hw : wp_X1_sumOf post h r0 p1 p2) : Con ρ yX1_sumOf (ws_ yX1_sumOf cX1_sumOf 8 (Option.some Jvm.ClassFile.FieldType.long)) rm_X1_sumOf [.ref (mr ρ r0), .int p1, .int p2] h (phL h post) psN := by
  refine con_of (own := "BeforeTheEnd$Tree") (isI := false) (l0 := [(0, .ref (mr ρ r0)), (1, .int p1), (2, .int p2)]) (by decide) rfl (fun z => by cases z) (Nat.le_of_ble_eq_true rfl) rfl (fun _ => ?_)
  show X ρ K_X1_sumOf 0 [(0, .ref (mr ρ r0)), (1, .int p1), (2, .int p2)] [] h 0 0 (phL h post) psN
  refine x_lconst 0 dX1_sumOf_0 (by decide) ?_
  refine x_lstore_n (lv' := [(3, .long 0), (0, .ref (mr ρ r0)), (1, .int p1), (2, .int p2)]) dX1_sumOf_1 (Nat.le_of_ble_eq_true rfl) rfl ?_
  refine x_lconst 0 dX1_sumOf_2 (by decide) ?_
  refine x_lstore (lv' := [(5, .long 0), (3, .long 0), (0, .ref (mr ρ r0)), (1, .int p1), (2, .int p2)]) dX1_sumOf_3 (Nat.le_of_ble_eq_true rfl) rfl ?_
  refine x_iconst 1 dX1_sumOf_5 (by decide) ?_
  refine x_istore (lv' := [(7, .int 1), (5, .long 0), (3, .long 0), (0, .ref (mr ρ r0)), (1, .int p1), (2, .int p2)]) dX1_sumOf_6 (Nat.le_of_ble_eq_true rfl) rfl ?_
  refine X.sub [3, 4, 5, 2, 1, 0] rfl ?_
  obtain ⟨fu, hw⟩ := hw
  exact t_X1_sumOf_8 G  fu r0 p1 p2 0 0 1 h g Ext.rf fr0 hw

/-! BeforeTheEnd$Tree.findUnits()V -/
def w_X1_findUnits_203 (post : Hp → Prop) (K146 : Nat → Int32 → Hp → Prop) (x0 : Nat) (x1 : Int32) (h : Hp) : Prop := (vp_in x1 24 ∧ (vp_in (gi h (x0 + 3) (Int32.toNatClampNeg x1)) 240 ∧ (wp_X1_isEnd (fun r_6 h_3 => GI h_3 → Ext h h_3 → (((¬ r_6 = 0 → (vp_in x1 24))) ∧ (∀ z_10 : Int64, z_10 = ((if r_6 = 0 then 0 else (gl h_3 (x0 + 6) (Int32.toNatClampNeg x1))) : Int64) → (vp_in (gi h (x0 + 3) (Int32.toNatClampNeg x1)) 240 ∧ (∀ h_12 : Hp, h_12 = (sl h_3 (x0 + 7) (Int32.toNatClampNeg (gi h (x0 + 3) (Int32.toNatClampNeg x1))) ((gl h (x0 + 7) (Int32.toNatClampNeg (gi h (x0 + 3) (Int32.toNatClampNeg x1)))) + z_10)) → (K146 x0 (x1 + 1) h_12)))))) h x0 x1)))
def w_X1_findUnits_156 (post : Hp → Prop) (K146 : Nat → Int32 → Hp → Prop) : Nat → Nat → Int32 → Int32 → Hp → Prop
  | 0 => fun _ _ _ _ => False
  | n + 1 => fun x0 x1 x2 h => (wp_X1_isEnd (fun r_4 h_1 => GI h_1 → Ext h h_1 → ((r_4 = 0 → (w_X1_findUnits_203 post K146 x0 x1 h_1)) ∧ (¬ r_4 = 0 → ((x2 ≤ 0 → (w_X1_findUnits_203 post K146 x0 x1 h_1)) ∧ (¬ x2 ≤ 0 → (vp_in x1 24 ∧ (vp_in ((10 * x2) + (gi h_1 (x0 + 3) (Int32.toNatClampNeg x1))) 240 ∧ (vp_in x1 24 ∧ (vp_in ((10 * x2) + (gi h_1 (x0 + 3) (Int32.toNatClampNeg x1))) 240 ∧ (∀ h_12 : Hp, h_12 = (sl h_1 (x0 + 7) (Int32.toNatClampNeg ((10 * x2) + (gi h_1 (x0 + 3) (Int32.toNatClampNeg x1)))) ((gl h_1 (x0 + 7) (Int32.toNatClampNeg ((10 * x2) + (gi h_1 (x0 + 3) (Int32.toNatClampNeg x1))))) + (gl h_1 (x0 + 6) (Int32.toNatClampNeg x1)))) → (vp_in x2 24 ∧ (∀ x2_17 : Int32, x2_17 = (gi h_12 (x0 + 1) (Int32.toNatClampNeg x2)) → (w_X1_findUnits_156 post K146 n x0 x1 x2_17 h_12))))))))))))) h x0 x1)
def w_X1_findUnits_146 (post : Hp → Prop) : Nat → Nat → Int32 → Hp → Prop
  | 0 => fun _ _ _ => False
  | n + 1 => fun x0 x1 h => (((gi h x0 0) ≤ x1 → (post h)) ∧ (¬ (gi h x0 0) ≤ x1 → (∃ fu : Nat, w_X1_findUnits_156 post (w_X1_findUnits_146 post n) fu x0 x1 x1 h)))
def w_X1_findUnits_122 (post : Hp → Prop) : Nat → Nat → Int32 → Hp → Prop
  | 0 => fun _ _ _ => False
  | n + 1 => fun x0 x1 h => ((240 ≤ x1 → (∃ fu : Nat, w_X1_findUnits_146 post fu x0 1 h)) ∧ (¬ 240 ≤ x1 → (vp_in x1 240 ∧ (w_X1_findUnits_122 post n x0 (x1 + 1) (sl h (x0 + 7) (Int32.toNatClampNeg x1) 0)))))
def w_X1_findUnits_49 (post : Hp → Prop) : Nat → Nat → Int32 → Hp → Prop
  | 0 => fun _ _ _ => False
  | n + 1 => fun x0 x1 h => (((gi h x0 0) ≤ x1 → (∃ fu : Nat, w_X1_findUnits_122 post fu x0 0 h)) ∧ (¬ (gi h x0 0) ≤ x1 → (vp_in x1 24 ∧ (wp_X1_sumOf (fun r_6 h_3 => GI h_3 → Ext h h_3 → (vp_in x1 24 ∧ (wp_X1_sumOf (fun r_12 h_9 => GI h_9 → Ext h_3 h_9 → (¬ r_6 = 0 ∧ (vp_in x1 24 ∧ (vp_in (gi h_9 (x0 + 1) (Int32.toNatClampNeg x1)) 24 ∧ (¬ r_6 = 0 ∧ (vp_in x1 24 ∧ (¬ (r_12 / r_6) = 0 ∧ (vp_in x1 24 ∧ (∀ h_21 : Hp, h_21 = (sl h_9 (x0 + 6) (Int32.toNatClampNeg x1) (((gl h_9 (x0 + 6) (Int32.toNatClampNeg (gi h_9 (x0 + 1) (Int32.toNatClampNeg x1)))) / r_6) * ((Int32.toInt64 (gi h_9 (x0 + 2) (Int32.toNatClampNeg x1))) / (r_12 / r_6)))) → (w_X1_findUnits_49 post n x0 (x1 + 1) h_21)))))))))) h_3 x0 (gi h_3 (x0 + 1) (Int32.toNatClampNeg x1)) 0))) h x0 (gi h (x0 + 1) (Int32.toNatClampNeg x1)) 1))))
def w_X1_findUnits_14 (post : Hp → Prop) : Nat → Nat → Int32 → Hp → Prop
  | 0 => fun _ _ _ => False
  | n + 1 => fun x0 x1 h => (((gi h x0 0) ≤ x1 → (∃ fu : Nat, w_X1_findUnits_49 post fu x0 1 h)) ∧ (¬ (gi h x0 0) ≤ x1 → (wp_X1_sumOf (fun r_5 h_2 => GI h_2 → Ext h h_2 → (w_X1_findUnits_14 post n x0 (x1 + 1) (sl h_2 (x0 + 6) 0 ((gl h (x0 + 6) 0) * (if r_5 < (1 : Int64) then (1 : Int64) else r_5))))) h x0 x1 1)))
def wp_X1_findUnits (post : Hp → Prop) (h : Hp) (r0 : Nat) : Prop := (∃ fu : Nat, w_X1_findUnits_14 post fu r0 0 (sl (si h r0 8 1) (r0 + 6) 0 1))
abbrev rm_X1_findUnits : Room := ({ frames := 3, cells := 0, slots := 0, locals := 116 })
abbrev K_X1_findUnits : Kx := ("BeforeTheEnd$Tree", cX1_findUnits, 6, (Option.none : Option Jvm.ClassFile.FieldType), rm_X1_findUnits, [], false)
set_option maxHeartbeats 4000000 in
theorem t_X1_findUnits_203 {ρ : Rho} {h0 : Hp} {post : Hp → Prop} {K146 : Nat → Int32 → Hp → Prop} (G : G0 ρ) (hK146 : ∀ (x0 : Nat) (x1 : Int32) (h : Hp), GI h → Ext h0 h → isTree h x0 → K146 x0 x1 h → X ρ K_X1_findUnits 146 [(0, .ref (mr ρ x0)), (1, .int x1)] [] h 0 0 (phV h0 post) psN) :
    ∀ (x0 : Nat) (x1 : Int32) (h : Hp), GI h → Ext h0 h → isTree h x0 → w_X1_findUnits_203 post K146 x0 x1 h → X ρ K_X1_findUnits 203 [(0, .ref (mr ρ x0)), (1, .int x1)] [] h 0 0 (phV h0 post) psN := by
  intro x0 x1 h g e fx0 hw
  refine x_aload_n 0 dX1_findUnits_203 rfl ?_
  refine x_get (ci := 1) (v := .ref (mr ρ (x0 + 7))) 7 dX1_findUnits_204 (isTree.s fx0) rfl in_X1 (by decide) q159 (Or.inl rfl) (fv_rc rfl (isTree.p fx0 7 (by decide) (by decide)) (Nat.succ_ne_zero _)) ?_
  refine x_aload_n 0 dX1_findUnits_207 rfl ?_
  refine x_get (ci := 1) (v := .ref (mr ρ (x0 + 3))) 3 dX1_findUnits_208 (isTree.s fx0) rfl in_X1 (by decide) q152 (Or.inl rfl) (fv_rc rfl (isTree.p fx0 3 (by decide) (by decide)) (Nat.succ_ne_zero _)) ?_
  refine x_iload_n 1 dX1_findUnits_211 rfl ?_
  obtain ⟨b_1, hw⟩ := hw
  refine x_iald (n := 24) (j := (Int32.toNatClampNeg x1)) dX1_findUnits_212 rfl (isTree.a fx0 3 (by decide) (by decide)) b_1 ?_
  refine x_dup2 dX1_findUnits_213 rfl rfl ?_
  obtain ⟨b_2, hw⟩ := hw
  refine x_lald (n := 240) (j := (Int32.toNatClampNeg (gi h (x0 + 3) (Int32.toNatClampNeg x1)))) dX1_findUnits_214 rfl (isTree.a fx0 7 (by decide) (by decide)) b_2 ?_
  refine x_aload_n 0 dX1_findUnits_215 rfl ?_
  refine x_iload_n 1 dX1_findUnits_216 rfl ?_
  refine x_callV (ci := 1) [.int x1] 1 dX1_findUnits_217 (k_X1_isEnd G g fx0 hw) (isTree.s fx0) rfl q792 q723 q724 q105 q725 (by decide) rfl rfl ⟨(Nat.le_of_ble_eq_true rfl), (Nat.le_of_ble_eq_true rfl)⟩ (Nat.le_of_ble_eq_true rfl) ⟨(Nat.le_of_ble_eq_true rfl), (Nat.le_of_ble_eq_true rfl)⟩ (fun v9 h_3 hv9 => ?_) (fun _ _ _ _ _ z _ _ => False.elim z)
  obtain ⟨r_6, rfl, g_4, e_5, b_7, hw⟩ := hv9
  have hw := hw g_4 e_5
  show X ρ K_X1_findUnits 220 [(0, .ref (mr ρ x0)), (1, .int x1)] [.int r_6, .long (gl h (x0 + 7) (Int32.toNatClampNeg (gi h (x0 + 3) (Int32.toNatClampNeg x1)))), .int (gi h (x0 + 3) (Int32.toNatClampNeg x1)), .ref (mr ρ (x0 + 7))] h_3 0 0 (phV h0 post) psN
  obtain ⟨hO_17, hw⟩ := hw
  have kJ_16 : ∀ z_10 : Int64, z_10 = ((if r_6 = 0 then 0 else (gl h_3 (x0 + 6) (Int32.toNatClampNeg x1))) : Int64) → X ρ K_X1_findUnits 233 [(0, .ref (mr ρ x0)), (1, .int x1)] [.long z_10, .long (gl h (x0 + 7) (Int32.toNatClampNeg (gi h (x0 + 3) (Int32.toNatClampNeg x1)))), .int (gi h (x0 + 3) (Int32.toNatClampNeg x1)), .ref (mr ρ (x0 + 7))] h_3 0 0 (phV h0 post) psN := fun z_10 ez_10 => by
    have hw := hw z_10 ez_10
    refine x_ladd dX1_findUnits_233 ?_
    obtain ⟨b_11, hw⟩ := hw
    refine x_last (n := 240) (j := (Int32.toNatClampNeg (gi h (x0 + 3) (Int32.toNatClampNeg x1)))) dX1_findUnits_234 rfl (isTree.a (isTree.ext fx0 e_5) 7 (by decide) (by decide)) b_11 ?_
    refine x_nmh (fun h_12 eh_12 => ?_)
    have hw := hw h_12 eh_12
    have g_13 : GI h_12 := eh_12 ▸ (GI.l g_4)
    have e_14 : Ext h0 h_12 := eh_12 ▸ (Ext.l (Ext.tr e e_5))
    have f_15 : isTree h_12 x0 := eh_12 ▸ (isTree.l (isTree.ext fx0 e_5))
    refine x_iinc (v := (x1 + 1)) (lv' := [(1, .int (x1 + 1)), (0, .ref (mr ρ x0))]) 1 dX1_findUnits_235 rfl (by rfl) (Nat.le_of_ble_eq_true rfl) rfl ?_
    refine x_goto 146 dX1_findUnits_238 (by decide) ?_
    refine X.sub [1, 0] rfl ?_
    exact hK146 x0 (x1 + 1) h_12 g_13 e_14 f_15 hw
  have hO_170 := hO_17
  refine x_if_eq 232 dX1_findUnits_220 (by decide) (fun c_8 => ?_) (fun c_8 => ?_)
  · refine x_lconst 0 dX1_findUnits_232 (by decide) ?_
    exact kJ_16 _ ((if_pos c_8)).symm
  · have hO_17_ := hO_170 c_8
    have b_9 := hO_17_
    refine x_aload_n 0 dX1_findUnits_223 rfl ?_
    refine x_get (ci := 1) (v := .ref (mr ρ (x0 + 6))) 6 dX1_findUnits_224 (isTree.s (isTree.ext fx0 e_5)) rfl in_X1 (by decide) q158 (Or.inl rfl) (fv_rc rfl (isTree.p (isTree.ext fx0 e_5) 6 (by decide) (by decide)) (Nat.succ_ne_zero _)) ?_
    refine x_iload_n 1 dX1_findUnits_227 rfl ?_
    refine x_lald (n := 24) (j := (Int32.toNatClampNeg x1)) dX1_findUnits_228 rfl (isTree.a (isTree.ext fx0 e_5) 6 (by decide) (by decide)) b_9 ?_
    refine x_goto 233 dX1_findUnits_229 (by decide) ?_
    exact kJ_16 _ ((if_neg c_8)).symm
set_option maxHeartbeats 4000000 in
theorem t_X1_findUnits_156 {ρ : Rho} {h0 : Hp} {post : Hp → Prop} {K146 : Nat → Int32 → Hp → Prop} (G : G0 ρ) (hK146 : ∀ (x0 : Nat) (x1 : Int32) (h : Hp), GI h → Ext h0 h → isTree h x0 → K146 x0 x1 h → X ρ K_X1_findUnits 146 [(0, .ref (mr ρ x0)), (1, .int x1)] [] h 0 0 (phV h0 post) psN) :
    ∀ (n : Nat), ∀ (x0 : Nat) (x1 : Int32) (x2 : Int32) (h : Hp), GI h → Ext h0 h → isTree h x0 → w_X1_findUnits_156 post K146 n x0 x1 x2 h → X ρ K_X1_findUnits 156 [(0, .ref (mr ρ x0)), (1, .int x1), (2, .int x2)] [] h 0 0 (phV h0 post) psN := by
  intro n
  induction n with
  | zero => intro x0 x1 x2 h g e fx0 hw; exact False.elim hw
  | succ n ih =>
    intro x0 x1 x2 h g e fx0 hw
    rw [w_X1_findUnits_156] at hw
    refine x_aload_n 0 dX1_findUnits_156 rfl ?_
    refine x_iload_n 1 dX1_findUnits_157 rfl ?_
    refine x_callV (ci := 1) [.int x1] 1 dX1_findUnits_158 (k_X1_isEnd G g fx0 hw) (isTree.s fx0) rfl q792 q723 q724 q105 q725 (by decide) rfl rfl ⟨(Nat.le_of_ble_eq_true rfl), (Nat.le_of_ble_eq_true rfl)⟩ (Nat.le_of_ble_eq_true rfl) ⟨(Nat.le_of_ble_eq_true rfl), (Nat.le_of_ble_eq_true rfl)⟩ (fun v9 h_1 hv9 => ?_) (fun _ _ _ _ _ z _ _ => False.elim z)
    obtain ⟨r_4, rfl, g_2, e_3, b_5, hw⟩ := hv9
    have hw := hw g_2 e_3
    show X ρ K_X1_findUnits 161 [(0, .ref (mr ρ x0)), (1, .int x1), (2, .int x2)] [.int r_4] h_1 0 0 (phV h0 post) psN
    obtain ⟨wt_20, wf_21⟩ := hw
    refine x_if_eq 203 dX1_findUnits_161 (by decide) (fun c_6 => ?_) (fun c_6 => ?_)
    · have hw := wt_20 c_6
      refine X.sub [0, 1] rfl ?_
      exact t_X1_findUnits_203 G hK146 x0 x1 h_1 g_2 (Ext.tr e e_3) (isTree.ext fx0 e_3) hw
    · have hw := wf_21 c_6
      refine x_iload_n 2 dX1_findUnits_164 rfl ?_
      obtain ⟨wt_18, wf_19⟩ := hw
      refine x_if_le 203 dX1_findUnits_165 (by decide) (fun c_7 => ?_) (fun c_7 => ?_)
      · have hw := wt_18 c_7
        refine X.sub [0, 1] rfl ?_
        exact t_X1_findUnits_203 G hK146 x0 x1 h_1 g_2 (Ext.tr e e_3) (isTree.ext fx0 e_3) hw
      · have hw := wf_19 c_7
        refine x_aload_n 0 dX1_findUnits_168 rfl ?_
        refine x_get (ci := 1) (v := .ref (mr ρ (x0 + 7))) 7 dX1_findUnits_169 (isTree.s (isTree.ext fx0 e_3)) rfl in_X1 (by decide) q159 (Or.inl rfl) (fv_rc rfl (isTree.p (isTree.ext fx0 e_3) 7 (by decide) (by decide)) (Nat.succ_ne_zero _)) ?_
        refine x_bipush 10 dX1_findUnits_172 (by decide) ?_
        refine x_iload_n 2 dX1_findUnits_174 rfl ?_
        refine x_imul dX1_findUnits_175 ?_
        refine x_aload_n 0 dX1_findUnits_176 rfl ?_
        refine x_get (ci := 1) (v := .ref (mr ρ (x0 + 3))) 3 dX1_findUnits_177 (isTree.s (isTree.ext fx0 e_3)) rfl in_X1 (by decide) q152 (Or.inl rfl) (fv_rc rfl (isTree.p (isTree.ext fx0 e_3) 3 (by decide) (by decide)) (Nat.succ_ne_zero _)) ?_
        refine x_iload_n 1 dX1_findUnits_180 rfl ?_
        obtain ⟨b_8, hw⟩ := hw
        refine x_iald (n := 24) (j := (Int32.toNatClampNeg x1)) dX1_findUnits_181 rfl (isTree.a (isTree.ext fx0 e_3) 3 (by decide) (by decide)) b_8 ?_
        refine x_iadd dX1_findUnits_182 ?_
        refine x_dup2 dX1_findUnits_183 rfl rfl ?_
        obtain ⟨b_9, hw⟩ := hw
        refine x_lald (n := 240) (j := (Int32.toNatClampNeg ((10 * x2) + (gi h_1 (x0 + 3) (Int32.toNatClampNeg x1))))) dX1_findUnits_184 rfl (isTree.a (isTree.ext fx0 e_3) 7 (by decide) (by decide)) b_9 ?_
        refine x_aload_n 0 dX1_findUnits_185 rfl ?_
        refine x_get (ci := 1) (v := .ref (mr ρ (x0 + 6))) 6 dX1_findUnits_186 (isTree.s (isTree.ext fx0 e_3)) rfl in_X1 (by decide) q158 (Or.inl rfl) (fv_rc rfl (isTree.p (isTree.ext fx0 e_3) 6 (by decide) (by decide)) (Nat.succ_ne_zero _)) ?_
        refine x_iload_n 1 dX1_findUnits_189 rfl ?_
        obtain ⟨b_10, hw⟩ := hw
        refine x_lald (n := 24) (j := (Int32.toNatClampNeg x1)) dX1_findUnits_190 rfl (isTree.a (isTree.ext fx0 e_3) 6 (by decide) (by decide)) b_10 ?_
        refine x_ladd dX1_findUnits_191 ?_
        obtain ⟨b_11, hw⟩ := hw
        refine x_last (n := 240) (j := (Int32.toNatClampNeg ((10 * x2) + (gi h_1 (x0 + 3) (Int32.toNatClampNeg x1))))) dX1_findUnits_192 rfl (isTree.a (isTree.ext fx0 e_3) 7 (by decide) (by decide)) b_11 ?_
        refine x_nmh (fun h_12 eh_12 => ?_)
        have hw := hw h_12 eh_12
        have g_13 : GI h_12 := eh_12 ▸ (GI.l g_2)
        have e_14 : Ext h0 h_12 := eh_12 ▸ (Ext.l (Ext.tr e e_3))
        have f_15 : isTree h_12 x0 := eh_12 ▸ (isTree.l (isTree.ext fx0 e_3))
        refine x_aload_n 0 dX1_findUnits_193 rfl ?_
        refine x_get (ci := 1) (v := .ref (mr ρ (x0 + 1))) 1 dX1_findUnits_194 (isTree.s f_15) rfl in_X1 (by decide) q148 (Or.inl rfl) (fv_rc rfl (isTree.p f_15 1 (by decide) (by decide)) (Nat.succ_ne_zero _)) ?_
        refine x_iload_n 2 dX1_findUnits_197 rfl ?_
        obtain ⟨b_16, hw⟩ := hw
        refine x_iald (n := 24) (j := (Int32.toNatClampNeg x2)) dX1_findUnits_198 rfl (isTree.a f_15 1 (by decide) (by decide)) b_16 ?_
        refine x_nmi (fun x2_17 ex2_17 => ?_)
        have hw := hw x2_17 ex2_17
        refine x_istore_n (lv' := [(2, .int x2_17), (0, .ref (mr ρ x0)), (1, .int x1)]) dX1_findUnits_199 (Nat.le_of_ble_eq_true rfl) rfl ?_
        refine x_goto 156 dX1_findUnits_200 (by decide) ?_
        refine X.sub [1, 2, 0] rfl ?_
        exact ih x0 x1 x2_17 h_12 g_13 e_14 f_15 hw
set_option maxHeartbeats 4000000 in
theorem t_X1_findUnits_146 {ρ : Rho} {h0 : Hp} {post : Hp → Prop} (G : G0 ρ) :
    ∀ (n : Nat), ∀ (x0 : Nat) (x1 : Int32) (h : Hp), GI h → Ext h0 h → isTree h x0 → w_X1_findUnits_146 post n x0 x1 h → X ρ K_X1_findUnits 146 [(0, .ref (mr ρ x0)), (1, .int x1)] [] h 0 0 (phV h0 post) psN := by
  intro n
  induction n with
  | zero => intro x0 x1 h g e fx0 hw; exact False.elim hw
  | succ n ih =>
    intro x0 x1 h g e fx0 hw
    refine x_iload_n 1 dX1_findUnits_146 rfl ?_
    refine x_aload_n 0 dX1_findUnits_147 rfl ?_
    refine x_get (ci := 1) (v := .int (gi h x0 0)) 0 dX1_findUnits_148 (isTree.s fx0) rfl in_X1 (by decide) q145 (Or.inl rfl) (fv_i rfl) ?_
    obtain ⟨wt_2, wf_3⟩ := hw
    refine x_icmp_ge 241 dX1_findUnits_151 (by decide) (fun c_1 => ?_) (fun c_1 => ?_)
    · have hw := wt_2 c_1
      exact x_vret dX1_findUnits_241 rfl (Nat.le_of_ble_eq_true rfl) (Nat.le_of_ble_eq_true rfl) ⟨rfl, g, e, hw⟩
    · have hw := wf_3 c_1
      refine x_iload_n 1 dX1_findUnits_154 rfl ?_
      refine x_istore_n (lv' := [(2, .int x1), (0, .ref (mr ρ x0)), (1, .int x1)]) dX1_findUnits_155 (Nat.le_of_ble_eq_true rfl) rfl ?_
      refine X.sub [1, 2, 0] rfl ?_
      obtain ⟨fu, hw⟩ := hw
      exact t_X1_findUnits_156 G ih fu x0 x1 x1 h g e fx0 hw
set_option maxHeartbeats 4000000 in
theorem t_X1_findUnits_122 {ρ : Rho} {h0 : Hp} {post : Hp → Prop} (G : G0 ρ) :
    ∀ (n : Nat), ∀ (x0 : Nat) (x1 : Int32) (h : Hp), GI h → Ext h0 h → isTree h x0 → w_X1_findUnits_122 post n x0 x1 h → X ρ K_X1_findUnits 122 [(0, .ref (mr ρ x0)), (1, .int x1)] [] h 0 0 (phV h0 post) psN := by
  intro n
  induction n with
  | zero => intro x0 x1 h g e fx0 hw; exact False.elim hw
  | succ n ih =>
    intro x0 x1 h g e fx0 hw
    refine x_iload_n 1 dX1_findUnits_122 rfl ?_
    refine x_aload_n 0 dX1_findUnits_123 rfl ?_
    refine x_get (ci := 1) (v := .ref (mr ρ (x0 + 7))) 7 dX1_findUnits_124 (isTree.s fx0) rfl in_X1 (by decide) q159 (Or.inl rfl) (fv_rc rfl (isTree.p fx0 7 (by decide) (by decide)) (Nat.succ_ne_zero _)) ?_
    refine x_alen (v := 240) dX1_findUnits_127 (isTree.a fx0 7 (by decide) (by decide)) (by decide) (by decide) (by decide) ?_
    obtain ⟨wt_3, wf_4⟩ := hw
    refine x_icmp_ge 144 dX1_findUnits_128 (by decide) (fun c_1 => ?_) (fun c_1 => ?_)
    · have hw := wt_3 c_1
      refine x_iconst 1 dX1_findUnits_144 (by decide) ?_
      refine x_istore_n (lv' := [(1, .int 1), (0, .ref (mr ρ x0))]) dX1_findUnits_145 (Nat.le_of_ble_eq_true rfl) rfl ?_
      refine X.sub [1, 0] rfl ?_
      obtain ⟨fu, hw⟩ := hw
      exact t_X1_findUnits_146 G  fu x0 1 h g e fx0 hw
    · have hw := wf_4 c_1
      refine x_aload_n 0 dX1_findUnits_131 rfl ?_
      refine x_get (ci := 1) (v := .ref (mr ρ (x0 + 7))) 7 dX1_findUnits_132 (isTree.s fx0) rfl in_X1 (by decide) q159 (Or.inl rfl) (fv_rc rfl (isTree.p fx0 7 (by decide) (by decide)) (Nat.succ_ne_zero _)) ?_
      refine x_iload_n 1 dX1_findUnits_135 rfl ?_
      refine x_lconst 0 dX1_findUnits_136 (by decide) ?_
      obtain ⟨b_2, hw⟩ := hw
      refine x_last (n := 240) (j := (Int32.toNatClampNeg x1)) dX1_findUnits_137 rfl (isTree.a fx0 7 (by decide) (by decide)) b_2 ?_
      refine x_iinc (v := (x1 + 1)) (lv' := [(1, .int (x1 + 1)), (0, .ref (mr ρ x0))]) 1 dX1_findUnits_138 rfl (by rfl) (Nat.le_of_ble_eq_true rfl) rfl ?_
      refine x_goto 122 dX1_findUnits_141 (by decide) ?_
      refine X.sub [1, 0] rfl ?_
      exact ih x0 (x1 + 1) (sl h (x0 + 7) (Int32.toNatClampNeg x1) 0) (GI.l g) (Ext.l e) (isTree.l fx0) hw
set_option maxHeartbeats 4000000 in
theorem t_X1_findUnits_49 {ρ : Rho} {h0 : Hp} {post : Hp → Prop} (G : G0 ρ) :
    ∀ (n : Nat), ∀ (x0 : Nat) (x1 : Int32) (h : Hp), GI h → Ext h0 h → isTree h x0 → w_X1_findUnits_49 post n x0 x1 h → X ρ K_X1_findUnits 49 [(0, .ref (mr ρ x0)), (1, .int x1)] [] h 0 0 (phV h0 post) psN := by
  intro n
  induction n with
  | zero => intro x0 x1 h g e fx0 hw; exact False.elim hw
  | succ n ih =>
    intro x0 x1 h g e fx0 hw
    refine x_iload_n 1 dX1_findUnits_49 rfl ?_
    refine x_aload_n 0 dX1_findUnits_50 rfl ?_
    refine x_get (ci := 1) (v := .int (gi h x0 0)) 0 dX1_findUnits_51 (isTree.s fx0) rfl in_X1 (by decide) q145 (Or.inl rfl) (fv_i rfl) ?_
    obtain ⟨wt_25, wf_26⟩ := hw
    refine x_icmp_ge 120 dX1_findUnits_54 (by decide) (fun c_1 => ?_) (fun c_1 => ?_)
    · have hw := wt_25 c_1
      refine x_iconst 0 dX1_findUnits_120 (by decide) ?_
      refine x_istore_n (lv' := [(1, .int 0), (0, .ref (mr ρ x0))]) dX1_findUnits_121 (Nat.le_of_ble_eq_true rfl) rfl ?_
      refine X.sub [1, 0] rfl ?_
      obtain ⟨fu, hw⟩ := hw
      exact t_X1_findUnits_122 G  fu x0 0 h g e fx0 hw
    · have hw := wf_26 c_1
      refine x_aload_n 0 dX1_findUnits_57 rfl ?_
      refine x_aload_n 0 dX1_findUnits_58 rfl ?_
      refine x_get (ci := 1) (v := .ref (mr ρ (x0 + 1))) 1 dX1_findUnits_59 (isTree.s fx0) rfl in_X1 (by decide) q148 (Or.inl rfl) (fv_rc rfl (isTree.p fx0 1 (by decide) (by decide)) (Nat.succ_ne_zero _)) ?_
      refine x_iload_n 1 dX1_findUnits_62 rfl ?_
      obtain ⟨b_2, hw⟩ := hw
      refine x_iald (n := 24) (j := (Int32.toNatClampNeg x1)) dX1_findUnits_63 rfl (isTree.a fx0 1 (by decide) (by decide)) b_2 ?_
      refine x_iconst 1 dX1_findUnits_64 (by decide) ?_
      refine x_callV (ci := 1) [.int (gi h (x0 + 1) (Int32.toNatClampNeg x1)), .int 1] 2 dX1_findUnits_65 (k_X1_sumOf G g fx0 hw) (isTree.s fx0) rfl q817 q819 qs21 q105 q820 (by decide) rfl rfl ⟨(Nat.le_of_ble_eq_true rfl), (Nat.le_of_ble_eq_true rfl)⟩ (Nat.le_of_ble_eq_true rfl) ⟨(Nat.le_of_ble_eq_true rfl), (Nat.le_of_ble_eq_true rfl)⟩ (fun v9 h_3 hv9 => ?_) (fun _ _ _ _ _ z _ _ => False.elim z)
      obtain ⟨r_6, rfl, g_4, e_5, hw⟩ := hv9
      have hw := hw g_4 e_5
      show X ρ K_X1_findUnits 68 [(0, .ref (mr ρ x0)), (1, .int x1)] [.long r_6] h_3 0 0 (phV h0 post) psN
      refine x_lstore_n (lv' := [(2, .long r_6), (0, .ref (mr ρ x0)), (1, .int x1)]) dX1_findUnits_68 (Nat.le_of_ble_eq_true rfl) rfl ?_
      refine x_aload_n 1 dX1_findUnits_69 rfl ?_
      refine x_aload_n 1 dX1_findUnits_70 rfl ?_
      refine x_get (ci := 1) (v := .ref (mr ρ (x0 + 1))) 1 dX1_findUnits_71 (isTree.s (isTree.ext fx0 e_5)) rfl in_X1 (by decide) q148 (Or.inl rfl) (fv_rc rfl (isTree.p (isTree.ext fx0 e_5) 1 (by decide) (by decide)) (Nat.succ_ne_zero _)) ?_
      refine x_iload_n 2 dX1_findUnits_74 rfl ?_
      obtain ⟨b_8, hw⟩ := hw
      refine x_iald (n := 24) (j := (Int32.toNatClampNeg x1)) dX1_findUnits_75 rfl (isTree.a (isTree.ext fx0 e_5) 1 (by decide) (by decide)) b_8 ?_
      refine x_iconst 0 dX1_findUnits_76 (by decide) ?_
      refine x_callV (ci := 1) [.int (gi h_3 (x0 + 1) (Int32.toNatClampNeg x1)), .int 0] 2 dX1_findUnits_77 (k_X1_sumOf G g_4 (isTree.ext fx0 e_5) hw) (isTree.s (isTree.ext fx0 e_5)) rfl q817 q819 qs21 q105 q820 (by decide) rfl rfl ⟨(Nat.le_of_ble_eq_true rfl), (Nat.le_of_ble_eq_true rfl)⟩ (Nat.le_of_ble_eq_true rfl) ⟨(Nat.le_of_ble_eq_true rfl), (Nat.le_of_ble_eq_true rfl)⟩ (fun v9 h_9 hv9 => ?_) (fun _ _ _ _ _ z _ _ => False.elim z)
      obtain ⟨r_12, rfl, g_10, e_11, hw⟩ := hv9
      have hw := hw g_10 e_11
      show X ρ K_X1_findUnits 80 [(2, .long r_6), (0, .ref (mr ρ x0)), (1, .int x1)] [.long r_12] h_9 0 0 (phV h0 post) psN
      refine x_lload_n 0 dX1_findUnits_80 rfl ?_
      obtain ⟨b_14, hw⟩ := hw
      refine x_ldiv dX1_findUnits_81 b_14 ?_
      refine x_lstore (lv' := [(4, .long (r_12 / r_6)), (2, .long r_6), (0, .ref (mr ρ x0)), (1, .int x1)]) dX1_findUnits_82 (Nat.le_of_ble_eq_true rfl) rfl ?_
      refine x_aload_n 2 dX1_findUnits_84 rfl ?_
      refine x_get (ci := 1) (v := .ref (mr ρ (x0 + 6))) 6 dX1_findUnits_85 (isTree.s (isTree.ext (isTree.ext fx0 e_5) e_11)) rfl in_X1 (by decide) q158 (Or.inl rfl) (fv_rc rfl (isTree.p (isTree.ext (isTree.ext fx0 e_5) e_11) 6 (by decide) (by decide)) (Nat.succ_ne_zero _)) ?_
      refine x_iload_n 3 dX1_findUnits_88 rfl ?_
      refine x_aload_n 2 dX1_findUnits_89 rfl ?_
      refine x_get (ci := 1) (v := .ref (mr ρ (x0 + 6))) 6 dX1_findUnits_90 (isTree.s (isTree.ext (isTree.ext fx0 e_5) e_11)) rfl in_X1 (by decide) q158 (Or.inl rfl) (fv_rc rfl (isTree.p (isTree.ext (isTree.ext fx0 e_5) e_11) 6 (by decide) (by decide)) (Nat.succ_ne_zero _)) ?_
      refine x_aload_n 2 dX1_findUnits_93 rfl ?_
      refine x_get (ci := 1) (v := .ref (mr ρ (x0 + 1))) 1 dX1_findUnits_94 (isTree.s (isTree.ext (isTree.ext fx0 e_5) e_11)) rfl in_X1 (by decide) q148 (Or.inl rfl) (fv_rc rfl (isTree.p (isTree.ext (isTree.ext fx0 e_5) e_11) 1 (by decide) (by decide)) (Nat.succ_ne_zero _)) ?_
      refine x_iload_n 3 dX1_findUnits_97 rfl ?_
      obtain ⟨b_15, hw⟩ := hw
      refine x_iald (n := 24) (j := (Int32.toNatClampNeg x1)) dX1_findUnits_98 rfl (isTree.a (isTree.ext (isTree.ext fx0 e_5) e_11) 1 (by decide) (by decide)) b_15 ?_
      obtain ⟨b_16, hw⟩ := hw
      refine x_lald (n := 24) (j := (Int32.toNatClampNeg (gi h_9 (x0 + 1) (Int32.toNatClampNeg x1)))) dX1_findUnits_99 rfl (isTree.a (isTree.ext (isTree.ext fx0 e_5) e_11) 6 (by decide) (by decide)) b_16 ?_
      refine x_lload_n 1 dX1_findUnits_100 rfl ?_
      obtain ⟨b_17, hw⟩ := hw
      refine x_ldiv dX1_findUnits_101 b_17 ?_
      refine x_aload_n 2 dX1_findUnits_102 rfl ?_
      refine x_get (ci := 1) (v := .ref (mr ρ (x0 + 2))) 2 dX1_findUnits_103 (isTree.s (isTree.ext (isTree.ext fx0 e_5) e_11)) rfl in_X1 (by decide) q150 (Or.inl rfl) (fv_rc rfl (isTree.p (isTree.ext (isTree.ext fx0 e_5) e_11) 2 (by decide) (by decide)) (Nat.succ_ne_zero _)) ?_
      refine x_iload_n 3 dX1_findUnits_106 rfl ?_
      obtain ⟨b_18, hw⟩ := hw
      refine x_iald (n := 24) (j := (Int32.toNatClampNeg x1)) dX1_findUnits_107 rfl (isTree.a (isTree.ext (isTree.ext fx0 e_5) e_11) 2 (by decide) (by decide)) b_18 ?_
      refine x_i2l dX1_findUnits_108 ?_
      refine x_lload 0 dX1_findUnits_109 rfl ?_
      obtain ⟨b_19, hw⟩ := hw
      refine x_ldiv dX1_findUnits_111 b_19 ?_
      refine x_lmul dX1_findUnits_112 ?_
      obtain ⟨b_20, hw⟩ := hw
      refine x_last (n := 24) (j := (Int32.toNatClampNeg x1)) dX1_findUnits_113 rfl (isTree.a (isTree.ext (isTree.ext fx0 e_5) e_11) 6 (by decide) (by decide)) b_20 ?_
      refine x_nmh (fun h_21 eh_21 => ?_)
      have hw := hw h_21 eh_21
      have g_22 : GI h_21 := eh_21 ▸ (GI.l g_10)
      have e_23 : Ext h0 h_21 := eh_21 ▸ (Ext.l (Ext.tr (Ext.tr e e_5) e_11))
      have f_24 : isTree h_21 x0 := eh_21 ▸ (isTree.l (isTree.ext (isTree.ext fx0 e_5) e_11))
      refine x_iinc (v := (x1 + 1)) (lv' := [(1, .int (x1 + 1)), (4, .long (r_12 / r_6)), (2, .long r_6), (0, .ref (mr ρ x0))]) 3 dX1_findUnits_114 rfl (by rfl) (Nat.le_of_ble_eq_true rfl) rfl ?_
      refine x_goto 49 dX1_findUnits_117 (by decide) ?_
      refine X.sub [3, 0] rfl ?_
      exact ih x0 (x1 + 1) h_21 g_22 e_23 f_24 hw
set_option maxHeartbeats 4000000 in
theorem t_X1_findUnits_14 {ρ : Rho} {h0 : Hp} {post : Hp → Prop} (G : G0 ρ) :
    ∀ (n : Nat), ∀ (x0 : Nat) (x1 : Int32) (h : Hp), GI h → Ext h0 h → isTree h x0 → w_X1_findUnits_14 post n x0 x1 h → X ρ K_X1_findUnits 14 [(0, .ref (mr ρ x0)), (1, .int x1)] [] h 0 0 (phV h0 post) psN := by
  intro n
  induction n with
  | zero => intro x0 x1 h g e fx0 hw; exact False.elim hw
  | succ n ih =>
    intro x0 x1 h g e fx0 hw
    refine x_iload_n 1 dX1_findUnits_14 rfl ?_
    refine x_aload_n 0 dX1_findUnits_15 rfl ?_
    refine x_get (ci := 1) (v := .int (gi h x0 0)) 0 dX1_findUnits_16 (isTree.s fx0) rfl in_X1 (by decide) q145 (Or.inl rfl) (fv_i rfl) ?_
    obtain ⟨wt_7, wf_8⟩ := hw
    refine x_icmp_ge 47 dX1_findUnits_19 (by decide) (fun c_1 => ?_) (fun c_1 => ?_)
    · have hw := wt_7 c_1
      refine x_iconst 1 dX1_findUnits_47 (by decide) ?_
      refine x_istore_n (lv' := [(1, .int 1), (0, .ref (mr ρ x0))]) dX1_findUnits_48 (Nat.le_of_ble_eq_true rfl) rfl ?_
      refine X.sub [1, 0] rfl ?_
      obtain ⟨fu, hw⟩ := hw
      exact t_X1_findUnits_49 G  fu x0 1 h g e fx0 hw
    · have hw := wf_8 c_1
      refine x_aload_n 0 dX1_findUnits_22 rfl ?_
      refine x_get (ci := 1) (v := .ref (mr ρ (x0 + 6))) 6 dX1_findUnits_23 (isTree.s fx0) rfl in_X1 (by decide) q158 (Or.inl rfl) (fv_rc rfl (isTree.p fx0 6 (by decide) (by decide)) (Nat.succ_ne_zero _)) ?_
      refine x_iconst 0 dX1_findUnits_26 (by decide) ?_
      refine x_dup2 dX1_findUnits_27 rfl rfl ?_
      refine x_lald (n := 24) (j := 0) dX1_findUnits_28 (by decide) (isTree.a fx0 6 (by decide) (by decide)) (by unfold vp_in; decide) ?_
      refine x_lconst 1 dX1_findUnits_29 (by decide) ?_
      refine x_aload_n 0 dX1_findUnits_30 rfl ?_
      refine x_iload_n 1 dX1_findUnits_31 rfl ?_
      refine x_iconst 1 dX1_findUnits_32 (by decide) ?_
      refine x_callV (ci := 1) [.int x1, .int 1] 2 dX1_findUnits_33 (k_X1_sumOf G g fx0 hw) (isTree.s fx0) rfl q817 q819 qs21 q105 q820 (by decide) rfl rfl ⟨(Nat.le_of_ble_eq_true rfl), (Nat.le_of_ble_eq_true rfl)⟩ (Nat.le_of_ble_eq_true rfl) ⟨(Nat.le_of_ble_eq_true rfl), (Nat.le_of_ble_eq_true rfl)⟩ (fun v9 h_2 hv9 => ?_) (fun _ _ _ _ _ z _ _ => False.elim z)
      obtain ⟨r_5, rfl, g_3, e_4, hw⟩ := hv9
      have hw := hw g_3 e_4
      show X ρ K_X1_findUnits 36 [(0, .ref (mr ρ x0)), (1, .int x1)] [.long r_5, .long 1, .long (gl h (x0 + 6) 0), .int 0, .ref (mr ρ (x0 + 6))] h_2 0 0 (phV h0 post) psN
      refine x_mmaxl dX1_findUnits_36 q824 q825 q118 q826 (Nat.le_of_ble_eq_true rfl) (Nat.le_of_ble_eq_true rfl) (Nat.le_of_ble_eq_true rfl) (Nat.le_of_ble_eq_true rfl) ?_
      refine x_lmul dX1_findUnits_39 ?_
      refine x_last (n := 24) (j := 0) dX1_findUnits_40 (by decide) (isTree.a (isTree.ext fx0 e_4) 6 (by decide) (by decide)) (by unfold vp_in; decide) ?_
      refine x_iinc (v := (x1 + 1)) (lv' := [(1, .int (x1 + 1)), (0, .ref (mr ρ x0))]) 1 dX1_findUnits_41 rfl (by rfl) (Nat.le_of_ble_eq_true rfl) rfl ?_
      refine x_goto 14 dX1_findUnits_44 (by decide) ?_
      refine X.sub [1, 0] rfl ?_
      exact ih x0 (x1 + 1) (sl h_2 (x0 + 6) 0 ((gl h (x0 + 6) 0) * (if r_5 < (1 : Int64) then (1 : Int64) else r_5))) (GI.l g_3) (Ext.l (Ext.tr e e_4)) (isTree.l (isTree.ext fx0 e_4)) hw
set_option maxHeartbeats 4000000 in
theorem k_X1_findUnits {ρ : Rho} {h : Hp} {post : Hp → Prop} {r0 : Nat} (G : G0 ρ) (g : GI h) (fr0 : isTree h r0) (hw : wp_X1_findUnits post h r0) : Con ρ yX1_findUnits (ws_ yX1_findUnits cX1_findUnits 6 (Option.none : Option Jvm.ClassFile.FieldType)) rm_X1_findUnits [.ref (mr ρ r0)] h (phV h post) psN := by
  refine con_of (own := "BeforeTheEnd$Tree") (isI := false) (l0 := [(0, .ref (mr ρ r0))]) (by decide) rfl (fun z => by cases z) (Nat.le_of_ble_eq_true rfl) rfl (fun _ => ?_)
  show X ρ K_X1_findUnits 0 [(0, .ref (mr ρ r0))] [] h 0 0 (phV h post) psN
  refine x_aload_n 0 dX1_findUnits_0 rfl ?_
  refine x_iconst 1 dX1_findUnits_1 (by decide) ?_
  refine x_put (ci := 1) 8 dX1_findUnits_2 (isTree.s fr0) rfl in_X1 tyX1 tyX1_ok nmX1 (by decide) q160 (Or.inl rfl) rfl (isB.n isB_1) (isB.f isB_1) (isPut_i rfl) ?_
  refine x_aload_n 0 dX1_findUnits_5 rfl ?_
  refine x_get (ci := 1) (v := .ref (mr ρ (r0 + 6))) 6 dX1_findUnits_6 (isTree.s (isTree.i fr0)) rfl in_X1 (by decide) q158 (Or.inl rfl) (fv_rc rfl (isTree.p (isTree.i fr0) 6 (by decide) (by decide)) (Nat.succ_ne_zero _)) ?_
  refine x_iconst 0 dX1_findUnits_9 (by decide) ?_
  refine x_lconst 1 dX1_findUnits_10 (by decide) ?_
  refine x_last (n := 24) (j := 0) dX1_findUnits_11 (by decide) (isTree.a (isTree.i fr0) 6 (by decide) (by decide)) (by unfold vp_in; decide) ?_
  refine x_iconst 0 dX1_findUnits_12 (by decide) ?_
  refine x_istore_n (lv' := [(1, .int 0), (0, .ref (mr ρ r0))]) dX1_findUnits_13 (Nat.le_of_ble_eq_true rfl) rfl ?_
  refine X.sub [1, 0] rfl ?_
  obtain ⟨fu, hw⟩ := hw
  exact t_X1_findUnits_14 G  fu r0 0 (sl (si h r0 8 1) (r0 + 6) 0 1) (GI.l (GI.i g)) (Ext.l (Ext.i Ext.rf)) (isTree.l (isTree.i fr0)) hw

/-! BeforeTheEnd$Tree.unitsOf(II)J -/
def w_X1_unitsOf_11 (post : Int64 → Hp → Prop) (x0 : Nat) (x1 : Int32) (x2 : Int32) (h : Hp) : Prop := (vp_in ((10 * x1) + x2) 240 ∧ (post (gl h (x0 + 7) (Int32.toNatClampNeg ((10 * x1) + x2))) h))
def wp_X1_unitsOf (post : Int64 → Hp → Prop) (h : Hp) (r0 : Nat) (p1 : Int32) (p2 : Int32) : Prop := ((¬ (gi h r0 8) = 0 → (w_X1_unitsOf_11 post r0 p1 p2 h)) ∧ ((gi h r0 8) = 0 → (wp_X1_findUnits (fun h_2 => GI h_2 → Ext h h_2 → (w_X1_unitsOf_11 post r0 p1 p2 h_2)) h r0)))
abbrev rm_X1_unitsOf : Room := ({ frames := 4, cells := 0, slots := 0, locals := 141 })
abbrev K_X1_unitsOf : Kx := ("BeforeTheEnd$Tree", cX1_unitsOf, 3, (Option.some Jvm.ClassFile.FieldType.long), rm_X1_unitsOf, [], false)
set_option maxHeartbeats 4000000 in
theorem t_X1_unitsOf_11 {ρ : Rho} {h0 : Hp} {post : Int64 → Hp → Prop} (G : G0 ρ) :
    ∀ (x0 : Nat) (x1 : Int32) (x2 : Int32) (h : Hp), GI h → Ext h0 h → isTree h x0 → w_X1_unitsOf_11 post x0 x1 x2 h → X ρ K_X1_unitsOf 11 [(0, .ref (mr ρ x0)), (1, .int x1), (2, .int x2)] [] h 0 0 (phL h0 post) psN := by
  intro x0 x1 x2 h g e fx0 hw
  refine x_aload_n 0 dX1_unitsOf_11 rfl ?_
  refine x_get (ci := 1) (v := .ref (mr ρ (x0 + 7))) 7 dX1_unitsOf_12 (isTree.s fx0) rfl in_X1 (by decide) q159 (Or.inl rfl) (fv_rc rfl (isTree.p fx0 7 (by decide) (by decide)) (Nat.succ_ne_zero _)) ?_
  refine x_bipush 10 dX1_unitsOf_15 (by decide) ?_
  refine x_iload_n 1 dX1_unitsOf_17 rfl ?_
  refine x_imul dX1_unitsOf_18 ?_
  refine x_iload_n 2 dX1_unitsOf_19 rfl ?_
  refine x_iadd dX1_unitsOf_20 ?_
  obtain ⟨b_1, hw⟩ := hw
  refine x_lald (n := 240) (j := (Int32.toNatClampNeg ((10 * x1) + x2))) dX1_unitsOf_21 rfl (isTree.a fx0 7 (by decide) (by decide)) b_1 ?_
  exact x_lret dX1_unitsOf_22 rfl (Nat.le_of_ble_eq_true rfl) (Nat.le_of_ble_eq_true rfl) ⟨_, rfl, g, e, hw⟩
set_option maxHeartbeats 4000000 in
theorem k_X1_unitsOf {ρ : Rho} {h : Hp} {post : Int64 → Hp → Prop} {r0 : Nat} {p1 : Int32} {p2 : Int32} (G : G0 ρ) (g : GI h) (fr0 : isTree h r0) (hw : wp_X1_unitsOf post h r0 p1 p2) : Con ρ yX1_unitsOf (ws_ yX1_unitsOf cX1_unitsOf 3 (Option.some Jvm.ClassFile.FieldType.long)) rm_X1_unitsOf [.ref (mr ρ r0), .int p1, .int p2] h (phL h post) psN := by
  refine con_of (own := "BeforeTheEnd$Tree") (isI := false) (l0 := [(0, .ref (mr ρ r0)), (1, .int p1), (2, .int p2)]) (by decide) rfl (fun z => by cases z) (Nat.le_of_ble_eq_true rfl) rfl (fun _ => ?_)
  show X ρ K_X1_unitsOf 0 [(0, .ref (mr ρ r0)), (1, .int p1), (2, .int p2)] [] h 0 0 (phL h post) psN
  refine x_aload_n 0 dX1_unitsOf_0 rfl ?_
  refine x_get (ci := 1) (v := .int (gi h r0 8)) 8 dX1_unitsOf_1 (isTree.s fr0) rfl in_X1 (by decide) q160 (Or.inl rfl) (fv_i rfl) ?_
  obtain ⟨wt_7, wf_8⟩ := hw
  refine x_if_ne 11 dX1_unitsOf_4 (by decide) (fun c_1 => ?_) (fun c_1 => ?_)
  · have hw := wt_7 c_1
    exact t_X1_unitsOf_11 G  r0 p1 p2 h g Ext.rf fr0 hw
  · have hw := wf_8 c_1
    refine x_aload_n 0 dX1_unitsOf_7 rfl ?_
    refine x_callV (ci := 1) [] 0 dX1_unitsOf_8 (k_X1_findUnits G g fr0 hw) (isTree.s fr0) rfl q813 q815 qs20 q105 q816 (by decide) rfl rfl ⟨(Nat.le_of_ble_eq_true rfl), (Nat.le_of_ble_eq_true rfl)⟩ (Nat.le_of_ble_eq_true rfl) ⟨(Nat.le_of_ble_eq_true rfl), (Nat.le_of_ble_eq_true rfl)⟩ (fun v9 h_2 hv9 => ?_) (fun _ _ _ _ _ z _ _ => False.elim z)
    obtain ⟨rfl, g_3, e_4, hw⟩ := hv9
    have hw := hw g_3 e_4
    show X ρ K_X1_unitsOf 11 [(0, .ref (mr ρ r0)), (1, .int p1), (2, .int p2)] [] h_2 0 0 (phL h post) psN
    exact t_X1_unitsOf_11 G  r0 p1 p2 h_2 g_3 e_4 (isTree.ext fr0 e_4) hw

/-! BeforeTheEnd.guessOf(II)I -/
def w_X0_guessOf_39 (post : Int32 → Hp → Prop) (K8 : Int32 → Int32 → Int32 → Int64 → Int32 → Hp → Prop) (x1 : Int32) (x2 : Int32) (x3 : Int32) (x4 : Int64) (x6 : Int32) (z0 : Int64) (h : Hp) : Prop := ((z0 ≤ x4 → (K8 x1 x2 x3 x4 (x6 + 1) h)) ∧ (¬ z0 ≤ x4 → (K8 x1 x2 x6 z0 (x6 + 1) h)))
def w_X0_guessOf_8 (post : Int32 → Hp → Prop) : Nat → Int32 → Int32 → Int32 → Int64 → Int32 → Hp → Prop
  | 0 => fun _ _ _ _ _ _ => False
  | n + 1 => fun x1 x2 x3 x4 x6 h => ((9 < x6 → (post x3 h)) ∧ (¬ 9 < x6 → ((¬ ((x1 >>> (x6 &&& 31)) &&& 1) = 1 → (w_X0_guessOf_39 post (w_X0_guessOf_8 post n) x1 x2 x3 x4 x6 0 h)) ∧ (((x1 >>> (x6 &&& 31)) &&& 1) = 1 → (wp_X1_unitsOf (fun r_6 h_3 => GI h_3 → Ext h h_3 → (w_X0_guessOf_39 post (w_X0_guessOf_8 post n) x1 x2 x3 x4 x6 r_6 h_3)) h (gr h 1 1) x2 x6)))))
def wp_X0_guessOf (post : Int32 → Hp → Prop) (h : Hp) (p1 : Int32) (p2 : Int32) : Prop := (∃ fu : Nat, w_X0_guessOf_8 post fu p1 p2 0 0 1 h)
abbrev rm_X0_guessOf : Room := ({ frames := 5, cells := 0, slots := 0, locals := 163 })
abbrev K_X0_guessOf : Kx := ("BeforeTheEnd", cX0_guessOf, 9, (Option.some Jvm.ClassFile.FieldType.int), rm_X0_guessOf, [], false)
set_option maxHeartbeats 4000000 in
theorem t_X0_guessOf_39 {ρ : Rho} {h0 : Hp} {post : Int32 → Hp → Prop} {K8 : Int32 → Int32 → Int32 → Int64 → Int32 → Hp → Prop} (G : G0 ρ) (hK8 : ∀ (x1 : Int32) (x2 : Int32) (x3 : Int32) (x4 : Int64) (x6 : Int32) (h : Hp), GI h → Ext h0 h → K8 x1 x2 x3 x4 x6 h → X ρ K_X0_guessOf 8 [(0, .ref (mr ρ 1)), (1, .int x1), (2, .int x2), (3, .int x3), (4, .long x4), (6, .int x6)] [] h 0 0 (phI h0 post) psN) :
    ∀ (x1 : Int32) (x2 : Int32) (x3 : Int32) (x4 : Int64) (x6 : Int32) (z0 : Int64) (h : Hp), GI h → Ext h0 h → w_X0_guessOf_39 post K8 x1 x2 x3 x4 x6 z0 h → X ρ K_X0_guessOf 39 [(0, .ref (mr ρ 1)), (1, .int x1), (2, .int x2), (3, .int x3), (4, .long x4), (6, .int x6)] [.long z0] h 0 0 (phI h0 post) psN := by
  intro x1 x2 x3 x4 x6 z0 h g e hw
  refine x_lstore (lv' := [(7, .long z0), (0, .ref (mr ρ 1)), (1, .int x1), (2, .int x2), (3, .int x3), (4, .long x4), (6, .int x6)]) dX0_guessOf_39 (Nat.le_of_ble_eq_true rfl) rfl ?_
  refine x_lload 0 dX0_guessOf_41 rfl ?_
  refine x_lload 5 dX0_guessOf_43 rfl ?_
  obtain ⟨wt_2, wf_3⟩ := hw
  refine x_lif_le 56 dX0_guessOf_45 dX0_guessOf_46 (by decide) (fun c_1 => ?_) (fun c_1 => ?_)
  · have hw := wt_2 c_1
    refine x_iinc (v := (x6 + 1)) (lv' := [(6, .int (x6 + 1)), (7, .long z0), (0, .ref (mr ρ 1)), (1, .int x1), (2, .int x2), (3, .int x3), (4, .long x4)]) 6 dX0_guessOf_56 rfl (by rfl) (Nat.le_of_ble_eq_true rfl) rfl ?_
    refine x_goto 8 dX0_guessOf_59 (by decide) ?_
    refine X.sub [2, 3, 4, 5, 6, 0] rfl ?_
    exact hK8 x1 x2 x3 x4 (x6 + 1) h g e hw
  · have hw := wf_3 c_1
    refine x_iload 6 dX0_guessOf_49 rfl ?_
    refine x_istore_n (lv' := [(3, .int x6), (7, .long z0), (0, .ref (mr ρ 1)), (1, .int x1), (2, .int x2), (4, .long x4), (6, .int x6)]) dX0_guessOf_51 (Nat.le_of_ble_eq_true rfl) rfl ?_
    refine x_lload 1 dX0_guessOf_52 rfl ?_
    refine x_lstore (lv' := [(4, .long z0), (3, .int x6), (7, .long z0), (0, .ref (mr ρ 1)), (1, .int x1), (2, .int x2), (6, .int x6)]) dX0_guessOf_54 (Nat.le_of_ble_eq_true rfl) rfl ?_
    refine x_iinc (v := (x6 + 1)) (lv' := [(6, .int (x6 + 1)), (4, .long z0), (3, .int x6), (7, .long z0), (0, .ref (mr ρ 1)), (1, .int x1), (2, .int x2)]) 6 dX0_guessOf_56 rfl (by rfl) (Nat.le_of_ble_eq_true rfl) rfl ?_
    refine x_goto 8 dX0_guessOf_59 (by decide) ?_
    refine X.sub [4, 5, 6, 2, 1, 0] rfl ?_
    exact hK8 x1 x2 x6 z0 (x6 + 1) h g e hw
set_option maxHeartbeats 4000000 in
theorem t_X0_guessOf_8 {ρ : Rho} {h0 : Hp} {post : Int32 → Hp → Prop} (G : G0 ρ) :
    ∀ (n : Nat), ∀ (x1 : Int32) (x2 : Int32) (x3 : Int32) (x4 : Int64) (x6 : Int32) (h : Hp), GI h → Ext h0 h → w_X0_guessOf_8 post n x1 x2 x3 x4 x6 h → X ρ K_X0_guessOf 8 [(0, .ref (mr ρ 1)), (1, .int x1), (2, .int x2), (3, .int x3), (4, .long x4), (6, .int x6)] [] h 0 0 (phI h0 post) psN := by
  intro n
  induction n with
  | zero => intro x1 x2 x3 x4 x6 h g e hw; exact False.elim hw
  | succ n ih =>
    intro x1 x2 x3 x4 x6 h g e hw
    refine x_iload 5 dX0_guessOf_8 rfl ?_
    refine x_bipush 9 dX0_guessOf_10 (by decide) ?_
    obtain ⟨wt_10, wf_11⟩ := hw
    refine x_icmp_gt 62 dX0_guessOf_12 (by decide) (fun c_1 => ?_) (fun c_1 => ?_)
    · have hw := wt_10 c_1
      refine x_iload_n 3 dX0_guessOf_62 rfl ?_
      exact x_iret dX0_guessOf_63 rfl (Nat.le_of_ble_eq_true rfl) (Nat.le_of_ble_eq_true rfl) ⟨_, rfl, g, e, hw⟩
    · have hw := wf_11 c_1
      refine x_iload_n 1 dX0_guessOf_15 rfl ?_
      refine x_iload 5 dX0_guessOf_16 rfl ?_
      refine x_ishr dX0_guessOf_18 ?_
      refine x_iconst 1 dX0_guessOf_19 (by decide) ?_
      refine x_iand dX0_guessOf_20 ?_
      refine x_iconst 1 dX0_guessOf_21 (by decide) ?_
      obtain ⟨wt_8, wf_9⟩ := hw
      refine x_icmp_ne 38 dX0_guessOf_22 (by decide) (fun c_2 => ?_) (fun c_2 => ?_)
      · have hw := wt_8 c_2
        refine x_lconst 0 dX0_guessOf_38 (by decide) ?_
        exact t_X0_guessOf_39 G ih x1 x2 x3 x4 x6 0 h g e hw
      · have hw := wf_9 c_2
        refine x_aload_n 0 dX0_guessOf_25 rfl ?_
        refine x_get (ci := 0) (v := .ref (mr ρ (gr h 1 1))) 1 dX0_guessOf_26 (GI.s g (t := (10, 0)) rfl (by decide)) rfl in_X0 (by decide) q188 (Or.inl rfl) (fv_rc rfl rfl (isTree.nz (GI.t g) (GI.live g))) ?_
        refine x_iload_n 2 dX0_guessOf_29 rfl ?_
        refine x_iload 5 dX0_guessOf_30 rfl ?_
        refine x_callV (ci := 1) [.int x2, .int x6] 2 dX0_guessOf_32 (k_X1_unitsOf G g (GI.t g) hw) (isTree.s (GI.t g)) rfl q809 q810 q811 q105 q812 (by decide) rfl rfl ⟨(Nat.le_of_ble_eq_true rfl), (Nat.le_of_ble_eq_true rfl)⟩ (Nat.le_of_ble_eq_true rfl) ⟨(Nat.le_of_ble_eq_true rfl), (Nat.le_of_ble_eq_true rfl)⟩ (fun v9 h_3 hv9 => ?_) (fun _ _ _ _ _ z _ _ => False.elim z)
        obtain ⟨r_6, rfl, g_4, e_5, hw⟩ := hv9
        have hw := hw g_4 e_5
        show X ρ K_X0_guessOf 35 [(0, .ref (mr ρ 1)), (1, .int x1), (2, .int x2), (3, .int x3), (4, .long x4), (6, .int x6)] [.long r_6] h_3 0 0 (phI h0 post) psN
        refine x_goto 39 dX0_guessOf_35 (by decide) ?_
        exact t_X0_guessOf_39 G ih x1 x2 x3 x4 x6 r_6 h_3 g_4 (Ext.tr e e_5) hw
set_option maxHeartbeats 4000000 in
theorem k_X0_guessOf {ρ : Rho} {h : Hp} {post : Int32 → Hp → Prop} {p1 : Int32} {p2 : Int32} (G : G0 ρ) (g : GI h) (hw : wp_X0_guessOf post h p1 p2) : Con ρ yX0_guessOf (ws_ yX0_guessOf cX0_guessOf 9 (Option.some Jvm.ClassFile.FieldType.int)) rm_X0_guessOf [.ref (mr ρ 1), .int p1, .int p2] h (phI h post) psN := by
  refine con_of (own := "BeforeTheEnd") (isI := false) (l0 := [(0, .ref (mr ρ 1)), (1, .int p1), (2, .int p2)]) (by decide) rfl (fun z => by cases z) (Nat.le_of_ble_eq_true rfl) rfl (fun _ => ?_)
  show X ρ K_X0_guessOf 0 [(0, .ref (mr ρ 1)), (1, .int p1), (2, .int p2)] [] h 0 0 (phI h post) psN
  refine x_iconst 0 dX0_guessOf_0 (by decide) ?_
  refine x_istore_n (lv' := [(3, .int 0), (0, .ref (mr ρ 1)), (1, .int p1), (2, .int p2)]) dX0_guessOf_1 (Nat.le_of_ble_eq_true rfl) rfl ?_
  refine x_lconst 0 dX0_guessOf_2 (by decide) ?_
  refine x_lstore (lv' := [(4, .long 0), (3, .int 0), (0, .ref (mr ρ 1)), (1, .int p1), (2, .int p2)]) dX0_guessOf_3 (Nat.le_of_ble_eq_true rfl) rfl ?_
  refine x_iconst 1 dX0_guessOf_5 (by decide) ?_
  refine x_istore (lv' := [(6, .int 1), (4, .long 0), (3, .int 0), (0, .ref (mr ρ 1)), (1, .int p1), (2, .int p2)]) dX0_guessOf_6 (Nat.le_of_ble_eq_true rfl) rfl ?_
  refine X.sub [3, 4, 5, 2, 1, 0] rfl ?_
  obtain ⟨fu, hw⟩ := hw
  exact t_X0_guessOf_8 G  fu p1 p2 0 0 1 h g Ext.rf hw

/-! BeforeTheEnd.within(JJJ)V -/
def w_X0_within_11 (post : Hp → Prop) (px : Nat → Hp → Prop) (x0 : Int64) (x4 : Int64) (z0 : Int32) (h : Hp) : Prop := (wp_X0_must (fun h_1 => GI h_1 → Ext h h_1 → ((x4 < x0 → (wp_X0_must (fun h_7 => GI h_7 → Ext h_1 h_7 → (post h_7)) px h_1 0 (-6))) ∧ (¬ x4 < x0 → (wp_X0_must (fun h_12 => GI h_12 → Ext h_1 h_12 → (post h_12)) px h_1 1 (-6))))) px h z0 (-4))
def wp_X0_within (post : Hp → Prop) (px : Nat → Hp → Prop) (h : Hp) (p1 : Int64) (p2 : Int64) (p3 : Int64) : Prop := ((p1 < p2 → (w_X0_within_11 post px p1 p3 0 h)) ∧ (¬ p1 < p2 → (w_X0_within_11 post px p1 p3 1 h)))
abbrev rm_X0_within : Room := ({ frames := 10, cells := 2, slots := 14, locals := 242 })
abbrev K_X0_within : Kx := ("BeforeTheEnd", cX0_within, 6, (Option.none : Option Jvm.ClassFile.FieldType), rm_X0_within, [], false)
set_option maxHeartbeats 4000000 in
theorem t_X0_within_11 {ρ : Rho} {h0 : Hp} {post : Hp → Prop} {px : Nat → Hp → Prop} (G : G0 ρ) :
    ∀ (x0 : Int64) (x4 : Int64) (z0 : Int32) (h : Hp), GI h → Ext h0 h → w_X0_within_11 post px x0 x4 z0 h → X ρ K_X0_within 11 [(0, .long x0), (4, .long x4)] [.int z0] h 0 0 (phV h0 post) (psX h0 px) := by
  intro x0 x4 z0 h g e hw
  refine x_bipush (-4) dX0_within_11 (by decide) ?_
  refine x_callS [.int z0, .int (-4)] 2 dX0_within_13 (k_X0_must G g hw) q294 q295 q104 q296 (by decide) rfl rfl ⟨(Nat.le_of_ble_eq_true rfl), (Nat.le_of_ble_eq_true rfl)⟩ (Nat.le_of_ble_eq_true rfl) ⟨(Nat.le_of_ble_eq_true rfl), (Nat.le_of_ble_eq_true rfl)⟩ (fun v9 h_1 hv9 => ?_) (fun q9 h9 ci9 n9 x9 hx9 hs9 hc9 => xt_out hs9 hc9 (fun z hz => by cases hz) (Nat.le_of_ble_eq_true rfl) (Nat.le_of_ble_eq_true rfl) ⟨hx9.1, Ext.tr e hx9.2.1, hx9.2.2⟩)
  obtain ⟨rfl, g_2, e_3, hw⟩ := hv9
  have hw := hw g_2 e_3
  show X ρ K_X0_within 16 [(0, .long x0), (4, .long x4)] [] h_1 1 7 (phV h0 post) (psX h0 px)
  refine x_lload_n 0 dX0_within_16 rfl ?_
  refine x_lload 1 dX0_within_17 rfl ?_
  obtain ⟨wt_17, wf_18⟩ := hw
  refine x_lif_gt 27 dX0_within_19 dX0_within_20 (by decide) (fun c_6 => ?_) (fun c_6 => ?_)
  · have hw := wt_17 c_6
    refine x_iconst 0 dX0_within_27 (by decide) ?_
    refine x_bipush (-6) dX0_within_28 (by decide) ?_
    refine x_callS [.int 0, .int (-6)] 2 dX0_within_30 (k_X0_must G g_2 hw) q294 q295 q104 q296 (by decide) rfl rfl ⟨(Nat.le_of_ble_eq_true rfl), (Nat.le_of_ble_eq_true rfl)⟩ (Nat.le_of_ble_eq_true rfl) ⟨(Nat.le_of_ble_eq_true rfl), (Nat.le_of_ble_eq_true rfl)⟩ (fun v9 h_7 hv9 => ?_) (fun q9 h9 ci9 n9 x9 hx9 hs9 hc9 => xt_out hs9 hc9 (fun z hz => by cases hz) (Nat.le_of_ble_eq_true rfl) (Nat.le_of_ble_eq_true rfl) ⟨hx9.1, Ext.tr (Ext.tr e e_3) hx9.2.1, hx9.2.2⟩)
    obtain ⟨rfl, g_8, e_9, hw⟩ := hv9
    have hw := hw g_8 e_9
    show X ρ K_X0_within 33 [(0, .long x0), (4, .long x4)] [] h_7 2 14 (phV h0 post) (psX h0 px)
    exact x_vret dX0_within_33 rfl (Nat.le_of_ble_eq_true rfl) (Nat.le_of_ble_eq_true rfl) ⟨rfl, g_8, (Ext.tr (Ext.tr e e_3) e_9), hw⟩
  · have hw := wf_18 c_6
    refine x_iconst 1 dX0_within_23 (by decide) ?_
    refine x_goto 28 dX0_within_24 (by decide) ?_
    refine x_bipush (-6) dX0_within_28 (by decide) ?_
    refine x_callS [.int 1, .int (-6)] 2 dX0_within_30 (k_X0_must G g_2 hw) q294 q295 q104 q296 (by decide) rfl rfl ⟨(Nat.le_of_ble_eq_true rfl), (Nat.le_of_ble_eq_true rfl)⟩ (Nat.le_of_ble_eq_true rfl) ⟨(Nat.le_of_ble_eq_true rfl), (Nat.le_of_ble_eq_true rfl)⟩ (fun v9 h_12 hv9 => ?_) (fun q9 h9 ci9 n9 x9 hx9 hs9 hc9 => xt_out hs9 hc9 (fun z hz => by cases hz) (Nat.le_of_ble_eq_true rfl) (Nat.le_of_ble_eq_true rfl) ⟨hx9.1, Ext.tr (Ext.tr e e_3) hx9.2.1, hx9.2.2⟩)
    obtain ⟨rfl, g_13, e_14, hw⟩ := hv9
    have hw := hw g_13 e_14
    show X ρ K_X0_within 33 [(0, .long x0), (4, .long x4)] [] h_12 2 14 (phV h0 post) (psX h0 px)
    exact x_vret dX0_within_33 rfl (Nat.le_of_ble_eq_true rfl) (Nat.le_of_ble_eq_true rfl) ⟨rfl, g_13, (Ext.tr (Ext.tr e e_3) e_14), hw⟩
set_option maxHeartbeats 4000000 in
theorem k_X0_within {ρ : Rho} {h : Hp} {post : Hp → Prop} {px : Nat → Hp → Prop} {p1 : Int64} {p2 : Int64} {p3 : Int64} (G : G0 ρ) (g : GI h) (hw : wp_X0_within post px h p1 p2 p3) : Con ρ yX0_within (ws_ yX0_within cX0_within 6 (Option.none : Option Jvm.ClassFile.FieldType)) rm_X0_within [.long p1, .long p2, .long p3] h (phV h post) (psX h px) := by
  refine con_of (own := "BeforeTheEnd") (isI := false) (l0 := [(0, .long p1), (2, .long p2), (4, .long p3)]) (by decide) rfl (fun z => by cases z) (Nat.le_of_ble_eq_true rfl) rfl (fun _ => ?_)
  show X ρ K_X0_within 0 [(0, .long p1), (2, .long p2), (4, .long p3)] [] h 0 0 (phV h post) (psX h px)
  refine x_lload_n 0 dX0_within_0 rfl ?_
  refine x_lload_n 1 dX0_within_1 rfl ?_
  obtain ⟨wt_2, wf_3⟩ := hw
  refine x_lif_lt 10 dX0_within_2 dX0_within_3 (by decide) (fun c_1 => ?_) (fun c_1 => ?_)
  · have hw := wt_2 c_1
    refine x_iconst 0 dX0_within_10 (by decide) ?_
    refine X.sub [0, 2] rfl ?_
    exact t_X0_within_11 G  p1 p3 0 h g Ext.rf hw
  · have hw := wf_3 c_1
    refine x_iconst 1 dX0_within_6 (by decide) ?_
    refine x_goto 11 dX0_within_7 (by decide) ?_
    refine X.sub [0, 2] rfl ?_
    exact t_X0_within_11 G  p1 p3 1 h g Ext.rf hw

/-! BeforeTheEnd.pointsTold(II)I -/
def wp_X0_pointsTold (post : Int32 → Hp → Prop) (px : Nat → Hp → Prop) (h : Hp) (p1 : Int32) (p2 : Int32) : Prop := (wp_X0_in (fun r_4 h_1 => GI h_1 → Ext h h_1 → (wp_X0_must (fun h_6 => GI h_6 → Ext h_1 h_6 → (vp_in p1 4 ∧ (wp_X0_within (fun h_12 => GI h_12 → Ext h_6 h_12 → (vp_in p1 4 ∧ (∀ x3_18 : Int32, x3_18 = (gi h_12 11 (Int32.toNatClampNeg p1)) → (vp_in p1 4 ∧ (post x3_18 (si (si h_12 11 (Int32.toNatClampNeg p1) p2) 1 0 ((gi (si h_12 11 (Int32.toNatClampNeg p1) p2) 1 0) + 1))))))) px h_6 (Int32.toInt64 p2) 0 (Int32.toInt64 (mostF (Int32.toNatClampNeg p1)))))) px h_1 r_4 (-2))) h (Int32.toInt64 p1) 0 3)
abbrev rm_X0_pointsTold : Room := ({ frames := 11, cells := 3, slots := 21, locals := 267 })
abbrev K_X0_pointsTold : Kx := ("BeforeTheEnd", cX0_pointsTold, 4, (Option.some Jvm.ClassFile.FieldType.int), rm_X0_pointsTold, [], false)
set_option maxHeartbeats 4000000 in
theorem k_X0_pointsTold {ρ : Rho} {h : Hp} {post : Int32 → Hp → Prop} {px : Nat → Hp → Prop} {p1 : Int32} {p2 : Int32} (G : G0 ρ) (g : GI h) (hw : wp_X0_pointsTold post px h p1 p2) : Con ρ yX0_pointsTold (ws_ yX0_pointsTold cX0_pointsTold 4 (Option.some Jvm.ClassFile.FieldType.int)) rm_X0_pointsTold [.ref (mr ρ 1), .int p1, .int p2] h (phI h post) (psX h px) := by
  refine con_of (own := "BeforeTheEnd") (isI := false) (l0 := [(0, .ref (mr ρ 1)), (1, .int p1), (2, .int p2)]) (by decide) rfl (fun z => by cases z) (Nat.le_of_ble_eq_true rfl) rfl (fun _ => ?_)
  show X ρ K_X0_pointsTold 0 [(0, .ref (mr ρ 1)), (1, .int p1), (2, .int p2)] [] h 0 0 (phI h post) (psX h px)
  refine x_iload_n 1 dX0_pointsTold_0 rfl ?_
  refine x_i2l dX0_pointsTold_1 ?_
  refine x_lconst 0 dX0_pointsTold_2 (by decide) ?_
  refine x_ldc2 dX0_pointsTold_3 q831 ?_
  refine x_callS [.long (Int32.toInt64 p1), .long 0, .long 3] 3 dX0_pointsTold_6 (k_X0_in G g hw) q745 q464 q104 q465 (by decide) rfl rfl ⟨(Nat.le_of_ble_eq_true rfl), (Nat.le_of_ble_eq_true rfl)⟩ (Nat.le_of_ble_eq_true rfl) ⟨(Nat.le_of_ble_eq_true rfl), (Nat.le_of_ble_eq_true rfl)⟩ (fun v9 h_1 hv9 => ?_) (fun _ _ _ _ _ z _ _ => False.elim z)
  obtain ⟨r_4, rfl, g_2, e_3, b_5, hw⟩ := hv9
  have hw := hw g_2 e_3
  show X ρ K_X0_pointsTold 9 [(0, .ref (mr ρ 1)), (1, .int p1), (2, .int p2)] [.int r_4] h_1 0 0 (phI h post) (psX h px)
  refine x_bipush (-2) dX0_pointsTold_9 (by decide) ?_
  refine x_callS [.int r_4, .int (-2)] 2 dX0_pointsTold_11 (k_X0_must G g_2 hw) q294 q295 q104 q296 (by decide) rfl rfl ⟨(Nat.le_of_ble_eq_true rfl), (Nat.le_of_ble_eq_true rfl)⟩ (Nat.le_of_ble_eq_true rfl) ⟨(Nat.le_of_ble_eq_true rfl), (Nat.le_of_ble_eq_true rfl)⟩ (fun v9 h_6 hv9 => ?_) (fun q9 h9 ci9 n9 x9 hx9 hs9 hc9 => xt_out hs9 hc9 (fun z hz => by cases hz) (Nat.le_of_ble_eq_true rfl) (Nat.le_of_ble_eq_true rfl) ⟨hx9.1, Ext.tr e_3 hx9.2.1, hx9.2.2⟩)
  obtain ⟨rfl, g_7, e_8, hw⟩ := hv9
  have hw := hw g_7 e_8
  show X ρ K_X0_pointsTold 14 [(0, .ref (mr ρ 1)), (1, .int p1), (2, .int p2)] [] h_6 1 7 (phI h post) (psX h px)
  refine x_iload_n 2 dX0_pointsTold_14 rfl ?_
  refine x_i2l dX0_pointsTold_15 ?_
  refine x_lconst 0 dX0_pointsTold_16 (by decide) ?_
  refine x_most dX0_pointsTold_17 q832 ?_
  refine x_iload_n 1 dX0_pointsTold_20 rfl ?_
  obtain ⟨b_11, hw⟩ := hw
  refine x_mostA (j := (Int32.toNatClampNeg p1)) dX0_pointsTold_21 rfl b_11 ?_
  refine x_i2l dX0_pointsTold_22 ?_
  refine x_callS [.long (Int32.toInt64 p2), .long 0, .long (Int32.toInt64 (mostF (Int32.toNatClampNeg p1)))] 3 dX0_pointsTold_23 (k_X0_within G g_7 hw) q834 q835 q104 q836 (by decide) rfl rfl ⟨(Nat.le_of_ble_eq_true rfl), (Nat.le_of_ble_eq_true rfl)⟩ (Nat.le_of_ble_eq_true rfl) ⟨(Nat.le_of_ble_eq_true rfl), (Nat.le_of_ble_eq_true rfl)⟩ (fun v9 h_12 hv9 => ?_) (fun q9 h9 ci9 n9 x9 hx9 hs9 hc9 => xt_out hs9 hc9 (fun z hz => by cases hz) (Nat.le_of_ble_eq_true rfl) (Nat.le_of_ble_eq_true rfl) ⟨hx9.1, Ext.tr (Ext.tr e_3 e_8) hx9.2.1, hx9.2.2⟩)
  obtain ⟨rfl, g_13, e_14, hw⟩ := hv9
  have hw := hw g_13 e_14
  show X ρ K_X0_pointsTold 26 [(0, .ref (mr ρ 1)), (1, .int p1), (2, .int p2)] [] h_12 3 21 (phI h post) (psX h px)
  refine x_aload_n 0 dX0_pointsTold_26 rfl ?_
  refine x_get (ci := 0) (v := .ref (mr ρ 11)) 4 dX0_pointsTold_27 (GI.s g_13 (t := (10, 0)) rfl (by decide)) rfl in_X0 (by decide) q191 (Or.inl rfl) (fv_rc rfl (GI.x g_13 (n := 11) rfl (by decide)) (by decide)) ?_
  refine x_iload_n 1 dX0_pointsTold_30 rfl ?_
  obtain ⟨b_17, hw⟩ := hw
  refine x_iald (n := 4) (j := (Int32.toNatClampNeg p1)) dX0_pointsTold_31 rfl (GI.s g_13 (t := (1, 4)) rfl (by decide)) b_17 ?_
  refine x_nmi (fun x3_18 ex3_18 => ?_)
  have hw := hw x3_18 ex3_18
  refine x_istore_n (lv' := [(3, .int x3_18), (0, .ref (mr ρ 1)), (1, .int p1), (2, .int p2)]) dX0_pointsTold_32 (Nat.le_of_ble_eq_true rfl) rfl ?_
  refine x_aload_n 1 dX0_pointsTold_33 rfl ?_
  refine x_get (ci := 0) (v := .ref (mr ρ 11)) 4 dX0_pointsTold_34 (GI.s g_13 (t := (10, 0)) rfl (by decide)) rfl in_X0 (by decide) q191 (Or.inl rfl) (fv_rc rfl (GI.x g_13 (n := 11) rfl (by decide)) (by decide)) ?_
  refine x_iload_n 2 dX0_pointsTold_37 rfl ?_
  refine x_iload_n 3 dX0_pointsTold_38 rfl ?_
  obtain ⟨b_19, hw⟩ := hw
  refine x_iast (n := 4) (j := (Int32.toNatClampNeg p1)) dX0_pointsTold_39 rfl (GI.s g_13 (t := (1, 4)) rfl (by decide)) b_19 ?_
  refine x_aload_n 1 dX0_pointsTold_40 rfl ?_
  refine x_dup dX0_pointsTold_41 rfl ?_
  refine x_get (ci := 0) (v := .int (gi (si h_12 11 (Int32.toNatClampNeg p1) p2) 1 0)) 0 dX0_pointsTold_42 (GI.s (GI.i g_13) (t := (10, 0)) rfl (by decide)) rfl in_X0 (by decide) q185 (Or.inl rfl) (fv_i rfl) ?_
  refine x_iconst 1 dX0_pointsTold_45 (by decide) ?_
  refine x_iadd dX0_pointsTold_46 ?_
  refine x_put (ci := 0) 0 dX0_pointsTold_47 (GI.s (GI.i g_13) (t := (10, 0)) rfl (by decide)) rfl in_X0 tyX0 tyX0_ok nmX0 (by decide) q185 (Or.inl rfl) rfl rfl rfl (isPut_i rfl) ?_
  refine x_iload_n 0 dX0_pointsTold_50 rfl ?_
  exact x_iret dX0_pointsTold_51 rfl (Nat.le_of_ble_eq_true rfl) (Nat.le_of_ble_eq_true rfl) ⟨_, rfl, (GI.i (GI.i g_13)), (Ext.i (Ext.i (Ext.tr (Ext.tr e_3 e_8) e_14))), hw⟩

/-! BeforeTheEnd.toldAt(I)LBeforeTheEnd$ToldPlayer; -/
def w_X0_toldAt_9 (post : Nat → Hp → Prop) (px : Nat → Hp → Prop) (x1 : Int32) (z0 : Int32) (h : Hp) : Prop := (∀ z_2 : Int32, z_2 = ((if z0 = 4 then 1 else 0) : Int32) → (wp_X0_must (fun h_3 => GI h_3 → Ext h h_3 → (vp_in x1 4 ∧ (isPl h_3 (gr h_3 10 (Int32.toNatClampNeg x1)) ∧ (isTP h_3 (gr h_3 10 (Int32.toNatClampNeg x1)) ∧ (post (gr h_3 10 (Int32.toNatClampNeg x1)) h_3))))) px h z_2 (-2)))
def wp_X0_toldAt (post : Nat → Hp → Prop) (px : Nat → Hp → Prop) (h : Hp) (p1 : Int32) : Prop := (vp_in p1 4 ∧ (isPl h (gr h 10 (Int32.toNatClampNeg p1)) ∧ (wv_X10_kind_isPl (fun r_6 h_3 => GI h_3 → Ext h h_3 → (w_X0_toldAt_9 post px p1 r_6 h_3)) h (gr h 10 (Int32.toNatClampNeg p1)))))
abbrev rm_X0_toldAt : Room := ({ frames := 10, cells := 1, slots := 7, locals := 242 })
abbrev K_X0_toldAt : Kx := ("BeforeTheEnd", cX0_toldAt, 2, (Option.some (Jvm.ClassFile.FieldType.object "BeforeTheEnd$ToldPlayer")), rm_X0_toldAt, [], false)
set_option maxHeartbeats 4000000 in
theorem t_X0_toldAt_9 {ρ : Rho} {h0 : Hp} {post : Nat → Hp → Prop} {px : Nat → Hp → Prop} (G : G0 ρ) :
    ∀ (x1 : Int32) (z0 : Int32) (h : Hp), GI h → Ext h0 h → w_X0_toldAt_9 post px x1 z0 h → X ρ K_X0_toldAt 9 [(0, .ref (mr ρ 1)), (1, .int x1)] [.int z0] h 0 0 (phR ρ h0 post) (psX h0 px) := by
  intro x1 z0 h g e hw
  refine x_iconst 4 dX0_toldAt_9 (by decide) ?_
  have kJ_11 : ∀ z_2 : Int32, z_2 = ((if z0 = 4 then 1 else 0) : Int32) → X ρ K_X0_toldAt 18 [(0, .ref (mr ρ 1)), (1, .int x1)] [.int z_2] h 0 0 (phR ρ h0 post) (psX h0 px) := fun z_2 ez_2 => by
    have hw := hw z_2 ez_2
    refine x_bipush (-2) dX0_toldAt_18 (by decide) ?_
    refine x_callS [.int z_2, .int (-2)] 2 dX0_toldAt_20 (k_X0_must G g hw) q294 q295 q104 q296 (by decide) rfl rfl ⟨(Nat.le_of_ble_eq_true rfl), (Nat.le_of_ble_eq_true rfl)⟩ (Nat.le_of_ble_eq_true rfl) ⟨(Nat.le_of_ble_eq_true rfl), (Nat.le_of_ble_eq_true rfl)⟩ (fun v9 h_3 hv9 => ?_) (fun q9 h9 ci9 n9 x9 hx9 hs9 hc9 => xt_out hs9 hc9 (fun z hz => by cases hz) (Nat.le_of_ble_eq_true rfl) (Nat.le_of_ble_eq_true rfl) ⟨hx9.1, Ext.tr e hx9.2.1, hx9.2.2⟩)
    obtain ⟨rfl, g_4, e_5, hw⟩ := hv9
    have hw := hw g_4 e_5
    show X ρ K_X0_toldAt 23 [(0, .ref (mr ρ 1)), (1, .int x1)] [] h_3 1 7 (phR ρ h0 post) (psX h0 px)
    refine x_aload_n 0 dX0_toldAt_23 rfl ?_
    refine x_get (ci := 0) (v := .ref (mr ρ 10)) 2 dX0_toldAt_24 (GI.s g_4 (t := (10, 0)) rfl (by decide)) rfl in_X0 (by decide) q189 (Or.inl rfl) (fv_rc rfl (GI.x g_4 (n := 10) rfl (by decide)) (by decide)) ?_
    refine x_iload_n 1 dX0_toldAt_27 rfl ?_
    obtain ⟨b_8, hw⟩ := hw
    obtain ⟨b_9, hw⟩ := hw
    refine x_aald5 (n := 4) (j := (Int32.toNatClampNeg x1)) dX0_toldAt_28 rfl (GI.s g_4 (t := (5, 4)) rfl (by decide)) b_8 ?_
    refine x_nn (isPl.nz b_9 (GI.live g_4)) ?_
    obtain ⟨b_10, hw⟩ := hw
    refine x_castTP dX0_toldAt_29 b_10 q660 ?_
    exact x_aret dX0_toldAt_32 rfl (Nat.le_of_ble_eq_true rfl) (Nat.le_of_ble_eq_true rfl) ⟨_, rfl, g_4, (Ext.tr e e_5), hw⟩
  refine x_icmp_ne 17 dX0_toldAt_10 (by decide) (fun c_1 => ?_) (fun c_1 => ?_)
  · refine x_iconst 0 dX0_toldAt_17 (by decide) ?_
    exact kJ_11 _ ((if_neg c_1)).symm
  · refine x_iconst 1 dX0_toldAt_13 (by decide) ?_
    refine x_goto 18 dX0_toldAt_14 (by decide) ?_
    exact kJ_11 _ ((if_pos c_1)).symm
set_option maxHeartbeats 4000000 in
theorem k_X0_toldAt {ρ : Rho} {h : Hp} {post : Nat → Hp → Prop} {px : Nat → Hp → Prop} {p1 : Int32} (G : G0 ρ) (g : GI h) (hw : wp_X0_toldAt post px h p1) : Con ρ yX0_toldAt (ws_ yX0_toldAt cX0_toldAt 2 (Option.some (Jvm.ClassFile.FieldType.object "BeforeTheEnd$ToldPlayer"))) rm_X0_toldAt [.ref (mr ρ 1), .int p1] h (phR ρ h post) (psX h px) := by
  refine con_of (own := "BeforeTheEnd") (isI := false) (l0 := [(0, .ref (mr ρ 1)), (1, .int p1)]) (by decide) rfl (fun z => by cases z) (Nat.le_of_ble_eq_true rfl) rfl (fun _ => ?_)
  show X ρ K_X0_toldAt 0 [(0, .ref (mr ρ 1)), (1, .int p1)] [] h 0 0 (phR ρ h post) (psX h px)
  refine x_aload_n 0 dX0_toldAt_0 rfl ?_
  refine x_get (ci := 0) (v := .ref (mr ρ 10)) 2 dX0_toldAt_1 (GI.s g (t := (10, 0)) rfl (by decide)) rfl in_X0 (by decide) q189 (Or.inl rfl) (fv_rc rfl (GI.x g (n := 10) rfl (by decide)) (by decide)) ?_
  refine x_iload_n 1 dX0_toldAt_4 rfl ?_
  obtain ⟨b_1, hw⟩ := hw
  obtain ⟨b_2, hw⟩ := hw
  refine x_aald5 (n := 4) (j := (Int32.toNatClampNeg p1)) dX0_toldAt_5 rfl (GI.s g (t := (5, 4)) rfl (by decide)) b_1 ?_
  refine x_nn (isPl.nz b_2 (GI.live g)) ?_
  have kk_14 : ∀ (v9 : Option Value) (h_3 : Hp), (phI h (fun r_6 h_3 => GI h_3 → Ext h h_3 → (w_X0_toldAt_9 post px p1 r_6 h_3))) v9 h_3 → X ρ K_X0_toldAt 9 [(0, .ref (mr ρ 1)), (1, .int p1)] (v9.toList ++ []) h_3 0 0 (phR ρ h post) (psX h px) := by
    intro v9 h_3 hv9
    obtain ⟨r_6, rfl, g_4, e_5, hw⟩ := hv9
    have hw := hw g_4 e_5
    show X ρ K_X0_toldAt 9 [(0, .ref (mr ρ 1)), (1, .int p1)] [.int r_6] h_3 0 0 (phR ρ h post) (psX h px)
    exact t_X0_toldAt_9 G  p1 r_6 h_3 g_4 e_5 hw
  obtain ⟨wc_8, wc_9, wc_10, wc_11, wc_12, wc_13⟩ := hw
  rcases b_2 with fc9 | fc9 | fc9 | fc9 | fc9 | fc9
  · exact x_callA (ci := 8) (x0 := ⟨"BeforeTheEnd$Player", "kind", "()I"⟩) (owner := "BeforeTheEnd$Player") [] 0 dX0_toldAt_6 (k_X11_kind_c8 G g fc9 (wc_8 fc9)) fc9 rfl (lw_U q755 q757 q764 q765 q124 q766) q756 (by decide) rfl rfl ⟨(Nat.le_of_ble_eq_true rfl), (Nat.le_of_ble_eq_true rfl)⟩ (Nat.le_of_ble_eq_true rfl) ⟨(Nat.le_of_ble_eq_true rfl), (Nat.le_of_ble_eq_true rfl)⟩ kk_14 (fun _ _ _ _ _ z _ _ => False.elim z)
  · exact x_callA (ci := 9) (x0 := ⟨"BeforeTheEnd$Player", "kind", "()I"⟩) (owner := "BeforeTheEnd$Player") [] 0 dX0_toldAt_6 (k_X12_kind_c9 G g fc9 (wc_9 fc9)) fc9 rfl (lw_U q755 q757 q770 q771 q125 q772) q756 (by decide) rfl rfl ⟨(Nat.le_of_ble_eq_true rfl), (Nat.le_of_ble_eq_true rfl)⟩ (Nat.le_of_ble_eq_true rfl) ⟨(Nat.le_of_ble_eq_true rfl), (Nat.le_of_ble_eq_true rfl)⟩ kk_14 (fun _ _ _ _ _ z _ _ => False.elim z)
  · exact x_callA (ci := 10) (x0 := ⟨"BeforeTheEnd$Player", "kind", "()I"⟩) (owner := "BeforeTheEnd$Player") [] 0 dX0_toldAt_6 (k_X13_kind_c10 G g fc9 (wc_10 fc9)) fc9 rfl (lw_U q755 q757 q761 q762 q126 q763) q756 (by decide) rfl rfl ⟨(Nat.le_of_ble_eq_true rfl), (Nat.le_of_ble_eq_true rfl)⟩ (Nat.le_of_ble_eq_true rfl) ⟨(Nat.le_of_ble_eq_true rfl), (Nat.le_of_ble_eq_true rfl)⟩ kk_14 (fun _ _ _ _ _ z _ _ => False.elim z)
  · exact x_callA (ci := 11) (x0 := ⟨"BeforeTheEnd$Player", "kind", "()I"⟩) (owner := "BeforeTheEnd$Player") [] 0 dX0_toldAt_6 (k_X14_kind_c11 G g fc9 (wc_11 fc9)) fc9 rfl (lw_U q755 q757 q767 q768 q127 q769) q756 (by decide) rfl rfl ⟨(Nat.le_of_ble_eq_true rfl), (Nat.le_of_ble_eq_true rfl)⟩ (Nat.le_of_ble_eq_true rfl) ⟨(Nat.le_of_ble_eq_true rfl), (Nat.le_of_ble_eq_true rfl)⟩ kk_14 (fun _ _ _ _ _ z _ _ => False.elim z)
  · exact x_callA (ci := 12) (x0 := ⟨"BeforeTheEnd$Player", "kind", "()I"⟩) (owner := "BeforeTheEnd$Player") [] 0 dX0_toldAt_6 (k_X15_kind_c12 G g fc9 (wc_12 fc9)) fc9 rfl (lw_U q755 q757 q773 q774 q128 q775) q756 (by decide) rfl rfl ⟨(Nat.le_of_ble_eq_true rfl), (Nat.le_of_ble_eq_true rfl)⟩ (Nat.le_of_ble_eq_true rfl) ⟨(Nat.le_of_ble_eq_true rfl), (Nat.le_of_ble_eq_true rfl)⟩ kk_14 (fun _ _ _ _ _ z _ _ => False.elim z)
  · exact x_callA (ci := 13) (x0 := ⟨"BeforeTheEnd$Player", "kind", "()I"⟩) (owner := "BeforeTheEnd$Player") [] 0 dX0_toldAt_6 (k_X16_kind_c13 G g fc9 (wc_13 fc9)) fc9 rfl (lw_U q755 q757 q758 q759 q129 q760) q756 (by decide) rfl rfl ⟨(Nat.le_of_ble_eq_true rfl), (Nat.le_of_ble_eq_true rfl)⟩ (Nat.le_of_ble_eq_true rfl) ⟨(Nat.le_of_ble_eq_true rfl), (Nat.le_of_ble_eq_true rfl)⟩ kk_14 (fun _ _ _ _ _ z _ _ => False.elim z)

/-! BeforeTheEnd.setTold(II)I -/
def wp_X0_setTold (post : Int32 → Hp → Prop) (px : Nat → Hp → Prop) (h : Hp) (p1 : Int32) (p2 : Int32) : Prop := (wp_X0_mustBePlayer (fun h_1 => GI h_1 → Ext h h_1 → (∀ z_8 : Int32, z_8 = ((if p2 < 0 then 0 else (if (p2 >>> ((gi h_1 (gr h_1 1 1) 0) &&& 31)) = 0 then 1 else 0)) : Int32) → (wp_X0_must (fun h_9 => GI h_9 → Ext h_1 h_9 → (wp_X0_toldAt (fun r_17 h_14 => GI h_14 → Ext h_9 h_14 → (isTP h_14 r_17 ∧ (post (gi h_14 r_17 3) (si h_14 r_17 3 p2)))) px h_9 p1)) px h_1 z_8 (-1)))) px h p1)
abbrev rm_X0_setTold : Room := ({ frames := 12, cells := 3, slots := 21, locals := 284 })
abbrev K_X0_setTold : Kx := ("BeforeTheEnd", cX0_setTold, 5, (Option.some Jvm.ClassFile.FieldType.int), rm_X0_setTold, [], false)
set_option maxHeartbeats 4000000 in
theorem k_X0_setTold {ρ : Rho} {h : Hp} {post : Int32 → Hp → Prop} {px : Nat → Hp → Prop} {p1 : Int32} {p2 : Int32} (G : G0 ρ) (g : GI h) (hw : wp_X0_setTold post px h p1 p2) : Con ρ yX0_setTold (ws_ yX0_setTold cX0_setTold 5 (Option.some Jvm.ClassFile.FieldType.int)) rm_X0_setTold [.ref (mr ρ 1), .int p1, .int p2] h (phI h post) (psX h px) := by
  refine con_of (own := "BeforeTheEnd") (isI := false) (l0 := [(0, .ref (mr ρ 1)), (1, .int p1), (2, .int p2)]) (by decide) rfl (fun z => by cases z) (Nat.le_of_ble_eq_true rfl) rfl (fun _ => ?_)
  show X ρ K_X0_setTold 0 [(0, .ref (mr ρ 1)), (1, .int p1), (2, .int p2)] [] h 0 0 (phI h post) (psX h px)
  refine x_aload_n 0 dX0_setTold_0 rfl ?_
  refine x_iload_n 1 dX0_setTold_1 rfl ?_
  refine x_callV (ci := 0) [.int p1] 1 dX0_setTold_2 (k_X0_mustBePlayer G g hw) (GI.s g (t := (10, 0)) rfl (by decide)) rfl q751 q753 qs17 q104 q754 (by decide) rfl rfl ⟨(Nat.le_of_ble_eq_true rfl), (Nat.le_of_ble_eq_true rfl)⟩ (Nat.le_of_ble_eq_true rfl) ⟨(Nat.le_of_ble_eq_true rfl), (Nat.le_of_ble_eq_true rfl)⟩ (fun v9 h_1 hv9 => ?_) (fun q9 h9 ci9 n9 x9 hx9 hs9 hc9 => xt_out hs9 hc9 (fun z hz => by cases hz) (Nat.le_of_ble_eq_true rfl) (Nat.le_of_ble_eq_true rfl) ⟨hx9.1, Ext.tr Ext.rf hx9.2.1, hx9.2.2⟩)
  obtain ⟨rfl, g_2, e_3, hw⟩ := hv9
  have hw := hw g_2 e_3
  show X ρ K_X0_setTold 5 [(0, .ref (mr ρ 1)), (1, .int p1), (2, .int p2)] [] h_1 1 7 (phI h post) (psX h px)
  refine x_iload_n 2 dX0_setTold_5 rfl ?_
  have kJ_19 : ∀ z_8 : Int32, z_8 = ((if p2 < 0 then 0 else (if (p2 >>> ((gi h_1 (gr h_1 1 1) 0) &&& 31)) = 0 then 1 else 0)) : Int32) → X ρ K_X0_setTold 26 [(0, .ref (mr ρ 1)), (1, .int p1), (2, .int p2)] [.int z_8] h_1 1 7 (phI h post) (psX h px) := fun z_8 ez_8 => by
    have hw := hw z_8 ez_8
    refine x_iconst (-1) dX0_setTold_26 (by decide) ?_
    refine x_callS [.int z_8, .int (-1)] 2 dX0_setTold_27 (k_X0_must G g_2 hw) q294 q295 q104 q296 (by decide) rfl rfl ⟨(Nat.le_of_ble_eq_true rfl), (Nat.le_of_ble_eq_true rfl)⟩ (Nat.le_of_ble_eq_true rfl) ⟨(Nat.le_of_ble_eq_true rfl), (Nat.le_of_ble_eq_true rfl)⟩ (fun v9 h_9 hv9 => ?_) (fun q9 h9 ci9 n9 x9 hx9 hs9 hc9 => xt_out hs9 hc9 (fun z hz => by cases hz) (Nat.le_of_ble_eq_true rfl) (Nat.le_of_ble_eq_true rfl) ⟨hx9.1, Ext.tr e_3 hx9.2.1, hx9.2.2⟩)
    obtain ⟨rfl, g_10, e_11, hw⟩ := hv9
    have hw := hw g_10 e_11
    show X ρ K_X0_setTold 30 [(0, .ref (mr ρ 1)), (1, .int p1), (2, .int p2)] [] h_9 2 14 (phI h post) (psX h px)
    refine x_aload_n 0 dX0_setTold_30 rfl ?_
    refine x_iload_n 1 dX0_setTold_31 rfl ?_
    refine x_callV (ci := 0) [.int p1] 1 dX0_setTold_32 (k_X0_toldAt G g_10 hw) (GI.s g_10 (t := (10, 0)) rfl (by decide)) rfl q841 q843 qs24 q104 q844 (by decide) rfl rfl ⟨(Nat.le_of_ble_eq_true rfl), (Nat.le_of_ble_eq_true rfl)⟩ (Nat.le_of_ble_eq_true rfl) ⟨(Nat.le_of_ble_eq_true rfl), (Nat.le_of_ble_eq_true rfl)⟩ (fun v9 h_14 hv9 => ?_) (fun q9 h9 ci9 n9 x9 hx9 hs9 hc9 => xt_out hs9 hc9 (fun z hz => by cases hz) (Nat.le_of_ble_eq_true rfl) (Nat.le_of_ble_eq_true rfl) ⟨hx9.1, Ext.tr (Ext.tr e_3 e_11) hx9.2.1, hx9.2.2⟩)
    obtain ⟨r_17, rfl, g_15, e_16, hw⟩ := hv9
    have hw := hw g_15 e_16
    show X ρ K_X0_setTold 35 [(0, .ref (mr ρ 1)), (1, .int p1), (2, .int p2)] [.ref (mr ρ r_17)] h_14 3 21 (phI h post) (psX h px)
    obtain ⟨b_18, hw⟩ := hw
    refine x_astore_n (lv' := [(3, .ref (mr ρ r_17)), (0, .ref (mr ρ 1)), (1, .int p1), (2, .int p2)]) dX0_setTold_35 (Nat.le_of_ble_eq_true rfl) rfl ?_
    refine x_aload_n 0 dX0_setTold_36 rfl ?_
    refine x_getTPN dX0_setTold_37 b_18 q667 ?_
    refine x_istore (lv' := [(4, .int (gi h_14 r_17 3)), (3, .ref (mr ρ r_17)), (0, .ref (mr ρ 1)), (1, .int p1), (2, .int p2)]) dX0_setTold_40 (Nat.le_of_ble_eq_true rfl) rfl ?_
    refine x_aload_n 1 dX0_setTold_42 rfl ?_
    refine x_iload_n 4 dX0_setTold_43 rfl ?_
    refine x_putTPN dX0_setTold_44 b_18 q667 ?_
    refine x_iload 0 dX0_setTold_47 rfl ?_
    exact x_iret dX0_setTold_49 rfl (Nat.le_of_ble_eq_true rfl) (Nat.le_of_ble_eq_true rfl) ⟨_, rfl, (GI.i g_15), (Ext.i (Ext.tr (Ext.tr e_3 e_11) e_16)), hw⟩
  refine x_if_lt 25 dX0_setTold_6 (by decide) (fun c_6 => ?_) (fun c_6 => ?_)
  · refine x_iconst 0 dX0_setTold_25 (by decide) ?_
    exact kJ_19 _ ((if_pos c_6)).symm
  · refine x_iload_n 2 dX0_setTold_9 rfl ?_
    refine x_aload_n 0 dX0_setTold_10 rfl ?_
    refine x_get (ci := 0) (v := .ref (mr ρ (gr h_1 1 1))) 1 dX0_setTold_11 (GI.s g_2 (t := (10, 0)) rfl (by decide)) rfl in_X0 (by decide) q188 (Or.inl rfl) (fv_rc rfl rfl (isTree.nz (GI.t g_2) (GI.live g_2))) ?_
    refine x_getN (ci := 1) (v := .int (gi h_1 (gr h_1 1 1) 0)) 0 dX0_setTold_14 (isTree.s (GI.t g_2)) rfl in_X1 (by decide) q147 (Or.inl rfl) (fv_i rfl) ?_
    refine x_ishr dX0_setTold_17 ?_
    refine x_if_ne 25 dX0_setTold_18 (by decide) (fun c_7 => ?_) (fun c_7 => ?_)
    · refine x_iconst 0 dX0_setTold_25 (by decide) ?_
      exact kJ_19 _ (((if_neg c_6).trans (if_neg c_7))).symm
    · refine x_iconst 1 dX0_setTold_21 (by decide) ?_
      refine x_goto 26 dX0_setTold_22 (by decide) ?_
      exact kJ_19 _ (((if_neg c_6).trans (if_pos c_7))).symm

/-! BeforeTheEnd$Ends.wants(LBeforeTheEnd;IIZ)Z on an object of class 8 -/
def wp_X11_wants_c8 (post : Int32 → Hp → Prop) (h : Hp) (r0 : Nat) (p2 : Int32) (p3 : Int32) (p4 : Int32) : Prop := (wp_X1_isEnd (fun r_4 h_1 => GI h_1 → Ext h h_1 → (post r_4 h_1)) h (gr h 1 1) p2)
abbrev rm_X11_wants_c8 : Room := ({ frames := 2, cells := 0, slots := 0, locals := 81 })
abbrev K_X11_wants_c8 : Kx := ("BeforeTheEnd$Ends", cX11_wants, 5, (Option.some Jvm.ClassFile.FieldType.boolean), rm_X11_wants_c8, [], false)
set_option maxHeartbeats 4000000 in
theorem k_X11_wants_c8 {ρ : Rho} {h : Hp} {post : Int32 → Hp → Prop} {r0 : Nat} {p2 : Int32} {p3 : Int32} {p4 : Int32} (G : G0 ρ) (g : GI h) (fr0 : sh h r0 = (18, 0)) (hw : wp_X11_wants_c8 post h r0 p2 p3 p4) : Con ρ yX11_wants (ws_ yX11_wants cX11_wants 5 (Option.some Jvm.ClassFile.FieldType.boolean)) rm_X11_wants_c8 [.ref (mr ρ r0), .ref (mr ρ 1), .int p2, .int p3, .int p4] h (phB h post) psN := by
  refine con_of (own := "BeforeTheEnd$Ends") (isI := false) (l0 := [(0, .ref (mr ρ r0)), (1, .ref (mr ρ 1)), (2, .int p2), (3, .int p3), (4, .int p4)]) (by decide) rfl (fun z => by cases z) (Nat.le_of_ble_eq_true rfl) rfl (fun _ => ?_)
  show X ρ K_X11_wants_c8 0 [(0, .ref (mr ρ r0)), (1, .ref (mr ρ 1)), (2, .int p2), (3, .int p3), (4, .int p4)] [] h 0 0 (phB h post) psN
  refine x_aload_n 1 dX11_wants_0 rfl ?_
  refine x_getN (ci := 0) (v := .ref (mr ρ (gr h 1 1))) 1 dX11_wants_1 (GI.s g (t := (10, 0)) rfl (by decide)) rfl in_X0 (by decide) q186 (Or.inl rfl) (fv_rc rfl rfl (isTree.nz (GI.t g) (GI.live g))) ?_
  refine x_iload_n 2 dX11_wants_4 rfl ?_
  refine x_callV (ci := 1) [.int p2] 1 dX11_wants_5 (k_X1_isEnd G g (GI.t g) hw) (isTree.s (GI.t g)) rfl q883 q723 q724 q105 q725 (by decide) rfl rfl ⟨(Nat.le_of_ble_eq_true rfl), (Nat.le_of_ble_eq_true rfl)⟩ (Nat.le_of_ble_eq_true rfl) ⟨(Nat.le_of_ble_eq_true rfl), (Nat.le_of_ble_eq_true rfl)⟩ (fun v9 h_1 hv9 => ?_) (fun _ _ _ _ _ z _ _ => False.elim z)
  obtain ⟨r_4, rfl, g_2, e_3, b_5, hw⟩ := hv9
  have hw := hw g_2 e_3
  show X ρ K_X11_wants_c8 8 [(0, .ref (mr ρ r0)), (1, .ref (mr ρ 1)), (2, .int p2), (3, .int p3), (4, .int p4)] [.int r_4] h_1 0 0 (phB h post) psN
  exact x_zret dX11_wants_8 rfl (isB.n b_5) (Nat.le_of_ble_eq_true rfl) (Nat.le_of_ble_eq_true rfl) ⟨_, rfl, g_2, e_3, b_5, hw⟩

/-! BeforeTheEnd$Ends.wants(LBeforeTheEnd;IIZ)Z on an object of class 9 -/
def wp_X11_wants_c9 (post : Int32 → Hp → Prop) (h : Hp) (r0 : Nat) (p2 : Int32) (p3 : Int32) (p4 : Int32) : Prop := (wp_X1_isEnd (fun r_4 h_1 => GI h_1 → Ext h h_1 → (post r_4 h_1)) h (gr h 1 1) p2)
abbrev rm_X11_wants_c9 : Room := ({ frames := 2, cells := 0, slots := 0, locals := 81 })
abbrev K_X11_wants_c9 : Kx := ("BeforeTheEnd$Ends", cX11_wants, 5, (Option.some Jvm.ClassFile.FieldType.boolean), rm_X11_wants_c9, [], false)
set_option maxHeartbeats 4000000 in
theorem k_X11_wants_c9 {ρ : Rho} {h : Hp} {post : Int32 → Hp → Prop} {r0 : Nat} {p2 : Int32} {p3 : Int32} {p4 : Int32} (G : G0 ρ) (g : GI h) (fr0 : sh h r0 = (19, 0)) (hw : wp_X11_wants_c9 post h r0 p2 p3 p4) : Con ρ yX11_wants (ws_ yX11_wants cX11_wants 5 (Option.some Jvm.ClassFile.FieldType.boolean)) rm_X11_wants_c9 [.ref (mr ρ r0), .ref (mr ρ 1), .int p2, .int p3, .int p4] h (phB h post) psN := by
  refine con_of (own := "BeforeTheEnd$Ends") (isI := false) (l0 := [(0, .ref (mr ρ r0)), (1, .ref (mr ρ 1)), (2, .int p2), (3, .int p3), (4, .int p4)]) (by decide) rfl (fun z => by cases z) (Nat.le_of_ble_eq_true rfl) rfl (fun _ => ?_)
  show X ρ K_X11_wants_c9 0 [(0, .ref (mr ρ r0)), (1, .ref (mr ρ 1)), (2, .int p2), (3, .int p3), (4, .int p4)] [] h 0 0 (phB h post) psN
  refine x_aload_n 1 dX11_wants_0 rfl ?_
  refine x_getN (ci := 0) (v := .ref (mr ρ (gr h 1 1))) 1 dX11_wants_1 (GI.s g (t := (10, 0)) rfl (by decide)) rfl in_X0 (by decide) q186 (Or.inl rfl) (fv_rc rfl rfl (isTree.nz (GI.t g) (GI.live g))) ?_
  refine x_iload_n 2 dX11_wants_4 rfl ?_
  refine x_callV (ci := 1) [.int p2] 1 dX11_wants_5 (k_X1_isEnd G g (GI.t g) hw) (isTree.s (GI.t g)) rfl q883 q723 q724 q105 q725 (by decide) rfl rfl ⟨(Nat.le_of_ble_eq_true rfl), (Nat.le_of_ble_eq_true rfl)⟩ (Nat.le_of_ble_eq_true rfl) ⟨(Nat.le_of_ble_eq_true rfl), (Nat.le_of_ble_eq_true rfl)⟩ (fun v9 h_1 hv9 => ?_) (fun _ _ _ _ _ z _ _ => False.elim z)
  obtain ⟨r_4, rfl, g_2, e_3, b_5, hw⟩ := hv9
  have hw := hw g_2 e_3
  show X ρ K_X11_wants_c9 8 [(0, .ref (mr ρ r0)), (1, .ref (mr ρ 1)), (2, .int p2), (3, .int p3), (4, .int p4)] [.int r_4] h_1 0 0 (phB h post) psN
  exact x_zret dX11_wants_8 rfl (isB.n b_5) (Nat.le_of_ble_eq_true rfl) (Nat.le_of_ble_eq_true rfl) ⟨_, rfl, g_2, e_3, b_5, hw⟩

/-! BeforeTheEnd$Sure.by(Z)I on an object of class 9 -/
def wp_X12_by_c9 (post : Int32 → Hp → Prop) (h : Hp) (r0 : Nat) (p1 : Int32) : Prop := (post (gi h r0 1) h)
abbrev rm_X12_by_c9 : Room := ({ frames := 1, cells := 0, slots := 0, locals := 60 })
abbrev K_X12_by_c9 : Kx := ("BeforeTheEnd$Sure", cX12_by, 2, (Option.some Jvm.ClassFile.FieldType.int), rm_X12_by_c9, [], false)
set_option maxHeartbeats 4000000 in
theorem k_X12_by_c9 {ρ : Rho} {h : Hp} {post : Int32 → Hp → Prop} {r0 : Nat} {p1 : Int32} (G : G0 ρ) (g : GI h) (fr0 : sh h r0 = (19, 0)) (hw : wp_X12_by_c9 post h r0 p1) : Con ρ yX12_by (ws_ yX12_by cX12_by 2 (Option.some Jvm.ClassFile.FieldType.int)) rm_X12_by_c9 [.ref (mr ρ r0), .int p1] h (phI h post) psN := by
  refine con_of (own := "BeforeTheEnd$Sure") (isI := false) (l0 := [(0, .ref (mr ρ r0)), (1, .int p1)]) (by decide) rfl (fun z => by cases z) (Nat.le_of_ble_eq_true rfl) rfl (fun _ => ?_)
  show X ρ K_X12_by_c9 0 [(0, .ref (mr ρ r0)), (1, .int p1)] [] h 0 0 (phI h post) psN
  refine x_aload_n 0 dX12_by_0 rfl ?_
  refine x_get (ci := 9) (v := .int (gi h r0 1)) 1 dX12_by_1 fr0 rfl in_X12 (by decide) q610 (Or.inr q611) (fv_i rfl) ?_
  exact x_iret dX12_by_4 rfl (Nat.le_of_ble_eq_true rfl) (Nat.le_of_ble_eq_true rfl) ⟨_, rfl, g, Ext.rf, hw⟩

/-! BeforeTheEnd$Tree.units(I)J -/
def wp_X1_units (post : Int64 → Hp → Prop) (h : Hp) (r0 : Nat) (p1 : Int32) : Prop := ((¬ (gi h r0 8) = 0 → (vp_in p1 24 ∧ (post (gl h (r0 + 6) (Int32.toNatClampNeg p1)) h))) ∧ ((gi h r0 8) = 0 → (wp_X1_findUnits (fun h_3 => GI h_3 → Ext h h_3 → (vp_in p1 24 ∧ (post (gl h_3 (r0 + 6) (Int32.toNatClampNeg p1)) h_3))) h r0)))
abbrev rm_X1_units : Room := ({ frames := 4, cells := 0, slots := 0, locals := 141 })
abbrev K_X1_units : Kx := ("BeforeTheEnd$Tree", cX1_units, 2, (Option.some Jvm.ClassFile.FieldType.long), rm_X1_units, [], false)
set_option maxHeartbeats 4000000 in
theorem k_X1_units {ρ : Rho} {h : Hp} {post : Int64 → Hp → Prop} {r0 : Nat} {p1 : Int32} (G : G0 ρ) (g : GI h) (fr0 : isTree h r0) (hw : wp_X1_units post h r0 p1) : Con ρ yX1_units (ws_ yX1_units cX1_units 2 (Option.some Jvm.ClassFile.FieldType.long)) rm_X1_units [.ref (mr ρ r0), .int p1] h (phL h post) psN := by
  refine con_of (own := "BeforeTheEnd$Tree") (isI := false) (l0 := [(0, .ref (mr ρ r0)), (1, .int p1)]) (by decide) rfl (fun z => by cases z) (Nat.le_of_ble_eq_true rfl) rfl (fun _ => ?_)
  show X ρ K_X1_units 0 [(0, .ref (mr ρ r0)), (1, .int p1)] [] h 0 0 (phL h post) psN
  refine x_aload_n 0 dX1_units_0 rfl ?_
  refine x_get (ci := 1) (v := .int (gi h r0 8)) 8 dX1_units_1 (isTree.s fr0) rfl in_X1 (by decide) q160 (Or.inl rfl) (fv_i rfl) ?_
  obtain ⟨wt_9, wf_10⟩ := hw
  refine x_if_ne 11 dX1_units_4 (by decide) (fun c_1 => ?_) (fun c_1 => ?_)
  · have hw := wt_9 c_1
    refine x_aload_n 0 dX1_units_11 rfl ?_
    refine x_get (ci := 1) (v := .ref (mr ρ (r0 + 6))) 6 dX1_units_12 (isTree.s fr0) rfl in_X1 (by decide) q158 (Or.inl rfl) (fv_rc rfl (isTree.p fr0 6 (by decide) (by decide)) (Nat.succ_ne_zero _)) ?_
    refine x_iload_n 1 dX1_units_15 rfl ?_
    obtain ⟨b_2, hw⟩ := hw
    refine x_lald (n := 24) (j := (Int32.toNatClampNeg p1)) dX1_units_16 rfl (isTree.a fr0 6 (by decide) (by decide)) b_2 ?_
    exact x_lret dX1_units_17 rfl (Nat.le_of_ble_eq_true rfl) (Nat.le_of_ble_eq_true rfl) ⟨_, rfl, g, Ext.rf, hw⟩
  · have hw := wf_10 c_1
    refine x_aload_n 0 dX1_units_7 rfl ?_
    refine x_callV (ci := 1) [] 0 dX1_units_8 (k_X1_findUnits G g fr0 hw) (isTree.s fr0) rfl q813 q815 qs20 q105 q816 (by decide) rfl rfl ⟨(Nat.le_of_ble_eq_true rfl), (Nat.le_of_ble_eq_true rfl)⟩ (Nat.le_of_ble_eq_true rfl) ⟨(Nat.le_of_ble_eq_true rfl), (Nat.le_of_ble_eq_true rfl)⟩ (fun v9 h_3 hv9 => ?_) (fun _ _ _ _ _ z _ _ => False.elim z)
    obtain ⟨rfl, g_4, e_5, hw⟩ := hv9
    have hw := hw g_4 e_5
    show X ρ K_X1_units 11 [(0, .ref (mr ρ r0)), (1, .int p1)] [] h_3 0 0 (phL h post) psN
    refine x_aload_n 0 dX1_units_11 rfl ?_
    refine x_get (ci := 1) (v := .ref (mr ρ (r0 + 6))) 6 dX1_units_12 (isTree.s (isTree.ext fr0 e_5)) rfl in_X1 (by decide) q158 (Or.inl rfl) (fv_rc rfl (isTree.p (isTree.ext fr0 e_5) 6 (by decide) (by decide)) (Nat.succ_ne_zero _)) ?_
    refine x_iload_n 1 dX1_units_15 rfl ?_
    obtain ⟨b_8, hw⟩ := hw
    refine x_lald (n := 24) (j := (Int32.toNatClampNeg p1)) dX1_units_16 rfl (isTree.a (isTree.ext fr0 e_5) 6 (by decide) (by decide)) b_8 ?_
    exact x_lret dX1_units_17 rfl (Nat.le_of_ble_eq_true rfl) (Nat.le_of_ble_eq_true rfl) ⟨_, rfl, g_4, e_5, hw⟩

/-! BeforeTheEnd$Sure.isSure(LBeforeTheEnd$Tree;IIZ)Z on an object of class 9 -/
def wp_X12_isSure_c9 (post : Int32 → Hp → Prop) (h : Hp) (r0 : Nat) (p1 : Nat) (p2 : Int32) (p3 : Int32) (p4 : Int32) : Prop := (wp_X1_unitsOf (fun r_4 h_1 => GI h_1 → Ext h h_1 → (wp_X12_by_c9 (fun r_9 h_6 => GI h_6 → Ext h_1 h_6 → (wp_X1_units (fun r_14 h_11 => GI h_11 → Ext h_6 h_11 → (((100 * r_4) < ((Int32.toInt64 r_9) * r_14) → (post 0 h_11)) ∧ (¬ (100 * r_4) < ((Int32.toInt64 r_9) * r_14) → (post 1 h_11)))) h_6 p1 p2)) h_1 r0 p4)) h p1 p2 p3)
abbrev rm_X12_isSure_c9 : Room := ({ frames := 5, cells := 0, slots := 0, locals := 163 })
abbrev K_X12_isSure_c9 : Kx := ("BeforeTheEnd$Sure", cX12_isSure, 5, (Option.some Jvm.ClassFile.FieldType.boolean), rm_X12_isSure_c9, [], false)
set_option maxHeartbeats 4000000 in
theorem k_X12_isSure_c9 {ρ : Rho} {h : Hp} {post : Int32 → Hp → Prop} {r0 : Nat} {p1 : Nat} {p2 : Int32} {p3 : Int32} {p4 : Int32} (G : G0 ρ) (g : GI h) (fr0 : sh h r0 = (19, 0)) (fp1 : isTree h p1) (hw : wp_X12_isSure_c9 post h r0 p1 p2 p3 p4) : Con ρ yX12_isSure (ws_ yX12_isSure cX12_isSure 5 (Option.some Jvm.ClassFile.FieldType.boolean)) rm_X12_isSure_c9 [.ref (mr ρ r0), .ref (mr ρ p1), .int p2, .int p3, .int p4] h (phB h post) psN := by
  refine con_of (own := "BeforeTheEnd$Sure") (isI := false) (l0 := [(0, .ref (mr ρ r0)), (1, .ref (mr ρ p1)), (2, .int p2), (3, .int p3), (4, .int p4)]) (by decide) rfl (fun z => by cases z) (Nat.le_of_ble_eq_true rfl) rfl (fun _ => ?_)
  show X ρ K_X12_isSure_c9 0 [(0, .ref (mr ρ r0)), (1, .ref (mr ρ p1)), (2, .int p2), (3, .int p3), (4, .int p4)] [] h 0 0 (phB h post) psN
  refine x_ldc2 dX12_isSure_0 q891 ?_
  refine x_aload_n 1 dX12_isSure_3 rfl ?_
  refine x_iload_n 2 dX12_isSure_4 rfl ?_
  refine x_iload_n 3 dX12_isSure_5 rfl ?_
  refine x_callV (ci := 1) [.int p2, .int p3] 2 dX12_isSure_6 (k_X1_unitsOf G g fp1 hw) (isTree.s fp1) rfl q892 q810 q811 q105 q812 (by decide) rfl rfl ⟨(Nat.le_of_ble_eq_true rfl), (Nat.le_of_ble_eq_true rfl)⟩ (Nat.le_of_ble_eq_true rfl) ⟨(Nat.le_of_ble_eq_true rfl), (Nat.le_of_ble_eq_true rfl)⟩ (fun v9 h_1 hv9 => ?_) (fun _ _ _ _ _ z _ _ => False.elim z)
  obtain ⟨r_4, rfl, g_2, e_3, hw⟩ := hv9
  have hw := hw g_2 e_3
  show X ρ K_X12_isSure_c9 9 [(0, .ref (mr ρ r0)), (1, .ref (mr ρ p1)), (2, .int p2), (3, .int p3), (4, .int p4)] [.long r_4, .long 100] h_1 0 0 (phB h post) psN
  refine x_lmul dX12_isSure_9 ?_
  refine x_aload_n 0 dX12_isSure_10 rfl ?_
  refine x_iload 4 dX12_isSure_11 rfl ?_
  refine x_callV (ci := 9) [.int p4] 1 dX12_isSure_13 (k_X12_by_c9 G g_2 (Ext.s e_3 fr0 (by decide)) hw) (Ext.s e_3 fr0 (by decide)) rfl q893 q894 q895 q125 q901 (by decide) rfl rfl ⟨(Nat.le_of_ble_eq_true rfl), (Nat.le_of_ble_eq_true rfl)⟩ (Nat.le_of_ble_eq_true rfl) ⟨(Nat.le_of_ble_eq_true rfl), (Nat.le_of_ble_eq_true rfl)⟩ (fun v9 h_6 hv9 => ?_) (fun _ _ _ _ _ z _ _ => False.elim z)
  obtain ⟨r_9, rfl, g_7, e_8, hw⟩ := hv9
  have hw := hw g_7 e_8
  show X ρ K_X12_isSure_c9 16 [(0, .ref (mr ρ r0)), (1, .ref (mr ρ p1)), (2, .int p2), (3, .int p3), (4, .int p4)] [.int r_9, .long (100 * r_4)] h_6 0 0 (phB h post) psN
  refine x_i2l dX12_isSure_16 ?_
  refine x_aload_n 1 dX12_isSure_17 rfl ?_
  refine x_iload_n 2 dX12_isSure_18 rfl ?_
  refine x_callV (ci := 1) [.int p2] 1 dX12_isSure_19 (k_X1_units G g_7 (isTree.ext (isTree.ext fp1 e_3) e_8) hw) (isTree.s (isTree.ext (isTree.ext fp1 e_3) e_8)) rfl q907 q873 q874 q105 q875 (by decide) rfl rfl ⟨(Nat.le_of_ble_eq_true rfl), (Nat.le_of_ble_eq_true rfl)⟩ (Nat.le_of_ble_eq_true rfl) ⟨(Nat.le_of_ble_eq_true rfl), (Nat.le_of_ble_eq_true rfl)⟩ (fun v9 h_11 hv9 => ?_) (fun _ _ _ _ _ z _ _ => False.elim z)
  obtain ⟨r_14, rfl, g_12, e_13, hw⟩ := hv9
  have hw := hw g_12 e_13
  show X ρ K_X12_isSure_c9 22 [(0, .ref (mr ρ r0)), (1, .ref (mr ρ p1)), (2, .int p2), (3, .int p3), (4, .int p4)] [.long r_14, .long (Int32.toInt64 r_9), .long (100 * r_4)] h_11 0 0 (phB h post) psN
  refine x_lmul dX12_isSure_22 ?_
  obtain ⟨wt_17, wf_18⟩ := hw
  refine x_lif_lt 31 dX12_isSure_23 dX12_isSure_24 (by decide) (fun c_16 => ?_) (fun c_16 => ?_)
  · have hw := wt_17 c_16
    refine x_iconst 0 dX12_isSure_31 (by decide) ?_
    exact x_zret dX12_isSure_32 rfl (isB.n isB_0) (Nat.le_of_ble_eq_true rfl) (Nat.le_of_ble_eq_true rfl) ⟨_, rfl, g_12, (Ext.tr (Ext.tr e_3 e_8) e_13), isB_0, hw⟩
  · have hw := wf_18 c_16
    refine x_iconst 1 dX12_isSure_27 (by decide) ?_
    refine x_goto 32 dX12_isSure_28 (by decide) ?_
    exact x_zret dX12_isSure_32 rfl (isB.n isB_1) (Nat.le_of_ble_eq_true rfl) (Nat.le_of_ble_eq_true rfl) ⟨_, rfl, g_12, (Ext.tr (Ext.tr e_3 e_8) e_13), isB_1, hw⟩

/-! BeforeTheEnd$Sure.wants(LBeforeTheEnd;IIZ)Z on an object of class 9 -/
def wp_X12_wants_c9 (post : Int32 → Hp → Prop) (h : Hp) (r0 : Nat) (p2 : Int32) (p3 : Int32) (p4 : Int32) : Prop := (wp_X11_wants_c9 (fun r_4 h_1 => GI h_1 → Ext h h_1 → ((¬ r_4 = 0 → (post 1 h_1)) ∧ (r_4 = 0 → (wp_X12_isSure_c9 (fun r_10 h_7 => GI h_7 → Ext h_1 h_7 → (∀ z_13 : Int32, z_13 = ((if r_10 = 0 then 0 else 1) : Int32) → (post z_13 h_7))) h_1 r0 (gr h_1 1 1) p2 p3 p4)))) h r0 p2 p3 p4)
abbrev rm_X12_wants_c9 : Room := ({ frames := 6, cells := 0, slots := 0, locals := 187 })
abbrev K_X12_wants_c9 : Kx := ("BeforeTheEnd$Sure", cX12_wants, 5, (Option.some Jvm.ClassFile.FieldType.boolean), rm_X12_wants_c9, [], false)
set_option maxHeartbeats 4000000 in
theorem k_X12_wants_c9 {ρ : Rho} {h : Hp} {post : Int32 → Hp → Prop} {r0 : Nat} {p2 : Int32} {p3 : Int32} {p4 : Int32} (G : G0 ρ) (g : GI h) (fr0 : sh h r0 = (19, 0)) (hw : wp_X12_wants_c9 post h r0 p2 p3 p4) : Con ρ yX12_wants (ws_ yX12_wants cX12_wants 5 (Option.some Jvm.ClassFile.FieldType.boolean)) rm_X12_wants_c9 [.ref (mr ρ r0), .ref (mr ρ 1), .int p2, .int p3, .int p4] h (phB h post) psN := by
  refine con_of (own := "BeforeTheEnd$Sure") (isI := false) (l0 := [(0, .ref (mr ρ r0)), (1, .ref (mr ρ 1)), (2, .int p2), (3, .int p3), (4, .int p4)]) (by decide) rfl (fun z => by cases z) (Nat.le_of_ble_eq_true rfl) rfl (fun _ => ?_)
  show X ρ K_X12_wants_c9 0 [(0, .ref (mr ρ r0)), (1, .ref (mr ρ 1)), (2, .int p2), (3, .int p3), (4, .int p4)] [] h 0 0 (phB h post) psN
  refine x_aload_n 0 dX12_wants_0 rfl ?_
  refine x_aload_n 1 dX12_wants_1 rfl ?_
  refine x_iload_n 2 dX12_wants_2 rfl ?_
  refine x_iload_n 3 dX12_wants_3 rfl ?_
  refine x_iload 4 dX12_wants_4 rfl ?_
  refine x_callSU (ci := 9) [.ref (mr ρ 1), .int p2, .int p3, .int p4] 4 dX12_wants_6 (k_X11_wants_c9 G g fr0 hw) fr0 rfl (lw_SU q880 q1720 q639 q881 q124 q882) (by decide) rfl rfl ⟨(Nat.le_of_ble_eq_true rfl), (Nat.le_of_ble_eq_true rfl)⟩ (Nat.le_of_ble_eq_true rfl) ⟨(Nat.le_of_ble_eq_true rfl), (Nat.le_of_ble_eq_true rfl)⟩ (fun v9 h_1 hv9 => ?_) (fun _ _ _ _ _ z _ _ => False.elim z)
  obtain ⟨r_4, rfl, g_2, e_3, b_5, hw⟩ := hv9
  have hw := hw g_2 e_3
  show X ρ K_X12_wants_c9 9 [(0, .ref (mr ρ r0)), (1, .ref (mr ρ 1)), (2, .int p2), (3, .int p3), (4, .int p4)] [.int r_4] h_1 0 0 (phB h post) psN
  obtain ⟨wt_15, wf_16⟩ := hw
  refine x_if_ne 27 dX12_wants_9 (by decide) (fun c_6 => ?_) (fun c_6 => ?_)
  · have hw := wt_15 c_6
    refine x_iconst 1 dX12_wants_27 (by decide) ?_
    refine x_goto 32 dX12_wants_28 (by decide) ?_
    exact x_zret dX12_wants_32 rfl (isB.n isB_1) (Nat.le_of_ble_eq_true rfl) (Nat.le_of_ble_eq_true rfl) ⟨_, rfl, g_2, e_3, isB_1, hw⟩
  · have hw := wf_16 c_6
    refine x_aload_n 0 dX12_wants_12 rfl ?_
    refine x_aload_n 1 dX12_wants_13 rfl ?_
    refine x_getN (ci := 0) (v := .ref (mr ρ (gr h_1 1 1))) 1 dX12_wants_14 (GI.s g_2 (t := (10, 0)) rfl (by decide)) rfl in_X0 (by decide) q187 (Or.inl rfl) (fv_rc rfl rfl (isTree.nz (GI.t g_2) (GI.live g_2))) ?_
    refine x_iload_n 2 dX12_wants_17 rfl ?_
    refine x_iload_n 3 dX12_wants_18 rfl ?_
    refine x_iload 4 dX12_wants_19 rfl ?_
    refine x_callV (ci := 9) [.ref (mr ρ (gr h_1 1 1)), .int p2, .int p3, .int p4] 4 dX12_wants_21 (k_X12_isSure_c9 G g_2 (Ext.s e_3 fr0 (by decide)) (GI.t g_2) hw) (Ext.s e_3 fr0 (by decide)) rfl q884 q885 q886 q125 q890 (by decide) rfl rfl ⟨(Nat.le_of_ble_eq_true rfl), (Nat.le_of_ble_eq_true rfl)⟩ (Nat.le_of_ble_eq_true rfl) ⟨(Nat.le_of_ble_eq_true rfl), (Nat.le_of_ble_eq_true rfl)⟩ (fun v9 h_7 hv9 => ?_) (fun _ _ _ _ _ z _ _ => False.elim z)
    obtain ⟨r_10, rfl, g_8, e_9, b_11, hw⟩ := hv9
    have hw := hw g_8 e_9
    show X ρ K_X12_wants_c9 24 [(0, .ref (mr ρ r0)), (1, .ref (mr ρ 1)), (2, .int p2), (3, .int p3), (4, .int p4)] [.int r_10] h_7 0 0 (phB h post) psN
    have kJ_14 : ∀ z_13 : Int32, z_13 = ((if r_10 = 0 then 0 else 1) : Int32) → X ρ K_X12_wants_c9 32 [(0, .ref (mr ρ r0)), (1, .ref (mr ρ 1)), (2, .int p2), (3, .int p3), (4, .int p4)] [.int z_13] h_7 0 0 (phB h post) psN := fun z_13 ez_13 => by
      have hw := hw z_13 ez_13
      exact x_zret dX12_wants_32 rfl (isB.n (Eq.mpr (congrArg isB ez_13) (isB_ite isB_0 isB_1))) (Nat.le_of_ble_eq_true rfl) (Nat.le_of_ble_eq_true rfl) ⟨_, rfl, g_8, (Ext.tr e_3 e_9), (Eq.mpr (congrArg isB ez_13) (isB_ite isB_0 isB_1)), hw⟩
    refine x_if_eq 31 dX12_wants_24 (by decide) (fun c_12 => ?_) (fun c_12 => ?_)
    · refine x_iconst 0 dX12_wants_31 (by decide) ?_
      exact kJ_14 _ ((if_pos c_12)).symm
    · refine x_iconst 1 dX12_wants_27 (by decide) ?_
      refine x_goto 32 dX12_wants_28 (by decide) ?_
      exact kJ_14 _ ((if_neg c_12)).symm

/-! BeforeTheEnd$Ends.wants(LBeforeTheEnd;IIZ)Z on an object of class 10 -/
def wp_X11_wants_c10 (post : Int32 → Hp → Prop) (h : Hp) (r0 : Nat) (p2 : Int32) (p3 : Int32) (p4 : Int32) : Prop := (wp_X1_isEnd (fun r_4 h_1 => GI h_1 → Ext h h_1 → (post r_4 h_1)) h (gr h 1 1) p2)
abbrev rm_X11_wants_c10 : Room := ({ frames := 2, cells := 0, slots := 0, locals := 81 })
abbrev K_X11_wants_c10 : Kx := ("BeforeTheEnd$Ends", cX11_wants, 5, (Option.some Jvm.ClassFile.FieldType.boolean), rm_X11_wants_c10, [], false)
set_option maxHeartbeats 4000000 in
theorem k_X11_wants_c10 {ρ : Rho} {h : Hp} {post : Int32 → Hp → Prop} {r0 : Nat} {p2 : Int32} {p3 : Int32} {p4 : Int32} (G : G0 ρ) (g : GI h) (fr0 : sh h r0 = (20, 0)) (hw : wp_X11_wants_c10 post h r0 p2 p3 p4) : Con ρ yX11_wants (ws_ yX11_wants cX11_wants 5 (Option.some Jvm.ClassFile.FieldType.boolean)) rm_X11_wants_c10 [.ref (mr ρ r0), .ref (mr ρ 1), .int p2, .int p3, .int p4] h (phB h post) psN := by
  refine con_of (own := "BeforeTheEnd$Ends") (isI := false) (l0 := [(0, .ref (mr ρ r0)), (1, .ref (mr ρ 1)), (2, .int p2), (3, .int p3), (4, .int p4)]) (by decide) rfl (fun z => by cases z) (Nat.le_of_ble_eq_true rfl) rfl (fun _ => ?_)
  show X ρ K_X11_wants_c10 0 [(0, .ref (mr ρ r0)), (1, .ref (mr ρ 1)), (2, .int p2), (3, .int p3), (4, .int p4)] [] h 0 0 (phB h post) psN
  refine x_aload_n 1 dX11_wants_0 rfl ?_
  refine x_getN (ci := 0) (v := .ref (mr ρ (gr h 1 1))) 1 dX11_wants_1 (GI.s g (t := (10, 0)) rfl (by decide)) rfl in_X0 (by decide) q186 (Or.inl rfl) (fv_rc rfl rfl (isTree.nz (GI.t g) (GI.live g))) ?_
  refine x_iload_n 2 dX11_wants_4 rfl ?_
  refine x_callV (ci := 1) [.int p2] 1 dX11_wants_5 (k_X1_isEnd G g (GI.t g) hw) (isTree.s (GI.t g)) rfl q883 q723 q724 q105 q725 (by decide) rfl rfl ⟨(Nat.le_of_ble_eq_true rfl), (Nat.le_of_ble_eq_true rfl)⟩ (Nat.le_of_ble_eq_true rfl) ⟨(Nat.le_of_ble_eq_true rfl), (Nat.le_of_ble_eq_true rfl)⟩ (fun v9 h_1 hv9 => ?_) (fun _ _ _ _ _ z _ _ => False.elim z)
  obtain ⟨r_4, rfl, g_2, e_3, b_5, hw⟩ := hv9
  have hw := hw g_2 e_3
  show X ρ K_X11_wants_c10 8 [(0, .ref (mr ρ r0)), (1, .ref (mr ρ 1)), (2, .int p2), (3, .int p3), (4, .int p4)] [.int r_4] h_1 0 0 (phB h post) psN
  exact x_zret dX11_wants_8 rfl (isB.n b_5) (Nat.le_of_ble_eq_true rfl) (Nat.le_of_ble_eq_true rfl) ⟨_, rfl, g_2, e_3, b_5, hw⟩

/-! BeforeTheEnd$Sure.by(Z)I on an object of class 10 -/
def wp_X12_by_c10 (post : Int32 → Hp → Prop) (h : Hp) (r0 : Nat) (p1 : Int32) : Prop := (post (gi h r0 1) h)
abbrev rm_X12_by_c10 : Room := ({ frames := 1, cells := 0, slots := 0, locals := 60 })
abbrev K_X12_by_c10 : Kx := ("BeforeTheEnd$Sure", cX12_by, 2, (Option.some Jvm.ClassFile.FieldType.int), rm_X12_by_c10, [], false)
set_option maxHeartbeats 4000000 in
theorem k_X12_by_c10 {ρ : Rho} {h : Hp} {post : Int32 → Hp → Prop} {r0 : Nat} {p1 : Int32} (G : G0 ρ) (g : GI h) (fr0 : sh h r0 = (20, 0)) (hw : wp_X12_by_c10 post h r0 p1) : Con ρ yX12_by (ws_ yX12_by cX12_by 2 (Option.some Jvm.ClassFile.FieldType.int)) rm_X12_by_c10 [.ref (mr ρ r0), .int p1] h (phI h post) psN := by
  refine con_of (own := "BeforeTheEnd$Sure") (isI := false) (l0 := [(0, .ref (mr ρ r0)), (1, .int p1)]) (by decide) rfl (fun z => by cases z) (Nat.le_of_ble_eq_true rfl) rfl (fun _ => ?_)
  show X ρ K_X12_by_c10 0 [(0, .ref (mr ρ r0)), (1, .int p1)] [] h 0 0 (phI h post) psN
  refine x_aload_n 0 dX12_by_0 rfl ?_
  refine x_get (ci := 10) (v := .int (gi h r0 1)) 1 dX12_by_1 fr0 rfl in_X13 (by decide) q610 (Or.inr q611) (fv_i rfl) ?_
  exact x_iret dX12_by_4 rfl (Nat.le_of_ble_eq_true rfl) (Nat.le_of_ble_eq_true rfl) ⟨_, rfl, g, Ext.rf, hw⟩

/-! BeforeTheEnd$Bold.by(Z)I on an object of class 10 -/
def wp_X13_by_c10 (post : Int32 → Hp → Prop) (h : Hp) (r0 : Nat) (p1 : Int32) : Prop := (wp_X12_by_c10 (fun r_4 h_1 => GI h_1 → Ext h h_1 → (post (if 0 < (r_4 - 20) then (r_4 - 20) else 0) h_1)) h r0 p1)
abbrev rm_X13_by_c10 : Room := ({ frames := 2, cells := 0, slots := 0, locals := 81 })
abbrev K_X13_by_c10 : Kx := ("BeforeTheEnd$Bold", cX13_by, 2, (Option.some Jvm.ClassFile.FieldType.int), rm_X13_by_c10, [], false)
set_option maxHeartbeats 4000000 in
theorem k_X13_by_c10 {ρ : Rho} {h : Hp} {post : Int32 → Hp → Prop} {r0 : Nat} {p1 : Int32} (G : G0 ρ) (g : GI h) (fr0 : sh h r0 = (20, 0)) (hw : wp_X13_by_c10 post h r0 p1) : Con ρ yX13_by (ws_ yX13_by cX13_by 2 (Option.some Jvm.ClassFile.FieldType.int)) rm_X13_by_c10 [.ref (mr ρ r0), .int p1] h (phI h post) psN := by
  refine con_of (own := "BeforeTheEnd$Bold") (isI := false) (l0 := [(0, .ref (mr ρ r0)), (1, .int p1)]) (by decide) rfl (fun z => by cases z) (Nat.le_of_ble_eq_true rfl) rfl (fun _ => ?_)
  show X ρ K_X13_by_c10 0 [(0, .ref (mr ρ r0)), (1, .int p1)] [] h 0 0 (phI h post) psN
  refine x_iconst 0 dX13_by_0 (by decide) ?_
  refine x_aload_n 0 dX13_by_1 rfl ?_
  refine x_iload_n 1 dX13_by_2 rfl ?_
  refine x_callSU (ci := 10) [.int p1] 1 dX13_by_3 (k_X12_by_c10 G g fr0 hw) fr0 rfl (lw_SU q900 q896 q649 q894 q125 q901) (by decide) rfl rfl ⟨(Nat.le_of_ble_eq_true rfl), (Nat.le_of_ble_eq_true rfl)⟩ (Nat.le_of_ble_eq_true rfl) ⟨(Nat.le_of_ble_eq_true rfl), (Nat.le_of_ble_eq_true rfl)⟩ (fun v9 h_1 hv9 => ?_) (fun _ _ _ _ _ z _ _ => False.elim z)
  obtain ⟨r_4, rfl, g_2, e_3, hw⟩ := hv9
  have hw := hw g_2 e_3
  show X ρ K_X13_by_c10 6 [(0, .ref (mr ρ r0)), (1, .int p1)] [.int r_4, .int 0] h_1 0 0 (phI h post) psN
  refine x_bipush 20 dX13_by_6 (by decide) ?_
  refine x_isub dX13_by_8 ?_
  refine x_mmax dX13_by_9 q902 q530 q118 q531 (Nat.le_of_ble_eq_true rfl) (Nat.le_of_ble_eq_true rfl) (Nat.le_of_ble_eq_true rfl) (Nat.le_of_ble_eq_true rfl) ?_
  exact x_iret dX13_by_12 rfl (Nat.le_of_ble_eq_true rfl) (Nat.le_of_ble_eq_true rfl) ⟨_, rfl, g_2, e_3, hw⟩

/-! BeforeTheEnd$Sure.isSure(LBeforeTheEnd$Tree;IIZ)Z on an object of class 10 -/
def wp_X12_isSure_c10 (post : Int32 → Hp → Prop) (h : Hp) (r0 : Nat) (p1 : Nat) (p2 : Int32) (p3 : Int32) (p4 : Int32) : Prop := (wp_X1_unitsOf (fun r_4 h_1 => GI h_1 → Ext h h_1 → (wp_X13_by_c10 (fun r_9 h_6 => GI h_6 → Ext h_1 h_6 → (wp_X1_units (fun r_14 h_11 => GI h_11 → Ext h_6 h_11 → (((100 * r_4) < ((Int32.toInt64 r_9) * r_14) → (post 0 h_11)) ∧ (¬ (100 * r_4) < ((Int32.toInt64 r_9) * r_14) → (post 1 h_11)))) h_6 p1 p2)) h_1 r0 p4)) h p1 p2 p3)
abbrev rm_X12_isSure_c10 : Room := ({ frames := 5, cells := 0, slots := 0, locals := 163 })
abbrev K_X12_isSure_c10 : Kx := ("BeforeTheEnd$Sure", cX12_isSure, 5, (Option.some Jvm.ClassFile.FieldType.boolean), rm_X12_isSure_c10, [], false)
set_option maxHeartbeats 4000000 in
theorem k_X12_isSure_c10 {ρ : Rho} {h : Hp} {post : Int32 → Hp → Prop} {r0 : Nat} {p1 : Nat} {p2 : Int32} {p3 : Int32} {p4 : Int32} (G : G0 ρ) (g : GI h) (fr0 : sh h r0 = (20, 0)) (fp1 : isTree h p1) (hw : wp_X12_isSure_c10 post h r0 p1 p2 p3 p4) : Con ρ yX12_isSure (ws_ yX12_isSure cX12_isSure 5 (Option.some Jvm.ClassFile.FieldType.boolean)) rm_X12_isSure_c10 [.ref (mr ρ r0), .ref (mr ρ p1), .int p2, .int p3, .int p4] h (phB h post) psN := by
  refine con_of (own := "BeforeTheEnd$Sure") (isI := false) (l0 := [(0, .ref (mr ρ r0)), (1, .ref (mr ρ p1)), (2, .int p2), (3, .int p3), (4, .int p4)]) (by decide) rfl (fun z => by cases z) (Nat.le_of_ble_eq_true rfl) rfl (fun _ => ?_)
  show X ρ K_X12_isSure_c10 0 [(0, .ref (mr ρ r0)), (1, .ref (mr ρ p1)), (2, .int p2), (3, .int p3), (4, .int p4)] [] h 0 0 (phB h post) psN
  refine x_ldc2 dX12_isSure_0 q891 ?_
  refine x_aload_n 1 dX12_isSure_3 rfl ?_
  refine x_iload_n 2 dX12_isSure_4 rfl ?_
  refine x_iload_n 3 dX12_isSure_5 rfl ?_
  refine x_callV (ci := 1) [.int p2, .int p3] 2 dX12_isSure_6 (k_X1_unitsOf G g fp1 hw) (isTree.s fp1) rfl q892 q810 q811 q105 q812 (by decide) rfl rfl ⟨(Nat.le_of_ble_eq_true rfl), (Nat.le_of_ble_eq_true rfl)⟩ (Nat.le_of_ble_eq_true rfl) ⟨(Nat.le_of_ble_eq_true rfl), (Nat.le_of_ble_eq_true rfl)⟩ (fun v9 h_1 hv9 => ?_) (fun _ _ _ _ _ z _ _ => False.elim z)
  obtain ⟨r_4, rfl, g_2, e_3, hw⟩ := hv9
  have hw := hw g_2 e_3
  show X ρ K_X12_isSure_c10 9 [(0, .ref (mr ρ r0)), (1, .ref (mr ρ p1)), (2, .int p2), (3, .int p3), (4, .int p4)] [.long r_4, .long 100] h_1 0 0 (phB h post) psN
  refine x_lmul dX12_isSure_9 ?_
  refine x_aload_n 0 dX12_isSure_10 rfl ?_
  refine x_iload 4 dX12_isSure_11 rfl ?_
  refine x_callO (ci := 10) (x0 := ⟨"BeforeTheEnd$Sure", "by", "(Z)I"⟩) (owner := "BeforeTheEnd$Sure") [.int p4] 1 dX12_isSure_13 (k_X13_by_c10 G g_2 (Ext.s e_3 fr0 (by decide)) hw) (Ext.s e_3 fr0 (by decide)) rfl (lw_O q893 q896 q894 q897 q898 q126 q899) q901 (by decide) rfl rfl ⟨(Nat.le_of_ble_eq_true rfl), (Nat.le_of_ble_eq_true rfl)⟩ (Nat.le_of_ble_eq_true rfl) ⟨(Nat.le_of_ble_eq_true rfl), (Nat.le_of_ble_eq_true rfl)⟩ (fun v9 h_6 hv9 => ?_) (fun _ _ _ _ _ z _ _ => False.elim z)
  obtain ⟨r_9, rfl, g_7, e_8, hw⟩ := hv9
  have hw := hw g_7 e_8
  show X ρ K_X12_isSure_c10 16 [(0, .ref (mr ρ r0)), (1, .ref (mr ρ p1)), (2, .int p2), (3, .int p3), (4, .int p4)] [.int r_9, .long (100 * r_4)] h_6 0 0 (phB h post) psN
  refine x_i2l dX12_isSure_16 ?_
  refine x_aload_n 1 dX12_isSure_17 rfl ?_
  refine x_iload_n 2 dX12_isSure_18 rfl ?_
  refine x_callV (ci := 1) [.int p2] 1 dX12_isSure_19 (k_X1_units G g_7 (isTree.ext (isTree.ext fp1 e_3) e_8) hw) (isTree.s (isTree.ext (isTree.ext fp1 e_3) e_8)) rfl q907 q873 q874 q105 q875 (by decide) rfl rfl ⟨(Nat.le_of_ble_eq_true rfl), (Nat.le_of_ble_eq_true rfl)⟩ (Nat.le_of_ble_eq_true rfl) ⟨(Nat.le_of_ble_eq_true rfl), (Nat.le_of_ble_eq_true rfl)⟩ (fun v9 h_11 hv9 => ?_) (fun _ _ _ _ _ z _ _ => False.elim z)
  obtain ⟨r_14, rfl, g_12, e_13, hw⟩ := hv9
  have hw := hw g_12 e_13
  show X ρ K_X12_isSure_c10 22 [(0, .ref (mr ρ r0)), (1, .ref (mr ρ p1)), (2, .int p2), (3, .int p3), (4, .int p4)] [.long r_14, .long (Int32.toInt64 r_9), .long (100 * r_4)] h_11 0 0 (phB h post) psN
  refine x_lmul dX12_isSure_22 ?_
  obtain ⟨wt_17, wf_18⟩ := hw
  refine x_lif_lt 31 dX12_isSure_23 dX12_isSure_24 (by decide) (fun c_16 => ?_) (fun c_16 => ?_)
  · have hw := wt_17 c_16
    refine x_iconst 0 dX12_isSure_31 (by decide) ?_
    exact x_zret dX12_isSure_32 rfl (isB.n isB_0) (Nat.le_of_ble_eq_true rfl) (Nat.le_of_ble_eq_true rfl) ⟨_, rfl, g_12, (Ext.tr (Ext.tr e_3 e_8) e_13), isB_0, hw⟩
  · have hw := wf_18 c_16
    refine x_iconst 1 dX12_isSure_27 (by decide) ?_
    refine x_goto 32 dX12_isSure_28 (by decide) ?_
    exact x_zret dX12_isSure_32 rfl (isB.n isB_1) (Nat.le_of_ble_eq_true rfl) (Nat.le_of_ble_eq_true rfl) ⟨_, rfl, g_12, (Ext.tr (Ext.tr e_3 e_8) e_13), isB_1, hw⟩

/-! BeforeTheEnd$Sure.wants(LBeforeTheEnd;IIZ)Z on an object of class 10 -/
def wp_X12_wants_c10 (post : Int32 → Hp → Prop) (h : Hp) (r0 : Nat) (p2 : Int32) (p3 : Int32) (p4 : Int32) : Prop := (wp_X11_wants_c10 (fun r_4 h_1 => GI h_1 → Ext h h_1 → ((¬ r_4 = 0 → (post 1 h_1)) ∧ (r_4 = 0 → (wp_X12_isSure_c10 (fun r_10 h_7 => GI h_7 → Ext h_1 h_7 → (∀ z_13 : Int32, z_13 = ((if r_10 = 0 then 0 else 1) : Int32) → (post z_13 h_7))) h_1 r0 (gr h_1 1 1) p2 p3 p4)))) h r0 p2 p3 p4)
abbrev rm_X12_wants_c10 : Room := ({ frames := 6, cells := 0, slots := 0, locals := 187 })
abbrev K_X12_wants_c10 : Kx := ("BeforeTheEnd$Sure", cX12_wants, 5, (Option.some Jvm.ClassFile.FieldType.boolean), rm_X12_wants_c10, [], false)
set_option maxHeartbeats 4000000 in
theorem k_X12_wants_c10 {ρ : Rho} {h : Hp} {post : Int32 → Hp → Prop} {r0 : Nat} {p2 : Int32} {p3 : Int32} {p4 : Int32} (G : G0 ρ) (g : GI h) (fr0 : sh h r0 = (20, 0)) (hw : wp_X12_wants_c10 post h r0 p2 p3 p4) : Con ρ yX12_wants (ws_ yX12_wants cX12_wants 5 (Option.some Jvm.ClassFile.FieldType.boolean)) rm_X12_wants_c10 [.ref (mr ρ r0), .ref (mr ρ 1), .int p2, .int p3, .int p4] h (phB h post) psN := by
  refine con_of (own := "BeforeTheEnd$Sure") (isI := false) (l0 := [(0, .ref (mr ρ r0)), (1, .ref (mr ρ 1)), (2, .int p2), (3, .int p3), (4, .int p4)]) (by decide) rfl (fun z => by cases z) (Nat.le_of_ble_eq_true rfl) rfl (fun _ => ?_)
  show X ρ K_X12_wants_c10 0 [(0, .ref (mr ρ r0)), (1, .ref (mr ρ 1)), (2, .int p2), (3, .int p3), (4, .int p4)] [] h 0 0 (phB h post) psN
  refine x_aload_n 0 dX12_wants_0 rfl ?_
  refine x_aload_n 1 dX12_wants_1 rfl ?_
  refine x_iload_n 2 dX12_wants_2 rfl ?_
  refine x_iload_n 3 dX12_wants_3 rfl ?_
  refine x_iload 4 dX12_wants_4 rfl ?_
  refine x_callSU (ci := 10) [.ref (mr ρ 1), .int p2, .int p3, .int p4] 4 dX12_wants_6 (k_X11_wants_c10 G g fr0 hw) fr0 rfl (lw_SU q880 q1720 q639 q881 q124 q882) (by decide) rfl rfl ⟨(Nat.le_of_ble_eq_true rfl), (Nat.le_of_ble_eq_true rfl)⟩ (Nat.le_of_ble_eq_true rfl) ⟨(Nat.le_of_ble_eq_true rfl), (Nat.le_of_ble_eq_true rfl)⟩ (fun v9 h_1 hv9 => ?_) (fun _ _ _ _ _ z _ _ => False.elim z)
  obtain ⟨r_4, rfl, g_2, e_3, b_5, hw⟩ := hv9
  have hw := hw g_2 e_3
  show X ρ K_X12_wants_c10 9 [(0, .ref (mr ρ r0)), (1, .ref (mr ρ 1)), (2, .int p2), (3, .int p3), (4, .int p4)] [.int r_4] h_1 0 0 (phB h post) psN
  obtain ⟨wt_15, wf_16⟩ := hw
  refine x_if_ne 27 dX12_wants_9 (by decide) (fun c_6 => ?_) (fun c_6 => ?_)
  · have hw := wt_15 c_6
    refine x_iconst 1 dX12_wants_27 (by decide) ?_
    refine x_goto 32 dX12_wants_28 (by decide) ?_
    exact x_zret dX12_wants_32 rfl (isB.n isB_1) (Nat.le_of_ble_eq_true rfl) (Nat.le_of_ble_eq_true rfl) ⟨_, rfl, g_2, e_3, isB_1, hw⟩
  · have hw := wf_16 c_6
    refine x_aload_n 0 dX12_wants_12 rfl ?_
    refine x_aload_n 1 dX12_wants_13 rfl ?_
    refine x_getN (ci := 0) (v := .ref (mr ρ (gr h_1 1 1))) 1 dX12_wants_14 (GI.s g_2 (t := (10, 0)) rfl (by decide)) rfl in_X0 (by decide) q187 (Or.inl rfl) (fv_rc rfl rfl (isTree.nz (GI.t g_2) (GI.live g_2))) ?_
    refine x_iload_n 2 dX12_wants_17 rfl ?_
    refine x_iload_n 3 dX12_wants_18 rfl ?_
    refine x_iload 4 dX12_wants_19 rfl ?_
    refine x_callU (ci := 10) (x0 := ⟨"BeforeTheEnd$Sure", "isSure", "(LBeforeTheEnd$Tree;IIZ)Z"⟩) (owner := "BeforeTheEnd$Sure") [.ref (mr ρ (gr h_1 1 1)), .int p2, .int p3, .int p4] 4 dX12_wants_21 (k_X12_isSure_c10 G g_2 (Ext.s e_3 fr0 (by decide)) (GI.t g_2) hw) (Ext.s e_3 fr0 (by decide)) rfl (lw_U q884 q887 q888 q885 q125 q890) rfl (by decide) rfl rfl ⟨(Nat.le_of_ble_eq_true rfl), (Nat.le_of_ble_eq_true rfl)⟩ (Nat.le_of_ble_eq_true rfl) ⟨(Nat.le_of_ble_eq_true rfl), (Nat.le_of_ble_eq_true rfl)⟩ (fun v9 h_7 hv9 => ?_) (fun _ _ _ _ _ z _ _ => False.elim z)
    obtain ⟨r_10, rfl, g_8, e_9, b_11, hw⟩ := hv9
    have hw := hw g_8 e_9
    show X ρ K_X12_wants_c10 24 [(0, .ref (mr ρ r0)), (1, .ref (mr ρ 1)), (2, .int p2), (3, .int p3), (4, .int p4)] [.int r_10] h_7 0 0 (phB h post) psN
    have kJ_14 : ∀ z_13 : Int32, z_13 = ((if r_10 = 0 then 0 else 1) : Int32) → X ρ K_X12_wants_c10 32 [(0, .ref (mr ρ r0)), (1, .ref (mr ρ 1)), (2, .int p2), (3, .int p3), (4, .int p4)] [.int z_13] h_7 0 0 (phB h post) psN := fun z_13 ez_13 => by
      have hw := hw z_13 ez_13
      exact x_zret dX12_wants_32 rfl (isB.n (Eq.mpr (congrArg isB ez_13) (isB_ite isB_0 isB_1))) (Nat.le_of_ble_eq_true rfl) (Nat.le_of_ble_eq_true rfl) ⟨_, rfl, g_8, (Ext.tr e_3 e_9), (Eq.mpr (congrArg isB ez_13) (isB_ite isB_0 isB_1)), hw⟩
    refine x_if_eq 31 dX12_wants_24 (by decide) (fun c_12 => ?_) (fun c_12 => ?_)
    · refine x_iconst 0 dX12_wants_31 (by decide) ?_
      exact kJ_14 _ ((if_pos c_12)).symm
    · refine x_iconst 1 dX12_wants_27 (by decide) ?_
      refine x_goto 32 dX12_wants_28 (by decide) ?_
      exact kJ_14 _ ((if_neg c_12)).symm

/-! BeforeTheEnd$Ends.wants(LBeforeTheEnd;IIZ)Z on an object of class 11 -/
def wp_X11_wants_c11 (post : Int32 → Hp → Prop) (h : Hp) (r0 : Nat) (p2 : Int32) (p3 : Int32) (p4 : Int32) : Prop := (wp_X1_isEnd (fun r_4 h_1 => GI h_1 → Ext h h_1 → (post r_4 h_1)) h (gr h 1 1) p2)
abbrev rm_X11_wants_c11 : Room := ({ frames := 2, cells := 0, slots := 0, locals := 81 })
abbrev K_X11_wants_c11 : Kx := ("BeforeTheEnd$Ends", cX11_wants, 5, (Option.some Jvm.ClassFile.FieldType.boolean), rm_X11_wants_c11, [], false)
set_option maxHeartbeats 4000000 in
theorem k_X11_wants_c11 {ρ : Rho} {h : Hp} {post : Int32 → Hp → Prop} {r0 : Nat} {p2 : Int32} {p3 : Int32} {p4 : Int32} (G : G0 ρ) (g : GI h) (fr0 : sh h r0 = (21, 0)) (hw : wp_X11_wants_c11 post h r0 p2 p3 p4) : Con ρ yX11_wants (ws_ yX11_wants cX11_wants 5 (Option.some Jvm.ClassFile.FieldType.boolean)) rm_X11_wants_c11 [.ref (mr ρ r0), .ref (mr ρ 1), .int p2, .int p3, .int p4] h (phB h post) psN := by
  refine con_of (own := "BeforeTheEnd$Ends") (isI := false) (l0 := [(0, .ref (mr ρ r0)), (1, .ref (mr ρ 1)), (2, .int p2), (3, .int p3), (4, .int p4)]) (by decide) rfl (fun z => by cases z) (Nat.le_of_ble_eq_true rfl) rfl (fun _ => ?_)
  show X ρ K_X11_wants_c11 0 [(0, .ref (mr ρ r0)), (1, .ref (mr ρ 1)), (2, .int p2), (3, .int p3), (4, .int p4)] [] h 0 0 (phB h post) psN
  refine x_aload_n 1 dX11_wants_0 rfl ?_
  refine x_getN (ci := 0) (v := .ref (mr ρ (gr h 1 1))) 1 dX11_wants_1 (GI.s g (t := (10, 0)) rfl (by decide)) rfl in_X0 (by decide) q186 (Or.inl rfl) (fv_rc rfl rfl (isTree.nz (GI.t g) (GI.live g))) ?_
  refine x_iload_n 2 dX11_wants_4 rfl ?_
  refine x_callV (ci := 1) [.int p2] 1 dX11_wants_5 (k_X1_isEnd G g (GI.t g) hw) (isTree.s (GI.t g)) rfl q883 q723 q724 q105 q725 (by decide) rfl rfl ⟨(Nat.le_of_ble_eq_true rfl), (Nat.le_of_ble_eq_true rfl)⟩ (Nat.le_of_ble_eq_true rfl) ⟨(Nat.le_of_ble_eq_true rfl), (Nat.le_of_ble_eq_true rfl)⟩ (fun v9 h_1 hv9 => ?_) (fun _ _ _ _ _ z _ _ => False.elim z)
  obtain ⟨r_4, rfl, g_2, e_3, b_5, hw⟩ := hv9
  have hw := hw g_2 e_3
  show X ρ K_X11_wants_c11 8 [(0, .ref (mr ρ r0)), (1, .ref (mr ρ 1)), (2, .int p2), (3, .int p3), (4, .int p4)] [.int r_4] h_1 0 0 (phB h post) psN
  exact x_zret dX11_wants_8 rfl (isB.n b_5) (Nat.le_of_ble_eq_true rfl) (Nat.le_of_ble_eq_true rfl) ⟨_, rfl, g_2, e_3, b_5, hw⟩

/-! BeforeTheEnd$Sure.by(Z)I on an object of class 11 -/
def wp_X12_by_c11 (post : Int32 → Hp → Prop) (h : Hp) (r0 : Nat) (p1 : Int32) : Prop := (post (gi h r0 1) h)
abbrev rm_X12_by_c11 : Room := ({ frames := 1, cells := 0, slots := 0, locals := 60 })
abbrev K_X12_by_c11 : Kx := ("BeforeTheEnd$Sure", cX12_by, 2, (Option.some Jvm.ClassFile.FieldType.int), rm_X12_by_c11, [], false)
set_option maxHeartbeats 4000000 in
theorem k_X12_by_c11 {ρ : Rho} {h : Hp} {post : Int32 → Hp → Prop} {r0 : Nat} {p1 : Int32} (G : G0 ρ) (g : GI h) (fr0 : sh h r0 = (21, 0)) (hw : wp_X12_by_c11 post h r0 p1) : Con ρ yX12_by (ws_ yX12_by cX12_by 2 (Option.some Jvm.ClassFile.FieldType.int)) rm_X12_by_c11 [.ref (mr ρ r0), .int p1] h (phI h post) psN := by
  refine con_of (own := "BeforeTheEnd$Sure") (isI := false) (l0 := [(0, .ref (mr ρ r0)), (1, .int p1)]) (by decide) rfl (fun z => by cases z) (Nat.le_of_ble_eq_true rfl) rfl (fun _ => ?_)
  show X ρ K_X12_by_c11 0 [(0, .ref (mr ρ r0)), (1, .int p1)] [] h 0 0 (phI h post) psN
  refine x_aload_n 0 dX12_by_0 rfl ?_
  refine x_get (ci := 11) (v := .int (gi h r0 1)) 1 dX12_by_1 fr0 rfl in_X14 (by decide) q610 (Or.inr q611) (fv_i rfl) ?_
  exact x_iret dX12_by_4 rfl (Nat.le_of_ble_eq_true rfl) (Nat.le_of_ble_eq_true rfl) ⟨_, rfl, g, Ext.rf, hw⟩

/-! BeforeTheEnd$Learn.by(Z)I on an object of class 11 -/
def wp_X14_by_c11 (post : Int32 → Hp → Prop) (h : Hp) (r0 : Nat) (p1 : Int32) : Prop := ((p1 = 0 → (wp_X12_by_c11 (fun r_5 h_2 => GI h_2 → Ext h h_2 → (post r_5 h_2)) h r0 0)) ∧ (¬ p1 = 0 → (wp_X12_by_c11 (fun r_10 h_7 => GI h_7 → Ext h h_7 → (post (r_10 / 2) h_7)) h r0 1)))
abbrev rm_X14_by_c11 : Room := ({ frames := 2, cells := 0, slots := 0, locals := 81 })
abbrev K_X14_by_c11 : Kx := ("BeforeTheEnd$Learn", cX14_by, 2, (Option.some Jvm.ClassFile.FieldType.int), rm_X14_by_c11, [], false)
set_option maxHeartbeats 4000000 in
theorem k_X14_by_c11 {ρ : Rho} {h : Hp} {post : Int32 → Hp → Prop} {r0 : Nat} {p1 : Int32} (G : G0 ρ) (g : GI h) (fr0 : sh h r0 = (21, 0)) (hw : wp_X14_by_c11 post h r0 p1) : Con ρ yX14_by (ws_ yX14_by cX14_by 2 (Option.some Jvm.ClassFile.FieldType.int)) rm_X14_by_c11 [.ref (mr ρ r0), .int p1] h (phI h post) psN := by
  refine con_of (own := "BeforeTheEnd$Learn") (isI := false) (l0 := [(0, .ref (mr ρ r0)), (1, .int p1)]) (by decide) rfl (fun z => by cases z) (Nat.le_of_ble_eq_true rfl) rfl (fun _ => ?_)
  show X ρ K_X14_by_c11 0 [(0, .ref (mr ρ r0)), (1, .int p1)] [] h 0 0 (phI h post) psN
  refine x_iload_n 1 dX14_by_0 rfl ?_
  obtain ⟨wt_12, wf_13⟩ := hw
  refine x_if_eq 14 dX14_by_1 (by decide) (fun c_1 => ?_) (fun c_1 => ?_)
  · have hw := wt_12 c_1
    refine x_aload_n 0 dX14_by_14 rfl ?_
    refine x_iconst 0 dX14_by_15 (by decide) ?_
    refine x_callSU (ci := 11) [.int 0] 1 dX14_by_16 (k_X12_by_c11 G g fr0 hw) fr0 rfl (lw_SU q906 q896 q659 q894 q125 q901) (by decide) rfl rfl ⟨(Nat.le_of_ble_eq_true rfl), (Nat.le_of_ble_eq_true rfl)⟩ (Nat.le_of_ble_eq_true rfl) ⟨(Nat.le_of_ble_eq_true rfl), (Nat.le_of_ble_eq_true rfl)⟩ (fun v9 h_2 hv9 => ?_) (fun _ _ _ _ _ z _ _ => False.elim z)
    obtain ⟨r_5, rfl, g_3, e_4, hw⟩ := hv9
    have hw := hw g_3 e_4
    show X ρ K_X14_by_c11 19 [(0, .ref (mr ρ r0)), (1, .int p1)] [.int r_5] h_2 0 0 (phI h post) psN
    exact x_iret dX14_by_19 rfl (Nat.le_of_ble_eq_true rfl) (Nat.le_of_ble_eq_true rfl) ⟨_, rfl, g_3, e_4, hw⟩
  · have hw := wf_13 c_1
    refine x_aload_n 0 dX14_by_4 rfl ?_
    refine x_iconst 1 dX14_by_5 (by decide) ?_
    refine x_callSU (ci := 11) [.int 1] 1 dX14_by_6 (k_X12_by_c11 G g fr0 hw) fr0 rfl (lw_SU q906 q896 q659 q894 q125 q901) (by decide) rfl rfl ⟨(Nat.le_of_ble_eq_true rfl), (Nat.le_of_ble_eq_true rfl)⟩ (Nat.le_of_ble_eq_true rfl) ⟨(Nat.le_of_ble_eq_true rfl), (Nat.le_of_ble_eq_true rfl)⟩ (fun v9 h_7 hv9 => ?_) (fun _ _ _ _ _ z _ _ => False.elim z)
    obtain ⟨r_10, rfl, g_8, e_9, hw⟩ := hv9
    have hw := hw g_8 e_9
    show X ρ K_X14_by_c11 9 [(0, .ref (mr ρ r0)), (1, .int p1)] [.int r_10] h_7 0 0 (phI h post) psN
    refine x_iconst 2 dX14_by_9 (by decide) ?_
    refine x_idiv dX14_by_10 (by decide) ?_
    refine x_goto 19 dX14_by_11 (by decide) ?_
    exact x_iret dX14_by_19 rfl (Nat.le_of_ble_eq_true rfl) (Nat.le_of_ble_eq_true rfl) ⟨_, rfl, g_8, e_9, hw⟩

/-! BeforeTheEnd$Sure.isSure(LBeforeTheEnd$Tree;IIZ)Z on an object of class 11 -/
def wp_X12_isSure_c11 (post : Int32 → Hp → Prop) (h : Hp) (r0 : Nat) (p1 : Nat) (p2 : Int32) (p3 : Int32) (p4 : Int32) : Prop := (wp_X1_unitsOf (fun r_4 h_1 => GI h_1 → Ext h h_1 → (wp_X14_by_c11 (fun r_9 h_6 => GI h_6 → Ext h_1 h_6 → (wp_X1_units (fun r_14 h_11 => GI h_11 → Ext h_6 h_11 → (((100 * r_4) < ((Int32.toInt64 r_9) * r_14) → (post 0 h_11)) ∧ (¬ (100 * r_4) < ((Int32.toInt64 r_9) * r_14) → (post 1 h_11)))) h_6 p1 p2)) h_1 r0 p4)) h p1 p2 p3)
abbrev rm_X12_isSure_c11 : Room := ({ frames := 5, cells := 0, slots := 0, locals := 163 })
abbrev K_X12_isSure_c11 : Kx := ("BeforeTheEnd$Sure", cX12_isSure, 5, (Option.some Jvm.ClassFile.FieldType.boolean), rm_X12_isSure_c11, [], false)
set_option maxHeartbeats 4000000 in
theorem k_X12_isSure_c11 {ρ : Rho} {h : Hp} {post : Int32 → Hp → Prop} {r0 : Nat} {p1 : Nat} {p2 : Int32} {p3 : Int32} {p4 : Int32} (G : G0 ρ) (g : GI h) (fr0 : sh h r0 = (21, 0)) (fp1 : isTree h p1) (hw : wp_X12_isSure_c11 post h r0 p1 p2 p3 p4) : Con ρ yX12_isSure (ws_ yX12_isSure cX12_isSure 5 (Option.some Jvm.ClassFile.FieldType.boolean)) rm_X12_isSure_c11 [.ref (mr ρ r0), .ref (mr ρ p1), .int p2, .int p3, .int p4] h (phB h post) psN := by
  refine con_of (own := "BeforeTheEnd$Sure") (isI := false) (l0 := [(0, .ref (mr ρ r0)), (1, .ref (mr ρ p1)), (2, .int p2), (3, .int p3), (4, .int p4)]) (by decide) rfl (fun z => by cases z) (Nat.le_of_ble_eq_true rfl) rfl (fun _ => ?_)
  show X ρ K_X12_isSure_c11 0 [(0, .ref (mr ρ r0)), (1, .ref (mr ρ p1)), (2, .int p2), (3, .int p3), (4, .int p4)] [] h 0 0 (phB h post) psN
  refine x_ldc2 dX12_isSure_0 q891 ?_
  refine x_aload_n 1 dX12_isSure_3 rfl ?_
  refine x_iload_n 2 dX12_isSure_4 rfl ?_
  refine x_iload_n 3 dX12_isSure_5 rfl ?_
  refine x_callV (ci := 1) [.int p2, .int p3] 2 dX12_isSure_6 (k_X1_unitsOf G g fp1 hw) (isTree.s fp1) rfl q892 q810 q811 q105 q812 (by decide) rfl rfl ⟨(Nat.le_of_ble_eq_true rfl), (Nat.le_of_ble_eq_true rfl)⟩ (Nat.le_of_ble_eq_true rfl) ⟨(Nat.le_of_ble_eq_true rfl), (Nat.le_of_ble_eq_true rfl)⟩ (fun v9 h_1 hv9 => ?_) (fun _ _ _ _ _ z _ _ => False.elim z)
  obtain ⟨r_4, rfl, g_2, e_3, hw⟩ := hv9
  have hw := hw g_2 e_3
  show X ρ K_X12_isSure_c11 9 [(0, .ref (mr ρ r0)), (1, .ref (mr ρ p1)), (2, .int p2), (3, .int p3), (4, .int p4)] [.long r_4, .long 100] h_1 0 0 (phB h post) psN
  refine x_lmul dX12_isSure_9 ?_
  refine x_aload_n 0 dX12_isSure_10 rfl ?_
  refine x_iload 4 dX12_isSure_11 rfl ?_
  refine x_callO (ci := 11) (x0 := ⟨"BeforeTheEnd$Sure", "by", "(Z)I"⟩) (owner := "BeforeTheEnd$Sure") [.int p4] 1 dX12_isSure_13 (k_X14_by_c11 G g_2 (Ext.s e_3 fr0 (by decide)) hw) (Ext.s e_3 fr0 (by decide)) rfl (lw_O q893 q896 q894 q903 q904 q127 q905) q901 (by decide) rfl rfl ⟨(Nat.le_of_ble_eq_true rfl), (Nat.le_of_ble_eq_true rfl)⟩ (Nat.le_of_ble_eq_true rfl) ⟨(Nat.le_of_ble_eq_true rfl), (Nat.le_of_ble_eq_true rfl)⟩ (fun v9 h_6 hv9 => ?_) (fun _ _ _ _ _ z _ _ => False.elim z)
  obtain ⟨r_9, rfl, g_7, e_8, hw⟩ := hv9
  have hw := hw g_7 e_8
  show X ρ K_X12_isSure_c11 16 [(0, .ref (mr ρ r0)), (1, .ref (mr ρ p1)), (2, .int p2), (3, .int p3), (4, .int p4)] [.int r_9, .long (100 * r_4)] h_6 0 0 (phB h post) psN
  refine x_i2l dX12_isSure_16 ?_
  refine x_aload_n 1 dX12_isSure_17 rfl ?_
  refine x_iload_n 2 dX12_isSure_18 rfl ?_
  refine x_callV (ci := 1) [.int p2] 1 dX12_isSure_19 (k_X1_units G g_7 (isTree.ext (isTree.ext fp1 e_3) e_8) hw) (isTree.s (isTree.ext (isTree.ext fp1 e_3) e_8)) rfl q907 q873 q874 q105 q875 (by decide) rfl rfl ⟨(Nat.le_of_ble_eq_true rfl), (Nat.le_of_ble_eq_true rfl)⟩ (Nat.le_of_ble_eq_true rfl) ⟨(Nat.le_of_ble_eq_true rfl), (Nat.le_of_ble_eq_true rfl)⟩ (fun v9 h_11 hv9 => ?_) (fun _ _ _ _ _ z _ _ => False.elim z)
  obtain ⟨r_14, rfl, g_12, e_13, hw⟩ := hv9
  have hw := hw g_12 e_13
  show X ρ K_X12_isSure_c11 22 [(0, .ref (mr ρ r0)), (1, .ref (mr ρ p1)), (2, .int p2), (3, .int p3), (4, .int p4)] [.long r_14, .long (Int32.toInt64 r_9), .long (100 * r_4)] h_11 0 0 (phB h post) psN
  refine x_lmul dX12_isSure_22 ?_
  obtain ⟨wt_17, wf_18⟩ := hw
  refine x_lif_lt 31 dX12_isSure_23 dX12_isSure_24 (by decide) (fun c_16 => ?_) (fun c_16 => ?_)
  · have hw := wt_17 c_16
    refine x_iconst 0 dX12_isSure_31 (by decide) ?_
    exact x_zret dX12_isSure_32 rfl (isB.n isB_0) (Nat.le_of_ble_eq_true rfl) (Nat.le_of_ble_eq_true rfl) ⟨_, rfl, g_12, (Ext.tr (Ext.tr e_3 e_8) e_13), isB_0, hw⟩
  · have hw := wf_18 c_16
    refine x_iconst 1 dX12_isSure_27 (by decide) ?_
    refine x_goto 32 dX12_isSure_28 (by decide) ?_
    exact x_zret dX12_isSure_32 rfl (isB.n isB_1) (Nat.le_of_ble_eq_true rfl) (Nat.le_of_ble_eq_true rfl) ⟨_, rfl, g_12, (Ext.tr (Ext.tr e_3 e_8) e_13), isB_1, hw⟩
