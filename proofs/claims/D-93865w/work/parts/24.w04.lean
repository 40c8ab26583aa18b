/-! THE WALK, printed by wip/D-93865w/gen/main.py -/
set_option maxRecDepth 100000
/-! BeforeTheEnd$Sure.wants(LBeforeTheEnd;IIZ)Z on an object of class 11 -/
def wp_X12_wants_c11 (post : Int32 → Hp → Prop) (h : Hp) (r0 : Nat) (p2 : Int32) (p3 : Int32) (p4 : Int32) : Prop := (wp_X11_wants_c11 (fun r_4 h_1 => GI h_1 → Ext h h_1 → ((¬ r_4 = 0 → (post 1 h_1)) ∧ (r_4 = 0 → (wp_X12_isSure_c11 (fun r_10 h_7 => GI h_7 → Ext h_1 h_7 → (∀ z_13 : Int32, z_13 = ((if r_10 = 0 then 0 else 1) : Int32) → (post z_13 h_7))) h_1 r0 (gr h_1 1 1) p2 p3 p4)))) h r0 p2 p3 p4)
abbrev rm_X12_wants_c11 : Room := ({ frames := 6, cells := 0, slots := 0, locals := 187 })
abbrev K_X12_wants_c11 : Kx := ("BeforeTheEnd$Sure", cX12_wants, 5, (Option.some Jvm.ClassFile.FieldType.boolean), rm_X12_wants_c11, [], false)
set_option maxHeartbeats 4000000 in
theorem k_X12_wants_c11 {ρ : Rho} {h : Hp} {post : Int32 → Hp → Prop} {r0 : Nat} {p2 : Int32} {p3 : Int32} {p4 : Int32} (G : G0 ρ) (g : GI h) (fr0 : sh h r0 = (21, 0)) (hw : wp_X12_wants_c11 post h r0 p2 p3 p4) : Con ρ yX12_wants (ws_ yX12_wants cX12_wants 5 (Option.some Jvm.ClassFile.FieldType.boolean)) rm_X12_wants_c11 [.ref (mr ρ r0), .ref (mr ρ 1), .int p2, .int p3, .int p4] h (phB h post) psN := by
  refine con_of (own := "BeforeTheEnd$Sure") (isI := false) (l0 := [(0, .ref (mr ρ r0)), (1, .ref (mr ρ 1)), (2, .int p2), (3, .int p3), (4, .int p4)]) (by decide) rfl (fun z => by cases z) (Nat.le_of_ble_eq_true rfl) rfl (fun _ => ?_)
  show X ρ K_X12_wants_c11 0 [(0, .ref (mr ρ r0)), (1, .ref (mr ρ 1)), (2, .int p2), (3, .int p3), (4, .int p4)] [] h 0 0 (phB h post) psN
  refine x_aload_n 0 dX12_wants_0 rfl ?_
  refine x_aload_n 1 dX12_wants_1 rfl ?_
  refine x_iload_n 2 dX12_wants_2 rfl ?_
  refine x_iload_n 3 dX12_wants_3 rfl ?_
  refine x_iload 4 dX12_wants_4 rfl ?_
  refine x_callSU (ci := 11) [.ref (mr ρ 1), .int p2, .int p3, .int p4] 4 dX12_wants_6 (k_X11_wants_c11 G g fr0 hw) fr0 rfl (lw_SU q880 q1720 q639 q881 q124 q882) (by decide) rfl rfl ⟨(Nat.le_of_ble_eq_true rfl), (Nat.le_of_ble_eq_true rfl)⟩ (Nat.le_of_ble_eq_true rfl) ⟨(Nat.le_of_ble_eq_true rfl), (Nat.le_of_ble_eq_true rfl)⟩ (fun v9 h_1 hv9 => ?_) (fun _ _ _ _ _ z _ _ => False.elim z)
  obtain ⟨r_4, rfl, g_2, e_3, b_5, hw⟩ := hv9
  have hw := hw g_2 e_3
  show X ρ K_X12_wants_c11 9 [(0, .ref (mr ρ r0)), (1, .ref (mr ρ 1)), (2, .int p2), (3, .int p3), (4, .int p4)] [.int r_4] h_1 0 0 (phB h post) psN
  obtain ⟨wt_15, wf_16⟩ := hw
  refine x_if_ne 27 dX12_wants_9 (by decide) (fun c_6 => ?_) (fun c_6 => ?_)
  · have hw := wt_15 c_6
    refine x_iconst 1 dX12_wants_27 (by decide) ?_
    refine x_goto 32 dX12_wants_28 (by decide) ?_
    exact x_zret dX12_wants_32 rfl (isB.n isB_1) (Nat.le_of_ble_eq_true rfl) (Nat.le_of_ble_eq_true rfl) ⟨_, rfl, g_2, e_3, isB_1, hw⟩
  · have hw := wf_16 c_6
    refine x_aload_n 0 dX12_wants_12 rfl ?_
    refine x_aload_n 1 dX12_wants_13 rfl ?_
    refine x_getN (ci := 0) (v := .ref (mr ρ (gr h_1 1 1))) 1 dX12_wants_14 (GI.s g_2 (t := (10, 0)) rfl (by decide)) rfl in_X0 (by decide) q187 (Or.inl rfl) (fv_rc rfl rfl (isTree.nz (GI.t g_2) (GI.live g_2))) ?_
    refine x_iload_n 2 dX12_wants_17 rfl ?_
    refine x_iload_n 3 dX12_wants_18 rfl ?_
    refine x_iload 4 dX12_wants_19 rfl ?_
    refine x_callU (ci := 11) (x0 := ⟨"BeforeTheEnd$Sure", "isSure", "(LBeforeTheEnd$Tree;IIZ)Z"⟩) (owner := "BeforeTheEnd$Sure") [.ref (mr ρ (gr h_1 1 1)), .int p2, .int p3, .int p4] 4 dX12_wants_21 (k_X12_isSure_c11 G g_2 (Ext.s e_3 fr0 (by decide)) (GI.t g_2) hw) (Ext.s e_3 fr0 (by decide)) rfl (lw_U q884 q887 q889 q885 q125 q890) rfl (by decide) rfl rfl ⟨(Nat.le_of_ble_eq_true rfl), (Nat.le_of_ble_eq_true rfl)⟩ (Nat.le_of_ble_eq_true rfl) ⟨(Nat.le_of_ble_eq_true rfl), (Nat.le_of_ble_eq_true rfl)⟩ (fun v9 h_7 hv9 => ?_) (fun _ _ _ _ _ z _ _ => False.elim z)
    obtain ⟨r_10, rfl, g_8, e_9, b_11, hw⟩ := hv9
    have hw := hw g_8 e_9
    show X ρ K_X12_wants_c11 24 [(0, .ref (mr ρ r0)), (1, .ref (mr ρ 1)), (2, .int p2), (3, .int p3), (4, .int p4)] [.int r_10] h_7 0 0 (phB h post) psN
    have kJ_14 : ∀ z_13 : Int32, z_13 = ((if r_10 = 0 then 0 else 1) : Int32) → X ρ K_X12_wants_c11 32 [(0, .ref (mr ρ r0)), (1, .ref (mr ρ 1)), (2, .int p2), (3, .int p3), (4, .int p4)] [.int z_13] h_7 0 0 (phB h post) psN := fun z_13 ez_13 => by
      have hw := hw z_13 ez_13
      exact x_zret dX12_wants_32 rfl (isB.n (Eq.mpr (congrArg isB ez_13) (isB_ite isB_0 isB_1))) (Nat.le_of_ble_eq_true rfl) (Nat.le_of_ble_eq_true rfl) ⟨_, rfl, g_8, (Ext.tr e_3 e_9), (Eq.mpr (congrArg isB ez_13) (isB_ite isB_0 isB_1)), hw⟩
    refine x_if_eq 31 dX12_wants_24 (by decide) (fun c_12 => ?_) (fun c_12 => ?_)
    · refine x_iconst 0 dX12_wants_31 (by decide) ?_
      exact kJ_14 _ ((if_pos c_12)).symm
    · refine x_iconst 1 dX12_wants_27 (by decide) ?_
      refine x_goto 32 dX12_wants_28 (by decide) ?_
      exact kJ_14 _ ((if_neg c_12)).symm

/-! BeforeTheEnd$Sure.wants by the class of the object -/
def wv_X12_wants_isSu (post : Int32 → Hp → Prop) (h : Hp) (r0 : Nat) (p2 : Int32) (p3 : Int32) (p4 : Int32) : Prop := (sh h r0 = (19, 0) → wp_X12_wants_c9 post h r0 p2 p3 p4) ∧ (sh h r0 = (20, 0) → wp_X12_wants_c10 post h r0 p2 p3 p4) ∧ (sh h r0 = (21, 0) → wp_X12_wants_c11 post h r0 p2 p3 p4)

/-! BeforeTheEnd$ToldPlayer.words(LBeforeTheEnd;)I on an object of class 12 -/
def wp_X15_words_c12 (post : Int32 → Hp → Prop) (h : Hp) (r0 : Nat) : Prop := (post (gi h r0 3) h)
abbrev rm_X15_words_c12 : Room := ({ frames := 1, cells := 0, slots := 0, locals := 60 })
abbrev K_X15_words_c12 : Kx := ("BeforeTheEnd$ToldPlayer", cX15_words, 2, (Option.some Jvm.ClassFile.FieldType.int), rm_X15_words_c12, [], false)
set_option maxHeartbeats 4000000 in
theorem k_X15_words_c12 {ρ : Rho} {h : Hp} {post : Int32 → Hp → Prop} {r0 : Nat} (G : G0 ρ) (g : GI h) (fr0 : sh h r0 = (22, 0)) (hw : wp_X15_words_c12 post h r0) : Con ρ yX15_words (ws_ yX15_words cX15_words 2 (Option.some Jvm.ClassFile.FieldType.int)) rm_X15_words_c12 [.ref (mr ρ r0), .ref (mr ρ 1)] h (phI h post) psN := by
  refine con_of (own := "BeforeTheEnd$ToldPlayer") (isI := false) (l0 := [(0, .ref (mr ρ r0)), (1, .ref (mr ρ 1))]) (by decide) rfl (fun z => by cases z) (Nat.le_of_ble_eq_true rfl) rfl (fun _ => ?_)
  show X ρ K_X15_words_c12 0 [(0, .ref (mr ρ r0)), (1, .ref (mr ρ 1))] [] h 0 0 (phI h post) psN
  refine x_aload_n 0 dX15_words_0 rfl ?_
  refine x_get (ci := 12) (v := .int (gi h r0 3)) 3 dX15_words_1 fr0 rfl in_X15 (by decide) q666 (Or.inl rfl) (fv_i rfl) ?_
  exact x_iret dX15_words_4 rfl (Nat.le_of_ble_eq_true rfl) (Nat.le_of_ble_eq_true rfl) ⟨_, rfl, g, Ext.rf, hw⟩

/-! BeforeTheEnd$ToldPlayer.wants(LBeforeTheEnd;IIZ)Z on an object of class 12 -/
def wp_X15_wants_c12 (post : Int32 → Hp → Prop) (h : Hp) (r0 : Nat) (p2 : Int32) (p3 : Int32) (p4 : Int32) : Prop := (wp_X15_words_c12 (fun r_4 h_1 => GI h_1 → Ext h h_1 → (∀ z_7 : Int32, z_7 = ((if ((r_4 >>> (p2 &&& 31)) &&& 1) = 1 then 1 else 0) : Int32) → (post z_7 h_1))) h r0)
abbrev rm_X15_wants_c12 : Room := ({ frames := 2, cells := 0, slots := 0, locals := 81 })
abbrev K_X15_wants_c12 : Kx := ("BeforeTheEnd$ToldPlayer", cX15_wants, 5, (Option.some Jvm.ClassFile.FieldType.boolean), rm_X15_wants_c12, [], false)
set_option maxHeartbeats 4000000 in
theorem k_X15_wants_c12 {ρ : Rho} {h : Hp} {post : Int32 → Hp → Prop} {r0 : Nat} {p2 : Int32} {p3 : Int32} {p4 : Int32} (G : G0 ρ) (g : GI h) (fr0 : sh h r0 = (22, 0)) (hw : wp_X15_wants_c12 post h r0 p2 p3 p4) : Con ρ yX15_wants (ws_ yX15_wants cX15_wants 5 (Option.some Jvm.ClassFile.FieldType.boolean)) rm_X15_wants_c12 [.ref (mr ρ r0), .ref (mr ρ 1), .int p2, .int p3, .int p4] h (phB h post) psN := by
  refine con_of (own := "BeforeTheEnd$ToldPlayer") (isI := false) (l0 := [(0, .ref (mr ρ r0)), (1, .ref (mr ρ 1)), (2, .int p2), (3, .int p3), (4, .int p4)]) (by decide) rfl (fun z => by cases z) (Nat.le_of_ble_eq_true rfl) rfl (fun _ => ?_)
  show X ρ K_X15_wants_c12 0 [(0, .ref (mr ρ r0)), (1, .ref (mr ρ 1)), (2, .int p2), (3, .int p3), (4, .int p4)] [] h 0 0 (phB h post) psN
  refine x_aload_n 0 dX15_wants_0 rfl ?_
  refine x_aload_n 1 dX15_wants_1 rfl ?_
  refine x_callV (ci := 12) [.ref (mr ρ 1)] 1 dX15_wants_2 (k_X15_words_c12 G g fr0 hw) fr0 rfl q855 q856 q857 q128 q876 (by decide) rfl rfl ⟨(Nat.le_of_ble_eq_true rfl), (Nat.le_of_ble_eq_true rfl)⟩ (Nat.le_of_ble_eq_true rfl) ⟨(Nat.le_of_ble_eq_true rfl), (Nat.le_of_ble_eq_true rfl)⟩ (fun v9 h_1 hv9 => ?_) (fun _ _ _ _ _ z _ _ => False.elim z)
  obtain ⟨r_4, rfl, g_2, e_3, hw⟩ := hv9
  have hw := hw g_2 e_3
  show X ρ K_X15_wants_c12 5 [(0, .ref (mr ρ r0)), (1, .ref (mr ρ 1)), (2, .int p2), (3, .int p3), (4, .int p4)] [.int r_4] h_1 0 0 (phB h post) psN
  refine x_iload_n 2 dX15_wants_5 rfl ?_
  refine x_ishr dX15_wants_6 ?_
  refine x_iconst 1 dX15_wants_7 (by decide) ?_
  refine x_iand dX15_wants_8 ?_
  refine x_iconst 1 dX15_wants_9 (by decide) ?_
  have kJ_8 : ∀ z_7 : Int32, z_7 = ((if ((r_4 >>> (p2 &&& 31)) &&& 1) = 1 then 1 else 0) : Int32) → X ρ K_X15_wants_c12 18 [(0, .ref (mr ρ r0)), (1, .ref (mr ρ 1)), (2, .int p2), (3, .int p3), (4, .int p4)] [.int z_7] h_1 0 0 (phB h post) psN := fun z_7 ez_7 => by
    have hw := hw z_7 ez_7
    exact x_zret dX15_wants_18 rfl (isB.n (Eq.mpr (congrArg isB ez_7) (isB_ite isB_1 isB_0))) (Nat.le_of_ble_eq_true rfl) (Nat.le_of_ble_eq_true rfl) ⟨_, rfl, g_2, e_3, (Eq.mpr (congrArg isB ez_7) (isB_ite isB_1 isB_0)), hw⟩
  refine x_icmp_ne 17 dX15_wants_10 (by decide) (fun c_6 => ?_) (fun c_6 => ?_)
  · refine x_iconst 0 dX15_wants_17 (by decide) ?_
    exact kJ_8 _ ((if_neg c_6)).symm
  · refine x_iconst 1 dX15_wants_13 (by decide) ?_
    refine x_goto 18 dX15_wants_14 (by decide) ?_
    exact kJ_8 _ ((if_pos c_6)).symm

/-! BeforeTheEnd.pressWorth(LBeforeTheEnd$Player;II)J -/
def w_X0_pressWorth_6 (post : Int64 → Hp → Prop) : Nat → Int32 → Int32 → Int64 → Int32 → Hp → Prop
  | 0 => fun _ _ _ _ _ => False
  | n + 1 => fun x2 x3 x4 x6 h => (((gi h (gr h 1 1) 0) ≤ x6 → (post x4 h)) ∧ (¬ (gi h (gr h 1 1) 0) ≤ x6 → (wp_X1_isEnd (fun r_5 h_2 => GI h_2 → Ext h h_2 → ((r_5 = 0 → (w_X0_pressWorth_6 post n x2 x3 x4 (x6 + 1) h_2)) ∧ (¬ r_5 = 0 → (wp_X1_isBehind (fun r_11 h_8 => GI h_8 → Ext h_2 h_8 → ((r_11 = 0 → (w_X0_pressWorth_6 post n x2 x3 x4 (x6 + 1) h_8)) ∧ (¬ r_11 = 0 → (vp_in x6 24 ∧ (vp_in x2 24 ∧ (∀ x7_16 : Int32, x7_16 = ((gi h_8 11 0) + ((gi h_8 11 2) * ((gi h_8 ((gr h_8 1 1) + 4) (Int32.toNatClampNeg x6)) - (gi h_8 ((gr h_8 1 1) + 4) (Int32.toNatClampNeg x2))))) → (wp_X1_units (fun r_20 h_17 => GI h_17 → Ext h_8 h_17 → (vp_in x6 24 ∧ (∀ z_24 : Int32, z_24 = ((if (gi h_17 ((gr h_17 1 1) + 3) (Int32.toNatClampNeg x6)) = x3 then x7_16 else (-(gi h_17 11 1))) : Int32) → (∀ x4_25 : Int64, x4_25 = (x4 + (r_20 * (Int32.toInt64 z_24))) → (w_X0_pressWorth_6 post n x2 x3 x4_25 (x6 + 1) h_17))))) h_8 (gr h_8 1 1) x6))))))) h_2 (gr h_2 1 1) x6 x2)))) h (gr h 1 1) x6)))
def wp_X0_pressWorth (post : Int64 → Hp → Prop) (h : Hp) (p1 : Nat) (p2 : Int32) (p3 : Int32) : Prop := (∃ fu : Nat, w_X0_pressWorth_6 post fu p2 p3 0 p2 h)
abbrev rm_X0_pressWorth : Room := ({ frames := 5, cells := 0, slots := 0, locals := 162 })
abbrev K_X0_pressWorth : Kx := ("BeforeTheEnd", cX0_pressWorth, 8, (Option.some Jvm.ClassFile.FieldType.long), rm_X0_pressWorth, [], false)
set_option maxHeartbeats 4000000 in
theorem t_X0_pressWorth_6 {ρ : Rho} {h0 : Hp} {post : Int64 → Hp → Prop} (G : G0 ρ) :
    ∀ (n : Nat), ∀ (x2 : Int32) (x3 : Int32) (x4 : Int64) (x6 : Int32) (h : Hp), GI h → Ext h0 h → w_X0_pressWorth_6 post n x2 x3 x4 x6 h → X ρ K_X0_pressWorth 6 [(0, .ref (mr ρ 1)), (2, .int x2), (3, .int x3), (4, .long x4), (6, .int x6)] [] h 0 0 (phL h0 post) psN := by
  intro n
  induction n with
  | zero => intro x2 x3 x4 x6 h g e hw; exact False.elim hw
  | succ n ih =>
    intro x2 x3 x4 x6 h g e hw
    refine x_iload 4 dX0_pressWorth_6 rfl ?_
    refine x_aload_n 0 dX0_pressWorth_8 rfl ?_
    refine x_get (ci := 0) (v := .ref (mr ρ (gr h 1 1))) 1 dX0_pressWorth_9 (GI.s g (t := (10, 0)) rfl (by decide)) rfl in_X0 (by decide) q188 (Or.inl rfl) (fv_rc rfl rfl (isTree.nz (GI.t g) (GI.live g))) ?_
    refine x_getN (ci := 1) (v := .int (gi h (gr h 1 1) 0)) 0 dX0_pressWorth_12 (isTree.s (GI.t g)) rfl in_X1 (by decide) q147 (Or.inl rfl) (fv_i rfl) ?_
    obtain ⟨wt_31, wf_32⟩ := hw
    refine x_icmp_ge 127 dX0_pressWorth_15 (by decide) (fun c_1 => ?_) (fun c_1 => ?_)
    · have hw := wt_31 c_1
      refine x_lload 3 dX0_pressWorth_127 rfl ?_
      exact x_lret dX0_pressWorth_129 rfl (Nat.le_of_ble_eq_true rfl) (Nat.le_of_ble_eq_true rfl) ⟨_, rfl, g, e, hw⟩
    · have hw := wf_32 c_1
      refine x_aload_n 0 dX0_pressWorth_18 rfl ?_
      refine x_get (ci := 0) (v := .ref (mr ρ (gr h 1 1))) 1 dX0_pressWorth_19 (GI.s g (t := (10, 0)) rfl (by decide)) rfl in_X0 (by decide) q188 (Or.inl rfl) (fv_rc rfl rfl (isTree.nz (GI.t g) (GI.live g))) ?_
      refine x_iload 4 dX0_pressWorth_22 rfl ?_
      refine x_callV (ci := 1) [.int x6] 1 dX0_pressWorth_24 (k_X1_isEnd G g (GI.t g) hw) (isTree.s (GI.t g)) rfl q870 q723 q724 q105 q725 (by decide) rfl rfl ⟨(Nat.le_of_ble_eq_true rfl), (Nat.le_of_ble_eq_true rfl)⟩ (Nat.le_of_ble_eq_true rfl) ⟨(Nat.le_of_ble_eq_true rfl), (Nat.le_of_ble_eq_true rfl)⟩ (fun v9 h_2 hv9 => ?_) (fun _ _ _ _ _ z _ _ => False.elim z)
      obtain ⟨r_5, rfl, g_3, e_4, b_6, hw⟩ := hv9
      have hw := hw g_3 e_4
      show X ρ K_X0_pressWorth 27 [(0, .ref (mr ρ 1)), (2, .int x2), (3, .int x3), (4, .long x4), (6, .int x6)] [.int r_5] h_2 0 0 (phL h0 post) psN
      obtain ⟨wt_29, wf_30⟩ := hw
      refine x_if_eq 121 dX0_pressWorth_27 (by decide) (fun c_7 => ?_) (fun c_7 => ?_)
      · have hw := wt_29 c_7
        refine x_iinc (v := (x6 + 1)) (lv' := [(6, .int (x6 + 1)), (0, .ref (mr ρ 1)), (2, .int x2), (3, .int x3), (4, .long x4)]) 4 dX0_pressWorth_121 rfl (by rfl) (Nat.le_of_ble_eq_true rfl) rfl ?_
        refine x_goto 6 dX0_pressWorth_124 (by decide) ?_
        refine X.sub [1, 2, 3, 4, 0] rfl ?_
        exact ih x2 x3 x4 (x6 + 1) h_2 g_3 (Ext.tr e e_4) hw
      · have hw := wf_30 c_7
        refine x_aload_n 0 dX0_pressWorth_30 rfl ?_
        refine x_get (ci := 0) (v := .ref (mr ρ (gr h_2 1 1))) 1 dX0_pressWorth_31 (GI.s g_3 (t := (10, 0)) rfl (by decide)) rfl in_X0 (by decide) q188 (Or.inl rfl) (fv_rc rfl rfl (isTree.nz (GI.t g_3) (GI.live g_3))) ?_
        refine x_iload 4 dX0_pressWorth_34 rfl ?_
        refine x_iload_n 1 dX0_pressWorth_36 rfl ?_
        refine x_callV (ci := 1) [.int x6, .int x2] 2 dX0_pressWorth_37 (k_X1_isBehind G g_3 (GI.t g_3) hw) (isTree.s (GI.t g_3)) rfl q871 q798 q799 q105 q800 (by decide) rfl rfl ⟨(Nat.le_of_ble_eq_true rfl), (Nat.le_of_ble_eq_true rfl)⟩ (Nat.le_of_ble_eq_true rfl) ⟨(Nat.le_of_ble_eq_true rfl), (Nat.le_of_ble_eq_true rfl)⟩ (fun v9 h_8 hv9 => ?_) (fun _ _ _ _ _ z _ _ => False.elim z)
        obtain ⟨r_11, rfl, g_9, e_10, b_12, hw⟩ := hv9
        have hw := hw g_9 e_10
        show X ρ K_X0_pressWorth 40 [(0, .ref (mr ρ 1)), (2, .int x2), (3, .int x3), (4, .long x4), (6, .int x6)] [.int r_11] h_8 0 0 (phL h0 post) psN
        obtain ⟨wt_27, wf_28⟩ := hw
        refine x_if_eq 121 dX0_pressWorth_40 (by decide) (fun c_13 => ?_) (fun c_13 => ?_)
        · have hw := wt_27 c_13
          refine x_iinc (v := (x6 + 1)) (lv' := [(6, .int (x6 + 1)), (0, .ref (mr ρ 1)), (2, .int x2), (3, .int x3), (4, .long x4)]) 4 dX0_pressWorth_121 rfl (by rfl) (Nat.le_of_ble_eq_true rfl) rfl ?_
          refine x_goto 6 dX0_pressWorth_124 (by decide) ?_
          refine X.sub [1, 2, 3, 4, 0] rfl ?_
          exact ih x2 x3 x4 (x6 + 1) h_8 g_9 (Ext.tr (Ext.tr e e_4) e_10) hw
        · have hw := wf_28 c_13
          refine x_aload_n 0 dX0_pressWorth_43 rfl ?_
          refine x_get (ci := 0) (v := .ref (mr ρ 11)) 4 dX0_pressWorth_44 (GI.s g_9 (t := (10, 0)) rfl (by decide)) rfl in_X0 (by decide) q191 (Or.inl rfl) (fv_rc rfl (GI.x g_9 (n := 11) rfl (by decide)) (by decide)) ?_
          refine x_iconst 0 dX0_pressWorth_47 (by decide) ?_
          refine x_iald (n := 4) (j := 0) dX0_pressWorth_48 (by decide) (GI.s g_9 (t := (1, 4)) rfl (by decide)) (by unfold vp_in; decide) ?_
          refine x_aload_n 0 dX0_pressWorth_49 rfl ?_
          refine x_get (ci := 0) (v := .ref (mr ρ 11)) 4 dX0_pressWorth_50 (GI.s g_9 (t := (10, 0)) rfl (by decide)) rfl in_X0 (by decide) q191 (Or.inl rfl) (fv_rc rfl (GI.x g_9 (n := 11) rfl (by decide)) (by decide)) ?_
          refine x_iconst 2 dX0_pressWorth_53 (by decide) ?_
          refine x_iald (n := 4) (j := 2) dX0_pressWorth_54 (by decide) (GI.s g_9 (t := (1, 4)) rfl (by decide)) (by unfold vp_in; decide) ?_
          refine x_aload_n 0 dX0_pressWorth_55 rfl ?_
          refine x_get (ci := 0) (v := .ref (mr ρ (gr h_8 1 1))) 1 dX0_pressWorth_56 (GI.s g_9 (t := (10, 0)) rfl (by decide)) rfl in_X0 (by decide) q188 (Or.inl rfl) (fv_rc rfl rfl (isTree.nz (GI.t g_9) (GI.live g_9))) ?_
          refine x_getN (ci := 1) (v := .ref (mr ρ ((gr h_8 1 1) + 4))) 4 dX0_pressWorth_59 (isTree.s (GI.t g_9)) rfl in_X1 (by decide) q155 (Or.inl rfl) (fv_rc rfl (isTree.p (GI.t g_9) 4 (by decide) (by decide)) (Nat.succ_ne_zero _)) ?_
          refine x_iload 4 dX0_pressWorth_62 rfl ?_
          obtain ⟨b_14, hw⟩ := hw
          refine x_iald (n := 24) (j := (Int32.toNatClampNeg x6)) dX0_pressWorth_64 rfl (isTree.a (GI.t g_9) 4 (by decide) (by decide)) b_14 ?_
          refine x_aload_n 0 dX0_pressWorth_65 rfl ?_
          refine x_get (ci := 0) (v := .ref (mr ρ (gr h_8 1 1))) 1 dX0_pressWorth_66 (GI.s g_9 (t := (10, 0)) rfl (by decide)) rfl in_X0 (by decide) q188 (Or.inl rfl) (fv_rc rfl rfl (isTree.nz (GI.t g_9) (GI.live g_9))) ?_
          refine x_getN (ci := 1) (v := .ref (mr ρ ((gr h_8 1 1) + 4))) 4 dX0_pressWorth_69 (isTree.s (GI.t g_9)) rfl in_X1 (by decide) q155 (Or.inl rfl) (fv_rc rfl (isTree.p (GI.t g_9) 4 (by decide) (by decide)) (Nat.succ_ne_zero _)) ?_
          refine x_iload_n 1 dX0_pressWorth_72 rfl ?_
          obtain ⟨b_15, hw⟩ := hw
          refine x_iald (n := 24) (j := (Int32.toNatClampNeg x2)) dX0_pressWorth_73 rfl (isTree.a (GI.t g_9) 4 (by decide) (by decide)) b_15 ?_
          refine x_isub dX0_pressWorth_74 ?_
          refine x_imul dX0_pressWorth_75 ?_
          refine x_iadd dX0_pressWorth_76 ?_
          refine x_nmi (fun x7_16 ex7_16 => ?_)
          have hw := hw x7_16 ex7_16
          refine x_istore (lv' := [(7, .int x7_16), (0, .ref (mr ρ 1)), (2, .int x2), (3, .int x3), (4, .long x4), (6, .int x6)]) dX0_pressWorth_77 (Nat.le_of_ble_eq_true rfl) rfl ?_
          refine x_lload 4 dX0_pressWorth_79 rfl ?_
          refine x_aload_n 1 dX0_pressWorth_81 rfl ?_
          refine x_get (ci := 0) (v := .ref (mr ρ (gr h_8 1 1))) 1 dX0_pressWorth_82 (GI.s g_9 (t := (10, 0)) rfl (by decide)) rfl in_X0 (by decide) q188 (Or.inl rfl) (fv_rc rfl rfl (isTree.nz (GI.t g_9) (GI.live g_9))) ?_
          refine x_iload 5 dX0_pressWorth_85 rfl ?_
          refine x_callV (ci := 1) [.int x6] 1 dX0_pressWorth_87 (k_X1_units G g_9 (GI.t g_9) hw) (isTree.s (GI.t g_9)) rfl q872 q873 q874 q105 q875 (by decide) rfl rfl ⟨(Nat.le_of_ble_eq_true rfl), (Nat.le_of_ble_eq_true rfl)⟩ (Nat.le_of_ble_eq_true rfl) ⟨(Nat.le_of_ble_eq_true rfl), (Nat.le_of_ble_eq_true rfl)⟩ (fun v9 h_17 hv9 => ?_) (fun _ _ _ _ _ z _ _ => False.elim z)
          obtain ⟨r_20, rfl, g_18, e_19, hw⟩ := hv9
          have hw := hw g_18 e_19
          show X ρ K_X0_pressWorth 90 [(7, .int x7_16), (0, .ref (mr ρ 1)), (2, .int x2), (3, .int x3), (4, .long x4), (6, .int x6)] [.long r_20, .long x4] h_17 0 0 (phL h0 post) psN
          refine x_aload_n 1 dX0_pressWorth_90 rfl ?_
          refine x_get (ci := 0) (v := .ref (mr ρ (gr h_17 1 1))) 1 dX0_pressWorth_91 (GI.s g_18 (t := (10, 0)) rfl (by decide)) rfl in_X0 (by decide) q188 (Or.inl rfl) (fv_rc rfl rfl (isTree.nz (GI.t g_18) (GI.live g_18))) ?_
          refine x_getN (ci := 1) (v := .ref (mr ρ ((gr h_17 1 1) + 3))) 3 dX0_pressWorth_94 (isTree.s (GI.t g_18)) rfl in_X1 (by decide) q153 (Or.inl rfl) (fv_rc rfl (isTree.p (GI.t g_18) 3 (by decide) (by decide)) (Nat.succ_ne_zero _)) ?_
          refine x_iload 5 dX0_pressWorth_97 rfl ?_
          obtain ⟨b_22, hw⟩ := hw
          refine x_iald (n := 24) (j := (Int32.toNatClampNeg x6)) dX0_pressWorth_99 rfl (isTree.a (GI.t g_18) 3 (by decide) (by decide)) b_22 ?_
          refine x_iload_n 3 dX0_pressWorth_100 rfl ?_
          have kJ_26 : ∀ z_24 : Int32, z_24 = ((if (gi h_17 ((gr h_17 1 1) + 3) (Int32.toNatClampNeg x6)) = x3 then x7_16 else (-(gi h_17 11 1))) : Int32) → X ρ K_X0_pressWorth 116 [(7, .int x7_16), (0, .ref (mr ρ 1)), (2, .int x2), (3, .int x3), (4, .long x4), (6, .int x6)] [.int z_24, .long r_20, .long x4] h_17 0 0 (phL h0 post) psN := fun z_24 ez_24 => by
            have hw := hw z_24 ez_24
            refine x_i2l dX0_pressWorth_116 ?_
            refine x_lmul dX0_pressWorth_117 ?_
            refine x_ladd dX0_pressWorth_118 ?_
            refine x_nml (fun x4_25 ex4_25 => ?_)
            have hw := hw x4_25 ex4_25
            refine x_lstore (lv' := [(4, .long x4_25), (7, .int x7_16), (0, .ref (mr ρ 1)), (2, .int x2), (3, .int x3), (6, .int x6)]) dX0_pressWorth_119 (Nat.le_of_ble_eq_true rfl) rfl ?_
            refine x_iinc (v := (x6 + 1)) (lv' := [(6, .int (x6 + 1)), (4, .long x4_25), (7, .int x7_16), (0, .ref (mr ρ 1)), (2, .int x2), (3, .int x3)]) 5 dX0_pressWorth_121 rfl (by rfl) (Nat.le_of_ble_eq_true rfl) rfl ?_
            refine x_goto 6 dX0_pressWorth_124 (by decide) ?_
            refine X.sub [3, 4, 5, 1, 0] rfl ?_
            exact ih x2 x3 x4_25 (x6 + 1) h_17 g_18 (Ext.tr (Ext.tr (Ext.tr e e_4) e_10) e_19) hw
          refine x_icmp_ne 109 dX0_pressWorth_101 (by decide) (fun c_23 => ?_) (fun c_23 => ?_)
          · refine x_aload_n 1 dX0_pressWorth_109 rfl ?_
            refine x_get (ci := 0) (v := .ref (mr ρ 11)) 4 dX0_pressWorth_110 (GI.s g_18 (t := (10, 0)) rfl (by decide)) rfl in_X0 (by decide) q191 (Or.inl rfl) (fv_rc rfl (GI.x g_18 (n := 11) rfl (by decide)) (by decide)) ?_
            refine x_iconst 1 dX0_pressWorth_113 (by decide) ?_
            refine x_iald (n := 4) (j := 1) dX0_pressWorth_114 (by decide) (GI.s g_18 (t := (1, 4)) rfl (by decide)) (by unfold vp_in; decide) ?_
            refine x_ineg dX0_pressWorth_115 ?_
            exact kJ_26 _ ((if_neg c_23)).symm
          · refine x_iload 0 dX0_pressWorth_104 rfl ?_
            refine x_goto 116 dX0_pressWorth_106 (by decide) ?_
            exact kJ_26 _ ((if_pos c_23)).symm
set_option maxHeartbeats 4000000 in
theorem k_X0_pressWorth {ρ : Rho} {h : Hp} {post : Int64 → Hp → Prop} {p1 : Nat} {p2 : Int32} {p3 : Int32} (G : G0 ρ) (g : GI h) (fp1 : isPl h p1) (hw : wp_X0_pressWorth post h p1 p2 p3) : Con ρ yX0_pressWorth (ws_ yX0_pressWorth cX0_pressWorth 8 (Option.some Jvm.ClassFile.FieldType.long)) rm_X0_pressWorth [.ref (mr ρ 1), .ref (mr ρ p1), .int p2, .int p3] h (phL h post) psN := by
  refine con_of (own := "BeforeTheEnd") (isI := false) (l0 := [(0, .ref (mr ρ 1)), (1, .ref (mr ρ p1)), (2, .int p2), (3, .int p3)]) (by decide) rfl (fun z => by cases z) (Nat.le_of_ble_eq_true rfl) rfl (fun _ => ?_)
  show X ρ K_X0_pressWorth 0 [(0, .ref (mr ρ 1)), (1, .ref (mr ρ p1)), (2, .int p2), (3, .int p3)] [] h 0 0 (phL h post) psN
  refine x_lconst 0 dX0_pressWorth_0 (by decide) ?_
  refine x_lstore (lv' := [(4, .long 0), (0, .ref (mr ρ 1)), (1, .ref (mr ρ p1)), (2, .int p2), (3, .int p3)]) dX0_pressWorth_1 (Nat.le_of_ble_eq_true rfl) rfl ?_
  refine x_iload_n 3 dX0_pressWorth_3 rfl ?_
  refine x_istore (lv' := [(6, .int p2), (4, .long 0), (0, .ref (mr ρ 1)), (1, .ref (mr ρ p1)), (2, .int p2), (3, .int p3)]) dX0_pressWorth_4 (Nat.le_of_ble_eq_true rfl) rfl ?_
  refine X.sub [2, 4, 5, 1, 0] rfl ?_
  obtain ⟨fu, hw⟩ := hw
  exact t_X0_pressWorth_6 G  fu p2 p3 0 p2 h g Ext.rf hw

/-! BeforeTheEnd.findValues(LBeforeTheEnd$Player;)I -/
def w_X0_findValues_78 (post : Int32 → Hp → Prop) (K38 : Nat → Int32 → Int32 → Hp → Prop) (x1 : Nat) (x2 : Int32) (x3 : Int32) (x4 : Int32) (z0 : Int64) (h : Hp) : Prop := (((¬ x4 ≤ 0 → (vp_in x3 24))) ∧ (∀ z_4 : Int32, z_4 = ((if x4 ≤ 0 then 0 else (if z0 < (gl h 22 (Int32.toNatClampNeg x3)) then 0 else 1)) : Int32) → (∀ z_6 : Int32, z_6 = ((if z_4 = 0 then 0 else (1 <<< (x3 &&& 31))) : Int32) → (((z_4 = 0 → (vp_in x3 24))) ∧ (∀ z_9 : Int64, z_9 = ((if z_4 = 0 then (gl h 22 (Int32.toNatClampNeg x3)) else z0) : Int64) → (vp_in x3 24 ∧ ((x3 ≤ 0 → (K38 x1 (x2 ||| z_6) (x3 + (-1)) (sl h 22 (Int32.toNatClampNeg x3) z_9))) ∧ (¬ x3 ≤ 0 → (vp_in x3 24 ∧ (vp_in (gi (sl h 22 (Int32.toNatClampNeg x3) z_9) ((gr (sl h 22 (Int32.toNatClampNeg x3) z_9) 1 1) + 1) (Int32.toNatClampNeg x3)) 24 ∧ (vp_in x3 24 ∧ (vp_in (gi (sl h 22 (Int32.toNatClampNeg x3) z_9) ((gr (sl h 22 (Int32.toNatClampNeg x3) z_9) 1 1) + 1) (Int32.toNatClampNeg x3)) 24 ∧ (∀ h_16 : Hp, h_16 = (sl (sl h 22 (Int32.toNatClampNeg x3) z_9) 22 (Int32.toNatClampNeg (gi (sl h 22 (Int32.toNatClampNeg x3) z_9) ((gr (sl h 22 (Int32.toNatClampNeg x3) z_9) 1 1) + 1) (Int32.toNatClampNeg x3))) ((gl (sl h 22 (Int32.toNatClampNeg x3) z_9) 22 (Int32.toNatClampNeg (gi (sl h 22 (Int32.toNatClampNeg x3) z_9) ((gr (sl h 22 (Int32.toNatClampNeg x3) z_9) 1 1) + 1) (Int32.toNatClampNeg x3)))) + (gl (sl h 22 (Int32.toNatClampNeg x3) z_9) 22 (Int32.toNatClampNeg x3)))) → (K38 x1 (x2 ||| z_6) (x3 + (-1)) h_16))))))))))))))
def w_X0_findValues_59 (post : Int32 → Hp → Prop) (K38 : Nat → Int32 → Int32 → Hp → Prop) (x1 : Nat) (x2 : Int32) (x3 : Int32) (z0 : Int32) (h : Hp) : Prop := ((¬ z0 = 0 → (wp_X0_pressWorth (fun r_5 h_2 => GI h_2 → Ext h h_2 → (w_X0_findValues_78 post K38 x1 x2 x3 z0 r_5 h_2)) h x1 x3 z0)) ∧ (z0 = 0 → (w_X0_findValues_78 post K38 x1 x2 x3 z0 0 h)))
def w_X0_findValues_38 (post : Int32 → Hp → Prop) : Nat → Nat → Int32 → Int32 → Hp → Prop
  | 0 => fun _ _ _ _ => False
  | n + 1 => fun x1 x2 x3 h => ((x3 < 0 → (post x2 h)) ∧ (¬ x3 < 0 → ((¬ x3 = 0 → (wp_X0_guessOf (fun r_6 h_3 => GI h_3 → Ext h h_3 → (w_X0_findValues_59 post (w_X0_findValues_38 post n) x1 x2 x3 r_6 h_3)) h (gi h x1 2) x3)) ∧ (x3 = 0 → (w_X0_findValues_59 post (w_X0_findValues_38 post n) x1 x2 x3 0 h)))))
def w_X0_findValues_4 (post : Int32 → Hp → Prop) : Nat → Nat → Int32 → Int32 → Hp → Prop
  | 0 => fun _ _ _ _ => False
  | n + 1 => fun x1 x2 x3 h => (((gi h (gr h 1 1) 0) ≤ x3 → (∃ fu : Nat, w_X0_findValues_38 post fu x1 x2 ((gi h (gr h 1 1) 0) - 1) h)) ∧ (¬ (gi h (gr h 1 1) 0) ≤ x3 → (vp_in x3 24 ∧ (w_X0_findValues_4 post n x1 x2 (x3 + 1) (sl h 22 (Int32.toNatClampNeg x3) 0)))))
def wp_X0_findValues (post : Int32 → Hp → Prop) (h : Hp) (p1 : Nat) : Prop := (∃ fu : Nat, w_X0_findValues_4 post fu p1 0 0 h)
abbrev rm_X0_findValues : Room := ({ frames := 6, cells := 0, slots := 0, locals := 191 })
abbrev K_X0_findValues : Kx := ("BeforeTheEnd", cX0_findValues, 8, (Option.some Jvm.ClassFile.FieldType.int), rm_X0_findValues, [], false)
set_option maxHeartbeats 4000000 in
theorem t_X0_findValues_78 {ρ : Rho} {h0 : Hp} {post : Int32 → Hp → Prop} {K38 : Nat → Int32 → Int32 → Hp → Prop} (G : G0 ρ) (hK38 : ∀ (x1 : Nat) (x2 : Int32) (x3 : Int32) (h : Hp), GI h → Ext h0 h → isPl h x1 → K38 x1 x2 x3 h → X ρ K_X0_findValues 38 [(0, .ref (mr ρ 1)), (1, .ref (mr ρ x1)), (2, .int x2), (3, .int x3)] [] h 0 0 (phI h0 post) psN) :
    ∀ (x1 : Nat) (x2 : Int32) (x3 : Int32) (x4 : Int32) (z0 : Int64) (h : Hp), GI h → Ext h0 h → isPl h x1 → w_X0_findValues_78 post K38 x1 x2 x3 x4 z0 h → X ρ K_X0_findValues 78 [(0, .ref (mr ρ 1)), (1, .ref (mr ρ x1)), (2, .int x2), (3, .int x3), (4, .int x4)] [.long z0] h 0 0 (phI h0 post) psN := by
  intro x1 x2 x3 x4 z0 h g e fx1 hw
  refine x_lstore (lv' := [(5, .long z0), (0, .ref (mr ρ 1)), (1, .ref (mr ρ x1)), (2, .int x2), (3, .int x3), (4, .int x4)]) dX0_findValues_78 (Nat.le_of_ble_eq_true rfl) rfl ?_
  refine x_iload 5 dX0_findValues_80 rfl ?_
  obtain ⟨hO_26, hw⟩ := hw
  have kJ_25 : ∀ z_4 : Int32, z_4 = ((if x4 ≤ 0 then 0 else (if z0 < (gl h 22 (Int32.toNatClampNeg x3)) then 0 else 1)) : Int32) → X ρ K_X0_findValues 102 [(5, .long z0), (0, .ref (mr ρ 1)), (1, .ref (mr ρ x1)), (2, .int x2), (3, .int x3), (4, .int x4)] [.int z_4] h 0 0 (phI h0 post) psN := fun z_4 ez_4 => by
    have hw := hw z_4 ez_4
    refine x_istore (lv' := [(7, .int z_4), (5, .long z0), (0, .ref (mr ρ 1)), (1, .ref (mr ρ x1)), (2, .int x2), (3, .int x3), (4, .int x4)]) dX0_findValues_102 (Nat.le_of_ble_eq_true rfl) rfl ?_
    refine x_iload_n 4 dX0_findValues_104 rfl ?_
    refine x_iload 0 dX0_findValues_105 rfl ?_
    have kJ_24 : ∀ z_6 : Int32, z_6 = ((if z_4 = 0 then 0 else (1 <<< (x3 &&& 31))) : Int32) → X ρ K_X0_findValues 117 [(7, .int z_4), (5, .long z0), (0, .ref (mr ρ 1)), (1, .ref (mr ρ x1)), (2, .int x2), (3, .int x3), (4, .int x4)] [.int z_6, .int x2] h 0 0 (phI h0 post) psN := fun z_6 ez_6 => by
      have hw := hw z_6 ez_6
      refine x_ior dX0_findValues_117 ?_
      refine x_istore_n (lv' := [(2, .int (x2 ||| z_6)), (7, .int z_4), (5, .long z0), (0, .ref (mr ρ 1)), (1, .ref (mr ρ x1)), (3, .int x3), (4, .int x4)]) dX0_findValues_118 (Nat.le_of_ble_eq_true rfl) rfl ?_
      refine x_aload_n 3 dX0_findValues_119 rfl ?_
      refine x_get (ci := 0) (v := .ref (mr ρ 22)) 26 dX0_findValues_120 (GI.s g (t := (10, 0)) rfl (by decide)) rfl in_X0 (by decide) q215 (Or.inl rfl) (fv_rc rfl (GI.x g (n := 22) rfl (by decide)) (by decide)) ?_
      refine x_iload_n 5 dX0_findValues_123 rfl ?_
      refine x_iload 1 dX0_findValues_124 rfl ?_
      obtain ⟨hO_23, hw⟩ := hw
      have kJ_22 : ∀ z_9 : Int64, z_9 = ((if z_4 = 0 then (gl h 22 (Int32.toNatClampNeg x3)) else z0) : Int64) → X ρ K_X0_findValues 140 [(2, .int (x2 ||| z_6)), (7, .int z_4), (5, .long z0), (0, .ref (mr ρ 1)), (1, .ref (mr ρ x1)), (3, .int x3), (4, .int x4)] [.long z_9, .int x3, .ref (mr ρ 22)] h 0 0 (phI h0 post) psN := fun z_9 ez_9 => by
        have hw := hw z_9 ez_9
        obtain ⟨b_10, hw⟩ := hw
        refine x_last (n := 24) (j := (Int32.toNatClampNeg x3)) dX0_findValues_140 rfl (GI.s g (t := (2, 24)) rfl (by decide)) b_10 ?_
        refine x_iload_n 5 dX0_findValues_141 rfl ?_
        obtain ⟨wt_20, wf_21⟩ := hw
        refine x_if_le 168 dX0_findValues_142 (by decide) (fun c_11 => ?_) (fun c_11 => ?_)
        · have hw := wt_20 c_11
          refine x_iinc (v := (x3 + (-1))) (lv' := [(3, .int (x3 + (-1))), (2, .int (x2 ||| z_6)), (7, .int z_4), (5, .long z0), (0, .ref (mr ρ 1)), (1, .ref (mr ρ x1)), (4, .int x4)]) 5 dX0_findValues_168 rfl (by rfl) (Nat.le_of_ble_eq_true rfl) rfl ?_
          refine x_goto 38 dX0_findValues_171 (by decide) ?_
          refine X.sub [4, 5, 1, 0] rfl ?_
          exact hK38 x1 (x2 ||| z_6) (x3 + (-1)) (sl h 22 (Int32.toNatClampNeg x3) z_9) (GI.l g) (Ext.l e) fx1 hw
        · have hw := wf_21 c_11
          refine x_aload_n 3 dX0_findValues_145 rfl ?_
          refine x_get (ci := 0) (v := .ref (mr ρ 22)) 26 dX0_findValues_146 (GI.s (GI.l g) (t := (10, 0)) rfl (by decide)) rfl in_X0 (by decide) q215 (Or.inl rfl) (fv_rc rfl (GI.x (GI.l g) (n := 22) rfl (by decide)) (by decide)) ?_
          refine x_aload_n 3 dX0_findValues_149 rfl ?_
          refine x_get (ci := 0) (v := .ref (mr ρ (gr (sl h 22 (Int32.toNatClampNeg x3) z_9) 1 1))) 1 dX0_findValues_150 (GI.s (GI.l g) (t := (10, 0)) rfl (by decide)) rfl in_X0 (by decide) q188 (Or.inl rfl) (fv_rc rfl rfl (isTree.nz (GI.t (GI.l g)) (Live.l (GI.live g)))) ?_
          refine x_getN (ci := 1) (v := .ref (mr ρ ((gr (sl h 22 (Int32.toNatClampNeg x3) z_9) 1 1) + 1))) 1 dX0_findValues_153 (isTree.s (GI.t (GI.l g))) rfl in_X1 (by decide) q149 (Or.inl rfl) (fv_rc rfl (isTree.p (GI.t (GI.l g)) 1 (by decide) (by decide)) (Nat.succ_ne_zero _)) ?_
          refine x_iload_n 5 dX0_findValues_156 rfl ?_
          obtain ⟨b_12, hw⟩ := hw
          refine x_iald (n := 24) (j := (Int32.toNatClampNeg x3)) dX0_findValues_157 rfl (isTree.a (GI.t (GI.l g)) 1 (by decide) (by decide)) b_12 ?_
          refine x_dup2 dX0_findValues_158 rfl rfl ?_
          obtain ⟨b_13, hw⟩ := hw
          refine x_lald (n := 24) (j := (Int32.toNatClampNeg (gi (sl h 22 (Int32.toNatClampNeg x3) z_9) ((gr (sl h 22 (Int32.toNatClampNeg x3) z_9) 1 1) + 1) (Int32.toNatClampNeg x3)))) dX0_findValues_159 rfl (GI.s (GI.l g) (t := (2, 24)) rfl (by decide)) b_13 ?_
          refine x_aload_n 3 dX0_findValues_160 rfl ?_
          refine x_get (ci := 0) (v := .ref (mr ρ 22)) 26 dX0_findValues_161 (GI.s (GI.l g) (t := (10, 0)) rfl (by decide)) rfl in_X0 (by decide) q215 (Or.inl rfl) (fv_rc rfl (GI.x (GI.l g) (n := 22) rfl (by decide)) (by decide)) ?_
          refine x_iload_n 5 dX0_findValues_164 rfl ?_
          obtain ⟨b_14, hw⟩ := hw
          refine x_lald (n := 24) (j := (Int32.toNatClampNeg x3)) dX0_findValues_165 rfl (GI.s (GI.l g) (t := (2, 24)) rfl (by decide)) b_14 ?_
          refine x_ladd dX0_findValues_166 ?_
          obtain ⟨b_15, hw⟩ := hw
          refine x_last (n := 24) (j := (Int32.toNatClampNeg (gi (sl h 22 (Int32.toNatClampNeg x3) z_9) ((gr (sl h 22 (Int32.toNatClampNeg x3) z_9) 1 1) + 1) (Int32.toNatClampNeg x3)))) dX0_findValues_167 rfl (GI.s (GI.l g) (t := (2, 24)) rfl (by decide)) b_15 ?_
          refine x_nmh (fun h_16 eh_16 => ?_)
          have hw := hw h_16 eh_16
          have g_17 : GI h_16 := eh_16 ▸ (GI.l (GI.l g))
          have e_18 : Ext h0 h_16 := eh_16 ▸ (Ext.l (Ext.l e))
          have f_19 : isPl h_16 x1 := eh_16 ▸ fx1
          refine x_iinc (v := (x3 + (-1))) (lv' := [(3, .int (x3 + (-1))), (2, .int (x2 ||| z_6)), (7, .int z_4), (5, .long z0), (0, .ref (mr ρ 1)), (1, .ref (mr ρ x1)), (4, .int x4)]) 5 dX0_findValues_168 rfl (by rfl) (Nat.le_of_ble_eq_true rfl) rfl ?_
          refine x_goto 38 dX0_findValues_171 (by decide) ?_
          refine X.sub [4, 5, 1, 0] rfl ?_
          exact hK38 x1 (x2 ||| z_6) (x3 + (-1)) h_16 g_17 e_18 f_19 hw
      have hO_230 := hO_23
      refine x_if_eq 134 dX0_findValues_126 (by decide) (fun c_7 => ?_) (fun c_7 => ?_)
      · have hO_23_ := hO_230 c_7
        have b_8 := hO_23_
        refine x_aload_n 3 dX0_findValues_134 rfl ?_
        refine x_get (ci := 0) (v := .ref (mr ρ 22)) 26 dX0_findValues_135 (GI.s g (t := (10, 0)) rfl (by decide)) rfl in_X0 (by decide) q215 (Or.inl rfl) (fv_rc rfl (GI.x g (n := 22) rfl (by decide)) (by decide)) ?_
        refine x_iload_n 5 dX0_findValues_138 rfl ?_
        refine x_lald (n := 24) (j := (Int32.toNatClampNeg x3)) dX0_findValues_139 rfl (GI.s g (t := (2, 24)) rfl (by decide)) b_8 ?_
        exact kJ_22 _ ((if_pos c_7)).symm
      · refine x_lload 2 dX0_findValues_129 rfl ?_
        refine x_goto 140 dX0_findValues_131 (by decide) ?_
        exact kJ_22 _ ((if_neg c_7)).symm
    refine x_if_eq 116 dX0_findValues_107 (by decide) (fun c_5 => ?_) (fun c_5 => ?_)
    · refine x_iconst 0 dX0_findValues_116 (by decide) ?_
      exact kJ_24 _ ((if_pos c_5)).symm
    · refine x_iconst 1 dX0_findValues_110 (by decide) ?_
      refine x_iload_n 5 dX0_findValues_111 rfl ?_
      refine x_ishl dX0_findValues_112 ?_
      refine x_goto 117 dX0_findValues_113 (by decide) ?_
      exact kJ_24 _ ((if_neg c_5)).symm
  have hO_260 := hO_26
  refine x_if_le 101 dX0_findValues_82 (by decide) (fun c_1 => ?_) (fun c_1 => ?_)
  · refine x_iconst 0 dX0_findValues_101 (by decide) ?_
    exact kJ_25 _ ((if_pos c_1)).symm
  · have hO_26_ := hO_260 c_1
    have b_2 := hO_26_
    refine x_lload 0 dX0_findValues_85 rfl ?_
    refine x_aload_n 1 dX0_findValues_87 rfl ?_
    refine x_get (ci := 0) (v := .ref (mr ρ 22)) 26 dX0_findValues_88 (GI.s g (t := (10, 0)) rfl (by decide)) rfl in_X0 (by decide) q215 (Or.inl rfl) (fv_rc rfl (GI.x g (n := 22) rfl (by decide)) (by decide)) ?_
    refine x_iload_n 4 dX0_findValues_91 rfl ?_
    refine x_lald (n := 24) (j := (Int32.toNatClampNeg x3)) dX0_findValues_92 rfl (GI.s g (t := (2, 24)) rfl (by decide)) b_2 ?_
    refine x_lif_lt 101 dX0_findValues_93 dX0_findValues_94 (by decide) (fun c_3 => ?_) (fun c_3 => ?_)
    · refine x_iconst 0 dX0_findValues_101 (by decide) ?_
      exact kJ_25 _ (((if_neg c_1).trans (if_pos c_3))).symm
    · refine x_iconst 1 dX0_findValues_97 (by decide) ?_
      refine x_goto 102 dX0_findValues_98 (by decide) ?_
      exact kJ_25 _ (((if_neg c_1).trans (if_neg c_3))).symm
set_option maxHeartbeats 4000000 in
theorem t_X0_findValues_59 {ρ : Rho} {h0 : Hp} {post : Int32 → Hp → Prop} {K38 : Nat → Int32 → Int32 → Hp → Prop} (G : G0 ρ) (hK38 : ∀ (x1 : Nat) (x2 : Int32) (x3 : Int32) (h : Hp), GI h → Ext h0 h → isPl h x1 → K38 x1 x2 x3 h → X ρ K_X0_findValues 38 [(0, .ref (mr ρ 1)), (1, .ref (mr ρ x1)), (2, .int x2), (3, .int x3)] [] h 0 0 (phI h0 post) psN) :
    ∀ (x1 : Nat) (x2 : Int32) (x3 : Int32) (z0 : Int32) (h : Hp), GI h → Ext h0 h → isPl h x1 → w_X0_findValues_59 post K38 x1 x2 x3 z0 h → X ρ K_X0_findValues 59 [(0, .ref (mr ρ 1)), (1, .ref (mr ρ x1)), (2, .int x2), (3, .int x3)] [.int z0] h 0 0 (phI h0 post) psN := by
  intro x1 x2 x3 z0 h g e fx1 hw
  refine x_istore (lv' := [(4, .int z0), (0, .ref (mr ρ 1)), (1, .ref (mr ρ x1)), (2, .int x2), (3, .int x3)]) dX0_findValues_59 (Nat.le_of_ble_eq_true rfl) rfl ?_
  refine x_iload 0 dX0_findValues_61 rfl ?_
  obtain ⟨wt_7, wf_8⟩ := hw
  refine x_if_ne 70 dX0_findValues_63 (by decide) (fun c_1 => ?_) (fun c_1 => ?_)
  · have hw := wt_7 c_1
    refine x_aload_n 1 dX0_findValues_70 rfl ?_
    refine x_aload_n 2 dX0_findValues_71 rfl ?_
    refine x_iload_n 4 dX0_findValues_72 rfl ?_
    refine x_iload 0 dX0_findValues_73 rfl ?_
    refine x_callV (ci := 0) [.ref (mr ρ x1), .int x3, .int z0] 3 dX0_findValues_75 (k_X0_pressWorth G g fx1 hw) (GI.s g (t := (10, 0)) rfl (by decide)) rfl q866 q868 qs27 q104 q869 (by decide) rfl rfl ⟨(Nat.le_of_ble_eq_true rfl), (Nat.le_of_ble_eq_true rfl)⟩ (Nat.le_of_ble_eq_true rfl) ⟨(Nat.le_of_ble_eq_true rfl), (Nat.le_of_ble_eq_true rfl)⟩ (fun v9 h_2 hv9 => ?_) (fun _ _ _ _ _ z _ _ => False.elim z)
    obtain ⟨r_5, rfl, g_3, e_4, hw⟩ := hv9
    have hw := hw g_3 e_4
    show X ρ K_X0_findValues 78 [(4, .int z0), (0, .ref (mr ρ 1)), (1, .ref (mr ρ x1)), (2, .int x2), (3, .int x3)] [.long r_5] h_2 0 0 (phI h0 post) psN
    refine X.sub [1, 2, 3, 4, 0] rfl ?_
    exact t_X0_findValues_78 G hK38 x1 x2 x3 z0 r_5 h_2 g_3 (Ext.tr e e_4) (isPl.ext fx1 e_4) hw
  · have hw := wf_8 c_1
    refine x_lconst 0 dX0_findValues_66 (by decide) ?_
    refine x_goto 78 dX0_findValues_67 (by decide) ?_
    refine X.sub [1, 2, 3, 4, 0] rfl ?_
    exact t_X0_findValues_78 G hK38 x1 x2 x3 z0 0 h g e fx1 hw
set_option maxHeartbeats 4000000 in
theorem t_X0_findValues_38 {ρ : Rho} {h0 : Hp} {post : Int32 → Hp → Prop} (G : G0 ρ) :
    ∀ (n : Nat), ∀ (x1 : Nat) (x2 : Int32) (x3 : Int32) (h : Hp), GI h → Ext h0 h → isPl h x1 → w_X0_findValues_38 post n x1 x2 x3 h → X ρ K_X0_findValues 38 [(0, .ref (mr ρ 1)), (1, .ref (mr ρ x1)), (2, .int x2), (3, .int x3)] [] h 0 0 (phI h0 post) psN := by
  intro n
  induction n with
  | zero => intro x1 x2 x3 h g e fx1 hw; exact False.elim hw
  | succ n ih =>
    intro x1 x2 x3 h g e fx1 hw
    refine x_iload_n 3 dX0_findValues_38 rfl ?_
    obtain ⟨wt_10, wf_11⟩ := hw
    refine x_if_lt 174 dX0_findValues_39 (by decide) (fun c_1 => ?_) (fun c_1 => ?_)
    · have hw := wt_10 c_1
      refine x_iload_n 2 dX0_findValues_174 rfl ?_
      exact x_iret dX0_findValues_175 rfl (Nat.le_of_ble_eq_true rfl) (Nat.le_of_ble_eq_true rfl) ⟨_, rfl, g, e, hw⟩
    · have hw := wf_11 c_1
      refine x_iload_n 3 dX0_findValues_42 rfl ?_
      obtain ⟨wt_8, wf_9⟩ := hw
      refine x_if_ne 50 dX0_findValues_43 (by decide) (fun c_2 => ?_) (fun c_2 => ?_)
      · have hw := wt_8 c_2
        refine x_aload_n 0 dX0_findValues_50 rfl ?_
        refine x_aload_n 1 dX0_findValues_51 rfl ?_
        refine x_getP 2 (by decide) dX0_findValues_52 fx1 q622 ?_
        refine x_iload_n 3 dX0_findValues_55 rfl ?_
        refine x_callV (ci := 0) [.int (gi h x1 2), .int x3] 2 dX0_findValues_56 (k_X0_guessOf G g hw) (GI.s g (t := (10, 0)) rfl (by decide)) rfl q805 q807 qs19 q104 q808 (by decide) rfl rfl ⟨(Nat.le_of_ble_eq_true rfl), (Nat.le_of_ble_eq_true rfl)⟩ (Nat.le_of_ble_eq_true rfl) ⟨(Nat.le_of_ble_eq_true rfl), (Nat.le_of_ble_eq_true rfl)⟩ (fun v9 h_3 hv9 => ?_) (fun _ _ _ _ _ z _ _ => False.elim z)
        obtain ⟨r_6, rfl, g_4, e_5, hw⟩ := hv9
        have hw := hw g_4 e_5
        show X ρ K_X0_findValues 59 [(0, .ref (mr ρ 1)), (1, .ref (mr ρ x1)), (2, .int x2), (3, .int x3)] [.int r_6] h_3 0 0 (phI h0 post) psN
        exact t_X0_findValues_59 G ih x1 x2 x3 r_6 h_3 g_4 (Ext.tr e e_5) (isPl.ext fx1 e_5) hw
      · have hw := wf_9 c_2
        refine x_iconst 0 dX0_findValues_46 (by decide) ?_
        refine x_goto 59 dX0_findValues_47 (by decide) ?_
        exact t_X0_findValues_59 G ih x1 x2 x3 0 h g e fx1 hw
set_option maxHeartbeats 4000000 in
theorem t_X0_findValues_4 {ρ : Rho} {h0 : Hp} {post : Int32 → Hp → Prop} (G : G0 ρ) :
    ∀ (n : Nat), ∀ (x1 : Nat) (x2 : Int32) (x3 : Int32) (h : Hp), GI h → Ext h0 h → isPl h x1 → w_X0_findValues_4 post n x1 x2 x3 h → X ρ K_X0_findValues 4 [(0, .ref (mr ρ 1)), (1, .ref (mr ρ x1)), (2, .int x2), (3, .int x3)] [] h 0 0 (phI h0 post) psN := by
  intro n
  induction n with
  | zero => intro x1 x2 x3 h g e fx1 hw; exact False.elim hw
  | succ n ih =>
    intro x1 x2 x3 h g e fx1 hw
    refine x_iload_n 3 dX0_findValues_4 rfl ?_
    refine x_aload_n 0 dX0_findValues_5 rfl ?_
    refine x_get (ci := 0) (v := .ref (mr ρ (gr h 1 1))) 1 dX0_findValues_6 (GI.s g (t := (10, 0)) rfl (by decide)) rfl in_X0 (by decide) q188 (Or.inl rfl) (fv_rc rfl rfl (isTree.nz (GI.t g) (GI.live g))) ?_
    refine x_getN (ci := 1) (v := .int (gi h (gr h 1 1) 0)) 0 dX0_findValues_9 (isTree.s (GI.t g)) rfl in_X1 (by decide) q147 (Or.inl rfl) (fv_i rfl) ?_
    obtain ⟨wt_3, wf_4⟩ := hw
    refine x_icmp_ge 28 dX0_findValues_12 (by decide) (fun c_1 => ?_) (fun c_1 => ?_)
    · have hw := wt_3 c_1
      refine x_aload_n 0 dX0_findValues_28 rfl ?_
      refine x_get (ci := 0) (v := .ref (mr ρ (gr h 1 1))) 1 dX0_findValues_29 (GI.s g (t := (10, 0)) rfl (by decide)) rfl in_X0 (by decide) q188 (Or.inl rfl) (fv_rc rfl rfl (isTree.nz (GI.t g) (GI.live g))) ?_
      refine x_getN (ci := 1) (v := .int (gi h (gr h 1 1) 0)) 0 dX0_findValues_32 (isTree.s (GI.t g)) rfl in_X1 (by decide) q147 (Or.inl rfl) (fv_i rfl) ?_
      refine x_iconst 1 dX0_findValues_35 (by decide) ?_
      refine x_isub dX0_findValues_36 ?_
      refine x_istore_n (lv' := [(3, .int ((gi h (gr h 1 1) 0) - 1)), (0, .ref (mr ρ 1)), (1, .ref (mr ρ x1)), (2, .int x2)]) dX0_findValues_37 (Nat.le_of_ble_eq_true rfl) rfl ?_
      refine X.sub [1, 2, 3, 0] rfl ?_
      obtain ⟨fu, hw⟩ := hw
      exact t_X0_findValues_38 G  fu x1 x2 ((gi h (gr h 1 1) 0) - 1) h g e fx1 hw
    · have hw := wf_4 c_1
      refine x_aload_n 0 dX0_findValues_15 rfl ?_
      refine x_get (ci := 0) (v := .ref (mr ρ 22)) 26 dX0_findValues_16 (GI.s g (t := (10, 0)) rfl (by decide)) rfl in_X0 (by decide) q215 (Or.inl rfl) (fv_rc rfl (GI.x g (n := 22) rfl (by decide)) (by decide)) ?_
      refine x_iload_n 3 dX0_findValues_19 rfl ?_
      refine x_lconst 0 dX0_findValues_20 (by decide) ?_
      obtain ⟨b_2, hw⟩ := hw
      refine x_last (n := 24) (j := (Int32.toNatClampNeg x3)) dX0_findValues_21 rfl (GI.s g (t := (2, 24)) rfl (by decide)) b_2 ?_
      refine x_iinc (v := (x3 + 1)) (lv' := [(3, .int (x3 + 1)), (0, .ref (mr ρ 1)), (1, .ref (mr ρ x1)), (2, .int x2)]) 3 dX0_findValues_22 rfl (by rfl) (Nat.le_of_ble_eq_true rfl) rfl ?_
      refine x_goto 4 dX0_findValues_25 (by decide) ?_
      refine X.sub [1, 2, 3, 0] rfl ?_
      exact ih x1 x2 (x3 + 1) (sl h 22 (Int32.toNatClampNeg x3) 0) (GI.l g) (Ext.l e) fx1 hw
set_option maxHeartbeats 4000000 in
theorem k_X0_findValues {ρ : Rho} {h : Hp} {post : Int32 → Hp → Prop} {p1 : Nat} (G : G0 ρ) (g : GI h) (fp1 : isPl h p1) (hw : wp_X0_findValues post h p1) : Con ρ yX0_findValues (ws_ yX0_findValues cX0_findValues 8 (Option.some Jvm.ClassFile.FieldType.int)) rm_X0_findValues [.ref (mr ρ 1), .ref (mr ρ p1)] h (phI h post) psN := by
  refine con_of (own := "BeforeTheEnd") (isI := false) (l0 := [(0, .ref (mr ρ 1)), (1, .ref (mr ρ p1))]) (by decide) rfl (fun z => by cases z) (Nat.le_of_ble_eq_true rfl) rfl (fun _ => ?_)
  show X ρ K_X0_findValues 0 [(0, .ref (mr ρ 1)), (1, .ref (mr ρ p1))] [] h 0 0 (phI h post) psN
  refine x_iconst 0 dX0_findValues_0 (by decide) ?_
  refine x_istore_n (lv' := [(2, .int 0), (0, .ref (mr ρ 1)), (1, .ref (mr ρ p1))]) dX0_findValues_1 (Nat.le_of_ble_eq_true rfl) rfl ?_
  refine x_iconst 0 dX0_findValues_2 (by decide) ?_
  refine x_istore_n (lv' := [(3, .int 0), (2, .int 0), (0, .ref (mr ρ 1)), (1, .ref (mr ρ p1))]) dX0_findValues_3 (Nat.le_of_ble_eq_true rfl) rfl ?_
  refine X.sub [2, 3, 1, 0] rfl ?_
  obtain ⟨fu, hw⟩ := hw
  exact t_X0_findValues_4 G  fu p1 0 0 h g Ext.rf fp1 hw

/-! BeforeTheEnd$Alone.words(LBeforeTheEnd;)I on an object of class 13 -/
def w_X16_words_c13_24 (post : Int32 → Hp → Prop) (x0 : Nat) (z0 : Int32) (z1 : Nat) (h : Hp) : Prop := (post (gi (si (si h z1 4 z0) x0 5 (gi (si h z1 4 z0) 1 0)) x0 4) (si (si h z1 4 z0) x0 5 (gi (si h z1 4 z0) 1 0)))
def wp_X16_words_c13 (post : Int32 → Hp → Prop) (h : Hp) (r0 : Nat) : Prop := ((¬ (gi h r0 5) = (gi h 1 0) → (wp_X0_findValues (fun r_5 h_2 => GI h_2 → Ext h h_2 → (w_X16_words_c13_24 post r0 r_5 r0 h_2)) h r0)) ∧ ((gi h r0 5) = (gi h 1 0) → (w_X16_words_c13_24 post r0 (gi h r0 4) r0 h)))
abbrev rm_X16_words_c13 : Room := ({ frames := 7, cells := 0, slots := 0, locals := 218 })
abbrev K_X16_words_c13 : Kx := ("BeforeTheEnd$Alone", cX16_words, 2, (Option.some Jvm.ClassFile.FieldType.int), rm_X16_words_c13, [], false)
set_option maxHeartbeats 4000000 in
theorem t_X16_words_c13_24 {ρ : Rho} {h0 : Hp} {post : Int32 → Hp → Prop} (G : G0 ρ) :
    ∀ (x0 : Nat) (z0 : Int32) (z1 : Nat) (h : Hp), GI h → Ext h0 h → sh h x0 = (23, 0) → sh h z1 = (23, 0) → w_X16_words_c13_24 post x0 z0 z1 h → X ρ K_X16_words_c13 24 [(0, .ref (mr ρ x0)), (1, .ref (mr ρ 1))] [.int z0, .ref (mr ρ z1)] h 0 0 (phI h0 post) psN := by
  intro x0 z0 z1 h g e fx0 fz1 hw
  refine x_put (ci := 13) 4 dX16_words_24 fz1 rfl in_X16 tyX16 tyX16_ok nmX16 (by decide) q680 (Or.inl rfl) rfl rfl rfl (isPut_i rfl) ?_
  refine x_aload_n 0 dX16_words_27 rfl ?_
  refine x_aload_n 1 dX16_words_28 rfl ?_
  refine x_getN (ci := 0) (v := .int (gi (si h z1 4 z0) 1 0)) 0 dX16_words_29 (GI.s (GI.i g) (t := (10, 0)) rfl (by decide)) rfl in_X0 (by decide) q184 (Or.inl rfl) (fv_i rfl) ?_
  refine x_put (ci := 13) 5 dX16_words_32 fx0 rfl in_X16 tyX16 tyX16_ok nmX16 (by decide) q681 (Or.inl rfl) rfl rfl rfl (isPut_i rfl) ?_
  refine x_aload_n 0 dX16_words_35 rfl ?_
  refine x_get (ci := 13) (v := .int (gi (si (si h z1 4 z0) x0 5 (gi (si h z1 4 z0) 1 0)) x0 4)) 4 dX16_words_36 fx0 rfl in_X16 (by decide) q680 (Or.inl rfl) (fv_i rfl) ?_
  exact x_iret dX16_words_39 rfl (Nat.le_of_ble_eq_true rfl) (Nat.le_of_ble_eq_true rfl) ⟨_, rfl, (GI.i (GI.i g)), (Ext.i (Ext.i e)), hw⟩
set_option maxHeartbeats 4000000 in
theorem k_X16_words_c13 {ρ : Rho} {h : Hp} {post : Int32 → Hp → Prop} {r0 : Nat} (G : G0 ρ) (g : GI h) (fr0 : sh h r0 = (23, 0)) (hw : wp_X16_words_c13 post h r0) : Con ρ yX16_words (ws_ yX16_words cX16_words 2 (Option.some Jvm.ClassFile.FieldType.int)) rm_X16_words_c13 [.ref (mr ρ r0), .ref (mr ρ 1)] h (phI h post) psN := by
  refine con_of (own := "BeforeTheEnd$Alone") (isI := false) (l0 := [(0, .ref (mr ρ r0)), (1, .ref (mr ρ 1))]) (by decide) rfl (fun z => by cases z) (Nat.le_of_ble_eq_true rfl) rfl (fun _ => ?_)
  show X ρ K_X16_words_c13 0 [(0, .ref (mr ρ r0)), (1, .ref (mr ρ 1))] [] h 0 0 (phI h post) psN
  refine x_aload_n 0 dX16_words_0 rfl ?_
  refine x_aload_n 0 dX16_words_1 rfl ?_
  refine x_get (ci := 13) (v := .int (gi h r0 5)) 5 dX16_words_2 fr0 rfl in_X16 (by decide) q681 (Or.inl rfl) (fv_i rfl) ?_
  refine x_aload_n 1 dX16_words_5 rfl ?_
  refine x_getN (ci := 0) (v := .int (gi h 1 0)) 0 dX16_words_6 (GI.s g (t := (10, 0)) rfl (by decide)) rfl in_X0 (by decide) q184 (Or.inl rfl) (fv_i rfl) ?_
  obtain ⟨wt_7, wf_8⟩ := hw
  refine x_icmp_ne 19 dX16_words_9 (by decide) (fun c_1 => ?_) (fun c_1 => ?_)
  · have hw := wt_7 c_1
    refine x_aload_n 1 dX16_words_19 rfl ?_
    refine x_aload_n 0 dX16_words_20 rfl ?_
    refine x_callN (ci := 0) [.ref (mr ρ r0)] 1 dX16_words_21 (k_X0_findValues G g (Or.inr (Or.inr (Or.inr (Or.inr (Or.inr fr0))))) hw) (GI.s g (t := (10, 0)) rfl (by decide)) rfl q862 q864 qs26 q104 q865 (by decide) rfl rfl ⟨(Nat.le_of_ble_eq_true rfl), (Nat.le_of_ble_eq_true rfl)⟩ (Nat.le_of_ble_eq_true rfl) ⟨(Nat.le_of_ble_eq_true rfl), (Nat.le_of_ble_eq_true rfl)⟩ (fun v9 h_2 hv9 => ?_) (fun _ _ _ _ _ z _ _ => False.elim z)
    obtain ⟨r_5, rfl, g_3, e_4, hw⟩ := hv9
    have hw := hw g_3 e_4
    show X ρ K_X16_words_c13 24 [(0, .ref (mr ρ r0)), (1, .ref (mr ρ 1))] [.int r_5, .ref (mr ρ r0)] h_2 0 0 (phI h post) psN
    exact t_X16_words_c13_24 G  r0 r_5 r0 h_2 g_3 e_4 (Ext.s e_4 fr0 (by decide)) (Ext.s e_4 fr0 (by decide)) hw
  · have hw := wf_8 c_1
    refine x_aload_n 0 dX16_words_12 rfl ?_
    refine x_get (ci := 13) (v := .int (gi h r0 4)) 4 dX16_words_13 fr0 rfl in_X16 (by decide) q680 (Or.inl rfl) (fv_i rfl) ?_
    refine x_goto 24 dX16_words_16 (by decide) ?_
    exact t_X16_words_c13_24 G  r0 (gi h r0 4) r0 h g Ext.rf fr0 fr0 hw

/-! BeforeTheEnd$ToldPlayer.wants(LBeforeTheEnd;IIZ)Z on an object of class 13 -/
def wp_X15_wants_c13 (post : Int32 → Hp → Prop) (h : Hp) (r0 : Nat) (p2 : Int32) (p3 : Int32) (p4 : Int32) : Prop := (wp_X16_words_c13 (fun r_4 h_1 => GI h_1 → Ext h h_1 → (∀ z_7 : Int32, z_7 = ((if ((r_4 >>> (p2 &&& 31)) &&& 1) = 1 then 1 else 0) : Int32) → (post z_7 h_1))) h r0)
abbrev rm_X15_wants_c13 : Room := ({ frames := 8, cells := 0, slots := 0, locals := 239 })
abbrev K_X15_wants_c13 : Kx := ("BeforeTheEnd$ToldPlayer", cX15_wants, 5, (Option.some Jvm.ClassFile.FieldType.boolean), rm_X15_wants_c13, [], false)
set_option maxHeartbeats 4000000 in
theorem k_X15_wants_c13 {ρ : Rho} {h : Hp} {post : Int32 → Hp → Prop} {r0 : Nat} {p2 : Int32} {p3 : Int32} {p4 : Int32} (G : G0 ρ) (g : GI h) (fr0 : sh h r0 = (23, 0)) (hw : wp_X15_wants_c13 post h r0 p2 p3 p4) : Con ρ yX15_wants (ws_ yX15_wants cX15_wants 5 (Option.some Jvm.ClassFile.FieldType.boolean)) rm_X15_wants_c13 [.ref (mr ρ r0), .ref (mr ρ 1), .int p2, .int p3, .int p4] h (phB h post) psN := by
  refine con_of (own := "BeforeTheEnd$ToldPlayer") (isI := false) (l0 := [(0, .ref (mr ρ r0)), (1, .ref (mr ρ 1)), (2, .int p2), (3, .int p3), (4, .int p4)]) (by decide) rfl (fun z => by cases z) (Nat.le_of_ble_eq_true rfl) rfl (fun _ => ?_)
  show X ρ K_X15_wants_c13 0 [(0, .ref (mr ρ r0)), (1, .ref (mr ρ 1)), (2, .int p2), (3, .int p3), (4, .int p4)] [] h 0 0 (phB h post) psN
  refine x_aload_n 0 dX15_wants_0 rfl ?_
  refine x_aload_n 1 dX15_wants_1 rfl ?_
  refine x_callO (ci := 13) (x0 := ⟨"BeforeTheEnd$ToldPlayer", "words", "(LBeforeTheEnd;)I"⟩) (owner := "BeforeTheEnd$ToldPlayer") [.ref (mr ρ 1)] 1 dX15_wants_2 (k_X16_words_c13 G g fr0 hw) fr0 rfl (lw_O q855 q858 q856 q859 q860 q129 q861) q876 (by decide) rfl rfl ⟨(Nat.le_of_ble_eq_true rfl), (Nat.le_of_ble_eq_true rfl)⟩ (Nat.le_of_ble_eq_true rfl) ⟨(Nat.le_of_ble_eq_true rfl), (Nat.le_of_ble_eq_true rfl)⟩ (fun v9 h_1 hv9 => ?_) (fun _ _ _ _ _ z _ _ => False.elim z)
  obtain ⟨r_4, rfl, g_2, e_3, hw⟩ := hv9
  have hw := hw g_2 e_3
  show X ρ K_X15_wants_c13 5 [(0, .ref (mr ρ r0)), (1, .ref (mr ρ 1)), (2, .int p2), (3, .int p3), (4, .int p4)] [.int r_4] h_1 0 0 (phB h post) psN
  refine x_iload_n 2 dX15_wants_5 rfl ?_
  refine x_ishr dX15_wants_6 ?_
  refine x_iconst 1 dX15_wants_7 (by decide) ?_
  refine x_iand dX15_wants_8 ?_
  refine x_iconst 1 dX15_wants_9 (by decide) ?_
  have kJ_8 : ∀ z_7 : Int32, z_7 = ((if ((r_4 >>> (p2 &&& 31)) &&& 1) = 1 then 1 else 0) : Int32) → X ρ K_X15_wants_c13 18 [(0, .ref (mr ρ r0)), (1, .ref (mr ρ 1)), (2, .int p2), (3, .int p3), (4, .int p4)] [.int z_7] h_1 0 0 (phB h post) psN := fun z_7 ez_7 => by
    have hw := hw z_7 ez_7
    exact x_zret dX15_wants_18 rfl (isB.n (Eq.mpr (congrArg isB ez_7) (isB_ite isB_1 isB_0))) (Nat.le_of_ble_eq_true rfl) (Nat.le_of_ble_eq_true rfl) ⟨_, rfl, g_2, e_3, (Eq.mpr (congrArg isB ez_7) (isB_ite isB_1 isB_0)), hw⟩
  refine x_icmp_ne 17 dX15_wants_10 (by decide) (fun c_6 => ?_) (fun c_6 => ?_)
  · refine x_iconst 0 dX15_wants_17 (by decide) ?_
    exact kJ_8 _ ((if_neg c_6)).symm
  · refine x_iconst 1 dX15_wants_13 (by decide) ?_
    refine x_goto 18 dX15_wants_14 (by decide) ?_
    exact kJ_8 _ ((if_pos c_6)).symm

/-! BeforeTheEnd$Player.wants by the class of the object -/
def wv_X10_wants_isPl (post : Int32 → Hp → Prop) (h : Hp) (r0 : Nat) (p2 : Int32) (p3 : Int32) (p4 : Int32) : Prop := (sh h r0 = (18, 0) → wp_X11_wants_c8 post h r0 p2 p3 p4) ∧ (sh h r0 = (19, 0) → wp_X12_wants_c9 post h r0 p2 p3 p4) ∧ (sh h r0 = (20, 0) → wp_X12_wants_c10 post h r0 p2 p3 p4) ∧ (sh h r0 = (21, 0) → wp_X12_wants_c11 post h r0 p2 p3 p4) ∧ (sh h r0 = (22, 0) → wp_X15_wants_c12 post h r0 p2 p3 p4) ∧ (sh h r0 = (23, 0) → wp_X15_wants_c13 post h r0 p2 p3 p4)

/-! BeforeTheEnd.doesPress(LBeforeTheEnd$Player;IZ)Z -/
def w_X0_doesPress_33 (post : Int32 → Hp → Prop) (z0 : Int32) (h : Hp) : Prop := (∀ z_2 : Int32, z_2 = ((if z0 = 0 then 0 else 1) : Int32) → (post z_2 h))
def w_X0_doesPress_17 (post : Int32 → Hp → Prop) (x1 : Nat) (x2 : Int32) (x3 : Int32) (z0 : Int32) (h : Hp) : Prop := ((z0 ≤ 0 → (post 0 h)) ∧ (¬ z0 ≤ 0 → (wv_X10_wants_isPl (fun r_5 h_2 => GI h_2 → Ext h h_2 → (w_X0_doesPress_33 post r_5 h_2)) h x1 x2 z0 x3)))
def wp_X0_doesPress (post : Int32 → Hp → Prop) (h : Hp) (p1 : Nat) (p2 : Int32) (p3 : Int32) : Prop := ((¬ p2 = 0 → (wp_X0_guessOf (fun r_5 h_2 => GI h_2 → Ext h h_2 → (w_X0_doesPress_17 post p1 p2 p3 r_5 h_2)) h (gi h p1 2) p2)) ∧ (p2 = 0 → (w_X0_doesPress_17 post p1 p2 p3 0 h)))
abbrev rm_X0_doesPress : Room := ({ frames := 9, cells := 0, slots := 0, locals := 263 })
abbrev K_X0_doesPress : Kx := ("BeforeTheEnd", cX0_doesPress, 5, (Option.some Jvm.ClassFile.FieldType.boolean), rm_X0_doesPress, [], false)
set_option maxHeartbeats 4000000 in
theorem t_X0_doesPress_33 {ρ : Rho} {h0 : Hp} {post : Int32 → Hp → Prop} (G : G0 ρ) :
    ∀ (z0 : Int32) (h : Hp), GI h → Ext h0 h → w_X0_doesPress_33 post z0 h → X ρ K_X0_doesPress 33 [] [.int z0] h 0 0 (phB h0 post) psN := by
  intro z0 h g e hw
  have kJ_3 : ∀ z_2 : Int32, z_2 = ((if z0 = 0 then 0 else 1) : Int32) → X ρ K_X0_doesPress 41 [] [.int z_2] h 0 0 (phB h0 post) psN := fun z_2 ez_2 => by
    have hw := hw z_2 ez_2
    exact x_zret dX0_doesPress_41 rfl (isB.n (Eq.mpr (congrArg isB ez_2) (isB_ite isB_0 isB_1))) (Nat.le_of_ble_eq_true rfl) (Nat.le_of_ble_eq_true rfl) ⟨_, rfl, g, e, (Eq.mpr (congrArg isB ez_2) (isB_ite isB_0 isB_1)), hw⟩
  refine x_if_eq 40 dX0_doesPress_33 (by decide) (fun c_1 => ?_) (fun c_1 => ?_)
  · refine x_iconst 0 dX0_doesPress_40 (by decide) ?_
    exact kJ_3 _ ((if_pos c_1)).symm
  · refine x_iconst 1 dX0_doesPress_36 (by decide) ?_
    refine x_goto 41 dX0_doesPress_37 (by decide) ?_
    exact kJ_3 _ ((if_neg c_1)).symm
set_option maxHeartbeats 4000000 in
theorem t_X0_doesPress_17 {ρ : Rho} {h0 : Hp} {post : Int32 → Hp → Prop} (G : G0 ρ) :
    ∀ (x1 : Nat) (x2 : Int32) (x3 : Int32) (z0 : Int32) (h : Hp), GI h → Ext h0 h → isPl h x1 → w_X0_doesPress_17 post x1 x2 x3 z0 h → X ρ K_X0_doesPress 17 [(0, .ref (mr ρ 1)), (1, .ref (mr ρ x1)), (2, .int x2), (3, .int x3)] [.int z0] h 0 0 (phB h0 post) psN := by
  intro x1 x2 x3 z0 h g e fx1 hw
  refine x_istore (lv' := [(4, .int z0), (0, .ref (mr ρ 1)), (1, .ref (mr ρ x1)), (2, .int x2), (3, .int x3)]) dX0_doesPress_17 (Nat.le_of_ble_eq_true rfl) rfl ?_
  refine x_iload 0 dX0_doesPress_19 rfl ?_
  obtain ⟨wt_14, wf_15⟩ := hw
  refine x_if_le 40 dX0_doesPress_21 (by decide) (fun c_1 => ?_) (fun c_1 => ?_)
  · have hw := wt_14 c_1
    refine x_iconst 0 dX0_doesPress_40 (by decide) ?_
    exact x_zret dX0_doesPress_41 rfl (isB.n isB_0) (Nat.le_of_ble_eq_true rfl) (Nat.le_of_ble_eq_true rfl) ⟨_, rfl, g, e, isB_0, hw⟩
  · have hw := wf_15 c_1
    refine x_aload_n 2 dX0_doesPress_24 rfl ?_
    refine x_aload_n 1 dX0_doesPress_25 rfl ?_
    refine x_iload_n 3 dX0_doesPress_26 rfl ?_
    refine x_iload 0 dX0_doesPress_27 rfl ?_
    refine x_iload_n 4 dX0_doesPress_29 rfl ?_
    have kk_13 : ∀ (v9 : Option Value) (h_2 : Hp), (phB h (fun r_5 h_2 => GI h_2 → Ext h h_2 → (w_X0_doesPress_33 post r_5 h_2))) v9 h_2 → X ρ K_X0_doesPress 33 [(4, .int z0), (0, .ref (mr ρ 1)), (1, .ref (mr ρ x1)), (2, .int x2), (3, .int x3)] (v9.toList ++ []) h_2 0 0 (phB h0 post) psN := by
      intro v9 h_2 hv9
      obtain ⟨r_5, rfl, g_3, e_4, b_6, hw⟩ := hv9
      have hw := hw g_3 e_4
      show X ρ K_X0_doesPress 33 [(4, .int z0), (0, .ref (mr ρ 1)), (1, .ref (mr ρ x1)), (2, .int x2), (3, .int x3)] [.int r_5] h_2 0 0 (phB h0 post) psN
      refine X.sub [] rfl ?_
      exact t_X0_doesPress_33 G  r_5 h_2 g_3 (Ext.tr e e_4) hw
    obtain ⟨wc_7, wc_8, wc_9, wc_10, wc_11, wc_12⟩ := hw
    rcases fx1 with fc9 | fc9 | fc9 | fc9 | fc9 | fc9
    · exact x_callA (ci := 8) (x0 := ⟨"BeforeTheEnd$Player", "wants", "(LBeforeTheEnd;IIZ)Z"⟩) (owner := "BeforeTheEnd$Player") [.ref (mr ρ 1), .int x2, .int z0, .int x3] 4 dX0_doesPress_30 (k_X11_wants_c8 G g fc9 (wc_7 fc9)) fc9 rfl (lw_U q849 q851 q908 q881 q124 q882) q850 (by decide) rfl rfl ⟨(Nat.le_of_ble_eq_true rfl), (Nat.le_of_ble_eq_true rfl)⟩ (Nat.le_of_ble_eq_true rfl) ⟨(Nat.le_of_ble_eq_true rfl), (Nat.le_of_ble_eq_true rfl)⟩ kk_13 (fun _ _ _ _ _ z _ _ => False.elim z)
    · exact x_callA (ci := 9) (x0 := ⟨"BeforeTheEnd$Player", "wants", "(LBeforeTheEnd;IIZ)Z"⟩) (owner := "BeforeTheEnd$Player") [.ref (mr ρ 1), .int x2, .int z0, .int x3] 4 dX0_doesPress_30 (k_X12_wants_c9 G g fc9 (wc_8 fc9)) fc9 rfl (lw_U q849 q851 q910 q878 q125 q879) q850 (by decide) rfl rfl ⟨(Nat.le_of_ble_eq_true rfl), (Nat.le_of_ble_eq_true rfl)⟩ (Nat.le_of_ble_eq_true rfl) ⟨(Nat.le_of_ble_eq_true rfl), (Nat.le_of_ble_eq_true rfl)⟩ kk_13 (fun _ _ _ _ _ z _ _ => False.elim z)
    · exact x_callA (ci := 10) (x0 := ⟨"BeforeTheEnd$Player", "wants", "(LBeforeTheEnd;IIZ)Z"⟩) (owner := "BeforeTheEnd$Player") [.ref (mr ρ 1), .int x2, .int z0, .int x3] 4 dX0_doesPress_30 (k_X12_wants_c10 G g fc9 (wc_9 fc9)) fc9 rfl (lw_U q849 q851 q877 q878 q125 q879) q850 (by decide) rfl rfl ⟨(Nat.le_of_ble_eq_true rfl), (Nat.le_of_ble_eq_true rfl)⟩ (Nat.le_of_ble_eq_true rfl) ⟨(Nat.le_of_ble_eq_true rfl), (Nat.le_of_ble_eq_true rfl)⟩ kk_13 (fun _ _ _ _ _ z _ _ => False.elim z)
    · exact x_callA (ci := 11) (x0 := ⟨"BeforeTheEnd$Player", "wants", "(LBeforeTheEnd;IIZ)Z"⟩) (owner := "BeforeTheEnd$Player") [.ref (mr ρ 1), .int x2, .int z0, .int x3] 4 dX0_doesPress_30 (k_X12_wants_c11 G g fc9 (wc_10 fc9)) fc9 rfl (lw_U q849 q851 q909 q878 q125 q879) q850 (by decide) rfl rfl ⟨(Nat.le_of_ble_eq_true rfl), (Nat.le_of_ble_eq_true rfl)⟩ (Nat.le_of_ble_eq_true rfl) ⟨(Nat.le_of_ble_eq_true rfl), (Nat.le_of_ble_eq_true rfl)⟩ kk_13 (fun _ _ _ _ _ z _ _ => False.elim z)
    · exact x_callA (ci := 12) (x0 := ⟨"BeforeTheEnd$Player", "wants", "(LBeforeTheEnd;IIZ)Z"⟩) (owner := "BeforeTheEnd$Player") [.ref (mr ρ 1), .int x2, .int z0, .int x3] 4 dX0_doesPress_30 (k_X15_wants_c12 G g fc9 (wc_11 fc9)) fc9 rfl (lw_U q849 q851 q911 q853 q128 q854) q850 (by decide) rfl rfl ⟨(Nat.le_of_ble_eq_true rfl), (Nat.le_of_ble_eq_true rfl)⟩ (Nat.le_of_ble_eq_true rfl) ⟨(Nat.le_of_ble_eq_true rfl), (Nat.le_of_ble_eq_true rfl)⟩ kk_13 (fun _ _ _ _ _ z _ _ => False.elim z)
    · exact x_callA (ci := 13) (x0 := ⟨"BeforeTheEnd$Player", "wants", "(LBeforeTheEnd;IIZ)Z"⟩) (owner := "BeforeTheEnd$Player") [.ref (mr ρ 1), .int x2, .int z0, .int x3] 4 dX0_doesPress_30 (k_X15_wants_c13 G g fc9 (wc_12 fc9)) fc9 rfl (lw_U q849 q851 q852 q853 q128 q854) q850 (by decide) rfl rfl ⟨(Nat.le_of_ble_eq_true rfl), (Nat.le_of_ble_eq_true rfl)⟩ (Nat.le_of_ble_eq_true rfl) ⟨(Nat.le_of_ble_eq_true rfl), (Nat.le_of_ble_eq_true rfl)⟩ kk_13 (fun _ _ _ _ _ z _ _ => False.elim z)
set_option maxHeartbeats 4000000 in
theorem k_X0_doesPress {ρ : Rho} {h : Hp} {post : Int32 → Hp → Prop} {p1 : Nat} {p2 : Int32} {p3 : Int32} (G : G0 ρ) (g : GI h) (fp1 : isPl h p1) (hw : wp_X0_doesPress post h p1 p2 p3) : Con ρ yX0_doesPress (ws_ yX0_doesPress cX0_doesPress 5 (Option.some Jvm.ClassFile.FieldType.boolean)) rm_X0_doesPress [.ref (mr ρ 1), .ref (mr ρ p1), .int p2, .int p3] h (phB h post) psN := by
  refine con_of (own := "BeforeTheEnd") (isI := false) (l0 := [(0, .ref (mr ρ 1)), (1, .ref (mr ρ p1)), (2, .int p2), (3, .int p3)]) (by decide) rfl (fun z => by cases z) (Nat.le_of_ble_eq_true rfl) rfl (fun _ => ?_)
  show X ρ K_X0_doesPress 0 [(0, .ref (mr ρ 1)), (1, .ref (mr ρ p1)), (2, .int p2), (3, .int p3)] [] h 0 0 (phB h post) psN
  refine x_iload_n 2 dX0_doesPress_0 rfl ?_
  obtain ⟨wt_7, wf_8⟩ := hw
  refine x_if_ne 8 dX0_doesPress_1 (by decide) (fun c_1 => ?_) (fun c_1 => ?_)
  · have hw := wt_7 c_1
    refine x_aload_n 0 dX0_doesPress_8 rfl ?_
    refine x_aload_n 1 dX0_doesPress_9 rfl ?_
    refine x_getP 2 (by decide) dX0_doesPress_10 fp1 q622 ?_
    refine x_iload_n 2 dX0_doesPress_13 rfl ?_
    refine x_callV (ci := 0) [.int (gi h p1 2), .int p2] 2 dX0_doesPress_14 (k_X0_guessOf G g hw) (GI.s g (t := (10, 0)) rfl (by decide)) rfl q805 q807 qs19 q104 q808 (by decide) rfl rfl ⟨(Nat.le_of_ble_eq_true rfl), (Nat.le_of_ble_eq_true rfl)⟩ (Nat.le_of_ble_eq_true rfl) ⟨(Nat.le_of_ble_eq_true rfl), (Nat.le_of_ble_eq_true rfl)⟩ (fun v9 h_2 hv9 => ?_) (fun _ _ _ _ _ z _ _ => False.elim z)
    obtain ⟨r_5, rfl, g_3, e_4, hw⟩ := hv9
    have hw := hw g_3 e_4
    show X ρ K_X0_doesPress 17 [(0, .ref (mr ρ 1)), (1, .ref (mr ρ p1)), (2, .int p2), (3, .int p3)] [.int r_5] h_2 0 0 (phB h post) psN
    exact t_X0_doesPress_17 G  p1 p2 p3 r_5 h_2 g_3 e_4 (isPl.ext fp1 e_4) hw
  · have hw := wf_8 c_1
    refine x_iconst 0 dX0_doesPress_4 (by decide) ?_
    refine x_goto 17 dX0_doesPress_5 (by decide) ?_
    exact t_X0_doesPress_17 G  p1 p2 p3 0 h g Ext.rf fp1 hw

/-! BeforeTheEnd.ofQuiz(III)I -/
def wp_X0_ofQuiz (post : Int32 → Hp → Prop) (px : Nat → Hp → Prop) (h : Hp) (p1 : Int32) (p2 : Int32) (p3 : Int32) : Prop := (((p1.toInt < 0 ∨ 7 < p1.toInt) → (wp_X0_mustBePlayer (fun h_13 => GI h_13 → Ext h h_13 → (wp_X0_mustBeWord (fun h_18 => GI h_18 → Ext h_13 h_18 → (wp_X0_mustBeWhole (fun h_23 => GI h_23 → Ext h_18 h_23 → (vp_in p2 4 ∧ (isPl h_23 (gr h_23 10 (Int32.toNatClampNeg p2)) ∧ (wp_X0_doesPress (fun r_33 h_30 => GI h_30 → Ext h_23 h_30 → (∀ z_36 : Int32, z_36 = ((if r_33 = 0 then 0 else 1) : Int32) → (post z_36 h_30))) h_23 (gr h_23 10 (Int32.toNatClampNeg p2)) p3 0)))) px h_18)) px h_13 p3)) px h p2)) ∧ (p1 = 0 → (wp_X0_readQuiz (fun r_41 h_38 => GI h_38 → Ext h h_38 → (post r_41 h_38)) px h)) ∧ (p1 = 1 → (wp_X0_wordTold (fun r_46 h_43 => GI h_43 → Ext h h_43 → (post r_46 h_43)) px h p2 p3)) ∧ (p1 = 2 → (wp_X0_playerTold (fun r_51 h_48 => GI h_48 → Ext h h_48 → (post r_51 h_48)) px h p2 p3)) ∧ (p1 = 3 → (wp_X1_isWhole (fun r_56 h_53 => GI h_53 → Ext h h_53 → (∀ z_59 : Int32, z_59 = ((if r_56 = 0 then 0 else 1) : Int32) → (post z_59 h_53))) h (gr h 1 1))) ∧ (p1 = 4 → (wp_X0_mustBeWord (fun h_61 => GI h_61 → Ext h h_61 → (wp_X1_left (fun r_69 h_66 => GI h_66 → Ext h_61 h_66 → (post r_69 h_66)) h_61 (gr h_61 1 1) p2)) px h p2)) ∧ (p1 = 5 → (wp_X0_mustBePlayer (fun h_71 => GI h_71 → Ext h h_71 → (wp_X0_mustBeWord (fun h_76 => GI h_76 → Ext h_71 h_76 → (wp_X0_mustBeWhole (fun h_81 => GI h_81 → Ext h_76 h_81 → (vp_in p2 4 ∧ (isPl h_81 (gr h_81 10 (Int32.toNatClampNeg p2)) ∧ (wp_X0_guessOf (fun r_91 h_88 => GI h_88 → Ext h_81 h_88 → (post r_91 h_88)) h_81 (gi h_81 (gr h_81 10 (Int32.toNatClampNeg p2)) 2) p3)))) px h_76)) px h_71 p3)) px h p2)) ∧ (p1 = 6 → (wp_X0_pointsTold (fun r_96 h_93 => GI h_93 → Ext h h_93 → (post r_96 h_93)) px h p2 p3)) ∧ (p1 = 7 → (wp_X0_setTold (fun r_101 h_98 => GI h_98 → Ext h h_98 → (post r_101 h_98)) px h p2 p3)))
abbrev rm_X0_ofQuiz : Room := ({ frames := 15, cells := 1868, slots := 13143, locals := 364 })
abbrev K_X0_ofQuiz : Kx := ("BeforeTheEnd", cX0_ofQuiz, 4, (Option.some Jvm.ClassFile.FieldType.int), rm_X0_ofQuiz, [], false)
set_option maxHeartbeats 4000000 in
theorem k_X0_ofQuiz {ρ : Rho} {h : Hp} {post : Int32 → Hp → Prop} {px : Nat → Hp → Prop} {p1 : Int32} {p2 : Int32} {p3 : Int32} (G : G0 ρ) (g : GI h) (hw : wp_X0_ofQuiz post px h p1 p2 p3) : Con ρ yX0_ofQuiz (ws_ yX0_ofQuiz cX0_ofQuiz 4 (Option.some Jvm.ClassFile.FieldType.int)) rm_X0_ofQuiz [.ref (mr ρ 1), .int p1, .int p2, .int p3] h (phI h post) (psX h px) := by
  refine con_of (own := "BeforeTheEnd") (isI := false) (l0 := [(0, .ref (mr ρ 1)), (1, .int p1), (2, .int p2), (3, .int p3)]) (by decide) rfl (fun z => by cases z) (Nat.le_of_ble_eq_true rfl) rfl (fun _ => ?_)
  show X ρ K_X0_ofQuiz 0 [(0, .ref (mr ρ 1)), (1, .int p1), (2, .int p2), (3, .int p3)] [] h 0 0 (phI h post) (psX h px)
  refine x_iload_n 1 dX0_ofQuiz_0 rfl ?_
  obtain ⟨wd_1, ws_2, ws_3, ws_4, ws_5, ws_6, ws_7, ws_8, ws_9⟩ := hw
  rcases tab_or p1 0 8 (by decide) with c_12 | ⟨i_11, c_12i, c_12⟩
  · have c_12o : p1.toInt < 0 ∨ 7 < p1.toInt := by omega
    have hw := wd_1 c_12o
    refine x_tableOut 140 dX0_ofQuiz_1 c_12o (by decide) ?_
    refine x_aload_n 0 dX0_ofQuiz_140 rfl ?_
    refine x_iload_n 2 dX0_ofQuiz_141 rfl ?_
    refine x_callV (ci := 0) [.int p2] 1 dX0_ofQuiz_142 (k_X0_mustBePlayer G g hw) (GI.s g (t := (10, 0)) rfl (by decide)) rfl q751 q753 qs17 q104 q754 (by decide) rfl rfl ⟨(Nat.le_of_ble_eq_true rfl), (Nat.le_of_ble_eq_true rfl)⟩ (Nat.le_of_ble_eq_true rfl) ⟨(Nat.le_of_ble_eq_true rfl), (Nat.le_of_ble_eq_true rfl)⟩ (fun v9 h_13 hv9 => ?_) (fun q9 h9 ci9 n9 x9 hx9 hs9 hc9 => xt_out hs9 hc9 (fun z hz => by cases hz) (Nat.le_of_ble_eq_true rfl) (Nat.le_of_ble_eq_true rfl) ⟨hx9.1, Ext.tr Ext.rf hx9.2.1, hx9.2.2⟩)
    obtain ⟨rfl, g_14, e_15, hw⟩ := hv9
    have hw := hw g_14 e_15
    show X ρ K_X0_ofQuiz 145 [(0, .ref (mr ρ 1)), (1, .int p1), (2, .int p2), (3, .int p3)] [] h_13 1 7 (phI h post) (psX h px)
    refine x_aload_n 0 dX0_ofQuiz_145 rfl ?_
    refine x_iload_n 3 dX0_ofQuiz_146 rfl ?_
    refine x_callV (ci := 0) [.int p3] 1 dX0_ofQuiz_147 (k_X0_mustBeWord G g_14 hw) (GI.s g_14 (t := (10, 0)) rfl (by decide)) rfl q738 q740 qs15 q104 q741 (by decide) rfl rfl ⟨(Nat.le_of_ble_eq_true rfl), (Nat.le_of_ble_eq_true rfl)⟩ (Nat.le_of_ble_eq_true rfl) ⟨(Nat.le_of_ble_eq_true rfl), (Nat.le_of_ble_eq_true rfl)⟩ (fun v9 h_18 hv9 => ?_) (fun q9 h9 ci9 n9 x9 hx9 hs9 hc9 => xt_out hs9 hc9 (fun z hz => by cases hz) (Nat.le_of_ble_eq_true rfl) (Nat.le_of_ble_eq_true rfl) ⟨hx9.1, Ext.tr e_15 hx9.2.1, hx9.2.2⟩)
    obtain ⟨rfl, g_19, e_20, hw⟩ := hv9
    have hw := hw g_19 e_20
    show X ρ K_X0_ofQuiz 150 [(0, .ref (mr ρ 1)), (1, .int p1), (2, .int p2), (3, .int p3)] [] h_18 2 14 (phI h post) (psX h px)
    refine x_aload_n 0 dX0_ofQuiz_150 rfl ?_
    refine x_callV (ci := 0) [] 0 dX0_ofQuiz_151 (k_X0_mustBeWhole G g_19 hw) (GI.s g_19 (t := (10, 0)) rfl (by decide)) rfl q801 q803 qs18 q104 q804 (by decide) rfl rfl ⟨(Nat.le_of_ble_eq_true rfl), (Nat.le_of_ble_eq_true rfl)⟩ (Nat.le_of_ble_eq_true rfl) ⟨(Nat.le_of_ble_eq_true rfl), (Nat.le_of_ble_eq_true rfl)⟩ (fun v9 h_23 hv9 => ?_) (fun q9 h9 ci9 n9 x9 hx9 hs9 hc9 => xt_out hs9 hc9 (fun z hz => by cases hz) (Nat.le_of_ble_eq_true rfl) (Nat.le_of_ble_eq_true rfl) ⟨hx9.1, Ext.tr (Ext.tr e_15 e_20) hx9.2.1, hx9.2.2⟩)
    obtain ⟨rfl, g_24, e_25, hw⟩ := hv9
    have hw := hw g_24 e_25
    show X ρ K_X0_ofQuiz 154 [(0, .ref (mr ρ 1)), (1, .int p1), (2, .int p2), (3, .int p3)] [] h_23 3 21 (phI h post) (psX h px)
    refine x_aload_n 0 dX0_ofQuiz_154 rfl ?_
    refine x_aload_n 0 dX0_ofQuiz_155 rfl ?_
    refine x_get (ci := 0) (v := .ref (mr ρ 10)) 2 dX0_ofQuiz_156 (GI.s g_24 (t := (10, 0)) rfl (by decide)) rfl in_X0 (by decide) q189 (Or.inl rfl) (fv_rc rfl (GI.x g_24 (n := 10) rfl (by decide)) (by decide)) ?_
    refine x_iload_n 2 dX0_ofQuiz_159 rfl ?_
    obtain ⟨b_28, hw⟩ := hw
    obtain ⟨b_29, hw⟩ := hw
    refine x_aald5 (n := 4) (j := (Int32.toNatClampNeg p2)) dX0_ofQuiz_160 rfl (GI.s g_24 (t := (5, 4)) rfl (by decide)) b_28 ?_
    refine x_nn (isPl.nz b_29 (GI.live g_24)) ?_
    refine x_iload_n 3 dX0_ofQuiz_161 rfl ?_
    refine x_iconst 0 dX0_ofQuiz_162 (by decide) ?_
    refine x_callV (ci := 0) [.ref (mr ρ (gr h_23 10 (Int32.toNatClampNeg p2))), .int p3, .int 0] 3 dX0_ofQuiz_163 (k_X0_doesPress G g_24 b_29 hw) (GI.s g_24 (t := (10, 0)) rfl (by decide)) rfl q845 q847 qs25 q104 q848 (by decide) rfl rfl ⟨(Nat.le_of_ble_eq_true rfl), (Nat.le_of_ble_eq_true rfl)⟩ (Nat.le_of_ble_eq_true rfl) ⟨(Nat.le_of_ble_eq_true rfl), (Nat.le_of_ble_eq_true rfl)⟩ (fun v9 h_30 hv9 => ?_) (fun _ _ _ _ _ z _ _ => False.elim z)
    obtain ⟨r_33, rfl, g_31, e_32, b_34, hw⟩ := hv9
    have hw := hw g_31 e_32
    show X ρ K_X0_ofQuiz 166 [(0, .ref (mr ρ 1)), (1, .int p1), (2, .int p2), (3, .int p3)] [.int r_33] h_30 3 21 (phI h post) (psX h px)
    have kJ_37 : ∀ z_36 : Int32, z_36 = ((if r_33 = 0 then 0 else 1) : Int32) → X ρ K_X0_ofQuiz 174 [(0, .ref (mr ρ 1)), (1, .int p1), (2, .int p2), (3, .int p3)] [.int z_36] h_30 3 21 (phI h post) (psX h px) := fun z_36 ez_36 => by
      have hw := hw z_36 ez_36
      exact x_iret dX0_ofQuiz_174 rfl (Nat.le_of_ble_eq_true rfl) (Nat.le_of_ble_eq_true rfl) ⟨_, rfl, g_31, (Ext.tr (Ext.tr (Ext.tr e_15 e_20) e_25) e_32), hw⟩
    refine x_if_eq 173 dX0_ofQuiz_166 (by decide) (fun c_35 => ?_) (fun c_35 => ?_)
    · refine x_iconst 0 dX0_ofQuiz_173 (by decide) ?_
      exact kJ_37 _ ((if_pos c_35)).symm
    · refine x_iconst 1 dX0_ofQuiz_169 (by decide) ?_
      refine x_goto 174 dX0_ofQuiz_170 (by decide) ?_
      exact kJ_37 _ ((if_neg c_35)).symm
  · match i_11, c_12i, c_12 with
    | 0, _, c_12 =>
      have c_12 : p1 = 0 := c_12
      have hw := ws_2 c_12
      refine x_tableIn (off := 47) 48 dX0_ofQuiz_1 (by rw [c_12]; decide) (by rw [c_12]; decide) (by rw [c_12]; rfl) (by decide) ?_
      refine x_aload_n 0 dX0_ofQuiz_48 rfl ?_
      refine x_callV (ci := 0) [] 0 dX0_ofQuiz_49 (k_X0_readQuiz G g hw) (GI.s g (t := (10, 0)) rfl (by decide)) rfl q395 q397 qs6 q104 q398 (by decide) rfl rfl ⟨(Nat.le_of_ble_eq_true rfl), (Nat.le_of_ble_eq_true rfl)⟩ (Nat.le_of_ble_eq_true rfl) ⟨(Nat.le_of_ble_eq_true rfl), (Nat.le_of_ble_eq_true rfl)⟩ (fun v9 h_38 hv9 => ?_) (fun q9 h9 ci9 n9 x9 hx9 hs9 hc9 => xt_out hs9 hc9 (fun z hz => by cases hz) (Nat.le_of_ble_eq_true rfl) (Nat.le_of_ble_eq_true rfl) ⟨hx9.1, Ext.tr Ext.rf hx9.2.1, hx9.2.2⟩)
      obtain ⟨r_41, rfl, g_39, e_40, hw⟩ := hv9
      have hw := hw g_39 e_40
      show X ρ K_X0_ofQuiz 52 [(0, .ref (mr ρ 1)), (1, .int p1), (2, .int p2), (3, .int p3)] [.int r_41] h_38 1868 13143 (phI h post) (psX h px)
      exact x_iret dX0_ofQuiz_52 rfl (Nat.le_of_ble_eq_true rfl) (Nat.le_of_ble_eq_true rfl) ⟨_, rfl, g_39, e_40, hw⟩
    | 1, _, c_12 =>
      have c_12 : p1 = 1 := c_12
      have hw := ws_3 c_12
      refine x_tableIn (off := 52) 53 dX0_ofQuiz_1 (by rw [c_12]; decide) (by rw [c_12]; decide) (by rw [c_12]; rfl) (by decide) ?_
      refine x_aload_n 0 dX0_ofQuiz_53 rfl ?_
      refine x_iload_n 2 dX0_ofQuiz_54 rfl ?_
      refine x_iload_n 3 dX0_ofQuiz_55 rfl ?_
      refine x_callV (ci := 0) [.int p2, .int p3] 2 dX0_ofQuiz_56 (k_X0_wordTold G g hw) (GI.s g (t := (10, 0)) rfl (by decide)) rfl q734 q736 qs14 q104 q737 (by decide) rfl rfl ⟨(Nat.le_of_ble_eq_true rfl), (Nat.le_of_ble_eq_true rfl)⟩ (Nat.le_of_ble_eq_true rfl) ⟨(Nat.le_of_ble_eq_true rfl), (Nat.le_of_ble_eq_true rfl)⟩ (fun v9 h_43 hv9 => ?_) (fun q9 h9 ci9 n9 x9 hx9 hs9 hc9 => xt_out hs9 hc9 (fun z hz => by cases hz) (Nat.le_of_ble_eq_true rfl) (Nat.le_of_ble_eq_true rfl) ⟨hx9.1, Ext.tr Ext.rf hx9.2.1, hx9.2.2⟩)
      obtain ⟨r_46, rfl, g_44, e_45, hw⟩ := hv9
      have hw := hw g_44 e_45
      show X ρ K_X0_ofQuiz 59 [(0, .ref (mr ρ 1)), (1, .int p1), (2, .int p2), (3, .int p3)] [.int r_46] h_43 2 14 (phI h post) (psX h px)
      exact x_iret dX0_ofQuiz_59 rfl (Nat.le_of_ble_eq_true rfl) (Nat.le_of_ble_eq_true rfl) ⟨_, rfl, g_44, e_45, hw⟩
    | 2, _, c_12 =>
      have c_12 : p1 = 2 := c_12
      have hw := ws_4 c_12
      refine x_tableIn (off := 59) 60 dX0_ofQuiz_1 (by rw [c_12]; decide) (by rw [c_12]; decide) (by rw [c_12]; rfl) (by decide) ?_
      refine x_aload_n 0 dX0_ofQuiz_60 rfl ?_
      refine x_iload_n 2 dX0_ofQuiz_61 rfl ?_
      refine x_iload_n 3 dX0_ofQuiz_62 rfl ?_
      refine x_callV (ci := 0) [.int p2, .int p3] 2 dX0_ofQuiz_63 (k_X0_playerTold G g hw) (GI.s g (t := (10, 0)) rfl (by decide)) rfl q747 q749 qs16 q104 q750 (by decide) rfl rfl ⟨(Nat.le_of_ble_eq_true rfl), (Nat.le_of_ble_eq_true rfl)⟩ (Nat.le_of_ble_eq_true rfl) ⟨(Nat.le_of_ble_eq_true rfl), (Nat.le_of_ble_eq_true rfl)⟩ (fun v9 h_48 hv9 => ?_) (fun q9 h9 ci9 n9 x9 hx9 hs9 hc9 => xt_out hs9 hc9 (fun z hz => by cases hz) (Nat.le_of_ble_eq_true rfl) (Nat.le_of_ble_eq_true rfl) ⟨hx9.1, Ext.tr Ext.rf hx9.2.1, hx9.2.2⟩)
      obtain ⟨r_51, rfl, g_49, e_50, hw⟩ := hv9
      have hw := hw g_49 e_50
      show X ρ K_X0_ofQuiz 66 [(0, .ref (mr ρ 1)), (1, .int p1), (2, .int p2), (3, .int p3)] [.int r_51] h_48 2 14 (phI h post) (psX h px)
      exact x_iret dX0_ofQuiz_66 rfl (Nat.le_of_ble_eq_true rfl) (Nat.le_of_ble_eq_true rfl) ⟨_, rfl, g_49, e_50, hw⟩
    | 3, _, c_12 =>
      have c_12 : p1 = 3 := c_12
      have hw := ws_5 c_12
      refine x_tableIn (off := 66) 67 dX0_ofQuiz_1 (by rw [c_12]; decide) (by rw [c_12]; decide) (by rw [c_12]; rfl) (by decide) ?_
      refine x_aload_n 0 dX0_ofQuiz_67 rfl ?_
      refine x_get (ci := 0) (v := .ref (mr ρ (gr h 1 1))) 1 dX0_ofQuiz_68 (GI.s g (t := (10, 0)) rfl (by decide)) rfl in_X0 (by decide) q188 (Or.inl rfl) (fv_rc rfl rfl (isTree.nz (GI.t g) (GI.live g))) ?_
      refine x_callV (ci := 1) [] 0 dX0_ofQuiz_71 (k_X1_isWhole G g (GI.t g) hw) (isTree.s (GI.t g)) rfl q788 q789 q790 q105 q791 (by decide) rfl rfl ⟨(Nat.le_of_ble_eq_true rfl), (Nat.le_of_ble_eq_true rfl)⟩ (Nat.le_of_ble_eq_true rfl) ⟨(Nat.le_of_ble_eq_true rfl), (Nat.le_of_ble_eq_true rfl)⟩ (fun v9 h_53 hv9 => ?_) (fun _ _ _ _ _ z _ _ => False.elim z)
      obtain ⟨r_56, rfl, g_54, e_55, b_57, hw⟩ := hv9
      have hw := hw g_54 e_55
      show X ρ K_X0_ofQuiz 74 [(0, .ref (mr ρ 1)), (1, .int p1), (2, .int p2), (3, .int p3)] [.int r_56] h_53 0 0 (phI h post) (psX h px)
      have kJ_60 : ∀ z_59 : Int32, z_59 = ((if r_56 = 0 then 0 else 1) : Int32) → X ρ K_X0_ofQuiz 82 [(0, .ref (mr ρ 1)), (1, .int p1), (2, .int p2), (3, .int p3)] [.int z_59] h_53 0 0 (phI h post) (psX h px) := fun z_59 ez_59 => by
        have hw := hw z_59 ez_59
        exact x_iret dX0_ofQuiz_82 rfl (Nat.le_of_ble_eq_true rfl) (Nat.le_of_ble_eq_true rfl) ⟨_, rfl, g_54, e_55, hw⟩
      refine x_if_eq 81 dX0_ofQuiz_74 (by decide) (fun c_58 => ?_) (fun c_58 => ?_)
      · refine x_iconst 0 dX0_ofQuiz_81 (by decide) ?_
        exact kJ_60 _ ((if_pos c_58)).symm
      · refine x_iconst 1 dX0_ofQuiz_77 (by decide) ?_
        refine x_goto 82 dX0_ofQuiz_78 (by decide) ?_
        exact kJ_60 _ ((if_neg c_58)).symm
    | 4, _, c_12 =>
      have c_12 : p1 = 4 := c_12
      have hw := ws_6 c_12
      refine x_tableIn (off := 82) 83 dX0_ofQuiz_1 (by rw [c_12]; decide) (by rw [c_12]; decide) (by rw [c_12]; rfl) (by decide) ?_
      refine x_aload_n 0 dX0_ofQuiz_83 rfl ?_
      refine x_iload_n 2 dX0_ofQuiz_84 rfl ?_
      refine x_callV (ci := 0) [.int p2] 1 dX0_ofQuiz_85 (k_X0_mustBeWord G g hw) (GI.s g (t := (10, 0)) rfl (by decide)) rfl q738 q740 qs15 q104 q741 (by decide) rfl rfl ⟨(Nat.le_of_ble_eq_true rfl), (Nat.le_of_ble_eq_true rfl)⟩ (Nat.le_of_ble_eq_true rfl) ⟨(Nat.le_of_ble_eq_true rfl), (Nat.le_of_ble_eq_true rfl)⟩ (fun v9 h_61 hv9 => ?_) (fun q9 h9 ci9 n9 x9 hx9 hs9 hc9 => xt_out hs9 hc9 (fun z hz => by cases hz) (Nat.le_of_ble_eq_true rfl) (Nat.le_of_ble_eq_true rfl) ⟨hx9.1, Ext.tr Ext.rf hx9.2.1, hx9.2.2⟩)
      obtain ⟨rfl, g_62, e_63, hw⟩ := hv9
      have hw := hw g_62 e_63
      show X ρ K_X0_ofQuiz 88 [(0, .ref (mr ρ 1)), (1, .int p1), (2, .int p2), (3, .int p3)] [] h_61 1 7 (phI h post) (psX h px)
      refine x_aload_n 0 dX0_ofQuiz_88 rfl ?_
      refine x_get (ci := 0) (v := .ref (mr ρ (gr h_61 1 1))) 1 dX0_ofQuiz_89 (GI.s g_62 (t := (10, 0)) rfl (by decide)) rfl in_X0 (by decide) q188 (Or.inl rfl) (fv_rc rfl rfl (isTree.nz (GI.t g_62) (GI.live g_62))) ?_
      refine x_iload_n 2 dX0_ofQuiz_92 rfl ?_
      refine x_callV (ci := 1) [.int p2] 1 dX0_ofQuiz_93 (k_X1_left G g_62 (GI.t g_62) hw) (isTree.s (GI.t g_62)) rfl q793 q794 q795 q105 q796 (by decide) rfl rfl ⟨(Nat.le_of_ble_eq_true rfl), (Nat.le_of_ble_eq_true rfl)⟩ (Nat.le_of_ble_eq_true rfl) ⟨(Nat.le_of_ble_eq_true rfl), (Nat.le_of_ble_eq_true rfl)⟩ (fun v9 h_66 hv9 => ?_) (fun _ _ _ _ _ z _ _ => False.elim z)
      obtain ⟨r_69, rfl, g_67, e_68, hw⟩ := hv9
      have hw := hw g_67 e_68
      show X ρ K_X0_ofQuiz 96 [(0, .ref (mr ρ 1)), (1, .int p1), (2, .int p2), (3, .int p3)] [.int r_69] h_66 1 7 (phI h post) (psX h px)
      exact x_iret dX0_ofQuiz_96 rfl (Nat.le_of_ble_eq_true rfl) (Nat.le_of_ble_eq_true rfl) ⟨_, rfl, g_67, (Ext.tr e_63 e_68), hw⟩
    | 5, _, c_12 =>
      have c_12 : p1 = 5 := c_12
      have hw := ws_7 c_12
      refine x_tableIn (off := 96) 97 dX0_ofQuiz_1 (by rw [c_12]; decide) (by rw [c_12]; decide) (by rw [c_12]; rfl) (by decide) ?_
      refine x_aload_n 0 dX0_ofQuiz_97 rfl ?_
      refine x_iload_n 2 dX0_ofQuiz_98 rfl ?_
      refine x_callV (ci := 0) [.int p2] 1 dX0_ofQuiz_99 (k_X0_mustBePlayer G g hw) (GI.s g (t := (10, 0)) rfl (by decide)) rfl q751 q753 qs17 q104 q754 (by decide) rfl rfl ⟨(Nat.le_of_ble_eq_true rfl), (Nat.le_of_ble_eq_true rfl)⟩ (Nat.le_of_ble_eq_true rfl) ⟨(Nat.le_of_ble_eq_true rfl), (Nat.le_of_ble_eq_true rfl)⟩ (fun v9 h_71 hv9 => ?_) (fun q9 h9 ci9 n9 x9 hx9 hs9 hc9 => xt_out hs9 hc9 (fun z hz => by cases hz) (Nat.le_of_ble_eq_true rfl) (Nat.le_of_ble_eq_true rfl) ⟨hx9.1, Ext.tr Ext.rf hx9.2.1, hx9.2.2⟩)
      obtain ⟨rfl, g_72, e_73, hw⟩ := hv9
      have hw := hw g_72 e_73
      show X ρ K_X0_ofQuiz 102 [(0, .ref (mr ρ 1)), (1, .int p1), (2, .int p2), (3, .int p3)] [] h_71 1 7 (phI h post) (psX h px)
      refine x_aload_n 0 dX0_ofQuiz_102 rfl ?_
      refine x_iload_n 3 dX0_ofQuiz_103 rfl ?_
      refine x_callV (ci := 0) [.int p3] 1 dX0_ofQuiz_104 (k_X0_mustBeWord G g_72 hw) (GI.s g_72 (t := (10, 0)) rfl (by decide)) rfl q738 q740 qs15 q104 q741 (by decide) rfl rfl ⟨(Nat.le_of_ble_eq_true rfl), (Nat.le_of_ble_eq_true rfl)⟩ (Nat.le_of_ble_eq_true rfl) ⟨(Nat.le_of_ble_eq_true rfl), (Nat.le_of_ble_eq_true rfl)⟩ (fun v9 h_76 hv9 => ?_) (fun q9 h9 ci9 n9 x9 hx9 hs9 hc9 => xt_out hs9 hc9 (fun z hz => by cases hz) (Nat.le_of_ble_eq_true rfl) (Nat.le_of_ble_eq_true rfl) ⟨hx9.1, Ext.tr e_73 hx9.2.1, hx9.2.2⟩)
      obtain ⟨rfl, g_77, e_78, hw⟩ := hv9
      have hw := hw g_77 e_78
      show X ρ K_X0_ofQuiz 107 [(0, .ref (mr ρ 1)), (1, .int p1), (2, .int p2), (3, .int p3)] [] h_76 2 14 (phI h post) (psX h px)
      refine x_aload_n 0 dX0_ofQuiz_107 rfl ?_
      refine x_callV (ci := 0) [] 0 dX0_ofQuiz_108 (k_X0_mustBeWhole G g_77 hw) (GI.s g_77 (t := (10, 0)) rfl (by decide)) rfl q801 q803 qs18 q104 q804 (by decide) rfl rfl ⟨(Nat.le_of_ble_eq_true rfl), (Nat.le_of_ble_eq_true rfl)⟩ (Nat.le_of_ble_eq_true rfl) ⟨(Nat.le_of_ble_eq_true rfl), (Nat.le_of_ble_eq_true rfl)⟩ (fun v9 h_81 hv9 => ?_) (fun q9 h9 ci9 n9 x9 hx9 hs9 hc9 => xt_out hs9 hc9 (fun z hz => by cases hz) (Nat.le_of_ble_eq_true rfl) (Nat.le_of_ble_eq_true rfl) ⟨hx9.1, Ext.tr (Ext.tr e_73 e_78) hx9.2.1, hx9.2.2⟩)
      obtain ⟨rfl, g_82, e_83, hw⟩ := hv9
      have hw := hw g_82 e_83
      show X ρ K_X0_ofQuiz 111 [(0, .ref (mr ρ 1)), (1, .int p1), (2, .int p2), (3, .int p3)] [] h_81 3 21 (phI h post) (psX h px)
      refine x_aload_n 0 dX0_ofQuiz_111 rfl ?_
      refine x_aload_n 0 dX0_ofQuiz_112 rfl ?_
      refine x_get (ci := 0) (v := .ref (mr ρ 10)) 2 dX0_ofQuiz_113 (GI.s g_82 (t := (10, 0)) rfl (by decide)) rfl in_X0 (by decide) q189 (Or.inl rfl) (fv_rc rfl (GI.x g_82 (n := 10) rfl (by decide)) (by decide)) ?_
      refine x_iload_n 2 dX0_ofQuiz_116 rfl ?_
      obtain ⟨b_86, hw⟩ := hw
      obtain ⟨b_87, hw⟩ := hw
      refine x_aald5 (n := 4) (j := (Int32.toNatClampNeg p2)) dX0_ofQuiz_117 rfl (GI.s g_82 (t := (5, 4)) rfl (by decide)) b_86 ?_
      refine x_nn (isPl.nz b_87 (GI.live g_82)) ?_
      refine x_getP 2 (by decide) dX0_ofQuiz_118 b_87 q622 ?_
      refine x_iload_n 3 dX0_ofQuiz_121 rfl ?_
      refine x_callV (ci := 0) [.int (gi h_81 (gr h_81 10 (Int32.toNatClampNeg p2)) 2), .int p3] 2 dX0_ofQuiz_122 (k_X0_guessOf G g_82 hw) (GI.s g_82 (t := (10, 0)) rfl (by decide)) rfl q805 q807 qs19 q104 q808 (by decide) rfl rfl ⟨(Nat.le_of_ble_eq_true rfl), (Nat.le_of_ble_eq_true rfl)⟩ (Nat.le_of_ble_eq_true rfl) ⟨(Nat.le_of_ble_eq_true rfl), (Nat.le_of_ble_eq_true rfl)⟩ (fun v9 h_88 hv9 => ?_) (fun _ _ _ _ _ z _ _ => False.elim z)
      obtain ⟨r_91, rfl, g_89, e_90, hw⟩ := hv9
      have hw := hw g_89 e_90
      show X ρ K_X0_ofQuiz 125 [(0, .ref (mr ρ 1)), (1, .int p1), (2, .int p2), (3, .int p3)] [.int r_91] h_88 3 21 (phI h post) (psX h px)
      exact x_iret dX0_ofQuiz_125 rfl (Nat.le_of_ble_eq_true rfl) (Nat.le_of_ble_eq_true rfl) ⟨_, rfl, g_89, (Ext.tr (Ext.tr (Ext.tr e_73 e_78) e_83) e_90), hw⟩
    | 6, _, c_12 =>
      have c_12 : p1 = 6 := c_12
      have hw := ws_8 c_12
      refine x_tableIn (off := 125) 126 dX0_ofQuiz_1 (by rw [c_12]; decide) (by rw [c_12]; decide) (by rw [c_12]; rfl) (by decide) ?_
      refine x_aload_n 0 dX0_ofQuiz_126 rfl ?_
      refine x_iload_n 2 dX0_ofQuiz_127 rfl ?_
      refine x_iload_n 3 dX0_ofQuiz_128 rfl ?_
      refine x_callV (ci := 0) [.int p2, .int p3] 2 dX0_ofQuiz_129 (k_X0_pointsTold G g hw) (GI.s g (t := (10, 0)) rfl (by decide)) rfl q827 q829 qs22 q104 q830 (by decide) rfl rfl ⟨(Nat.le_of_ble_eq_true rfl), (Nat.le_of_ble_eq_true rfl)⟩ (Nat.le_of_ble_eq_true rfl) ⟨(Nat.le_of_ble_eq_true rfl), (Nat.le_of_ble_eq_true rfl)⟩ (fun v9 h_93 hv9 => ?_) (fun q9 h9 ci9 n9 x9 hx9 hs9 hc9 => xt_out hs9 hc9 (fun z hz => by cases hz) (Nat.le_of_ble_eq_true rfl) (Nat.le_of_ble_eq_true rfl) ⟨hx9.1, Ext.tr Ext.rf hx9.2.1, hx9.2.2⟩)
      obtain ⟨r_96, rfl, g_94, e_95, hw⟩ := hv9
      have hw := hw g_94 e_95
      show X ρ K_X0_ofQuiz 132 [(0, .ref (mr ρ 1)), (1, .int p1), (2, .int p2), (3, .int p3)] [.int r_96] h_93 3 21 (phI h post) (psX h px)
      exact x_iret dX0_ofQuiz_132 rfl (Nat.le_of_ble_eq_true rfl) (Nat.le_of_ble_eq_true rfl) ⟨_, rfl, g_94, e_95, hw⟩
    | 7, _, c_12 =>
      have c_12 : p1 = 7 := c_12
      have hw := ws_9 c_12
      refine x_tableIn (off := 132) 133 dX0_ofQuiz_1 (by rw [c_12]; decide) (by rw [c_12]; decide) (by rw [c_12]; rfl) (by decide) ?_
      refine x_aload_n 0 dX0_ofQuiz_133 rfl ?_
      refine x_iload_n 2 dX0_ofQuiz_134 rfl ?_
      refine x_iload_n 3 dX0_ofQuiz_135 rfl ?_
      refine x_callV (ci := 0) [.int p2, .int p3] 2 dX0_ofQuiz_136 (k_X0_setTold G g hw) (GI.s g (t := (10, 0)) rfl (by decide)) rfl q837 q839 qs23 q104 q840 (by decide) rfl rfl ⟨(Nat.le_of_ble_eq_true rfl), (Nat.le_of_ble_eq_true rfl)⟩ (Nat.le_of_ble_eq_true rfl) ⟨(Nat.le_of_ble_eq_true rfl), (Nat.le_of_ble_eq_true rfl)⟩ (fun v9 h_98 hv9 => ?_) (fun q9 h9 ci9 n9 x9 hx9 hs9 hc9 => xt_out hs9 hc9 (fun z hz => by cases hz) (Nat.le_of_ble_eq_true rfl) (Nat.le_of_ble_eq_true rfl) ⟨hx9.1, Ext.tr Ext.rf hx9.2.1, hx9.2.2⟩)
      obtain ⟨r_101, rfl, g_99, e_100, hw⟩ := hv9
      have hw := hw g_99 e_100
      show X ρ K_X0_ofQuiz 139 [(0, .ref (mr ρ 1)), (1, .int p1), (2, .int p2), (3, .int p3)] [.int r_101] h_98 3 21 (phI h post) (psX h px)
      exact x_iret dX0_ofQuiz_139 rfl (Nat.le_of_ble_eq_true rfl) (Nat.le_of_ble_eq_true rfl) ⟨_, rfl, g_99, e_100, hw⟩
    | i9 + 8, h9, _ => exact absurd h9 (by omega)

/-! BeforeTheEnd$Tree.on(II)I -/
def w_X1_on_2 (post : Int32 → Hp → Prop) : Nat → Nat → Int32 → Int32 → Hp → Prop
  | 0 => fun _ _ _ _ => False
  | n + 1 => fun x0 x2 x3 h => (vp_in x3 24 ∧ (((gi h (x0 + 4) (Int32.toNatClampNeg x3)) ≤ x2 → (post x3 h)) ∧ (¬ (gi h (x0 + 4) (Int32.toNatClampNeg x3)) ≤ x2 → (vp_in x3 24 ∧ (∀ x3_4 : Int32, x3_4 = (gi h (x0 + 1) (Int32.toNatClampNeg x3)) → (w_X1_on_2 post n x0 x2 x3_4 h))))))
def wp_X1_on (post : Int32 → Hp → Prop) (h : Hp) (r0 : Nat) (p1 : Int32) (p2 : Int32) : Prop := (∃ fu : Nat, w_X1_on_2 post fu r0 p2 p1 h)
abbrev rm_X1_on : Room := ({ frames := 1, cells := 0, slots := 0, locals := 60 })
abbrev K_X1_on : Kx := ("BeforeTheEnd$Tree", cX1_on, 4, (Option.some Jvm.ClassFile.FieldType.int), rm_X1_on, [], false)
set_option maxHeartbeats 4000000 in
theorem t_X1_on_2 {ρ : Rho} {h0 : Hp} {post : Int32 → Hp → Prop} (G : G0 ρ) :
    ∀ (n : Nat), ∀ (x0 : Nat) (x2 : Int32) (x3 : Int32) (h : Hp), GI h → Ext h0 h → isTree h x0 → w_X1_on_2 post n x0 x2 x3 h → X ρ K_X1_on 2 [(0, .ref (mr ρ x0)), (2, .int x2), (3, .int x3)] [] h 0 0 (phI h0 post) psN := by
  intro n
  induction n with
  | zero => intro x0 x2 x3 h g e fx0 hw; exact False.elim hw
  | succ n ih =>
    intro x0 x2 x3 h g e fx0 hw
    refine x_aload_n 0 dX1_on_2 rfl ?_
    refine x_get (ci := 1) (v := .ref (mr ρ (x0 + 4))) 4 dX1_on_3 (isTree.s fx0) rfl in_X1 (by decide) q154 (Or.inl rfl) (fv_rc rfl (isTree.p fx0 4 (by decide) (by decide)) (Nat.succ_ne_zero _)) ?_
    refine x_iload_n 2 dX1_on_6 rfl ?_
    obtain ⟨b_1, hw⟩ := hw
    refine x_iald (n := 24) (j := (Int32.toNatClampNeg x3)) dX1_on_7 rfl (isTree.a fx0 4 (by decide) (by decide)) b_1 ?_
    refine x_iload_n 1 dX1_on_8 rfl ?_
    obtain ⟨wt_5, wf_6⟩ := hw
    refine x_icmp_le 22 dX1_on_9 (by decide) (fun c_2 => ?_) (fun c_2 => ?_)
    · have hw := wt_5 c_2
      refine x_iload_n 2 dX1_on_22 rfl ?_
      exact x_iret dX1_on_23 rfl (Nat.le_of_ble_eq_true rfl) (Nat.le_of_ble_eq_true rfl) ⟨_, rfl, g, e, hw⟩
    · have hw := wf_6 c_2
      refine x_aload_n 0 dX1_on_12 rfl ?_
      refine x_get (ci := 1) (v := .ref (mr ρ (x0 + 1))) 1 dX1_on_13 (isTree.s fx0) rfl in_X1 (by decide) q148 (Or.inl rfl) (fv_rc rfl (isTree.p fx0 1 (by decide) (by decide)) (Nat.succ_ne_zero _)) ?_
      refine x_iload_n 2 dX1_on_16 rfl ?_
      obtain ⟨b_3, hw⟩ := hw
      refine x_iald (n := 24) (j := (Int32.toNatClampNeg x3)) dX1_on_17 rfl (isTree.a fx0 1 (by decide) (by decide)) b_3 ?_
      refine x_nmi (fun x3_4 ex3_4 => ?_)
      have hw := hw x3_4 ex3_4
      refine x_istore_n (lv' := [(3, .int x3_4), (0, .ref (mr ρ x0)), (2, .int x2)]) dX1_on_18 (Nat.le_of_ble_eq_true rfl) rfl ?_
      refine x_goto 2 dX1_on_19 (by decide) ?_
      refine X.sub [1, 2, 0] rfl ?_
      exact ih x0 x2 x3_4 h g e fx0 hw
set_option maxHeartbeats 4000000 in
theorem k_X1_on {ρ : Rho} {h : Hp} {post : Int32 → Hp → Prop} {r0 : Nat} {p1 : Int32} {p2 : Int32} (G : G0 ρ) (g : GI h) (fr0 : isTree h r0) (hw : wp_X1_on post h r0 p1 p2) : Con ρ yX1_on (ws_ yX1_on cX1_on 4 (Option.some Jvm.ClassFile.FieldType.int)) rm_X1_on [.ref (mr ρ r0), .int p1, .int p2] h (phI h post) psN := by
  refine con_of (own := "BeforeTheEnd$Tree") (isI := false) (l0 := [(0, .ref (mr ρ r0)), (1, .int p1), (2, .int p2)]) (by decide) rfl (fun z => by cases z) (Nat.le_of_ble_eq_true rfl) rfl (fun _ => ?_)
  show X ρ K_X1_on 0 [(0, .ref (mr ρ r0)), (1, .int p1), (2, .int p2)] [] h 0 0 (phI h post) psN
  refine x_iload_n 1 dX1_on_0 rfl ?_
  refine x_istore_n (lv' := [(3, .int p1), (0, .ref (mr ρ r0)), (1, .int p1), (2, .int p2)]) dX1_on_1 (Nat.le_of_ble_eq_true rfl) rfl ?_
  refine X.sub [1, 3, 0] rfl ?_
  obtain ⟨fu, hw⟩ := hw
  exact t_X1_on_2 G  fu r0 p2 p1 h g Ext.rf fr0 hw

/-! BeforeTheEnd.quickest(I)I -/
def w_X0_quickest_5 (post : Int32 → Hp → Prop) : Nat → Int32 → Int32 → Int32 → Hp → Prop
  | 0 => fun _ _ _ _ => False
  | n + 1 => fun x1 x2 x3 h => (((gi h 1 3) ≤ x3 → (post x2 h)) ∧ (¬ (gi h 1 3) ≤ x3 → (vp_in x3 4 ∧ ((¬ (gi h 19 (Int32.toNatClampNeg x3)) = 0 → (((¬ (0 : Int32) = 0 → ((¬ x2 = (-9) → (vp_in x3 4 ∧ isPl h (gr h 10 (Int32.toNatClampNeg x3)) ∧ vp_in x2 4 ∧ isPl h (gr h 10 (Int32.toNatClampNeg x2))))))) ∧ (∀ z_11 : Int32, z_11 = ((if (0 : Int32) = 0 then x2 else (if x2 = (-9) then x3 else (if (gi h (gr h 10 (Int32.toNatClampNeg x2)) 0) ≤ (gi h (gr h 10 (Int32.toNatClampNeg x3)) 0) then x2 else x3))) : Int32) → (w_X0_quickest_5 post n x1 z_11 (x3 + 1) h)))) ∧ ((gi h 19 (Int32.toNatClampNeg x3)) = 0 → (vp_in x3 4 ∧ (isPl h (gr h 10 (Int32.toNatClampNeg x3)) ∧ (∀ z_17 : Int32, z_17 = ((if (gi h 1 19) ≤ 0 then 0 else 1) : Int32) → (wp_X0_doesPress (fun r_21 h_18 => GI h_18 → Ext h h_18 → (∀ z_24 : Int32, z_24 = ((if r_21 = 0 then 0 else 1) : Int32) → (((¬ z_24 = 0 → ((¬ x2 = (-9) → (vp_in x3 4 ∧ isPl h_18 (gr h_18 10 (Int32.toNatClampNeg x3)) ∧ vp_in x2 4 ∧ isPl h_18 (gr h_18 10 (Int32.toNatClampNeg x2))))))) ∧ (∀ z_32 : Int32, z_32 = ((if z_24 = 0 then x2 else (if x2 = (-9) then x3 else (if (gi h_18 (gr h_18 10 (Int32.toNatClampNeg x2)) 0) ≤ (gi h_18 (gr h_18 10 (Int32.toNatClampNeg x3)) 0) then x2 else x3))) : Int32) → (w_X0_quickest_5 post n x1 z_32 (x3 + 1) h_18))))) h (gr h 10 (Int32.toNatClampNeg x3)) x1 z_17)))))))))
def wp_X0_quickest (post : Int32 → Hp → Prop) (h : Hp) (p1 : Int32) : Prop := (∃ fu : Nat, w_X0_quickest_5 post fu p1 (-9) 0 h)
abbrev rm_X0_quickest : Room := ({ frames := 10, cells := 0, slots := 0, locals := 287 })
abbrev K_X0_quickest : Kx := ("BeforeTheEnd", cX0_quickest, 5, (Option.some Jvm.ClassFile.FieldType.int), rm_X0_quickest, [], false)
set_option maxHeartbeats 4000000 in
theorem t_X0_quickest_5 {ρ : Rho} {h0 : Hp} {post : Int32 → Hp → Prop} (G : G0 ρ) :
    ∀ (n : Nat), ∀ (x1 : Int32) (x2 : Int32) (x3 : Int32) (h : Hp), GI h → Ext h0 h → w_X0_quickest_5 post n x1 x2 x3 h → X ρ K_X0_quickest 5 [(0, .ref (mr ρ 1)), (1, .int x1), (2, .int x2), (3, .int x3)] [] h 0 0 (phI h0 post) psN := by
  intro n
  induction n with
  | zero => intro x1 x2 x3 h g e hw; exact False.elim hw
  | succ n ih =>
    intro x1 x2 x3 h g e hw
    refine x_iload_n 3 dX0_quickest_5 rfl ?_
    refine x_aload_n 0 dX0_quickest_6 rfl ?_
    refine x_get (ci := 0) (v := .int (gi h 1 3)) 3 dX0_quickest_7 (GI.s g (t := (10, 0)) rfl (by decide)) rfl in_X0 (by decide) q190 (Or.inl rfl) (fv_i rfl) ?_
    obtain ⟨wt_39, wf_40⟩ := hw
    refine x_icmp_ge 99 dX0_quickest_10 (by decide) (fun c_1 => ?_) (fun c_1 => ?_)
    · have hw := wt_39 c_1
      refine x_iload_n 2 dX0_quickest_99 rfl ?_
      exact x_iret dX0_quickest_100 rfl (Nat.le_of_ble_eq_true rfl) (Nat.le_of_ble_eq_true rfl) ⟨_, rfl, g, e, hw⟩
    · have hw := wf_40 c_1
      refine x_aload_n 0 dX0_quickest_13 rfl ?_
      refine x_get (ci := 0) (v := .ref (mr ρ 19)) 21 dX0_quickest_14 (GI.s g (t := (10, 0)) rfl (by decide)) rfl in_X0 (by decide) q210 (Or.inl rfl) (fv_rc rfl (GI.x g (n := 19) rfl (by decide)) (by decide)) ?_
      refine x_iload_n 3 dX0_quickest_17 rfl ?_
      obtain ⟨b_2, hw⟩ := hw
      refine x_zald (n := 4) (j := (Int32.toNatClampNeg x3)) dX0_quickest_18 rfl (GI.s g (t := (4, 4)) rfl (by decide)) b_2 ?_
      obtain ⟨wt_37, wf_38⟩ := hw
      refine x_if_ne 52 dX0_quickest_19 (by decide) (fun c_3 => ?_) (fun c_3 => ?_)
      · have hw := wt_37 c_3
        refine x_iconst 0 dX0_quickest_52 (by decide) ?_
        refine x_istore (lv' := [(4, .int 0), (0, .ref (mr ρ 1)), (1, .int x1), (2, .int x2), (3, .int x3)]) dX0_quickest_53 (Nat.le_of_ble_eq_true rfl) rfl ?_
        refine x_iload 0 dX0_quickest_55 rfl ?_
        obtain ⟨hO_13, hw⟩ := hw
        have kJ_12 : ∀ z_11 : Int32, z_11 = ((if (0 : Int32) = 0 then x2 else (if x2 = (-9) then x3 else (if (gi h (gr h 10 (Int32.toNatClampNeg x2)) 0) ≤ (gi h (gr h 10 (Int32.toNatClampNeg x3)) 0) then x2 else x3))) : Int32) → X ρ K_X0_quickest 92 [(4, .int 0), (0, .ref (mr ρ 1)), (1, .int x1), (2, .int x2), (3, .int x3)] [.int z_11] h 0 0 (phI h0 post) psN := fun z_11 ez_11 => by
          have hw := hw z_11 ez_11
          refine x_istore_n (lv' := [(2, .int z_11), (4, .int 0), (0, .ref (mr ρ 1)), (1, .int x1), (3, .int x3)]) dX0_quickest_92 (Nat.le_of_ble_eq_true rfl) rfl ?_
          refine x_iinc (v := (x3 + 1)) (lv' := [(3, .int (x3 + 1)), (2, .int z_11), (4, .int 0), (0, .ref (mr ρ 1)), (1, .int x1)]) 4 dX0_quickest_93 rfl (by rfl) (Nat.le_of_ble_eq_true rfl) rfl ?_
          refine x_goto 5 dX0_quickest_96 (by decide) ?_
          refine X.sub [3, 4, 1, 0] rfl ?_
          exact ih x1 z_11 (x3 + 1) h g e hw
        have hO_130 := hO_13
        refine x_if_eq 91 dX0_quickest_57 (by decide) (fun c_4 => ?_) (fun c_4 => ?_)
        · refine x_iload_n 3 dX0_quickest_91 rfl ?_
          exact kJ_12 _ ((if_pos c_4)).symm
        · have hO_13_ := hO_130 c_4
          have hO_13_0 := hO_13_
          refine x_iload_n 3 dX0_quickest_60 rfl ?_
          refine x_bipush (-9) dX0_quickest_61 (by decide) ?_
          refine x_icmp_eq 87 dX0_quickest_63 (by decide) (fun c_5 => ?_) (fun c_5 => ?_)
          · refine x_iload_n 4 dX0_quickest_87 rfl ?_
            refine x_goto 92 dX0_quickest_88 (by decide) ?_
            exact kJ_12 _ (((if_neg c_4).trans (if_pos c_5))).symm
          · have hO_13__ := hO_13_0 c_5
            obtain ⟨b_6, b_7, b_8, b_9⟩ := hO_13__
            refine x_aload_n 1 dX0_quickest_66 rfl ?_
            refine x_get (ci := 0) (v := .ref (mr ρ 10)) 2 dX0_quickest_67 (GI.s g (t := (10, 0)) rfl (by decide)) rfl in_X0 (by decide) q189 (Or.inl rfl) (fv_rc rfl (GI.x g (n := 10) rfl (by decide)) (by decide)) ?_
            refine x_iload_n 4 dX0_quickest_70 rfl ?_
            refine x_aald5 (n := 4) (j := (Int32.toNatClampNeg x3)) dX0_quickest_71 rfl (GI.s g (t := (5, 4)) rfl (by decide)) b_6 ?_
            refine x_nn (isPl.nz b_7 (GI.live g)) ?_
            refine x_getP 0 (by decide) dX0_quickest_72 b_7 q607 ?_
            refine x_aload_n 1 dX0_quickest_75 rfl ?_
            refine x_get (ci := 0) (v := .ref (mr ρ 10)) 2 dX0_quickest_76 (GI.s g (t := (10, 0)) rfl (by decide)) rfl in_X0 (by decide) q189 (Or.inl rfl) (fv_rc rfl (GI.x g (n := 10) rfl (by decide)) (by decide)) ?_
            refine x_iload_n 3 dX0_quickest_79 rfl ?_
            refine x_aald5 (n := 4) (j := (Int32.toNatClampNeg x2)) dX0_quickest_80 rfl (GI.s g (t := (5, 4)) rfl (by decide)) b_8 ?_
            refine x_nn (isPl.nz b_9 (GI.live g)) ?_
            refine x_getP 0 (by decide) dX0_quickest_81 b_9 q607 ?_
            refine x_icmp_ge 91 dX0_quickest_84 (by decide) (fun c_10 => ?_) (fun c_10 => ?_)
            · refine x_iload_n 3 dX0_quickest_91 rfl ?_
              exact kJ_12 _ (((if_neg c_4).trans ((if_neg c_5).trans (if_pos c_10)))).symm
            · refine x_iload_n 4 dX0_quickest_87 rfl ?_
              refine x_goto 92 dX0_quickest_88 (by decide) ?_
              exact kJ_12 _ (((if_neg c_4).trans ((if_neg c_5).trans (if_neg c_10)))).symm
      · have hw := wf_38 c_3
        refine x_aload_n 0 dX0_quickest_22 rfl ?_
        refine x_aload_n 0 dX0_quickest_23 rfl ?_
        refine x_get (ci := 0) (v := .ref (mr ρ 10)) 2 dX0_quickest_24 (GI.s g (t := (10, 0)) rfl (by decide)) rfl in_X0 (by decide) q189 (Or.inl rfl) (fv_rc rfl (GI.x g (n := 10) rfl (by decide)) (by decide)) ?_
        refine x_iload_n 3 dX0_quickest_27 rfl ?_
        obtain ⟨b_14, hw⟩ := hw
        obtain ⟨b_15, hw⟩ := hw
        refine x_aald5 (n := 4) (j := (Int32.toNatClampNeg x3)) dX0_quickest_28 rfl (GI.s g (t := (5, 4)) rfl (by decide)) b_14 ?_
        refine x_nn (isPl.nz b_15 (GI.live g)) ?_
        refine x_iload_n 1 dX0_quickest_29 rfl ?_
        refine x_aload_n 0 dX0_quickest_30 rfl ?_
        refine x_get (ci := 0) (v := .int (gi h 1 19)) 19 dX0_quickest_31 (GI.s g (t := (10, 0)) rfl (by decide)) rfl in_X0 (by decide) q208 (Or.inl rfl) (fv_i rfl) ?_
        have kJ_36 : ∀ z_17 : Int32, z_17 = ((if (gi h 1 19) ≤ 0 then 0 else 1) : Int32) → X ρ K_X0_quickest 42 [(0, .ref (mr ρ 1)), (1, .int x1), (2, .int x2), (3, .int x3)] [.int z_17, .int x1, .ref (mr ρ (gr h 10 (Int32.toNatClampNeg x3))), .ref (mr ρ 1)] h 0 0 (phI h0 post) psN := fun z_17 ez_17 => by
          have hw := hw z_17 ez_17
          refine x_callV (ci := 0) [.ref (mr ρ (gr h 10 (Int32.toNatClampNeg x3))), .int x1, .int z_17] 3 dX0_quickest_42 (k_X0_doesPress G g b_15 hw) (GI.s g (t := (10, 0)) rfl (by decide)) rfl q845 q847 qs25 q104 q848 (by decide) rfl rfl ⟨(Nat.le_of_ble_eq_true rfl), (Nat.le_of_ble_eq_true rfl)⟩ (Nat.le_of_ble_eq_true rfl) ⟨(Nat.le_of_ble_eq_true rfl), (Nat.le_of_ble_eq_true rfl)⟩ (fun v9 h_18 hv9 => ?_) (fun _ _ _ _ _ z _ _ => False.elim z)
          obtain ⟨r_21, rfl, g_19, e_20, b_22, hw⟩ := hv9
          have hw := hw g_19 e_20
          show X ρ K_X0_quickest 45 [(0, .ref (mr ρ 1)), (1, .int x1), (2, .int x2), (3, .int x3)] [.int r_21] h_18 0 0 (phI h0 post) psN
          have kJ_35 : ∀ z_24 : Int32, z_24 = ((if r_21 = 0 then 0 else 1) : Int32) → X ρ K_X0_quickest 53 [(0, .ref (mr ρ 1)), (1, .int x1), (2, .int x2), (3, .int x3)] [.int z_24] h_18 0 0 (phI h0 post) psN := fun z_24 ez_24 => by
            have hw := hw z_24 ez_24
            refine x_istore (lv' := [(4, .int z_24), (0, .ref (mr ρ 1)), (1, .int x1), (2, .int x2), (3, .int x3)]) dX0_quickest_53 (Nat.le_of_ble_eq_true rfl) rfl ?_
            refine x_iload 0 dX0_quickest_55 rfl ?_
            obtain ⟨hO_34, hw⟩ := hw
            have kJ_33 : ∀ z_32 : Int32, z_32 = ((if z_24 = 0 then x2 else (if x2 = (-9) then x3 else (if (gi h_18 (gr h_18 10 (Int32.toNatClampNeg x2)) 0) ≤ (gi h_18 (gr h_18 10 (Int32.toNatClampNeg x3)) 0) then x2 else x3))) : Int32) → X ρ K_X0_quickest 92 [(4, .int z_24), (0, .ref (mr ρ 1)), (1, .int x1), (2, .int x2), (3, .int x3)] [.int z_32] h_18 0 0 (phI h0 post) psN := fun z_32 ez_32 => by
              have hw := hw z_32 ez_32
              refine x_istore_n (lv' := [(2, .int z_32), (4, .int z_24), (0, .ref (mr ρ 1)), (1, .int x1), (3, .int x3)]) dX0_quickest_92 (Nat.le_of_ble_eq_true rfl) rfl ?_
              refine x_iinc (v := (x3 + 1)) (lv' := [(3, .int (x3 + 1)), (2, .int z_32), (4, .int z_24), (0, .ref (mr ρ 1)), (1, .int x1)]) 4 dX0_quickest_93 rfl (by rfl) (Nat.le_of_ble_eq_true rfl) rfl ?_
              refine x_goto 5 dX0_quickest_96 (by decide) ?_
              refine X.sub [3, 4, 1, 0] rfl ?_
              exact ih x1 z_32 (x3 + 1) h_18 g_19 (Ext.tr e e_20) hw
            have hO_340 := hO_34
            refine x_if_eq 91 dX0_quickest_57 (by decide) (fun c_25 => ?_) (fun c_25 => ?_)
            · refine x_iload_n 3 dX0_quickest_91 rfl ?_
              exact kJ_33 _ ((if_pos c_25)).symm
            · have hO_34_ := hO_340 c_25
              have hO_34_0 := hO_34_
              refine x_iload_n 3 dX0_quickest_60 rfl ?_
              refine x_bipush (-9) dX0_quickest_61 (by decide) ?_
              refine x_icmp_eq 87 dX0_quickest_63 (by decide) (fun c_26 => ?_) (fun c_26 => ?_)
              · refine x_iload_n 4 dX0_quickest_87 rfl ?_
                refine x_goto 92 dX0_quickest_88 (by decide) ?_
                exact kJ_33 _ (((if_neg c_25).trans (if_pos c_26))).symm
              · have hO_34__ := hO_34_0 c_26
                obtain ⟨b_27, b_28, b_29, b_30⟩ := hO_34__
                refine x_aload_n 1 dX0_quickest_66 rfl ?_
                refine x_get (ci := 0) (v := .ref (mr ρ 10)) 2 dX0_quickest_67 (GI.s g_19 (t := (10, 0)) rfl (by decide)) rfl in_X0 (by decide) q189 (Or.inl rfl) (fv_rc rfl (GI.x g_19 (n := 10) rfl (by decide)) (by decide)) ?_
                refine x_iload_n 4 dX0_quickest_70 rfl ?_
                refine x_aald5 (n := 4) (j := (Int32.toNatClampNeg x3)) dX0_quickest_71 rfl (GI.s g_19 (t := (5, 4)) rfl (by decide)) b_27 ?_
                refine x_nn (isPl.nz b_28 (GI.live g_19)) ?_
                refine x_getP 0 (by decide) dX0_quickest_72 b_28 q607 ?_
                refine x_aload_n 1 dX0_quickest_75 rfl ?_
                refine x_get (ci := 0) (v := .ref (mr ρ 10)) 2 dX0_quickest_76 (GI.s g_19 (t := (10, 0)) rfl (by decide)) rfl in_X0 (by decide) q189 (Or.inl rfl) (fv_rc rfl (GI.x g_19 (n := 10) rfl (by decide)) (by decide)) ?_
                refine x_iload_n 3 dX0_quickest_79 rfl ?_
                refine x_aald5 (n := 4) (j := (Int32.toNatClampNeg x2)) dX0_quickest_80 rfl (GI.s g_19 (t := (5, 4)) rfl (by decide)) b_29 ?_
                refine x_nn (isPl.nz b_30 (GI.live g_19)) ?_
                refine x_getP 0 (by decide) dX0_quickest_81 b_30 q607 ?_
                refine x_icmp_ge 91 dX0_quickest_84 (by decide) (fun c_31 => ?_) (fun c_31 => ?_)
                · refine x_iload_n 3 dX0_quickest_91 rfl ?_
                  exact kJ_33 _ (((if_neg c_25).trans ((if_neg c_26).trans (if_pos c_31)))).symm
                · refine x_iload_n 4 dX0_quickest_87 rfl ?_
                  refine x_goto 92 dX0_quickest_88 (by decide) ?_
                  exact kJ_33 _ (((if_neg c_25).trans ((if_neg c_26).trans (if_neg c_31)))).symm
          refine x_if_eq 52 dX0_quickest_45 (by decide) (fun c_23 => ?_) (fun c_23 => ?_)
          · refine x_iconst 0 dX0_quickest_52 (by decide) ?_
            exact kJ_35 _ ((if_pos c_23)).symm
          · refine x_iconst 1 dX0_quickest_48 (by decide) ?_
            refine x_goto 53 dX0_quickest_49 (by decide) ?_
            exact kJ_35 _ ((if_neg c_23)).symm
        refine x_if_le 41 dX0_quickest_34 (by decide) (fun c_16 => ?_) (fun c_16 => ?_)
        · refine x_iconst 0 dX0_quickest_41 (by decide) ?_
          exact kJ_36 _ ((if_pos c_16)).symm
        · refine x_iconst 1 dX0_quickest_37 (by decide) ?_
          refine x_goto 42 dX0_quickest_38 (by decide) ?_
          exact kJ_36 _ ((if_neg c_16)).symm
set_option maxHeartbeats 4000000 in
theorem k_X0_quickest {ρ : Rho} {h : Hp} {post : Int32 → Hp → Prop} {p1 : Int32} (G : G0 ρ) (g : GI h) (hw : wp_X0_quickest post h p1) : Con ρ yX0_quickest (ws_ yX0_quickest cX0_quickest 5 (Option.some Jvm.ClassFile.FieldType.int)) rm_X0_quickest [.ref (mr ρ 1), .int p1] h (phI h post) psN := by
  refine con_of (own := "BeforeTheEnd") (isI := false) (l0 := [(0, .ref (mr ρ 1)), (1, .int p1)]) (by decide) rfl (fun z => by cases z) (Nat.le_of_ble_eq_true rfl) rfl (fun _ => ?_)
  show X ρ K_X0_quickest 0 [(0, .ref (mr ρ 1)), (1, .int p1)] [] h 0 0 (phI h post) psN
  refine x_bipush (-9) dX0_quickest_0 (by decide) ?_
  refine x_istore_n (lv' := [(2, .int (-9)), (0, .ref (mr ρ 1)), (1, .int p1)]) dX0_quickest_2 (Nat.le_of_ble_eq_true rfl) rfl ?_
  refine x_iconst 0 dX0_quickest_3 (by decide) ?_
  refine x_istore_n (lv' := [(3, .int 0), (2, .int (-9)), (0, .ref (mr ρ 1)), (1, .int p1)]) dX0_quickest_4 (Nat.le_of_ble_eq_true rfl) rfl ?_
  refine X.sub [2, 3, 1, 0] rfl ?_
  obtain ⟨fu, hw⟩ := hw
  exact t_X0_quickest_5 G  fu p1 (-9) 0 h g Ext.rf hw
