/-! THE WALK, printed by wip/D-93865w/gen/main.py -/
set_option maxRecDepth 100000
/-! BeforeTheEndModel.divisor(JJ)J -/
def w_X2_divisor_6 (post : Int64 → Hp → Prop) : Nat → Int64 → Int64 → Hp → Prop
  | 0 => fun _ _ _ => False
  | n + 1 => fun x4 x6 h => ((x6 = 0 → (post x4 h)) ∧ (¬ x6 = 0 → (¬ x6 = 0 ∧ (w_X2_divisor_6 post n x6 (x4 - x4 / x6 * x6) h))))
def wp_X2_divisor (post : Int64 → Hp → Prop) (h : Hp) (p1 : Int64) (p2 : Int64) : Prop := (∃ fu : Nat, w_X2_divisor_6 post fu p1 p2 h)
abbrev rm_X2_divisor : Room := ({ frames := 1, cells := 0, slots := 0, locals := 60 })
abbrev K_X2_divisor : Kx := ("BeforeTheEndModel", cX2_divisor, 10, (Option.some Jvm.ClassFile.FieldType.long), rm_X2_divisor, [], false)
set_option maxHeartbeats 4000000 in
theorem t_X2_divisor_6 {ρ : Rho} {h0 : Hp} {post : Int64 → Hp → Prop} (G : G0 ρ) :
    ∀ (n : Nat), ∀ (x4 : Int64) (x6 : Int64) (h : Hp), GI h → Ext h0 h → w_X2_divisor_6 post n x4 x6 h → X ρ K_X2_divisor 6 [(4, .long x4), (6, .long x6)] [] h 0 0 (phL h0 post) psN := by
  intro n
  induction n with
  | zero => intro x4 x6 h g e hw; exact False.elim hw
  | succ n ih =>
    intro x4 x6 h g e hw
    refine x_lload 1 dX2_divisor_6 rfl ?_
    refine x_lconst 0 dX2_divisor_8 (by decide) ?_
    obtain ⟨wt_3, wf_4⟩ := hw
    refine x_lif_eq 31 dX2_divisor_9 dX2_divisor_10 (by decide) (fun c_1 => ?_) (fun c_1 => ?_)
    · have hw := wt_3 c_1
      refine x_lload 0 dX2_divisor_31 rfl ?_
      exact x_lret dX2_divisor_33 rfl (Nat.le_of_ble_eq_true rfl) (Nat.le_of_ble_eq_true rfl) ⟨_, rfl, g, e, hw⟩
    · have hw := wf_4 c_1
      refine x_lload 0 dX2_divisor_13 rfl ?_
      refine x_lload 1 dX2_divisor_15 rfl ?_
      obtain ⟨b_2, hw⟩ := hw
      refine x_lrem dX2_divisor_17 b_2 ?_
      refine x_lstore (lv' := [(8, .long (x4 - x4 / x6 * x6)), (4, .long x4), (6, .long x6)]) dX2_divisor_18 (Nat.le_of_ble_eq_true rfl) rfl ?_
      refine x_lload 2 dX2_divisor_20 rfl ?_
      refine x_lstore (lv' := [(4, .long x6), (8, .long (x4 - x4 / x6 * x6)), (6, .long x6)]) dX2_divisor_22 (Nat.le_of_ble_eq_true rfl) rfl ?_
      refine x_lload 1 dX2_divisor_24 rfl ?_
      refine x_lstore (lv' := [(6, .long (x4 - x4 / x6 * x6)), (4, .long x6), (8, .long (x4 - x4 / x6 * x6))]) dX2_divisor_26 (Nat.le_of_ble_eq_true rfl) rfl ?_
      refine x_goto 6 dX2_divisor_28 (by decide) ?_
      refine X.sub [1, 0] rfl ?_
      exact ih x6 (x4 - x4 / x6 * x6) h g e hw
set_option maxHeartbeats 4000000 in
theorem k_X2_divisor {ρ : Rho} {h : Hp} {post : Int64 → Hp → Prop} {p1 : Int64} {p2 : Int64} (G : G0 ρ) (g : GI h) (hw : wp_X2_divisor post h p1 p2) : Con ρ yX2_divisor (ws_ yX2_divisor cX2_divisor 10 (Option.some Jvm.ClassFile.FieldType.long)) rm_X2_divisor [.long p1, .long p2] h (phL h post) psN := by
  refine con_of (own := "BeforeTheEndModel") (isI := false) (l0 := [(0, .long p1), (2, .long p2)]) (by decide) rfl (fun z => by cases z) (Nat.le_of_ble_eq_true rfl) rfl (fun _ => ?_)
  show X ρ K_X2_divisor 0 [(0, .long p1), (2, .long p2)] [] h 0 0 (phL h post) psN
  refine x_lload_n 0 dX2_divisor_0 rfl ?_
  refine x_lstore (lv' := [(4, .long p1), (0, .long p1), (2, .long p2)]) dX2_divisor_1 (Nat.le_of_ble_eq_true rfl) rfl ?_
  refine x_lload_n 2 dX2_divisor_3 rfl ?_
  refine x_lstore (lv' := [(6, .long p2), (4, .long p1), (0, .long p1), (2, .long p2)]) dX2_divisor_4 (Nat.le_of_ble_eq_true rfl) rfl ?_
  refine X.sub [1, 0] rfl ?_
  obtain ⟨fu, hw⟩ := hw
  exact t_X2_divisor_6 G  fu p1 p2 h g Ext.rf hw

/-! BeforeTheEndModel.commonOf(I)I -/
def w_X2_commonOf_6 (post : Int32 → Hp → Prop) : Nat → Int32 → Int32 → Int32 → Hp → Prop
  | 0 => fun _ _ _ _ => False
  | n + 1 => fun x1 x2 x3 h => (((gi h 25 12) ≤ x3 → (post x2 h)) ∧ (¬ (gi h 25 12) ≤ x3 → (vp_in x3 24 ∧ ((¬ (gi h 27 (Int32.toNatClampNeg x3)) = x1 → (w_X2_commonOf_6 post n x1 x2 (x3 + 1) h)) ∧ ((gi h 27 (Int32.toNatClampNeg x3)) = x1 → (vp_in x3 24 ∧ (wp_X2_divisor (fun r_8 h_5 => GI h_5 → Ext h h_5 → (w_X2_commonOf_6 post n x1 (Int64.toInt32 r_8) (x3 + 1) h_5)) h (Int32.toInt64 (gi h 28 (Int32.toNatClampNeg x3))) (Int32.toInt64 x2))))))))
def wp_X2_commonOf (post : Int32 → Hp → Prop) (h : Hp) (p1 : Int32) : Prop := (∃ fu : Nat, w_X2_commonOf_6 post fu p1 0 (p1 + 1) h)
abbrev rm_X2_commonOf : Room := ({ frames := 2, cells := 0, slots := 0, locals := 89 })
abbrev K_X2_commonOf : Kx := ("BeforeTheEndModel", cX2_commonOf, 4, (Option.some Jvm.ClassFile.FieldType.int), rm_X2_commonOf, [], false)
set_option maxHeartbeats 4000000 in
theorem t_X2_commonOf_6 {ρ : Rho} {h0 : Hp} {post : Int32 → Hp → Prop} (G : G0 ρ) :
    ∀ (n : Nat), ∀ (x1 : Int32) (x2 : Int32) (x3 : Int32) (h : Hp), GI h → Ext h0 h → w_X2_commonOf_6 post n x1 x2 x3 h → X ρ K_X2_commonOf 6 [(0, .ref (mr ρ 25)), (1, .int x1), (2, .int x2), (3, .int x3)] [] h 0 0 (phI h0 post) psN := by
  intro n
  induction n with
  | zero => intro x1 x2 x3 h g e hw; exact False.elim hw
  | succ n ih =>
    intro x1 x2 x3 h g e hw
    refine x_iload_n 3 dX2_commonOf_6 rfl ?_
    refine x_aload_n 0 dX2_commonOf_7 rfl ?_
    refine x_get (ci := 2) (v := .int (gi h 25 12)) 12 dX2_commonOf_8 (GI.s g (t := (12, 0)) rfl (by decide)) rfl in_X2 (by decide) q1235 (Or.inl rfl) (fv_i rfl) ?_
    obtain ⟨wt_12, wf_13⟩ := hw
    refine x_icmp_ge 48 dX2_commonOf_11 (by decide) (fun c_1 => ?_) (fun c_1 => ?_)
    · have hw := wt_12 c_1
      refine x_iload_n 2 dX2_commonOf_48 rfl ?_
      exact x_iret dX2_commonOf_49 rfl (Nat.le_of_ble_eq_true rfl) (Nat.le_of_ble_eq_true rfl) ⟨_, rfl, g, e, hw⟩
    · have hw := wf_13 c_1
      refine x_aload_n 0 dX2_commonOf_14 rfl ?_
      refine x_get (ci := 2) (v := .ref (mr ρ 27)) 1 dX2_commonOf_15 (GI.s g (t := (12, 0)) rfl (by decide)) rfl in_X2 (by decide) q1224 (Or.inl rfl) (fv_rc rfl (GI.m g (n := 27) rfl (by decide)) (by decide)) ?_
      refine x_iload_n 3 dX2_commonOf_18 rfl ?_
      obtain ⟨b_2, hw⟩ := hw
      refine x_iald (n := 24) (j := (Int32.toNatClampNeg x3)) dX2_commonOf_19 rfl (GI.s g (t := (1, 24)) rfl (by decide)) b_2 ?_
      refine x_iload_n 1 dX2_commonOf_20 rfl ?_
      obtain ⟨wt_10, wf_11⟩ := hw
      refine x_icmp_ne 40 dX2_commonOf_21 (by decide) (fun c_3 => ?_) (fun c_3 => ?_)
      · have hw := wt_10 c_3
        refine x_iload_n 2 dX2_commonOf_40 rfl ?_
        refine x_istore_n (lv' := [(2, .int x2), (0, .ref (mr ρ 25)), (1, .int x1), (3, .int x3)]) dX2_commonOf_41 (Nat.le_of_ble_eq_true rfl) rfl ?_
        refine x_iinc (v := (x3 + 1)) (lv' := [(3, .int (x3 + 1)), (2, .int x2), (0, .ref (mr ρ 25)), (1, .int x1)]) 3 dX2_commonOf_42 rfl (by rfl) (Nat.le_of_ble_eq_true rfl) rfl ?_
        refine x_goto 6 dX2_commonOf_45 (by decide) ?_
        refine X.sub [2, 3, 1, 0] rfl ?_
        exact ih x1 x2 (x3 + 1) h g e hw
      · have hw := wf_11 c_3
        refine x_aload_n 0 dX2_commonOf_24 rfl ?_
        refine x_get (ci := 2) (v := .ref (mr ρ 28)) 2 dX2_commonOf_25 (GI.s g (t := (12, 0)) rfl (by decide)) rfl in_X2 (by decide) q1225 (Or.inl rfl) (fv_rc rfl (GI.m g (n := 28) rfl (by decide)) (by decide)) ?_
        refine x_iload_n 3 dX2_commonOf_28 rfl ?_
        obtain ⟨b_4, hw⟩ := hw
        refine x_iald (n := 24) (j := (Int32.toNatClampNeg x3)) dX2_commonOf_29 rfl (GI.s g (t := (1, 24)) rfl (by decide)) b_4 ?_
        refine x_i2l dX2_commonOf_30 ?_
        refine x_iload_n 2 dX2_commonOf_31 rfl ?_
        refine x_i2l dX2_commonOf_32 ?_
        refine x_callS [.long (Int32.toInt64 (gi h 28 (Int32.toNatClampNeg x3))), .long (Int32.toInt64 x2)] 2 dX2_commonOf_33 (k_X2_divisor G g hw) q1495 q1496 q106 q1497 (by decide) rfl rfl ⟨(Nat.le_of_ble_eq_true rfl), (Nat.le_of_ble_eq_true rfl)⟩ (Nat.le_of_ble_eq_true rfl) ⟨(Nat.le_of_ble_eq_true rfl), (Nat.le_of_ble_eq_true rfl)⟩ (fun v9 h_5 hv9 => ?_) (fun _ _ _ _ _ z _ _ => False.elim z)
        obtain ⟨r_8, rfl, g_6, e_7, hw⟩ := hv9
        have hw := hw g_6 e_7
        show X ρ K_X2_commonOf 36 [(0, .ref (mr ρ 25)), (1, .int x1), (2, .int x2), (3, .int x3)] [.long r_8] h_5 0 0 (phI h0 post) psN
        refine x_l2i dX2_commonOf_36 ?_
        refine x_goto 41 dX2_commonOf_37 (by decide) ?_
        refine x_istore_n (lv' := [(2, .int (Int64.toInt32 r_8)), (0, .ref (mr ρ 25)), (1, .int x1), (3, .int x3)]) dX2_commonOf_41 (Nat.le_of_ble_eq_true rfl) rfl ?_
        refine x_iinc (v := (x3 + 1)) (lv' := [(3, .int (x3 + 1)), (2, .int (Int64.toInt32 r_8)), (0, .ref (mr ρ 25)), (1, .int x1)]) 3 dX2_commonOf_42 rfl (by rfl) (Nat.le_of_ble_eq_true rfl) rfl ?_
        refine x_goto 6 dX2_commonOf_45 (by decide) ?_
        refine X.sub [2, 3, 1, 0] rfl ?_
        exact ih x1 (Int64.toInt32 r_8) (x3 + 1) h_5 g_6 (Ext.tr e e_7) hw
set_option maxHeartbeats 4000000 in
theorem k_X2_commonOf {ρ : Rho} {h : Hp} {post : Int32 → Hp → Prop} {p1 : Int32} (G : G0 ρ) (g : GI h) (hw : wp_X2_commonOf post h p1) : Con ρ yX2_commonOf (ws_ yX2_commonOf cX2_commonOf 4 (Option.some Jvm.ClassFile.FieldType.int)) rm_X2_commonOf [.ref (mr ρ 25), .int p1] h (phI h post) psN := by
  refine con_of (own := "BeforeTheEndModel") (isI := false) (l0 := [(0, .ref (mr ρ 25)), (1, .int p1)]) (by decide) rfl (fun z => by cases z) (Nat.le_of_ble_eq_true rfl) rfl (fun _ => ?_)
  show X ρ K_X2_commonOf 0 [(0, .ref (mr ρ 25)), (1, .int p1)] [] h 0 0 (phI h post) psN
  refine x_iconst 0 dX2_commonOf_0 (by decide) ?_
  refine x_istore_n (lv' := [(2, .int 0), (0, .ref (mr ρ 25)), (1, .int p1)]) dX2_commonOf_1 (Nat.le_of_ble_eq_true rfl) rfl ?_
  refine x_iload_n 2 dX2_commonOf_2 rfl ?_
  refine x_iconst 1 dX2_commonOf_3 (by decide) ?_
  refine x_iadd dX2_commonOf_4 ?_
  refine x_istore_n (lv' := [(3, .int (p1 + 1)), (2, .int 0), (0, .ref (mr ρ 25)), (1, .int p1)]) dX2_commonOf_5 (Nat.le_of_ble_eq_true rfl) rfl ?_
  refine X.sub [2, 3, 1, 0] rfl ?_
  obtain ⟨fu, hw⟩ := hw
  exact t_X2_commonOf_6 G  fu p1 0 (p1 + 1) h g Ext.rf hw

/-! BeforeTheEndModel.findShares()V -/
def w_X2_findShares_183 (post : Hp → Prop) (K161 : Int32 → Hp → Prop) : Nat → Int32 → Int32 → Hp → Prop
  | 0 => fun _ _ _ => False
  | n + 1 => fun x1 x2 h => ((x2 ≤ 0 → (vp_in x1 24 ∧ (vp_in (gi h 29 (Int32.toNatClampNeg x1)) 240 ∧ (vp_in x1 24 ∧ (vp_in (gi h 29 (Int32.toNatClampNeg x1)) 240 ∧ (∀ h_6 : Hp, h_6 = (sl h 46 (Int32.toNatClampNeg (gi h 29 (Int32.toNatClampNeg x1))) ((gl h 46 (Int32.toNatClampNeg (gi h 29 (Int32.toNatClampNeg x1)))) + (gl h 45 (Int32.toNatClampNeg x1)))) → (K161 (x1 + 1) h_6))))))) ∧ (¬ x2 ≤ 0 → (vp_in x1 24 ∧ (vp_in ((10 * x2) + (gi h 29 (Int32.toNatClampNeg x1))) 240 ∧ (vp_in x1 24 ∧ (vp_in ((10 * x2) + (gi h 29 (Int32.toNatClampNeg x1))) 240 ∧ (∀ h_13 : Hp, h_13 = (sl h 46 (Int32.toNatClampNeg ((10 * x2) + (gi h 29 (Int32.toNatClampNeg x1)))) ((gl h 46 (Int32.toNatClampNeg ((10 * x2) + (gi h 29 (Int32.toNatClampNeg x1))))) + (gl h 45 (Int32.toNatClampNeg x1)))) → (vp_in x2 24 ∧ (∀ x2_17 : Int32, x2_17 = (gi h_13 27 (Int32.toNatClampNeg x2)) → (w_X2_findShares_183 post K161 n x1 x2_17 h_13))))))))))
def w_X2_findShares_161 (post : Hp → Prop) : Nat → Int32 → Hp → Prop
  | 0 => fun _ _ => False
  | n + 1 => fun x1 h => (((gi h 25 12) ≤ x1 → (post h)) ∧ (¬ (gi h 25 12) ≤ x1 → (vp_in x1 24 ∧ ((¬ (gi h 29 (Int32.toNatClampNeg x1)) = 0 → (∃ fu : Nat, w_X2_findShares_183 post (w_X2_findShares_161 post n) fu x1 x1 h)) ∧ ((gi h 29 (Int32.toNatClampNeg x1)) = 0 → (w_X2_findShares_161 post n (x1 + 1) h))))))
def w_X2_findShares_135 (post : Hp → Prop) : Nat → Int32 → Hp → Prop
  | 0 => fun _ _ => False
  | n + 1 => fun x1 h => (((10 * (gi h 25 12)) ≤ x1 → (∃ fu : Nat, w_X2_findShares_161 post fu 1 h)) ∧ (¬ (10 * (gi h 25 12)) ≤ x1 → (vp_in x1 240 ∧ (w_X2_findShares_135 post n (x1 + 1) (sl h 46 (Int32.toNatClampNeg x1) 0)))))
def w_X2_findShares_67 (post : Hp → Prop) : Nat → Int32 → Hp → Prop
  | 0 => fun _ _ => False
  | n + 1 => fun x1 h => (((gi h 25 12) ≤ x1 → (∃ fu : Nat, w_X2_findShares_135 post fu 0 h)) ∧ (¬ (gi h 25 12) ≤ x1 → (vp_in x1 24 ∧ (wp_X2_commonOf (fun r_6 h_3 => GI h_3 → Ext h h_3 → (vp_in x1 24 ∧ (vp_in (gi h_3 27 (Int32.toNatClampNeg x1)) 24 ∧ (vp_in x1 24 ∧ (wp_X2_sumOf (fun r_14 h_11 => GI h_11 → Ext h_3 h_11 → (¬ r_6 = 0 ∧ (¬ (Int32.toInt64 (r_14 / r_6)) = 0 ∧ (vp_in x1 24 ∧ (¬ r_6 = 0 ∧ (vp_in x1 24 ∧ (∀ h_21 : Hp, h_21 = (sl h_11 45 (Int32.toNatClampNeg x1) (((gl h_3 45 (Int32.toNatClampNeg (gi h_3 27 (Int32.toNatClampNeg x1)))) / (Int32.toInt64 (r_14 / r_6))) * (Int32.toInt64 ((gi h_11 28 (Int32.toNatClampNeg x1)) / r_6)))) → (w_X2_findShares_67 post n (x1 + 1) h_21)))))))) h_3 (gi h_3 27 (Int32.toNatClampNeg x1))))))) h (gi h 27 (Int32.toNatClampNeg x1))))))
def w_X2_findShares_7 (post : Hp → Prop) : Nat → Int32 → Hp → Prop
  | 0 => fun _ _ => False
  | n + 1 => fun x1 h => (((gi h 25 12) ≤ x1 → (∃ fu : Nat, w_X2_findShares_67 post fu 1 (sl h 45 0 (gl h 25 29)))) ∧ (¬ (gi h 25 12) ≤ x1 → (vp_in x1 24 ∧ ((¬ (gi h 29 (Int32.toNatClampNeg x1)) = 0 → (w_X2_findShares_7 post n (x1 + 1) (sl h 25 29 ((gl h 25 29) * 1)))) ∧ ((gi h 29 (Int32.toNatClampNeg x1)) = 0 → (wp_X2_sumOf (fun r_7 h_4 => GI h_4 → Ext h h_4 → (wp_X2_commonOf (fun r_12 h_9 => GI h_9 → Ext h_4 h_9 → (¬ r_12 = 0 ∧ (w_X2_findShares_7 post n (x1 + 1) (sl h_9 25 29 ((gl h 25 29) * (Int32.toInt64 (r_7 / r_12))))))) h_4 x1)) h x1))))))
def wp_X2_findShares (post : Hp → Prop) (h : Hp) : Prop := (∃ fu : Nat, w_X2_findShares_7 post fu 0 (sl h 25 29 1))
abbrev rm_X2_findShares : Room := ({ frames := 3, cells := 0, slots := 0, locals := 112 })
abbrev K_X2_findShares : Kx := ("BeforeTheEndModel", cX2_findShares, 3, (Option.none : Option Jvm.ClassFile.FieldType), rm_X2_findShares, [], false)
set_option maxHeartbeats 4000000 in
theorem t_X2_findShares_183 {ρ : Rho} {h0 : Hp} {post : Hp → Prop} {K161 : Int32 → Hp → Prop} (G : G0 ρ) (hK161 : ∀ (x1 : Int32) (h : Hp), GI h → Ext h0 h → K161 x1 h → X ρ K_X2_findShares 161 [(0, .ref (mr ρ 25)), (1, .int x1)] [] h 0 0 (phV h0 post) psN) :
    ∀ (n : Nat), ∀ (x1 : Int32) (x2 : Int32) (h : Hp), GI h → Ext h0 h → w_X2_findShares_183 post K161 n x1 x2 h → X ρ K_X2_findShares 183 [(0, .ref (mr ρ 25)), (1, .int x1), (2, .int x2)] [] h 0 0 (phV h0 post) psN := by
  intro n
  induction n with
  | zero => intro x1 x2 h g e hw; exact False.elim hw
  | succ n ih =>
    intro x1 x2 h g e hw
    refine x_iload_n 2 dX2_findShares_183 rfl ?_
    obtain ⟨wt_18, wf_19⟩ := hw
    refine x_if_le 222 dX2_findShares_184 (by decide) (fun c_1 => ?_) (fun c_1 => ?_)
    · have hw := wt_18 c_1
      refine x_aload_n 0 dX2_findShares_222 rfl ?_
      refine x_get (ci := 2) (v := .ref (mr ρ 46)) 25 dX2_findShares_223 (GI.s g (t := (12, 0)) rfl (by decide)) rfl in_X2 (by decide) q1248 (Or.inl rfl) (fv_rc rfl (GI.m g (n := 46) rfl (by decide)) (by decide)) ?_
      refine x_aload_n 0 dX2_findShares_226 rfl ?_
      refine x_get (ci := 2) (v := .ref (mr ρ 29)) 3 dX2_findShares_227 (GI.s g (t := (12, 0)) rfl (by decide)) rfl in_X2 (by decide) q1226 (Or.inl rfl) (fv_rc rfl (GI.m g (n := 29) rfl (by decide)) (by decide)) ?_
      refine x_iload_n 1 dX2_findShares_230 rfl ?_
      obtain ⟨b_2, hw⟩ := hw
      refine x_iald (n := 24) (j := (Int32.toNatClampNeg x1)) dX2_findShares_231 rfl (GI.s g (t := (1, 24)) rfl (by decide)) b_2 ?_
      refine x_dup2 dX2_findShares_232 rfl rfl ?_
      obtain ⟨b_3, hw⟩ := hw
      refine x_lald (n := 240) (j := (Int32.toNatClampNeg (gi h 29 (Int32.toNatClampNeg x1)))) dX2_findShares_233 rfl (GI.s g (t := (2, 240)) rfl (by decide)) b_3 ?_
      refine x_aload_n 0 dX2_findShares_234 rfl ?_
      refine x_get (ci := 2) (v := .ref (mr ρ 45)) 24 dX2_findShares_235 (GI.s g (t := (12, 0)) rfl (by decide)) rfl in_X2 (by decide) q1247 (Or.inl rfl) (fv_rc rfl (GI.m g (n := 45) rfl (by decide)) (by decide)) ?_
      refine x_iload_n 1 dX2_findShares_238 rfl ?_
      obtain ⟨b_4, hw⟩ := hw
      refine x_lald (n := 24) (j := (Int32.toNatClampNeg x1)) dX2_findShares_239 rfl (GI.s g (t := (2, 24)) rfl (by decide)) b_4 ?_
      refine x_ladd dX2_findShares_240 ?_
      obtain ⟨b_5, hw⟩ := hw
      refine x_last (n := 240) (j := (Int32.toNatClampNeg (gi h 29 (Int32.toNatClampNeg x1)))) dX2_findShares_241 rfl (GI.s g (t := (2, 240)) rfl (by decide)) b_5 ?_
      refine x_nmh (fun h_6 eh_6 => ?_)
      have hw := hw h_6 eh_6
      have g_7 : GI h_6 := eh_6 ▸ (GI.l g)
      have e_8 : Ext h0 h_6 := eh_6 ▸ (Ext.l e)
      refine x_iinc (v := (x1 + 1)) (lv' := [(1, .int (x1 + 1)), (0, .ref (mr ρ 25)), (2, .int x2)]) 1 dX2_findShares_242 rfl (by rfl) (Nat.le_of_ble_eq_true rfl) rfl ?_
      refine x_goto 161 dX2_findShares_245 (by decide) ?_
      refine X.sub [1, 0] rfl ?_
      exact hK161 (x1 + 1) h_6 g_7 e_8 hw
    · have hw := wf_19 c_1
      refine x_aload_n 0 dX2_findShares_187 rfl ?_
      refine x_get (ci := 2) (v := .ref (mr ρ 46)) 25 dX2_findShares_188 (GI.s g (t := (12, 0)) rfl (by decide)) rfl in_X2 (by decide) q1248 (Or.inl rfl) (fv_rc rfl (GI.m g (n := 46) rfl (by decide)) (by decide)) ?_
      refine x_bipush 10 dX2_findShares_191 (by decide) ?_
      refine x_iload_n 2 dX2_findShares_193 rfl ?_
      refine x_imul dX2_findShares_194 ?_
      refine x_aload_n 0 dX2_findShares_195 rfl ?_
      refine x_get (ci := 2) (v := .ref (mr ρ 29)) 3 dX2_findShares_196 (GI.s g (t := (12, 0)) rfl (by decide)) rfl in_X2 (by decide) q1226 (Or.inl rfl) (fv_rc rfl (GI.m g (n := 29) rfl (by decide)) (by decide)) ?_
      refine x_iload_n 1 dX2_findShares_199 rfl ?_
      obtain ⟨b_9, hw⟩ := hw
      refine x_iald (n := 24) (j := (Int32.toNatClampNeg x1)) dX2_findShares_200 rfl (GI.s g (t := (1, 24)) rfl (by decide)) b_9 ?_
      refine x_iadd dX2_findShares_201 ?_
      refine x_dup2 dX2_findShares_202 rfl rfl ?_
      obtain ⟨b_10, hw⟩ := hw
      refine x_lald (n := 240) (j := (Int32.toNatClampNeg ((10 * x2) + (gi h 29 (Int32.toNatClampNeg x1))))) dX2_findShares_203 rfl (GI.s g (t := (2, 240)) rfl (by decide)) b_10 ?_
      refine x_aload_n 0 dX2_findShares_204 rfl ?_
      refine x_get (ci := 2) (v := .ref (mr ρ 45)) 24 dX2_findShares_205 (GI.s g (t := (12, 0)) rfl (by decide)) rfl in_X2 (by decide) q1247 (Or.inl rfl) (fv_rc rfl (GI.m g (n := 45) rfl (by decide)) (by decide)) ?_
      refine x_iload_n 1 dX2_findShares_208 rfl ?_
      obtain ⟨b_11, hw⟩ := hw
      refine x_lald (n := 24) (j := (Int32.toNatClampNeg x1)) dX2_findShares_209 rfl (GI.s g (t := (2, 24)) rfl (by decide)) b_11 ?_
      refine x_ladd dX2_findShares_210 ?_
      obtain ⟨b_12, hw⟩ := hw
      refine x_last (n := 240) (j := (Int32.toNatClampNeg ((10 * x2) + (gi h 29 (Int32.toNatClampNeg x1))))) dX2_findShares_211 rfl (GI.s g (t := (2, 240)) rfl (by decide)) b_12 ?_
      refine x_nmh (fun h_13 eh_13 => ?_)
      have hw := hw h_13 eh_13
      have g_14 : GI h_13 := eh_13 ▸ (GI.l g)
      have e_15 : Ext h0 h_13 := eh_13 ▸ (Ext.l e)
      refine x_aload_n 0 dX2_findShares_212 rfl ?_
      refine x_get (ci := 2) (v := .ref (mr ρ 27)) 1 dX2_findShares_213 (GI.s g_14 (t := (12, 0)) rfl (by decide)) rfl in_X2 (by decide) q1224 (Or.inl rfl) (fv_rc rfl (GI.m g_14 (n := 27) rfl (by decide)) (by decide)) ?_
      refine x_iload_n 2 dX2_findShares_216 rfl ?_
      obtain ⟨b_16, hw⟩ := hw
      refine x_iald (n := 24) (j := (Int32.toNatClampNeg x2)) dX2_findShares_217 rfl (GI.s g_14 (t := (1, 24)) rfl (by decide)) b_16 ?_
      refine x_nmi (fun x2_17 ex2_17 => ?_)
      have hw := hw x2_17 ex2_17
      refine x_istore_n (lv' := [(2, .int x2_17), (0, .ref (mr ρ 25)), (1, .int x1)]) dX2_findShares_218 (Nat.le_of_ble_eq_true rfl) rfl ?_
      refine x_goto 183 dX2_findShares_219 (by decide) ?_
      refine X.sub [1, 2, 0] rfl ?_
      exact ih x1 x2_17 h_13 g_14 e_15 hw
set_option maxHeartbeats 4000000 in
theorem t_X2_findShares_161 {ρ : Rho} {h0 : Hp} {post : Hp → Prop} (G : G0 ρ) :
    ∀ (n : Nat), ∀ (x1 : Int32) (h : Hp), GI h → Ext h0 h → w_X2_findShares_161 post n x1 h → X ρ K_X2_findShares 161 [(0, .ref (mr ρ 25)), (1, .int x1)] [] h 0 0 (phV h0 post) psN := by
  intro n
  induction n with
  | zero => intro x1 h g e hw; exact False.elim hw
  | succ n ih =>
    intro x1 h g e hw
    refine x_iload_n 1 dX2_findShares_161 rfl ?_
    refine x_aload_n 0 dX2_findShares_162 rfl ?_
    refine x_get (ci := 2) (v := .int (gi h 25 12)) 12 dX2_findShares_163 (GI.s g (t := (12, 0)) rfl (by decide)) rfl in_X2 (by decide) q1235 (Or.inl rfl) (fv_i rfl) ?_
    obtain ⟨wt_6, wf_7⟩ := hw
    refine x_icmp_ge 248 dX2_findShares_166 (by decide) (fun c_1 => ?_) (fun c_1 => ?_)
    · have hw := wt_6 c_1
      exact x_vret dX2_findShares_248 rfl (Nat.le_of_ble_eq_true rfl) (Nat.le_of_ble_eq_true rfl) ⟨rfl, g, e, hw⟩
    · have hw := wf_7 c_1
      refine x_aload_n 0 dX2_findShares_169 rfl ?_
      refine x_get (ci := 2) (v := .ref (mr ρ 29)) 3 dX2_findShares_170 (GI.s g (t := (12, 0)) rfl (by decide)) rfl in_X2 (by decide) q1226 (Or.inl rfl) (fv_rc rfl (GI.m g (n := 29) rfl (by decide)) (by decide)) ?_
      refine x_iload_n 1 dX2_findShares_173 rfl ?_
      obtain ⟨b_2, hw⟩ := hw
      refine x_iald (n := 24) (j := (Int32.toNatClampNeg x1)) dX2_findShares_174 rfl (GI.s g (t := (1, 24)) rfl (by decide)) b_2 ?_
      obtain ⟨wt_4, wf_5⟩ := hw
      refine x_if_ne 181 dX2_findShares_175 (by decide) (fun c_3 => ?_) (fun c_3 => ?_)
      · have hw := wt_4 c_3
        refine x_iload_n 1 dX2_findShares_181 rfl ?_
        refine x_istore_n (lv' := [(2, .int x1), (0, .ref (mr ρ 25)), (1, .int x1)]) dX2_findShares_182 (Nat.le_of_ble_eq_true rfl) rfl ?_
        refine X.sub [1, 2, 0] rfl ?_
        obtain ⟨fu, hw⟩ := hw
        exact t_X2_findShares_183 G ih fu x1 x1 h g e hw
      · have hw := wf_5 c_3
        refine x_goto 242 dX2_findShares_178 (by decide) ?_
        refine x_iinc (v := (x1 + 1)) (lv' := [(1, .int (x1 + 1)), (0, .ref (mr ρ 25))]) 1 dX2_findShares_242 rfl (by rfl) (Nat.le_of_ble_eq_true rfl) rfl ?_
        refine x_goto 161 dX2_findShares_245 (by decide) ?_
        refine X.sub [1, 0] rfl ?_
        exact ih (x1 + 1) h g e hw
set_option maxHeartbeats 4000000 in
theorem t_X2_findShares_135 {ρ : Rho} {h0 : Hp} {post : Hp → Prop} (G : G0 ρ) :
    ∀ (n : Nat), ∀ (x1 : Int32) (h : Hp), GI h → Ext h0 h → w_X2_findShares_135 post n x1 h → X ρ K_X2_findShares 135 [(0, .ref (mr ρ 25)), (1, .int x1)] [] h 0 0 (phV h0 post) psN := by
  intro n
  induction n with
  | zero => intro x1 h g e hw; exact False.elim hw
  | succ n ih =>
    intro x1 h g e hw
    refine x_iload_n 1 dX2_findShares_135 rfl ?_
    refine x_bipush 10 dX2_findShares_136 (by decide) ?_
    refine x_aload_n 0 dX2_findShares_138 rfl ?_
    refine x_get (ci := 2) (v := .int (gi h 25 12)) 12 dX2_findShares_139 (GI.s g (t := (12, 0)) rfl (by decide)) rfl in_X2 (by decide) q1235 (Or.inl rfl) (fv_i rfl) ?_
    refine x_imul dX2_findShares_142 ?_
    obtain ⟨wt_3, wf_4⟩ := hw
    refine x_icmp_ge 159 dX2_findShares_143 (by decide) (fun c_1 => ?_) (fun c_1 => ?_)
    · have hw := wt_3 c_1
      refine x_iconst 1 dX2_findShares_159 (by decide) ?_
      refine x_istore_n (lv' := [(1, .int 1), (0, .ref (mr ρ 25))]) dX2_findShares_160 (Nat.le_of_ble_eq_true rfl) rfl ?_
      refine X.sub [1, 0] rfl ?_
      obtain ⟨fu, hw⟩ := hw
      exact t_X2_findShares_161 G  fu 1 h g e hw
    · have hw := wf_4 c_1
      refine x_aload_n 0 dX2_findShares_146 rfl ?_
      refine x_get (ci := 2) (v := .ref (mr ρ 46)) 25 dX2_findShares_147 (GI.s g (t := (12, 0)) rfl (by decide)) rfl in_X2 (by decide) q1248 (Or.inl rfl) (fv_rc rfl (GI.m g (n := 46) rfl (by decide)) (by decide)) ?_
      refine x_iload_n 1 dX2_findShares_150 rfl ?_
      refine x_lconst 0 dX2_findShares_151 (by decide) ?_
      obtain ⟨b_2, hw⟩ := hw
      refine x_last (n := 240) (j := (Int32.toNatClampNeg x1)) dX2_findShares_152 rfl (GI.s g (t := (2, 240)) rfl (by decide)) b_2 ?_
      refine x_iinc (v := (x1 + 1)) (lv' := [(1, .int (x1 + 1)), (0, .ref (mr ρ 25))]) 1 dX2_findShares_153 rfl (by rfl) (Nat.le_of_ble_eq_true rfl) rfl ?_
      refine x_goto 135 dX2_findShares_156 (by decide) ?_
      refine X.sub [1, 0] rfl ?_
      exact ih (x1 + 1) (sl h 46 (Int32.toNatClampNeg x1) 0) (GI.l g) (Ext.l e) hw
set_option maxHeartbeats 4000000 in
theorem t_X2_findShares_67 {ρ : Rho} {h0 : Hp} {post : Hp → Prop} (G : G0 ρ) :
    ∀ (n : Nat), ∀ (x1 : Int32) (h : Hp), GI h → Ext h0 h → w_X2_findShares_67 post n x1 h → X ρ K_X2_findShares 67 [(0, .ref (mr ρ 25)), (1, .int x1)] [] h 0 0 (phV h0 post) psN := by
  intro n
  induction n with
  | zero => intro x1 h g e hw; exact False.elim hw
  | succ n ih =>
    intro x1 h g e hw
    refine x_iload_n 1 dX2_findShares_67 rfl ?_
    refine x_aload_n 0 dX2_findShares_68 rfl ?_
    refine x_get (ci := 2) (v := .int (gi h 25 12)) 12 dX2_findShares_69 (GI.s g (t := (12, 0)) rfl (by decide)) rfl in_X2 (by decide) q1235 (Or.inl rfl) (fv_i rfl) ?_
    obtain ⟨wt_24, wf_25⟩ := hw
    refine x_icmp_ge 133 dX2_findShares_72 (by decide) (fun c_1 => ?_) (fun c_1 => ?_)
    · have hw := wt_24 c_1
      refine x_iconst 0 dX2_findShares_133 (by decide) ?_
      refine x_istore_n (lv' := [(1, .int 0), (0, .ref (mr ρ 25))]) dX2_findShares_134 (Nat.le_of_ble_eq_true rfl) rfl ?_
      refine X.sub [1, 0] rfl ?_
      obtain ⟨fu, hw⟩ := hw
      exact t_X2_findShares_135 G  fu 0 h g e hw
    · have hw := wf_25 c_1
      refine x_aload_n 0 dX2_findShares_75 rfl ?_
      refine x_aload_n 0 dX2_findShares_76 rfl ?_
      refine x_get (ci := 2) (v := .ref (mr ρ 27)) 1 dX2_findShares_77 (GI.s g (t := (12, 0)) rfl (by decide)) rfl in_X2 (by decide) q1224 (Or.inl rfl) (fv_rc rfl (GI.m g (n := 27) rfl (by decide)) (by decide)) ?_
      refine x_iload_n 1 dX2_findShares_80 rfl ?_
      obtain ⟨b_2, hw⟩ := hw
      refine x_iald (n := 24) (j := (Int32.toNatClampNeg x1)) dX2_findShares_81 rfl (GI.s g (t := (1, 24)) rfl (by decide)) b_2 ?_
      refine x_callV (ci := 2) [.int (gi h 27 (Int32.toNatClampNeg x1))] 1 dX2_findShares_82 (k_X2_commonOf G g hw) (GI.s g (t := (12, 0)) rfl (by decide)) rfl q1491 q1493 qs77 q106 q1494 (by decide) rfl rfl ⟨(Nat.le_of_ble_eq_true rfl), (Nat.le_of_ble_eq_true rfl)⟩ (Nat.le_of_ble_eq_true rfl) ⟨(Nat.le_of_ble_eq_true rfl), (Nat.le_of_ble_eq_true rfl)⟩ (fun v9 h_3 hv9 => ?_) (fun _ _ _ _ _ z _ _ => False.elim z)
      obtain ⟨r_6, rfl, g_4, e_5, hw⟩ := hv9
      have hw := hw g_4 e_5
      show X ρ K_X2_findShares 85 [(0, .ref (mr ρ 25)), (1, .int x1)] [.int r_6] h_3 0 0 (phV h0 post) psN
      refine x_istore_n (lv' := [(2, .int r_6), (0, .ref (mr ρ 25)), (1, .int x1)]) dX2_findShares_85 (Nat.le_of_ble_eq_true rfl) rfl ?_
      refine x_aload_n 1 dX2_findShares_86 rfl ?_
      refine x_get (ci := 2) (v := .ref (mr ρ 45)) 24 dX2_findShares_87 (GI.s g_4 (t := (12, 0)) rfl (by decide)) rfl in_X2 (by decide) q1247 (Or.inl rfl) (fv_rc rfl (GI.m g_4 (n := 45) rfl (by decide)) (by decide)) ?_
      refine x_iload_n 2 dX2_findShares_90 rfl ?_
      refine x_aload_n 1 dX2_findShares_91 rfl ?_
      refine x_get (ci := 2) (v := .ref (mr ρ 45)) 24 dX2_findShares_92 (GI.s g_4 (t := (12, 0)) rfl (by decide)) rfl in_X2 (by decide) q1247 (Or.inl rfl) (fv_rc rfl (GI.m g_4 (n := 45) rfl (by decide)) (by decide)) ?_
      refine x_aload_n 1 dX2_findShares_95 rfl ?_
      refine x_get (ci := 2) (v := .ref (mr ρ 27)) 1 dX2_findShares_96 (GI.s g_4 (t := (12, 0)) rfl (by decide)) rfl in_X2 (by decide) q1224 (Or.inl rfl) (fv_rc rfl (GI.m g_4 (n := 27) rfl (by decide)) (by decide)) ?_
      refine x_iload_n 2 dX2_findShares_99 rfl ?_
      obtain ⟨b_8, hw⟩ := hw
      refine x_iald (n := 24) (j := (Int32.toNatClampNeg x1)) dX2_findShares_100 rfl (GI.s g_4 (t := (1, 24)) rfl (by decide)) b_8 ?_
      obtain ⟨b_9, hw⟩ := hw
      refine x_lald (n := 24) (j := (Int32.toNatClampNeg (gi h_3 27 (Int32.toNatClampNeg x1)))) dX2_findShares_101 rfl (GI.s g_4 (t := (2, 24)) rfl (by decide)) b_9 ?_
      refine x_aload_n 1 dX2_findShares_102 rfl ?_
      refine x_aload_n 1 dX2_findShares_103 rfl ?_
      refine x_get (ci := 2) (v := .ref (mr ρ 27)) 1 dX2_findShares_104 (GI.s g_4 (t := (12, 0)) rfl (by decide)) rfl in_X2 (by decide) q1224 (Or.inl rfl) (fv_rc rfl (GI.m g_4 (n := 27) rfl (by decide)) (by decide)) ?_
      refine x_iload_n 2 dX2_findShares_107 rfl ?_
      obtain ⟨b_10, hw⟩ := hw
      refine x_iald (n := 24) (j := (Int32.toNatClampNeg x1)) dX2_findShares_108 rfl (GI.s g_4 (t := (1, 24)) rfl (by decide)) b_10 ?_
      refine x_callV (ci := 2) [.int (gi h_3 27 (Int32.toNatClampNeg x1))] 1 dX2_findShares_109 (k_X2_sumOf G g_4 hw) (GI.s g_4 (t := (12, 0)) rfl (by decide)) rfl q1487 q1489 qs76 q106 q1490 (by decide) rfl rfl ⟨(Nat.le_of_ble_eq_true rfl), (Nat.le_of_ble_eq_true rfl)⟩ (Nat.le_of_ble_eq_true rfl) ⟨(Nat.le_of_ble_eq_true rfl), (Nat.le_of_ble_eq_true rfl)⟩ (fun v9 h_11 hv9 => ?_) (fun _ _ _ _ _ z _ _ => False.elim z)
      obtain ⟨r_14, rfl, g_12, e_13, hw⟩ := hv9
      have hw := hw g_12 e_13
      show X ρ K_X2_findShares 112 [(2, .int r_6), (0, .ref (mr ρ 25)), (1, .int x1)] [.int r_14, .long (gl h_3 45 (Int32.toNatClampNeg (gi h_3 27 (Int32.toNatClampNeg x1)))), .int x1, .ref (mr ρ 45)] h_11 0 0 (phV h0 post) psN
      refine x_iload_n 0 dX2_findShares_112 rfl ?_
      obtain ⟨b_16, hw⟩ := hw
      refine x_idiv dX2_findShares_113 b_16 ?_
      refine x_i2l dX2_findShares_114 ?_
      obtain ⟨b_17, hw⟩ := hw
      refine x_ldiv dX2_findShares_115 b_17 ?_
      refine x_aload_n 1 dX2_findShares_116 rfl ?_
      refine x_get (ci := 2) (v := .ref (mr ρ 28)) 2 dX2_findShares_117 (GI.s g_12 (t := (12, 0)) rfl (by decide)) rfl in_X2 (by decide) q1225 (Or.inl rfl) (fv_rc rfl (GI.m g_12 (n := 28) rfl (by decide)) (by decide)) ?_
      refine x_iload_n 2 dX2_findShares_120 rfl ?_
      obtain ⟨b_18, hw⟩ := hw
      refine x_iald (n := 24) (j := (Int32.toNatClampNeg x1)) dX2_findShares_121 rfl (GI.s g_12 (t := (1, 24)) rfl (by decide)) b_18 ?_
      refine x_iload_n 0 dX2_findShares_122 rfl ?_
      obtain ⟨b_19, hw⟩ := hw
      refine x_idiv dX2_findShares_123 b_19 ?_
      refine x_i2l dX2_findShares_124 ?_
      refine x_lmul dX2_findShares_125 ?_
      obtain ⟨b_20, hw⟩ := hw
      refine x_last (n := 24) (j := (Int32.toNatClampNeg x1)) dX2_findShares_126 rfl (GI.s g_12 (t := (2, 24)) rfl (by decide)) b_20 ?_
      refine x_nmh (fun h_21 eh_21 => ?_)
      have hw := hw h_21 eh_21
      have g_22 : GI h_21 := eh_21 ▸ (GI.l g_12)
      have e_23 : Ext h0 h_21 := eh_21 ▸ (Ext.l (Ext.tr (Ext.tr e e_5) e_13))
      refine x_iinc (v := (x1 + 1)) (lv' := [(1, .int (x1 + 1)), (2, .int r_6), (0, .ref (mr ρ 25))]) 2 dX2_findShares_127 rfl (by rfl) (Nat.le_of_ble_eq_true rfl) rfl ?_
      refine x_goto 67 dX2_findShares_130 (by decide) ?_
      refine X.sub [2, 0] rfl ?_
      exact ih (x1 + 1) h_21 g_22 e_23 hw
set_option maxHeartbeats 4000000 in
theorem t_X2_findShares_7 {ρ : Rho} {h0 : Hp} {post : Hp → Prop} (G : G0 ρ) :
    ∀ (n : Nat), ∀ (x1 : Int32) (h : Hp), GI h → Ext h0 h → w_X2_findShares_7 post n x1 h → X ρ K_X2_findShares 7 [(0, .ref (mr ρ 25)), (1, .int x1)] [] h 0 0 (phV h0 post) psN := by
  intro n
  induction n with
  | zero => intro x1 h g e hw; exact False.elim hw
  | succ n ih =>
    intro x1 h g e hw
    refine x_iload_n 1 dX2_findShares_7 rfl ?_
    refine x_aload_n 0 dX2_findShares_8 rfl ?_
    refine x_get (ci := 2) (v := .int (gi h 25 12)) 12 dX2_findShares_9 (GI.s g (t := (12, 0)) rfl (by decide)) rfl in_X2 (by decide) q1235 (Or.inl rfl) (fv_i rfl) ?_
    obtain ⟨wt_17, wf_18⟩ := hw
    refine x_icmp_ge 55 dX2_findShares_12 (by decide) (fun c_1 => ?_) (fun c_1 => ?_)
    · have hw := wt_17 c_1
      refine x_aload_n 0 dX2_findShares_55 rfl ?_
      refine x_get (ci := 2) (v := .ref (mr ρ 45)) 24 dX2_findShares_56 (GI.s g (t := (12, 0)) rfl (by decide)) rfl in_X2 (by decide) q1247 (Or.inl rfl) (fv_rc rfl (GI.m g (n := 45) rfl (by decide)) (by decide)) ?_
      refine x_iconst 0 dX2_findShares_59 (by decide) ?_
      refine x_aload_n 0 dX2_findShares_60 rfl ?_
      refine x_get (ci := 2) (v := .long (gl h 25 29)) 29 dX2_findShares_61 (GI.s g (t := (12, 0)) rfl (by decide)) rfl in_X2 (by decide) q1252 (Or.inl rfl) (fv_l rfl) ?_
      refine x_last (n := 24) (j := 0) dX2_findShares_64 (by decide) (GI.s g (t := (2, 24)) rfl (by decide)) (by unfold vp_in; decide) ?_
      refine x_iconst 1 dX2_findShares_65 (by decide) ?_
      refine x_istore_n (lv' := [(1, .int 1), (0, .ref (mr ρ 25))]) dX2_findShares_66 (Nat.le_of_ble_eq_true rfl) rfl ?_
      refine X.sub [1, 0] rfl ?_
      obtain ⟨fu, hw⟩ := hw
      exact t_X2_findShares_67 G  fu 1 (sl h 45 0 (gl h 25 29)) (GI.l g) (Ext.l e) hw
    · have hw := wf_18 c_1
      refine x_aload_n 0 dX2_findShares_15 rfl ?_
      refine x_dup dX2_findShares_16 rfl ?_
      refine x_get (ci := 2) (v := .long (gl h 25 29)) 29 dX2_findShares_17 (GI.s g (t := (12, 0)) rfl (by decide)) rfl in_X2 (by decide) q1252 (Or.inl rfl) (fv_l rfl) ?_
      refine x_aload_n 0 dX2_findShares_20 rfl ?_
      refine x_get (ci := 2) (v := .ref (mr ρ 29)) 3 dX2_findShares_21 (GI.s g (t := (12, 0)) rfl (by decide)) rfl in_X2 (by decide) q1226 (Or.inl rfl) (fv_rc rfl (GI.m g (n := 29) rfl (by decide)) (by decide)) ?_
      refine x_iload_n 1 dX2_findShares_24 rfl ?_
      obtain ⟨b_2, hw⟩ := hw
      refine x_iald (n := 24) (j := (Int32.toNatClampNeg x1)) dX2_findShares_25 rfl (GI.s g (t := (1, 24)) rfl (by decide)) b_2 ?_
      obtain ⟨wt_15, wf_16⟩ := hw
      refine x_if_ne 44 dX2_findShares_26 (by decide) (fun c_3 => ?_) (fun c_3 => ?_)
      · have hw := wt_15 c_3
        refine x_lconst 1 dX2_findShares_44 (by decide) ?_
        refine x_lmul dX2_findShares_45 ?_
        refine x_put (ci := 2) 29 dX2_findShares_46 (GI.s g (t := (12, 0)) rfl (by decide)) rfl in_X2 tyX2 tyX2_ok nmX2 (by decide) q1252 (Or.inl rfl) rfl rfl rfl (isPut_l rfl) ?_
        refine x_iinc (v := (x1 + 1)) (lv' := [(1, .int (x1 + 1)), (0, .ref (mr ρ 25))]) 1 dX2_findShares_49 rfl (by rfl) (Nat.le_of_ble_eq_true rfl) rfl ?_
        refine x_goto 7 dX2_findShares_52 (by decide) ?_
        refine X.sub [1, 0] rfl ?_
        exact ih (x1 + 1) (sl h 25 29 ((gl h 25 29) * 1)) (GI.l g) (Ext.l e) hw
      · have hw := wf_16 c_3
        refine x_aload_n 0 dX2_findShares_29 rfl ?_
        refine x_iload_n 1 dX2_findShares_30 rfl ?_
        refine x_callV (ci := 2) [.int x1] 1 dX2_findShares_31 (k_X2_sumOf G g hw) (GI.s g (t := (12, 0)) rfl (by decide)) rfl q1487 q1489 qs76 q106 q1490 (by decide) rfl rfl ⟨(Nat.le_of_ble_eq_true rfl), (Nat.le_of_ble_eq_true rfl)⟩ (Nat.le_of_ble_eq_true rfl) ⟨(Nat.le_of_ble_eq_true rfl), (Nat.le_of_ble_eq_true rfl)⟩ (fun v9 h_4 hv9 => ?_) (fun _ _ _ _ _ z _ _ => False.elim z)
        obtain ⟨r_7, rfl, g_5, e_6, hw⟩ := hv9
        have hw := hw g_5 e_6
        show X ρ K_X2_findShares 34 [(0, .ref (mr ρ 25)), (1, .int x1)] [.int r_7, .long (gl h 25 29), .ref (mr ρ 25)] h_4 0 0 (phV h0 post) psN
        refine x_aload_n 0 dX2_findShares_34 rfl ?_
        refine x_iload_n 1 dX2_findShares_35 rfl ?_
        refine x_callV (ci := 2) [.int x1] 1 dX2_findShares_36 (k_X2_commonOf G g_5 hw) (GI.s g_5 (t := (12, 0)) rfl (by decide)) rfl q1491 q1493 qs77 q106 q1494 (by decide) rfl rfl ⟨(Nat.le_of_ble_eq_true rfl), (Nat.le_of_ble_eq_true rfl)⟩ (Nat.le_of_ble_eq_true rfl) ⟨(Nat.le_of_ble_eq_true rfl), (Nat.le_of_ble_eq_true rfl)⟩ (fun v9 h_9 hv9 => ?_) (fun _ _ _ _ _ z _ _ => False.elim z)
        obtain ⟨r_12, rfl, g_10, e_11, hw⟩ := hv9
        have hw := hw g_10 e_11
        show X ρ K_X2_findShares 39 [(0, .ref (mr ρ 25)), (1, .int x1)] [.int r_12, .int r_7, .long (gl h 25 29), .ref (mr ρ 25)] h_9 0 0 (phV h0 post) psN
        obtain ⟨b_14, hw⟩ := hw
        refine x_idiv dX2_findShares_39 b_14 ?_
        refine x_i2l dX2_findShares_40 ?_
        refine x_goto 45 dX2_findShares_41 (by decide) ?_
        refine x_lmul dX2_findShares_45 ?_
        refine x_put (ci := 2) 29 dX2_findShares_46 (GI.s g_10 (t := (12, 0)) rfl (by decide)) rfl in_X2 tyX2 tyX2_ok nmX2 (by decide) q1252 (Or.inl rfl) rfl rfl rfl (isPut_l rfl) ?_
        refine x_iinc (v := (x1 + 1)) (lv' := [(1, .int (x1 + 1)), (0, .ref (mr ρ 25))]) 1 dX2_findShares_49 rfl (by rfl) (Nat.le_of_ble_eq_true rfl) rfl ?_
        refine x_goto 7 dX2_findShares_52 (by decide) ?_
        refine X.sub [1, 0] rfl ?_
        exact ih (x1 + 1) (sl h_9 25 29 ((gl h 25 29) * (Int32.toInt64 (r_7 / r_12)))) (GI.l g_10) (Ext.l (Ext.tr (Ext.tr e e_6) e_11)) hw
set_option maxHeartbeats 4000000 in
theorem k_X2_findShares {ρ : Rho} {h : Hp} {post : Hp → Prop} (G : G0 ρ) (g : GI h) (hw : wp_X2_findShares post h) : Con ρ yX2_findShares (ws_ yX2_findShares cX2_findShares 3 (Option.none : Option Jvm.ClassFile.FieldType)) rm_X2_findShares [.ref (mr ρ 25)] h (phV h post) psN := by
  refine con_of (own := "BeforeTheEndModel") (isI := false) (l0 := [(0, .ref (mr ρ 25))]) (by decide) rfl (fun z => by cases z) (Nat.le_of_ble_eq_true rfl) rfl (fun _ => ?_)
  show X ρ K_X2_findShares 0 [(0, .ref (mr ρ 25))] [] h 0 0 (phV h post) psN
  refine x_aload_n 0 dX2_findShares_0 rfl ?_
  refine x_lconst 1 dX2_findShares_1 (by decide) ?_
  refine x_put (ci := 2) 29 dX2_findShares_2 (GI.s g (t := (12, 0)) rfl (by decide)) rfl in_X2 tyX2 tyX2_ok nmX2 (by decide) q1252 (Or.inl rfl) rfl rfl rfl (isPut_l rfl) ?_
  refine x_iconst 0 dX2_findShares_5 (by decide) ?_
  refine x_istore_n (lv' := [(1, .int 0), (0, .ref (mr ρ 25))]) dX2_findShares_6 (Nat.le_of_ble_eq_true rfl) rfl ?_
  refine X.sub [1, 0] rfl ?_
  obtain ⟨fu, hw⟩ := hw
  exact t_X2_findShares_7 G  fu 0 (sl h 25 29 1) (GI.l g) (Ext.l Ext.rf) hw

/-! BeforeTheEndModel.inLeast(JJI)J -/
def w_X2_inLeast_12 (post : Int64 → Hp → Prop) (x0 : Int64) (x2 : Int64) (x4 : Int32) (z0 : Int64) (h : Hp) : Prop := (wp_X2_divisor (fun r_4 h_1 => GI h_1 → Ext h h_1 → (∀ z_7 : Int64, z_7 = ((if x4 = 0 then x0 else x2) : Int64) → (¬ r_4 = 0 ∧ (post (z_7 / r_4) h_1)))) h z0 x2)
def wp_X2_inLeast (post : Int64 → Hp → Prop) (h : Hp) (p1 : Int64) (p2 : Int64) (p3 : Int32) : Prop := ((0 ≤ p1 → (w_X2_inLeast_12 post p1 p2 p3 p1 h)) ∧ (¬ 0 ≤ p1 → (w_X2_inLeast_12 post p1 p2 p3 (-p1) h)))
abbrev rm_X2_inLeast : Room := ({ frames := 2, cells := 0, slots := 0, locals := 89 })
abbrev K_X2_inLeast : Kx := ("BeforeTheEndModel", cX2_inLeast, 7, (Option.some Jvm.ClassFile.FieldType.long), rm_X2_inLeast, [], false)
set_option maxHeartbeats 4000000 in
theorem t_X2_inLeast_12 {ρ : Rho} {h0 : Hp} {post : Int64 → Hp → Prop} (G : G0 ρ) :
    ∀ (x0 : Int64) (x2 : Int64) (x4 : Int32) (z0 : Int64) (h : Hp), GI h → Ext h0 h → w_X2_inLeast_12 post x0 x2 x4 z0 h → X ρ K_X2_inLeast 12 [(0, .long x0), (2, .long x2), (4, .int x4)] [.long z0] h 0 0 (phL h0 post) psN := by
  intro x0 x2 x4 z0 h g e hw
  refine x_lload_n 1 dX2_inLeast_12 rfl ?_
  refine x_callS [.long z0, .long x2] 2 dX2_inLeast_13 (k_X2_divisor G g hw) q1495 q1496 q106 q1497 (by decide) rfl rfl ⟨(Nat.le_of_ble_eq_true rfl), (Nat.le_of_ble_eq_true rfl)⟩ (Nat.le_of_ble_eq_true rfl) ⟨(Nat.le_of_ble_eq_true rfl), (Nat.le_of_ble_eq_true rfl)⟩ (fun v9 h_1 hv9 => ?_) (fun _ _ _ _ _ z _ _ => False.elim z)
  obtain ⟨r_4, rfl, g_2, e_3, hw⟩ := hv9
  have hw := hw g_2 e_3
  show X ρ K_X2_inLeast 16 [(0, .long x0), (2, .long x2), (4, .int x4)] [.long r_4] h_1 0 0 (phL h0 post) psN
  refine x_lstore (lv' := [(5, .long r_4), (0, .long x0), (2, .long x2), (4, .int x4)]) dX2_inLeast_16 (Nat.le_of_ble_eq_true rfl) rfl ?_
  refine x_iload 3 dX2_inLeast_18 rfl ?_
  have kJ_9 : ∀ z_7 : Int64, z_7 = ((if x4 = 0 then x0 else x2) : Int64) → X ρ K_X2_inLeast 28 [(5, .long r_4), (0, .long x0), (2, .long x2), (4, .int x4)] [.long z_7] h_1 0 0 (phL h0 post) psN := fun z_7 ez_7 => by
    have hw := hw z_7 ez_7
    refine x_lload 0 dX2_inLeast_28 rfl ?_
    obtain ⟨b_8, hw⟩ := hw
    refine x_ldiv dX2_inLeast_30 b_8 ?_
    exact x_lret dX2_inLeast_31 rfl (Nat.le_of_ble_eq_true rfl) (Nat.le_of_ble_eq_true rfl) ⟨_, rfl, g_2, (Ext.tr e e_3), hw⟩
  refine x_if_ne 27 dX2_inLeast_20 (by decide) (fun c_6 => ?_) (fun c_6 => ?_)
  · refine x_lload_n 2 dX2_inLeast_27 rfl ?_
    exact kJ_9 _ ((if_neg c_6)).symm
  · refine x_lload_n 1 dX2_inLeast_23 rfl ?_
    refine x_goto 28 dX2_inLeast_24 (by decide) ?_
    exact kJ_9 _ ((if_pos c_6)).symm
set_option maxHeartbeats 4000000 in
theorem k_X2_inLeast {ρ : Rho} {h : Hp} {post : Int64 → Hp → Prop} {p1 : Int64} {p2 : Int64} {p3 : Int32} (G : G0 ρ) (g : GI h) (hw : wp_X2_inLeast post h p1 p2 p3) : Con ρ yX2_inLeast (ws_ yX2_inLeast cX2_inLeast 7 (Option.some Jvm.ClassFile.FieldType.long)) rm_X2_inLeast [.long p1, .long p2, .int p3] h (phL h post) psN := by
  refine con_of (own := "BeforeTheEndModel") (isI := false) (l0 := [(0, .long p1), (2, .long p2), (4, .int p3)]) (by decide) rfl (fun z => by cases z) (Nat.le_of_ble_eq_true rfl) rfl (fun _ => ?_)
  show X ρ K_X2_inLeast 0 [(0, .long p1), (2, .long p2), (4, .int p3)] [] h 0 0 (phL h post) psN
  refine x_lload_n 0 dX2_inLeast_0 rfl ?_
  refine x_lconst 0 dX2_inLeast_1 (by decide) ?_
  obtain ⟨wt_2, wf_3⟩ := hw
  refine x_lif_ge 11 dX2_inLeast_2 dX2_inLeast_3 (by decide) (fun c_1 => ?_) (fun c_1 => ?_)
  · have hw := wt_2 c_1
    refine x_lload_n 0 dX2_inLeast_11 rfl ?_
    exact t_X2_inLeast_12 G  p1 p2 p3 p1 h g Ext.rf hw
  · have hw := wf_3 c_1
    refine x_lload_n 0 dX2_inLeast_6 rfl ?_
    refine x_lneg dX2_inLeast_7 ?_
    refine x_goto 12 dX2_inLeast_8 (by decide) ?_
    exact t_X2_inLeast_12 G  p1 p2 p3 (-p1) h g Ext.rf hw

/-! BeforeTheEndModel.chance(III)J -/
def wp_X2_chance (post : Int64 → Hp → Prop) (h : Hp) (p1 : Int32) (p2 : Int32) (p3 : Int32) : Prop := (wp_X2_isWord (fun r_4 h_1 => GI h_1 → Ext h h_1 → ((r_4 = 0 → (wp_X2_noLong (fun r_10 h_7 => GI h_7 → Ext h_1 h_7 → (post r_10 h_7)) h_1 (-1))) ∧ (¬ r_4 = 0 → (wp_X2_isIn (fun r_15 h_12 => GI h_12 → Ext h_1 h_12 → ((¬ r_15 = 0 → (wp_X2_isIn (fun r_21 h_18 => GI h_18 → Ext h_12 h_18 → ((¬ r_21 = 0 → (wp_X2_isWhole (fun r_27 h_24 => GI h_24 → Ext h_18 h_24 → ((¬ r_27 = 0 → (wp_X2_findShares (fun h_30 => GI h_30 → Ext h_24 h_30 → (vp_in ((10 * p1) + p2) 240 ∧ (vp_in p1 24 ∧ (wp_X2_inLeast (fun r_40 h_37 => GI h_37 → Ext h_30 h_37 → (post r_40 h_37)) h_30 (gl h_30 46 (Int32.toNatClampNeg ((10 * p1) + p2))) (gl h_30 45 (Int32.toNatClampNeg p1)) p3)))) h_24)) ∧ (r_27 = 0 → (wp_X2_noLong (fun r_45 h_42 => GI h_42 → Ext h_24 h_42 → (post r_45 h_42)) h_24 (-3))))) h_18)) ∧ (r_21 = 0 → (wp_X2_noLong (fun r_52 h_49 => GI h_49 → Ext h_18 h_49 → (post r_52 h_49)) h_18 (-2))))) h_12 p3 0 1)) ∧ (r_15 = 0 → (wp_X2_noLong (fun r_59 h_56 => GI h_56 → Ext h_12 h_56 → (post r_59 h_56)) h_12 (-1))))) h_1 p2 1 9)))) h p1)
abbrev rm_X2_chance : Room := ({ frames := 4, cells := 0, slots := 0, locals := 134 })
abbrev K_X2_chance : Kx := ("BeforeTheEndModel", cX2_chance, 4, (Option.some Jvm.ClassFile.FieldType.long), rm_X2_chance, [], false)
set_option maxHeartbeats 4000000 in
theorem k_X2_chance {ρ : Rho} {h : Hp} {post : Int64 → Hp → Prop} {p1 : Int32} {p2 : Int32} {p3 : Int32} (G : G0 ρ) (g : GI h) (hw : wp_X2_chance post h p1 p2 p3) : Con ρ yX2_chance (ws_ yX2_chance cX2_chance 4 (Option.some Jvm.ClassFile.FieldType.long)) rm_X2_chance [.ref (mr ρ 25), .int p1, .int p2, .int p3] h (phL h post) psN := by
  refine con_of (own := "BeforeTheEndModel") (isI := false) (l0 := [(0, .ref (mr ρ 25)), (1, .int p1), (2, .int p2), (3, .int p3)]) (by decide) rfl (fun z => by cases z) (Nat.le_of_ble_eq_true rfl) rfl (fun _ => ?_)
  show X ρ K_X2_chance 0 [(0, .ref (mr ρ 25)), (1, .int p1), (2, .int p2), (3, .int p3)] [] h 0 0 (phL h post) psN
  refine x_aload_n 0 dX2_chance_0 rfl ?_
  refine x_iload_n 1 dX2_chance_1 rfl ?_
  refine x_callV (ci := 2) [.int p1] 1 dX2_chance_2 (k_X2_isWord G g hw) (GI.s g (t := (12, 0)) rfl (by decide)) rfl q1434 q1436 qs68 q106 q1437 (by decide) rfl rfl ⟨(Nat.le_of_ble_eq_true rfl), (Nat.le_of_ble_eq_true rfl)⟩ (Nat.le_of_ble_eq_true rfl) ⟨(Nat.le_of_ble_eq_true rfl), (Nat.le_of_ble_eq_true rfl)⟩ (fun v9 h_1 hv9 => ?_) (fun _ _ _ _ _ z _ _ => False.elim z)
  obtain ⟨r_4, rfl, g_2, e_3, b_5, hw⟩ := hv9
  have hw := hw g_2 e_3
  show X ρ K_X2_chance 5 [(0, .ref (mr ρ 25)), (1, .int p1), (2, .int p2), (3, .int p3)] [.int r_4] h_1 0 0 (phL h post) psN
  obtain ⟨wt_63, wf_64⟩ := hw
  refine x_if_eq 18 dX2_chance_5 (by decide) (fun c_6 => ?_) (fun c_6 => ?_)
  · have hw := wt_63 c_6
    refine x_aload_n 0 dX2_chance_18 rfl ?_
    refine x_iconst (-1) dX2_chance_19 (by decide) ?_
    refine x_callV (ci := 2) [.int (-1)] 1 dX2_chance_20 (k_X2_noLong G g_2 hw) (GI.s g_2 (t := (12, 0)) rfl (by decide)) rfl q1478 q1480 qs74 q106 q1481 (by decide) rfl rfl ⟨(Nat.le_of_ble_eq_true rfl), (Nat.le_of_ble_eq_true rfl)⟩ (Nat.le_of_ble_eq_true rfl) ⟨(Nat.le_of_ble_eq_true rfl), (Nat.le_of_ble_eq_true rfl)⟩ (fun v9 h_7 hv9 => ?_) (fun _ _ _ _ _ z _ _ => False.elim z)
    obtain ⟨r_10, rfl, g_8, e_9, hw⟩ := hv9
    have hw := hw g_8 e_9
    show X ρ K_X2_chance 23 [(0, .ref (mr ρ 25)), (1, .int p1), (2, .int p2), (3, .int p3)] [.long r_10] h_7 0 0 (phL h post) psN
    exact x_lret dX2_chance_23 rfl (Nat.le_of_ble_eq_true rfl) (Nat.le_of_ble_eq_true rfl) ⟨_, rfl, g_8, (Ext.tr e_3 e_9), hw⟩
  · have hw := wf_64 c_6
    refine x_iload_n 2 dX2_chance_8 rfl ?_
    refine x_iconst 1 dX2_chance_9 (by decide) ?_
    refine x_bipush 9 dX2_chance_10 (by decide) ?_
    refine x_callS [.int p2, .int 1, .int 9] 3 dX2_chance_12 (k_X2_isIn G g_2 hw) q1412 q1413 q106 q1414 (by decide) rfl rfl ⟨(Nat.le_of_ble_eq_true rfl), (Nat.le_of_ble_eq_true rfl)⟩ (Nat.le_of_ble_eq_true rfl) ⟨(Nat.le_of_ble_eq_true rfl), (Nat.le_of_ble_eq_true rfl)⟩ (fun v9 h_12 hv9 => ?_) (fun _ _ _ _ _ z _ _ => False.elim z)
    obtain ⟨r_15, rfl, g_13, e_14, b_16, hw⟩ := hv9
    have hw := hw g_13 e_14
    show X ρ K_X2_chance 15 [(0, .ref (mr ρ 25)), (1, .int p1), (2, .int p2), (3, .int p3)] [.int r_15] h_12 0 0 (phL h post) psN
    obtain ⟨wt_61, wf_62⟩ := hw
    refine x_if_ne 24 dX2_chance_15 (by decide) (fun c_17 => ?_) (fun c_17 => ?_)
    · have hw := wt_61 c_17
      refine x_iload_n 3 dX2_chance_24 rfl ?_
      refine x_iconst 0 dX2_chance_25 (by decide) ?_
      refine x_iconst 1 dX2_chance_26 (by decide) ?_
      refine x_callS [.int p3, .int 0, .int 1] 3 dX2_chance_27 (k_X2_isIn G g_13 hw) q1412 q1413 q106 q1414 (by decide) rfl rfl ⟨(Nat.le_of_ble_eq_true rfl), (Nat.le_of_ble_eq_true rfl)⟩ (Nat.le_of_ble_eq_true rfl) ⟨(Nat.le_of_ble_eq_true rfl), (Nat.le_of_ble_eq_true rfl)⟩ (fun v9 h_18 hv9 => ?_) (fun _ _ _ _ _ z _ _ => False.elim z)
      obtain ⟨r_21, rfl, g_19, e_20, b_22, hw⟩ := hv9
      have hw := hw g_19 e_20
      show X ρ K_X2_chance 30 [(0, .ref (mr ρ 25)), (1, .int p1), (2, .int p2), (3, .int p3)] [.int r_21] h_18 0 0 (phL h post) psN
      obtain ⟨wt_54, wf_55⟩ := hw
      refine x_if_ne 40 dX2_chance_30 (by decide) (fun c_23 => ?_) (fun c_23 => ?_)
      · have hw := wt_54 c_23
        refine x_aload_n 0 dX2_chance_40 rfl ?_
        refine x_callV (ci := 2) [] 0 dX2_chance_41 (k_X2_isWhole G g_19 hw) (GI.s g_19 (t := (12, 0)) rfl (by decide)) rfl q1462 q1464 qs72 q106 q1465 (by decide) rfl rfl ⟨(Nat.le_of_ble_eq_true rfl), (Nat.le_of_ble_eq_true rfl)⟩ (Nat.le_of_ble_eq_true rfl) ⟨(Nat.le_of_ble_eq_true rfl), (Nat.le_of_ble_eq_true rfl)⟩ (fun v9 h_24 hv9 => ?_) (fun _ _ _ _ _ z _ _ => False.elim z)
        obtain ⟨r_27, rfl, g_25, e_26, b_28, hw⟩ := hv9
        have hw := hw g_25 e_26
        show X ρ K_X2_chance 44 [(0, .ref (mr ρ 25)), (1, .int p1), (2, .int p2), (3, .int p3)] [.int r_27] h_24 0 0 (phL h post) psN
        obtain ⟨wt_47, wf_48⟩ := hw
        refine x_if_ne 54 dX2_chance_44 (by decide) (fun c_29 => ?_) (fun c_29 => ?_)
        · have hw := wt_47 c_29
          refine x_aload_n 0 dX2_chance_54 rfl ?_
          refine x_callV (ci := 2) [] 0 dX2_chance_55 (k_X2_findShares G g_25 hw) (GI.s g_25 (t := (12, 0)) rfl (by decide)) rfl q1483 q1485 qs75 q106 q1486 (by decide) rfl rfl ⟨(Nat.le_of_ble_eq_true rfl), (Nat.le_of_ble_eq_true rfl)⟩ (Nat.le_of_ble_eq_true rfl) ⟨(Nat.le_of_ble_eq_true rfl), (Nat.le_of_ble_eq_true rfl)⟩ (fun v9 h_30 hv9 => ?_) (fun _ _ _ _ _ z _ _ => False.elim z)
          obtain ⟨rfl, g_31, e_32, hw⟩ := hv9
          have hw := hw g_31 e_32
          show X ρ K_X2_chance 58 [(0, .ref (mr ρ 25)), (1, .int p1), (2, .int p2), (3, .int p3)] [] h_30 0 0 (phL h post) psN
          refine x_aload_n 0 dX2_chance_58 rfl ?_
          refine x_get (ci := 2) (v := .ref (mr ρ 46)) 25 dX2_chance_59 (GI.s g_31 (t := (12, 0)) rfl (by decide)) rfl in_X2 (by decide) q1248 (Or.inl rfl) (fv_rc rfl (GI.m g_31 (n := 46) rfl (by decide)) (by decide)) ?_
          refine x_bipush 10 dX2_chance_62 (by decide) ?_
          refine x_iload_n 1 dX2_chance_64 rfl ?_
          refine x_imul dX2_chance_65 ?_
          refine x_iload_n 2 dX2_chance_66 rfl ?_
          refine x_iadd dX2_chance_67 ?_
          obtain ⟨b_35, hw⟩ := hw
          refine x_lald (n := 240) (j := (Int32.toNatClampNeg ((10 * p1) + p2))) dX2_chance_68 rfl (GI.s g_31 (t := (2, 240)) rfl (by decide)) b_35 ?_
          refine x_aload_n 0 dX2_chance_69 rfl ?_
          refine x_get (ci := 2) (v := .ref (mr ρ 45)) 24 dX2_chance_70 (GI.s g_31 (t := (12, 0)) rfl (by decide)) rfl in_X2 (by decide) q1247 (Or.inl rfl) (fv_rc rfl (GI.m g_31 (n := 45) rfl (by decide)) (by decide)) ?_
          refine x_iload_n 1 dX2_chance_73 rfl ?_
          obtain ⟨b_36, hw⟩ := hw
          refine x_lald (n := 24) (j := (Int32.toNatClampNeg p1)) dX2_chance_74 rfl (GI.s g_31 (t := (2, 24)) rfl (by decide)) b_36 ?_
          refine x_iload_n 3 dX2_chance_75 rfl ?_
          refine x_callS [.long (gl h_30 46 (Int32.toNatClampNeg ((10 * p1) + p2))), .long (gl h_30 45 (Int32.toNatClampNeg p1)), .int p3] 3 dX2_chance_76 (k_X2_inLeast G g_31 hw) q1498 q1499 q106 q1500 (by decide) rfl rfl ⟨(Nat.le_of_ble_eq_true rfl), (Nat.le_of_ble_eq_true rfl)⟩ (Nat.le_of_ble_eq_true rfl) ⟨(Nat.le_of_ble_eq_true rfl), (Nat.le_of_ble_eq_true rfl)⟩ (fun v9 h_37 hv9 => ?_) (fun _ _ _ _ _ z _ _ => False.elim z)
          obtain ⟨r_40, rfl, g_38, e_39, hw⟩ := hv9
          have hw := hw g_38 e_39
          show X ρ K_X2_chance 79 [(0, .ref (mr ρ 25)), (1, .int p1), (2, .int p2), (3, .int p3)] [.long r_40] h_37 0 0 (phL h post) psN
          exact x_lret dX2_chance_79 rfl (Nat.le_of_ble_eq_true rfl) (Nat.le_of_ble_eq_true rfl) ⟨_, rfl, g_38, (Ext.tr (Ext.tr (Ext.tr (Ext.tr (Ext.tr e_3 e_14) e_20) e_26) e_32) e_39), hw⟩
        · have hw := wf_48 c_29
          refine x_aload_n 0 dX2_chance_47 rfl ?_
          refine x_bipush (-3) dX2_chance_48 (by decide) ?_
          refine x_callV (ci := 2) [.int (-3)] 1 dX2_chance_50 (k_X2_noLong G g_25 hw) (GI.s g_25 (t := (12, 0)) rfl (by decide)) rfl q1478 q1480 qs74 q106 q1481 (by decide) rfl rfl ⟨(Nat.le_of_ble_eq_true rfl), (Nat.le_of_ble_eq_true rfl)⟩ (Nat.le_of_ble_eq_true rfl) ⟨(Nat.le_of_ble_eq_true rfl), (Nat.le_of_ble_eq_true rfl)⟩ (fun v9 h_42 hv9 => ?_) (fun _ _ _ _ _ z _ _ => False.elim z)
          obtain ⟨r_45, rfl, g_43, e_44, hw⟩ := hv9
          have hw := hw g_43 e_44
          show X ρ K_X2_chance 53 [(0, .ref (mr ρ 25)), (1, .int p1), (2, .int p2), (3, .int p3)] [.long r_45] h_42 0 0 (phL h post) psN
          exact x_lret dX2_chance_53 rfl (Nat.le_of_ble_eq_true rfl) (Nat.le_of_ble_eq_true rfl) ⟨_, rfl, g_43, (Ext.tr (Ext.tr (Ext.tr (Ext.tr e_3 e_14) e_20) e_26) e_44), hw⟩
      · have hw := wf_55 c_23
        refine x_aload_n 0 dX2_chance_33 rfl ?_
        refine x_bipush (-2) dX2_chance_34 (by decide) ?_
        refine x_callV (ci := 2) [.int (-2)] 1 dX2_chance_36 (k_X2_noLong G g_19 hw) (GI.s g_19 (t := (12, 0)) rfl (by decide)) rfl q1478 q1480 qs74 q106 q1481 (by decide) rfl rfl ⟨(Nat.le_of_ble_eq_true rfl), (Nat.le_of_ble_eq_true rfl)⟩ (Nat.le_of_ble_eq_true rfl) ⟨(Nat.le_of_ble_eq_true rfl), (Nat.le_of_ble_eq_true rfl)⟩ (fun v9 h_49 hv9 => ?_) (fun _ _ _ _ _ z _ _ => False.elim z)
        obtain ⟨r_52, rfl, g_50, e_51, hw⟩ := hv9
        have hw := hw g_50 e_51
        show X ρ K_X2_chance 39 [(0, .ref (mr ρ 25)), (1, .int p1), (2, .int p2), (3, .int p3)] [.long r_52] h_49 0 0 (phL h post) psN
        exact x_lret dX2_chance_39 rfl (Nat.le_of_ble_eq_true rfl) (Nat.le_of_ble_eq_true rfl) ⟨_, rfl, g_50, (Ext.tr (Ext.tr (Ext.tr e_3 e_14) e_20) e_51), hw⟩
    · have hw := wf_62 c_17
      refine x_aload_n 0 dX2_chance_18 rfl ?_
      refine x_iconst (-1) dX2_chance_19 (by decide) ?_
      refine x_callV (ci := 2) [.int (-1)] 1 dX2_chance_20 (k_X2_noLong G g_13 hw) (GI.s g_13 (t := (12, 0)) rfl (by decide)) rfl q1478 q1480 qs74 q106 q1481 (by decide) rfl rfl ⟨(Nat.le_of_ble_eq_true rfl), (Nat.le_of_ble_eq_true rfl)⟩ (Nat.le_of_ble_eq_true rfl) ⟨(Nat.le_of_ble_eq_true rfl), (Nat.le_of_ble_eq_true rfl)⟩ (fun v9 h_56 hv9 => ?_) (fun _ _ _ _ _ z _ _ => False.elim z)
      obtain ⟨r_59, rfl, g_57, e_58, hw⟩ := hv9
      have hw := hw g_57 e_58
      show X ρ K_X2_chance 23 [(0, .ref (mr ρ 25)), (1, .int p1), (2, .int p2), (3, .int p3)] [.long r_59] h_56 0 0 (phL h post) psN
      exact x_lret dX2_chance_23 rfl (Nat.le_of_ble_eq_true rfl) (Nat.le_of_ble_eq_true rfl) ⟨_, rfl, g_57, (Ext.tr (Ext.tr e_3 e_14) e_58), hw⟩

/-! BeforeTheEnd.guess(II)I -/
def wp_X0_guess (post : Int32 → Hp → Prop) (h : Hp) (p1 : Int32) (p2 : Int32) : Prop := (wp_X0_act (fun r_4 h_1 => GI h_1 → Ext h h_1 → (post r_4 h_1)) h 5 p1 p2 0)
abbrev rm_X0_guess : Room := ({ frames := 19, cells := 1868, slots := 13143, locals := 599 })
abbrev K_X0_guess : Kx := ("BeforeTheEnd", cX0_guess, 3, (Option.some Jvm.ClassFile.FieldType.int), rm_X0_guess, [], false)
set_option maxHeartbeats 4000000 in
theorem k_X0_guess {ρ : Rho} {h : Hp} {post : Int32 → Hp → Prop} {p1 : Int32} {p2 : Int32} (G : G0 ρ) (g : GI h) (hw : wp_X0_guess post h p1 p2) : Con ρ yX0_guess (ws_ yX0_guess cX0_guess 3 (Option.some Jvm.ClassFile.FieldType.int)) rm_X0_guess [.ref (mr ρ 1), .int p1, .int p2] h (phI h post) psN := by
  refine con_of (own := "BeforeTheEnd") (isI := false) (l0 := [(0, .ref (mr ρ 1)), (1, .int p1), (2, .int p2)]) (by decide) rfl (fun z => by cases z) (Nat.le_of_ble_eq_true rfl) rfl (fun _ => ?_)
  show X ρ K_X0_guess 0 [(0, .ref (mr ρ 1)), (1, .int p1), (2, .int p2)] [] h 0 0 (phI h post) psN
  refine x_aload_n 0 dX0_guess_0 rfl ?_
  refine x_iconst 5 dX0_guess_1 (by decide) ?_
  refine x_iload_n 1 dX0_guess_2 rfl ?_
  refine x_iload_n 2 dX0_guess_3 rfl ?_
  refine x_iconst 0 dX0_guess_4 (by decide) ?_
  refine x_callH (ci := 0) [.int 5, .int p1, .int p2, .int 0] 4 dX0_guess_5 (k_X0_act G g hw) (GI.s g (t := (10, 0)) rfl (by decide)) rfl q383 q385 qs3 q104 q386 (by decide) rfl rfl ⟨(Nat.le_of_ble_eq_true rfl), (Nat.le_of_ble_eq_true rfl)⟩ (Nat.le_of_ble_eq_true rfl) ⟨(Nat.le_of_ble_eq_true rfl), (Nat.le_of_ble_eq_true rfl)⟩ (fun v9 h_1 hv9 => ?_) (fun _ _ _ _ _ z _ _ => False.elim z)
  obtain ⟨r_4, rfl, g_2, e_3, hw⟩ := hv9
  have hw := hw g_2 e_3
  show X ρ K_X0_guess 8 [(0, .ref (mr ρ 1)), (1, .int p1), (2, .int p2)] [.int r_4] h_1 1868 13143 (phI h post) psN
  exact x_iret dX0_guess_8 rfl (Nat.le_of_ble_eq_true rfl) (Nat.le_of_ble_eq_true rfl) ⟨_, rfl, g_2, e_3, hw⟩

/-! BeforeTheEndModel.guessOf(II)I -/
def w_X2_guessOf_5 (post : Int32 → Hp → Prop) : Nat → Int32 → Int32 → Int32 → Int32 → Hp → Prop
  | 0 => fun _ _ _ _ _ => False
  | n + 1 => fun x1 x2 x3 x4 h => ((10 ≤ x4 → (post x3 h)) ∧ (¬ 10 ≤ x4 → ((¬ ((x1 >>> (x4 &&& 31)) &&& 1) = 1 → (w_X2_guessOf_5 post n x1 x2 x3 (x4 + 1) h)) ∧ (((x1 >>> (x4 &&& 31)) &&& 1) = 1 → (vp_in ((10 * x2) + x4) 240 ∧ (((¬ x3 = 0 → (vp_in ((10 * x2) + x3) 240))) ∧ (∀ z_6 : Int64, z_6 = ((if x3 = 0 then 0 else (gl h 46 (Int32.toNatClampNeg ((10 * x2) + x3)))) : Int64) → (((gl h 46 (Int32.toNatClampNeg ((10 * x2) + x4))) ≤ z_6 → (w_X2_guessOf_5 post n x1 x2 x3 (x4 + 1) h)) ∧ (¬ (gl h 46 (Int32.toNatClampNeg ((10 * x2) + x4))) ≤ z_6 → (w_X2_guessOf_5 post n x1 x2 x4 (x4 + 1) h))))))))))
def wp_X2_guessOf (post : Int32 → Hp → Prop) (h : Hp) (p1 : Int32) (p2 : Int32) : Prop := (∃ fu : Nat, w_X2_guessOf_5 post fu p1 p2 0 1 h)
abbrev rm_X2_guessOf : Room := ({ frames := 1, cells := 0, slots := 0, locals := 60 })
abbrev K_X2_guessOf : Kx := ("BeforeTheEndModel", cX2_guessOf, 5, (Option.some Jvm.ClassFile.FieldType.int), rm_X2_guessOf, [], false)
set_option maxHeartbeats 4000000 in
theorem t_X2_guessOf_5 {ρ : Rho} {h0 : Hp} {post : Int32 → Hp → Prop} (G : G0 ρ) :
    ∀ (n : Nat), ∀ (x1 : Int32) (x2 : Int32) (x3 : Int32) (x4 : Int32) (h : Hp), GI h → Ext h0 h → w_X2_guessOf_5 post n x1 x2 x3 x4 h → X ρ K_X2_guessOf 5 [(0, .ref (mr ρ 25)), (1, .int x1), (2, .int x2), (3, .int x3), (4, .int x4)] [] h 0 0 (phI h0 post) psN := by
  intro n
  induction n with
  | zero => intro x1 x2 x3 x4 h g e hw; exact False.elim hw
  | succ n ih =>
    intro x1 x2 x3 x4 h g e hw
    refine x_iload 4 dX2_guessOf_5 rfl ?_
    refine x_bipush 10 dX2_guessOf_7 (by decide) ?_
    obtain ⟨wt_14, wf_15⟩ := hw
    refine x_icmp_ge 66 dX2_guessOf_9 (by decide) (fun c_1 => ?_) (fun c_1 => ?_)
    · have hw := wt_14 c_1
      refine x_iload_n 3 dX2_guessOf_66 rfl ?_
      exact x_iret dX2_guessOf_67 rfl (Nat.le_of_ble_eq_true rfl) (Nat.le_of_ble_eq_true rfl) ⟨_, rfl, g, e, hw⟩
    · have hw := wf_15 c_1
      refine x_iload_n 1 dX2_guessOf_12 rfl ?_
      refine x_iload 4 dX2_guessOf_13 rfl ?_
      refine x_ishr dX2_guessOf_15 ?_
      refine x_iconst 1 dX2_guessOf_16 (by decide) ?_
      refine x_iand dX2_guessOf_17 ?_
      refine x_iconst 1 dX2_guessOf_18 (by decide) ?_
      obtain ⟨wt_12, wf_13⟩ := hw
      refine x_icmp_ne 60 dX2_guessOf_19 (by decide) (fun c_2 => ?_) (fun c_2 => ?_)
      · have hw := wt_12 c_2
        refine x_iinc (v := (x4 + 1)) (lv' := [(4, .int (x4 + 1)), (0, .ref (mr ρ 25)), (1, .int x1), (2, .int x2), (3, .int x3)]) 4 dX2_guessOf_60 rfl (by rfl) (Nat.le_of_ble_eq_true rfl) rfl ?_
        refine x_goto 5 dX2_guessOf_63 (by decide) ?_
        refine X.sub [1, 2, 3, 4, 0] rfl ?_
        exact ih x1 x2 x3 (x4 + 1) h g e hw
      · have hw := wf_13 c_2
        refine x_aload_n 0 dX2_guessOf_22 rfl ?_
        refine x_get (ci := 2) (v := .ref (mr ρ 46)) 25 dX2_guessOf_23 (GI.s g (t := (12, 0)) rfl (by decide)) rfl in_X2 (by decide) q1248 (Or.inl rfl) (fv_rc rfl (GI.m g (n := 46) rfl (by decide)) (by decide)) ?_
        refine x_bipush 10 dX2_guessOf_26 (by decide) ?_
        refine x_iload_n 2 dX2_guessOf_28 rfl ?_
        refine x_imul dX2_guessOf_29 ?_
        refine x_iload 4 dX2_guessOf_30 rfl ?_
        refine x_iadd dX2_guessOf_32 ?_
        obtain ⟨b_3, hw⟩ := hw
        refine x_lald (n := 240) (j := (Int32.toNatClampNeg ((10 * x2) + x4))) dX2_guessOf_33 rfl (GI.s g (t := (2, 240)) rfl (by decide)) b_3 ?_
        refine x_iload_n 3 dX2_guessOf_34 rfl ?_
        obtain ⟨hO_11, hw⟩ := hw
        have kJ_10 : ∀ z_6 : Int64, z_6 = ((if x3 = 0 then 0 else (gl h 46 (Int32.toNatClampNeg ((10 * x2) + x3)))) : Int64) → X ρ K_X2_guessOf 53 [(0, .ref (mr ρ 25)), (1, .int x1), (2, .int x2), (3, .int x3), (4, .int x4)] [.long z_6, .long (gl h 46 (Int32.toNatClampNeg ((10 * x2) + x4)))] h 0 0 (phI h0 post) psN := fun z_6 ez_6 => by
          have hw := hw z_6 ez_6
          obtain ⟨wt_8, wf_9⟩ := hw
          refine x_lif_le 60 dX2_guessOf_53 dX2_guessOf_54 (by decide) (fun c_7 => ?_) (fun c_7 => ?_)
          · have hw := wt_8 c_7
            refine x_iinc (v := (x4 + 1)) (lv' := [(4, .int (x4 + 1)), (0, .ref (mr ρ 25)), (1, .int x1), (2, .int x2), (3, .int x3)]) 4 dX2_guessOf_60 rfl (by rfl) (Nat.le_of_ble_eq_true rfl) rfl ?_
            refine x_goto 5 dX2_guessOf_63 (by decide) ?_
            refine X.sub [1, 2, 3, 4, 0] rfl ?_
            exact ih x1 x2 x3 (x4 + 1) h g e hw
          · have hw := wf_9 c_7
            refine x_iload 4 dX2_guessOf_57 rfl ?_
            refine x_istore_n (lv' := [(3, .int x4), (0, .ref (mr ρ 25)), (1, .int x1), (2, .int x2), (4, .int x4)]) dX2_guessOf_59 (Nat.le_of_ble_eq_true rfl) rfl ?_
            refine x_iinc (v := (x4 + 1)) (lv' := [(4, .int (x4 + 1)), (3, .int x4), (0, .ref (mr ρ 25)), (1, .int x1), (2, .int x2)]) 4 dX2_guessOf_60 rfl (by rfl) (Nat.le_of_ble_eq_true rfl) rfl ?_
            refine x_goto 5 dX2_guessOf_63 (by decide) ?_
            refine X.sub [2, 3, 4, 1, 0] rfl ?_
            exact ih x1 x2 x4 (x4 + 1) h g e hw
        have hO_110 := hO_11
        refine x_if_ne 42 dX2_guessOf_35 (by decide) (fun c_4 => ?_) (fun c_4 => ?_)
        · have hO_11_ := hO_110 c_4
          have b_5 := hO_11_
          refine x_aload_n 0 dX2_guessOf_42 rfl ?_
          refine x_get (ci := 2) (v := .ref (mr ρ 46)) 25 dX2_guessOf_43 (GI.s g (t := (12, 0)) rfl (by decide)) rfl in_X2 (by decide) q1248 (Or.inl rfl) (fv_rc rfl (GI.m g (n := 46) rfl (by decide)) (by decide)) ?_
          refine x_bipush 10 dX2_guessOf_46 (by decide) ?_
          refine x_iload_n 2 dX2_guessOf_48 rfl ?_
          refine x_imul dX2_guessOf_49 ?_
          refine x_iload_n 3 dX2_guessOf_50 rfl ?_
          refine x_iadd dX2_guessOf_51 ?_
          refine x_lald (n := 240) (j := (Int32.toNatClampNeg ((10 * x2) + x3))) dX2_guessOf_52 rfl (GI.s g (t := (2, 240)) rfl (by decide)) b_5 ?_
          exact kJ_10 _ ((if_neg c_4)).symm
        · refine x_lconst 0 dX2_guessOf_38 (by decide) ?_
          refine x_goto 53 dX2_guessOf_39 (by decide) ?_
          exact kJ_10 _ ((if_pos c_4)).symm
set_option maxHeartbeats 4000000 in
theorem k_X2_guessOf {ρ : Rho} {h : Hp} {post : Int32 → Hp → Prop} {p1 : Int32} {p2 : Int32} (G : G0 ρ) (g : GI h) (hw : wp_X2_guessOf post h p1 p2) : Con ρ yX2_guessOf (ws_ yX2_guessOf cX2_guessOf 5 (Option.some Jvm.ClassFile.FieldType.int)) rm_X2_guessOf [.ref (mr ρ 25), .int p1, .int p2] h (phI h post) psN := by
  refine con_of (own := "BeforeTheEndModel") (isI := false) (l0 := [(0, .ref (mr ρ 25)), (1, .int p1), (2, .int p2)]) (by decide) rfl (fun z => by cases z) (Nat.le_of_ble_eq_true rfl) rfl (fun _ => ?_)
  show X ρ K_X2_guessOf 0 [(0, .ref (mr ρ 25)), (1, .int p1), (2, .int p2)] [] h 0 0 (phI h post) psN
  refine x_iconst 0 dX2_guessOf_0 (by decide) ?_
  refine x_istore_n (lv' := [(3, .int 0), (0, .ref (mr ρ 25)), (1, .int p1), (2, .int p2)]) dX2_guessOf_1 (Nat.le_of_ble_eq_true rfl) rfl ?_
  refine x_iconst 1 dX2_guessOf_2 (by decide) ?_
  refine x_istore (lv' := [(4, .int 1), (3, .int 0), (0, .ref (mr ρ 25)), (1, .int p1), (2, .int p2)]) dX2_guessOf_3 (Nat.le_of_ble_eq_true rfl) rfl ?_
  refine X.sub [2, 3, 4, 1, 0] rfl ?_
  obtain ⟨fu, hw⟩ := hw
  exact t_X2_guessOf_5 G  fu p1 p2 0 1 h g Ext.rf hw

/-! BeforeTheEndModel.guess(II)I -/
def wp_X2_guess (post : Int32 → Hp → Prop) (h : Hp) (p1 : Int32) (p2 : Int32) : Prop := (wp_X2_isPlayer (fun r_4 h_1 => GI h_1 → Ext h h_1 → ((r_4 = 0 → (wp_X2_no (fun r_10 h_7 => GI h_7 → Ext h_1 h_7 → (post r_10 h_7)) h_1 (-1))) ∧ (¬ r_4 = 0 → (wp_X2_isWord (fun r_15 h_12 => GI h_12 → Ext h_1 h_12 → ((¬ r_15 = 0 → (wp_X2_isWhole (fun r_21 h_18 => GI h_18 → Ext h_12 h_18 → ((¬ r_21 = 0 → (wp_X2_findShares (fun h_24 => GI h_24 → Ext h_18 h_24 → (vp_in p1 4 ∧ (wp_X2_guessOf (fun r_33 h_30 => GI h_30 → Ext h_24 h_30 → (post r_33 h_30)) h_24 (gi h_24 32 (Int32.toNatClampNeg p1)) p2))) h_18)) ∧ (r_21 = 0 → (wp_X2_no (fun r_38 h_35 => GI h_35 → Ext h_18 h_35 → (post r_38 h_35)) h_18 (-3))))) h_12)) ∧ (r_15 = 0 → (wp_X2_no (fun r_45 h_42 => GI h_42 → Ext h_12 h_42 → (post r_45 h_42)) h_12 (-1))))) h_1 p2)))) h p1)
abbrev rm_X2_guess : Room := ({ frames := 4, cells := 0, slots := 0, locals := 134 })
abbrev K_X2_guess : Kx := ("BeforeTheEndModel", cX2_guess, 3, (Option.some Jvm.ClassFile.FieldType.int), rm_X2_guess, [], false)
set_option maxHeartbeats 4000000 in
theorem k_X2_guess {ρ : Rho} {h : Hp} {post : Int32 → Hp → Prop} {p1 : Int32} {p2 : Int32} (G : G0 ρ) (g : GI h) (hw : wp_X2_guess post h p1 p2) : Con ρ yX2_guess (ws_ yX2_guess cX2_guess 3 (Option.some Jvm.ClassFile.FieldType.int)) rm_X2_guess [.ref (mr ρ 25), .int p1, .int p2] h (phI h post) psN := by
  refine con_of (own := "BeforeTheEndModel") (isI := false) (l0 := [(0, .ref (mr ρ 25)), (1, .int p1), (2, .int p2)]) (by decide) rfl (fun z => by cases z) (Nat.le_of_ble_eq_true rfl) rfl (fun _ => ?_)
  show X ρ K_X2_guess 0 [(0, .ref (mr ρ 25)), (1, .int p1), (2, .int p2)] [] h 0 0 (phI h post) psN
  refine x_aload_n 0 dX2_guess_0 rfl ?_
  refine x_iload_n 1 dX2_guess_1 rfl ?_
  refine x_callV (ci := 2) [.int p1] 1 dX2_guess_2 (k_X2_isPlayer G g hw) (GI.s g (t := (12, 0)) rfl (by decide)) rfl q1454 q1456 qs71 q106 q1457 (by decide) rfl rfl ⟨(Nat.le_of_ble_eq_true rfl), (Nat.le_of_ble_eq_true rfl)⟩ (Nat.le_of_ble_eq_true rfl) ⟨(Nat.le_of_ble_eq_true rfl), (Nat.le_of_ble_eq_true rfl)⟩ (fun v9 h_1 hv9 => ?_) (fun _ _ _ _ _ z _ _ => False.elim z)
  obtain ⟨r_4, rfl, g_2, e_3, b_5, hw⟩ := hv9
  have hw := hw g_2 e_3
  show X ρ K_X2_guess 5 [(0, .ref (mr ρ 25)), (1, .int p1), (2, .int p2)] [.int r_4] h_1 0 0 (phI h post) psN
  obtain ⟨wt_49, wf_50⟩ := hw
  refine x_if_eq 16 dX2_guess_5 (by decide) (fun c_6 => ?_) (fun c_6 => ?_)
  · have hw := wt_49 c_6
    refine x_aload_n 0 dX2_guess_16 rfl ?_
    refine x_iconst (-1) dX2_guess_17 (by decide) ?_
    refine x_callV (ci := 2) [.int (-1)] 1 dX2_guess_18 (k_X2_no G g_2 hw) (GI.s g_2 (t := (12, 0)) rfl (by decide)) rfl q1387 q1389 qs59 q106 q1390 (by decide) rfl rfl ⟨(Nat.le_of_ble_eq_true rfl), (Nat.le_of_ble_eq_true rfl)⟩ (Nat.le_of_ble_eq_true rfl) ⟨(Nat.le_of_ble_eq_true rfl), (Nat.le_of_ble_eq_true rfl)⟩ (fun v9 h_7 hv9 => ?_) (fun _ _ _ _ _ z _ _ => False.elim z)
    obtain ⟨r_10, rfl, g_8, e_9, hw⟩ := hv9
    have hw := hw g_8 e_9
    show X ρ K_X2_guess 21 [(0, .ref (mr ρ 25)), (1, .int p1), (2, .int p2)] [.int r_10] h_7 0 0 (phI h post) psN
    exact x_iret dX2_guess_21 rfl (Nat.le_of_ble_eq_true rfl) (Nat.le_of_ble_eq_true rfl) ⟨_, rfl, g_8, (Ext.tr e_3 e_9), hw⟩
  · have hw := wf_50 c_6
    refine x_aload_n 0 dX2_guess_8 rfl ?_
    refine x_iload_n 2 dX2_guess_9 rfl ?_
    refine x_callV (ci := 2) [.int p2] 1 dX2_guess_10 (k_X2_isWord G g_2 hw) (GI.s g_2 (t := (12, 0)) rfl (by decide)) rfl q1434 q1436 qs68 q106 q1437 (by decide) rfl rfl ⟨(Nat.le_of_ble_eq_true rfl), (Nat.le_of_ble_eq_true rfl)⟩ (Nat.le_of_ble_eq_true rfl) ⟨(Nat.le_of_ble_eq_true rfl), (Nat.le_of_ble_eq_true rfl)⟩ (fun v9 h_12 hv9 => ?_) (fun _ _ _ _ _ z _ _ => False.elim z)
    obtain ⟨r_15, rfl, g_13, e_14, b_16, hw⟩ := hv9
    have hw := hw g_13 e_14
    show X ρ K_X2_guess 13 [(0, .ref (mr ρ 25)), (1, .int p1), (2, .int p2)] [.int r_15] h_12 0 0 (phI h post) psN
    obtain ⟨wt_47, wf_48⟩ := hw
    refine x_if_ne 22 dX2_guess_13 (by decide) (fun c_17 => ?_) (fun c_17 => ?_)
    · have hw := wt_47 c_17
      refine x_aload_n 0 dX2_guess_22 rfl ?_
      refine x_callV (ci := 2) [] 0 dX2_guess_23 (k_X2_isWhole G g_13 hw) (GI.s g_13 (t := (12, 0)) rfl (by decide)) rfl q1462 q1464 qs72 q106 q1465 (by decide) rfl rfl ⟨(Nat.le_of_ble_eq_true rfl), (Nat.le_of_ble_eq_true rfl)⟩ (Nat.le_of_ble_eq_true rfl) ⟨(Nat.le_of_ble_eq_true rfl), (Nat.le_of_ble_eq_true rfl)⟩ (fun v9 h_18 hv9 => ?_) (fun _ _ _ _ _ z _ _ => False.elim z)
      obtain ⟨r_21, rfl, g_19, e_20, b_22, hw⟩ := hv9
      have hw := hw g_19 e_20
      show X ρ K_X2_guess 26 [(0, .ref (mr ρ 25)), (1, .int p1), (2, .int p2)] [.int r_21] h_18 0 0 (phI h post) psN
      obtain ⟨wt_40, wf_41⟩ := hw
      refine x_if_ne 36 dX2_guess_26 (by decide) (fun c_23 => ?_) (fun c_23 => ?_)
      · have hw := wt_40 c_23
        refine x_aload_n 0 dX2_guess_36 rfl ?_
        refine x_callV (ci := 2) [] 0 dX2_guess_37 (k_X2_findShares G g_19 hw) (GI.s g_19 (t := (12, 0)) rfl (by decide)) rfl q1483 q1485 qs75 q106 q1486 (by decide) rfl rfl ⟨(Nat.le_of_ble_eq_true rfl), (Nat.le_of_ble_eq_true rfl)⟩ (Nat.le_of_ble_eq_true rfl) ⟨(Nat.le_of_ble_eq_true rfl), (Nat.le_of_ble_eq_true rfl)⟩ (fun v9 h_24 hv9 => ?_) (fun _ _ _ _ _ z _ _ => False.elim z)
        obtain ⟨rfl, g_25, e_26, hw⟩ := hv9
        have hw := hw g_25 e_26
        show X ρ K_X2_guess 40 [(0, .ref (mr ρ 25)), (1, .int p1), (2, .int p2)] [] h_24 0 0 (phI h post) psN
        refine x_aload_n 0 dX2_guess_40 rfl ?_
        refine x_aload_n 0 dX2_guess_41 rfl ?_
        refine x_get (ci := 2) (v := .ref (mr ρ 32)) 6 dX2_guess_42 (GI.s g_25 (t := (12, 0)) rfl (by decide)) rfl in_X2 (by decide) q1229 (Or.inl rfl) (fv_rc rfl (GI.m g_25 (n := 32) rfl (by decide)) (by decide)) ?_
        refine x_iload_n 1 dX2_guess_45 rfl ?_
        obtain ⟨b_29, hw⟩ := hw
        refine x_iald (n := 4) (j := (Int32.toNatClampNeg p1)) dX2_guess_46 rfl (GI.s g_25 (t := (1, 4)) rfl (by decide)) b_29 ?_
        refine x_iload_n 2 dX2_guess_47 rfl ?_
        refine x_callV (ci := 2) [.int (gi h_24 32 (Int32.toNatClampNeg p1)), .int p2] 2 dX2_guess_48 (k_X2_guessOf G g_25 hw) (GI.s g_25 (t := (12, 0)) rfl (by decide)) rfl q1505 q1507 qs78 q106 q1508 (by decide) rfl rfl ⟨(Nat.le_of_ble_eq_true rfl), (Nat.le_of_ble_eq_true rfl)⟩ (Nat.le_of_ble_eq_true rfl) ⟨(Nat.le_of_ble_eq_true rfl), (Nat.le_of_ble_eq_true rfl)⟩ (fun v9 h_30 hv9 => ?_) (fun _ _ _ _ _ z _ _ => False.elim z)
        obtain ⟨r_33, rfl, g_31, e_32, hw⟩ := hv9
        have hw := hw g_31 e_32
        show X ρ K_X2_guess 51 [(0, .ref (mr ρ 25)), (1, .int p1), (2, .int p2)] [.int r_33] h_30 0 0 (phI h post) psN
        exact x_iret dX2_guess_51 rfl (Nat.le_of_ble_eq_true rfl) (Nat.le_of_ble_eq_true rfl) ⟨_, rfl, g_31, (Ext.tr (Ext.tr (Ext.tr (Ext.tr e_3 e_14) e_20) e_26) e_32), hw⟩
      · have hw := wf_41 c_23
        refine x_aload_n 0 dX2_guess_29 rfl ?_
        refine x_bipush (-3) dX2_guess_30 (by decide) ?_
        refine x_callV (ci := 2) [.int (-3)] 1 dX2_guess_32 (k_X2_no G g_19 hw) (GI.s g_19 (t := (12, 0)) rfl (by decide)) rfl q1387 q1389 qs59 q106 q1390 (by decide) rfl rfl ⟨(Nat.le_of_ble_eq_true rfl), (Nat.le_of_ble_eq_true rfl)⟩ (Nat.le_of_ble_eq_true rfl) ⟨(Nat.le_of_ble_eq_true rfl), (Nat.le_of_ble_eq_true rfl)⟩ (fun v9 h_35 hv9 => ?_) (fun _ _ _ _ _ z _ _ => False.elim z)
        obtain ⟨r_38, rfl, g_36, e_37, hw⟩ := hv9
        have hw := hw g_36 e_37
        show X ρ K_X2_guess 35 [(0, .ref (mr ρ 25)), (1, .int p1), (2, .int p2)] [.int r_38] h_35 0 0 (phI h post) psN
        exact x_iret dX2_guess_35 rfl (Nat.le_of_ble_eq_true rfl) (Nat.le_of_ble_eq_true rfl) ⟨_, rfl, g_36, (Ext.tr (Ext.tr (Ext.tr e_3 e_14) e_20) e_37), hw⟩
    · have hw := wf_48 c_17
      refine x_aload_n 0 dX2_guess_16 rfl ?_
      refine x_iconst (-1) dX2_guess_17 (by decide) ?_
      refine x_callV (ci := 2) [.int (-1)] 1 dX2_guess_18 (k_X2_no G g_13 hw) (GI.s g_13 (t := (12, 0)) rfl (by decide)) rfl q1387 q1389 qs59 q106 q1390 (by decide) rfl rfl ⟨(Nat.le_of_ble_eq_true rfl), (Nat.le_of_ble_eq_true rfl)⟩ (Nat.le_of_ble_eq_true rfl) ⟨(Nat.le_of_ble_eq_true rfl), (Nat.le_of_ble_eq_true rfl)⟩ (fun v9 h_42 hv9 => ?_) (fun _ _ _ _ _ z _ _ => False.elim z)
      obtain ⟨r_45, rfl, g_43, e_44, hw⟩ := hv9
      have hw := hw g_43 e_44
      show X ρ K_X2_guess 21 [(0, .ref (mr ρ 25)), (1, .int p1), (2, .int p2)] [.int r_45] h_42 0 0 (phI h post) psN
      exact x_iret dX2_guess_21 rfl (Nat.le_of_ble_eq_true rfl) (Nat.le_of_ble_eq_true rfl) ⟨_, rfl, g_43, (Ext.tr (Ext.tr e_3 e_14) e_44), hw⟩

/-! BeforeTheEnd.points(II)I -/
def wp_X0_points (post : Int32 → Hp → Prop) (h : Hp) (p1 : Int32) (p2 : Int32) : Prop := (wp_X0_act (fun r_4 h_1 => GI h_1 → Ext h h_1 → (post r_4 h_1)) h 6 p1 p2 0)
abbrev rm_X0_points : Room := ({ frames := 19, cells := 1868, slots := 13143, locals := 599 })
abbrev K_X0_points : Kx := ("BeforeTheEnd", cX0_points, 3, (Option.some Jvm.ClassFile.FieldType.int), rm_X0_points, [], false)
set_option maxHeartbeats 4000000 in
theorem k_X0_points {ρ : Rho} {h : Hp} {post : Int32 → Hp → Prop} {p1 : Int32} {p2 : Int32} (G : G0 ρ) (g : GI h) (hw : wp_X0_points post h p1 p2) : Con ρ yX0_points (ws_ yX0_points cX0_points 3 (Option.some Jvm.ClassFile.FieldType.int)) rm_X0_points [.ref (mr ρ 1), .int p1, .int p2] h (phI h post) psN := by
  refine con_of (own := "BeforeTheEnd") (isI := false) (l0 := [(0, .ref (mr ρ 1)), (1, .int p1), (2, .int p2)]) (by decide) rfl (fun z => by cases z) (Nat.le_of_ble_eq_true rfl) rfl (fun _ => ?_)
  show X ρ K_X0_points 0 [(0, .ref (mr ρ 1)), (1, .int p1), (2, .int p2)] [] h 0 0 (phI h post) psN
  refine x_aload_n 0 dX0_points_0 rfl ?_
  refine x_bipush 6 dX0_points_1 (by decide) ?_
  refine x_iload_n 1 dX0_points_3 rfl ?_
  refine x_iload_n 2 dX0_points_4 rfl ?_
  refine x_iconst 0 dX0_points_5 (by decide) ?_
  refine x_callH (ci := 0) [.int 6, .int p1, .int p2, .int 0] 4 dX0_points_6 (k_X0_act G g hw) (GI.s g (t := (10, 0)) rfl (by decide)) rfl q383 q385 qs3 q104 q386 (by decide) rfl rfl ⟨(Nat.le_of_ble_eq_true rfl), (Nat.le_of_ble_eq_true rfl)⟩ (Nat.le_of_ble_eq_true rfl) ⟨(Nat.le_of_ble_eq_true rfl), (Nat.le_of_ble_eq_true rfl)⟩ (fun v9 h_1 hv9 => ?_) (fun _ _ _ _ _ z _ _ => False.elim z)
  obtain ⟨r_4, rfl, g_2, e_3, hw⟩ := hv9
  have hw := hw g_2 e_3
  show X ρ K_X0_points 9 [(0, .ref (mr ρ 1)), (1, .int p1), (2, .int p2)] [.int r_4] h_1 1868 13143 (phI h post) psN
  exact x_iret dX0_points_9 rfl (Nat.le_of_ble_eq_true rfl) (Nat.le_of_ble_eq_true rfl) ⟨_, rfl, g_2, e_3, hw⟩

/-! BeforeTheEndModel.points(II)I -/
def wp_X2_points (post : Int32 → Hp → Prop) (h : Hp) (p1 : Int32) (p2 : Int32) : Prop := (wp_X2_isIn (fun r_4 h_1 => GI h_1 → Ext h h_1 → ((¬ r_4 = 0 → (vp_in p1 4 ∧ (wp_X2_bound (fun r_11 h_8 => GI h_8 → Ext h_1 h_8 → ((r_11 = 0 → (vp_in p1 4 ∧ (∀ x4_15 : Int32, x4_15 = (gi h_8 36 (Int32.toNatClampNeg p1)) → (vp_in p1 4 ∧ (post x4_15 (si h_8 36 (Int32.toNatClampNeg p1) p2)))))) ∧ (¬ r_11 = 0 → (wp_X2_no (fun r_20 h_17 => GI h_17 → Ext h_8 h_17 → (post r_20 h_17)) h_8 r_11)))) h_1 p2 0 (gi h_1 37 (Int32.toNatClampNeg p1))))) ∧ (r_4 = 0 → (wp_X2_no (fun r_27 h_24 => GI h_24 → Ext h_1 h_24 → (post r_27 h_24)) h_1 (-2))))) h p1 0 3)
abbrev rm_X2_points : Room := ({ frames := 2, cells := 0, slots := 0, locals := 82 })
abbrev K_X2_points : Kx := ("BeforeTheEndModel", cX2_points, 5, (Option.some Jvm.ClassFile.FieldType.int), rm_X2_points, [], false)
set_option maxHeartbeats 4000000 in
theorem k_X2_points {ρ : Rho} {h : Hp} {post : Int32 → Hp → Prop} {p1 : Int32} {p2 : Int32} (G : G0 ρ) (g : GI h) (hw : wp_X2_points post h p1 p2) : Con ρ yX2_points (ws_ yX2_points cX2_points 5 (Option.some Jvm.ClassFile.FieldType.int)) rm_X2_points [.ref (mr ρ 25), .int p1, .int p2] h (phI h post) psN := by
  refine con_of (own := "BeforeTheEndModel") (isI := false) (l0 := [(0, .ref (mr ρ 25)), (1, .int p1), (2, .int p2)]) (by decide) rfl (fun z => by cases z) (Nat.le_of_ble_eq_true rfl) rfl (fun _ => ?_)
  show X ρ K_X2_points 0 [(0, .ref (mr ρ 25)), (1, .int p1), (2, .int p2)] [] h 0 0 (phI h post) psN
  refine x_iload_n 1 dX2_points_0 rfl ?_
  refine x_iconst 0 dX2_points_1 (by decide) ?_
  refine x_iconst 3 dX2_points_2 (by decide) ?_
  refine x_callS [.int p1, .int 0, .int 3] 3 dX2_points_3 (k_X2_isIn G g hw) q1412 q1413 q106 q1414 (by decide) rfl rfl ⟨(Nat.le_of_ble_eq_true rfl), (Nat.le_of_ble_eq_true rfl)⟩ (Nat.le_of_ble_eq_true rfl) ⟨(Nat.le_of_ble_eq_true rfl), (Nat.le_of_ble_eq_true rfl)⟩ (fun v9 h_1 hv9 => ?_) (fun _ _ _ _ _ z _ _ => False.elim z)
  obtain ⟨r_4, rfl, g_2, e_3, b_5, hw⟩ := hv9
  have hw := hw g_2 e_3
  show X ρ K_X2_points 6 [(0, .ref (mr ρ 25)), (1, .int p1), (2, .int p2)] [.int r_4] h_1 0 0 (phI h post) psN
  obtain ⟨wt_29, wf_30⟩ := hw
  refine x_if_ne 16 dX2_points_6 (by decide) (fun c_6 => ?_) (fun c_6 => ?_)
  · have hw := wt_29 c_6
    refine x_iload_n 2 dX2_points_16 rfl ?_
    refine x_iconst 0 dX2_points_17 (by decide) ?_
    refine x_aload_n 0 dX2_points_18 rfl ?_
    refine x_get (ci := 2) (v := .ref (mr ρ 37)) 11 dX2_points_19 (GI.s g_2 (t := (12, 0)) rfl (by decide)) rfl in_X2 (by decide) q1234 (Or.inl rfl) (fv_rc rfl (GI.m g_2 (n := 37) rfl (by decide)) (by decide)) ?_
    refine x_iload_n 1 dX2_points_22 rfl ?_
    obtain ⟨b_7, hw⟩ := hw
    refine x_iald (n := 4) (j := (Int32.toNatClampNeg p1)) dX2_points_23 rfl (GI.s g_2 (t := (1, 4)) rfl (by decide)) b_7 ?_
    refine x_callS [.int p2, .int 0, .int (gi h_1 37 (Int32.toNatClampNeg p1))] 3 dX2_points_24 (k_X2_bound G g_2 hw) q1384 q1385 q106 q1386 (by decide) rfl rfl ⟨(Nat.le_of_ble_eq_true rfl), (Nat.le_of_ble_eq_true rfl)⟩ (Nat.le_of_ble_eq_true rfl) ⟨(Nat.le_of_ble_eq_true rfl), (Nat.le_of_ble_eq_true rfl)⟩ (fun v9 h_8 hv9 => ?_) (fun _ _ _ _ _ z _ _ => False.elim z)
    obtain ⟨r_11, rfl, g_9, e_10, hw⟩ := hv9
    have hw := hw g_9 e_10
    show X ρ K_X2_points 27 [(0, .ref (mr ρ 25)), (1, .int p1), (2, .int p2)] [.int r_11] h_8 0 0 (phI h post) psN
    refine x_istore_n (lv' := [(3, .int r_11), (0, .ref (mr ρ 25)), (1, .int p1), (2, .int p2)]) dX2_points_27 (Nat.le_of_ble_eq_true rfl) rfl ?_
    refine x_iload_n 0 dX2_points_28 rfl ?_
    obtain ⟨wt_22, wf_23⟩ := hw
    refine x_if_eq 38 dX2_points_29 (by decide) (fun c_13 => ?_) (fun c_13 => ?_)
    · have hw := wt_22 c_13
      refine x_aload_n 1 dX2_points_38 rfl ?_
      refine x_get (ci := 2) (v := .ref (mr ρ 36)) 10 dX2_points_39 (GI.s g_9 (t := (12, 0)) rfl (by decide)) rfl in_X2 (by decide) q1233 (Or.inl rfl) (fv_rc rfl (GI.m g_9 (n := 36) rfl (by decide)) (by decide)) ?_
      refine x_iload_n 2 dX2_points_42 rfl ?_
      obtain ⟨b_14, hw⟩ := hw
      refine x_iald (n := 4) (j := (Int32.toNatClampNeg p1)) dX2_points_43 rfl (GI.s g_9 (t := (1, 4)) rfl (by decide)) b_14 ?_
      refine x_nmi (fun x4_15 ex4_15 => ?_)
      have hw := hw x4_15 ex4_15
      refine x_istore (lv' := [(4, .int x4_15), (3, .int r_11), (0, .ref (mr ρ 25)), (1, .int p1), (2, .int p2)]) dX2_points_44 (Nat.le_of_ble_eq_true rfl) rfl ?_
      refine x_aload_n 2 dX2_points_46 rfl ?_
      refine x_get (ci := 2) (v := .ref (mr ρ 36)) 10 dX2_points_47 (GI.s g_9 (t := (12, 0)) rfl (by decide)) rfl in_X2 (by decide) q1233 (Or.inl rfl) (fv_rc rfl (GI.m g_9 (n := 36) rfl (by decide)) (by decide)) ?_
      refine x_iload_n 3 dX2_points_50 rfl ?_
      refine x_iload_n 4 dX2_points_51 rfl ?_
      obtain ⟨b_16, hw⟩ := hw
      refine x_iast (n := 4) (j := (Int32.toNatClampNeg p1)) dX2_points_52 rfl (GI.s g_9 (t := (1, 4)) rfl (by decide)) b_16 ?_
      refine x_iload 0 dX2_points_53 rfl ?_
      exact x_iret dX2_points_55 rfl (Nat.le_of_ble_eq_true rfl) (Nat.le_of_ble_eq_true rfl) ⟨_, rfl, (GI.i g_9), (Ext.i (Ext.tr e_3 e_10)), hw⟩
    · have hw := wf_23 c_13
      refine x_aload_n 1 dX2_points_32 rfl ?_
      refine x_iload_n 0 dX2_points_33 rfl ?_
      refine x_callV (ci := 2) [.int r_11] 1 dX2_points_34 (k_X2_no G g_9 hw) (GI.s g_9 (t := (12, 0)) rfl (by decide)) rfl q1387 q1389 qs59 q106 q1390 (by decide) rfl rfl ⟨(Nat.le_of_ble_eq_true rfl), (Nat.le_of_ble_eq_true rfl)⟩ (Nat.le_of_ble_eq_true rfl) ⟨(Nat.le_of_ble_eq_true rfl), (Nat.le_of_ble_eq_true rfl)⟩ (fun v9 h_17 hv9 => ?_) (fun _ _ _ _ _ z _ _ => False.elim z)
      obtain ⟨r_20, rfl, g_18, e_19, hw⟩ := hv9
      have hw := hw g_18 e_19
      show X ρ K_X2_points 37 [(3, .int r_11), (0, .ref (mr ρ 25)), (1, .int p1), (2, .int p2)] [.int r_20] h_17 0 0 (phI h post) psN
      exact x_iret dX2_points_37 rfl (Nat.le_of_ble_eq_true rfl) (Nat.le_of_ble_eq_true rfl) ⟨_, rfl, g_18, (Ext.tr (Ext.tr e_3 e_10) e_19), hw⟩
  · have hw := wf_30 c_6
    refine x_aload_n 0 dX2_points_9 rfl ?_
    refine x_bipush (-2) dX2_points_10 (by decide) ?_
    refine x_callV (ci := 2) [.int (-2)] 1 dX2_points_12 (k_X2_no G g_2 hw) (GI.s g_2 (t := (12, 0)) rfl (by decide)) rfl q1387 q1389 qs59 q106 q1390 (by decide) rfl rfl ⟨(Nat.le_of_ble_eq_true rfl), (Nat.le_of_ble_eq_true rfl)⟩ (Nat.le_of_ble_eq_true rfl) ⟨(Nat.le_of_ble_eq_true rfl), (Nat.le_of_ble_eq_true rfl)⟩ (fun v9 h_24 hv9 => ?_) (fun _ _ _ _ _ z _ _ => False.elim z)
    obtain ⟨r_27, rfl, g_25, e_26, hw⟩ := hv9
    have hw := hw g_25 e_26
    show X ρ K_X2_points 15 [(0, .ref (mr ρ 25)), (1, .int p1), (2, .int p2)] [.int r_27] h_24 0 0 (phI h post) psN
    exact x_iret dX2_points_15 rfl (Nat.le_of_ble_eq_true rfl) (Nat.le_of_ble_eq_true rfl) ⟨_, rfl, g_25, (Ext.tr e_3 e_26), hw⟩

/-! BeforeTheEnd.setOf(II)I -/
def wp_X0_setOf (post : Int32 → Hp → Prop) (h : Hp) (p1 : Int32) (p2 : Int32) : Prop := (wp_X0_act (fun r_4 h_1 => GI h_1 → Ext h h_1 → (post r_4 h_1)) h 7 p1 p2 0)
abbrev rm_X0_setOf : Room := ({ frames := 19, cells := 1868, slots := 13143, locals := 599 })
abbrev K_X0_setOf : Kx := ("BeforeTheEnd", cX0_setOf, 3, (Option.some Jvm.ClassFile.FieldType.int), rm_X0_setOf, [], false)
set_option maxHeartbeats 4000000 in
theorem k_X0_setOf {ρ : Rho} {h : Hp} {post : Int32 → Hp → Prop} {p1 : Int32} {p2 : Int32} (G : G0 ρ) (g : GI h) (hw : wp_X0_setOf post h p1 p2) : Con ρ yX0_setOf (ws_ yX0_setOf cX0_setOf 3 (Option.some Jvm.ClassFile.FieldType.int)) rm_X0_setOf [.ref (mr ρ 1), .int p1, .int p2] h (phI h post) psN := by
  refine con_of (own := "BeforeTheEnd") (isI := false) (l0 := [(0, .ref (mr ρ 1)), (1, .int p1), (2, .int p2)]) (by decide) rfl (fun z => by cases z) (Nat.le_of_ble_eq_true rfl) rfl (fun _ => ?_)
  show X ρ K_X0_setOf 0 [(0, .ref (mr ρ 1)), (1, .int p1), (2, .int p2)] [] h 0 0 (phI h post) psN
  refine x_aload_n 0 dX0_setOf_0 rfl ?_
  refine x_bipush 7 dX0_setOf_1 (by decide) ?_
  refine x_iload_n 1 dX0_setOf_3 rfl ?_
  refine x_iload_n 2 dX0_setOf_4 rfl ?_
  refine x_iconst 0 dX0_setOf_5 (by decide) ?_
  refine x_callH (ci := 0) [.int 7, .int p1, .int p2, .int 0] 4 dX0_setOf_6 (k_X0_act G g hw) (GI.s g (t := (10, 0)) rfl (by decide)) rfl q383 q385 qs3 q104 q386 (by decide) rfl rfl ⟨(Nat.le_of_ble_eq_true rfl), (Nat.le_of_ble_eq_true rfl)⟩ (Nat.le_of_ble_eq_true rfl) ⟨(Nat.le_of_ble_eq_true rfl), (Nat.le_of_ble_eq_true rfl)⟩ (fun v9 h_1 hv9 => ?_) (fun _ _ _ _ _ z _ _ => False.elim z)
  obtain ⟨r_4, rfl, g_2, e_3, hw⟩ := hv9
  have hw := hw g_2 e_3
  show X ρ K_X0_setOf 9 [(0, .ref (mr ρ 1)), (1, .int p1), (2, .int p2)] [.int r_4] h_1 1868 13143 (phI h post) psN
  exact x_iret dX0_setOf_9 rfl (Nat.le_of_ble_eq_true rfl) (Nat.le_of_ble_eq_true rfl) ⟨_, rfl, g_2, e_3, hw⟩

/-! BeforeTheEndModel.setOf(II)I -/
def wp_X2_setOf (post : Int32 → Hp → Prop) (h : Hp) (p1 : Int32) (p2 : Int32) : Prop := (wp_X2_isPlayer (fun r_4 h_1 => GI h_1 → Ext h h_1 → ((r_4 = 0 → (wp_X2_no (fun r_10 h_7 => GI h_7 → Ext h_1 h_7 → (post r_10 h_7)) h_1 (-1))) ∧ (¬ r_4 = 0 → ((p2 < 0 → (wp_X2_no (fun r_16 h_13 => GI h_13 → Ext h_1 h_13 → (post r_16 h_13)) h_1 (-1))) ∧ (¬ p2 < 0 → (((p2 >>> ((gi h_1 25 12) &&& 31)) = 0 → (vp_in p1 4 ∧ (((gi h_1 31 (Int32.toNatClampNeg p1)) = 4 → (vp_in p1 4 ∧ (∀ x3_22 : Int32, x3_22 = (gi h_1 35 (Int32.toNatClampNeg p1)) → (vp_in p1 4 ∧ (post x3_22 (si h_1 35 (Int32.toNatClampNeg p1) p2)))))) ∧ (¬ (gi h_1 31 (Int32.toNatClampNeg p1)) = 4 → (wp_X2_no (fun r_27 h_24 => GI h_24 → Ext h_1 h_24 → (post r_27 h_24)) h_1 (-2)))))) ∧ (¬ (p2 >>> ((gi h_1 25 12) &&& 31)) = 0 → (wp_X2_no (fun r_34 h_31 => GI h_31 → Ext h_1 h_31 → (post r_34 h_31)) h_1 (-1))))))))) h p1)
abbrev rm_X2_setOf : Room := ({ frames := 2, cells := 0, slots := 0, locals := 81 })
abbrev K_X2_setOf : Kx := ("BeforeTheEndModel", cX2_setOf, 4, (Option.some Jvm.ClassFile.FieldType.int), rm_X2_setOf, [], false)
set_option maxHeartbeats 4000000 in
theorem k_X2_setOf {ρ : Rho} {h : Hp} {post : Int32 → Hp → Prop} {p1 : Int32} {p2 : Int32} (G : G0 ρ) (g : GI h) (hw : wp_X2_setOf post h p1 p2) : Con ρ yX2_setOf (ws_ yX2_setOf cX2_setOf 4 (Option.some Jvm.ClassFile.FieldType.int)) rm_X2_setOf [.ref (mr ρ 25), .int p1, .int p2] h (phI h post) psN := by
  refine con_of (own := "BeforeTheEndModel") (isI := false) (l0 := [(0, .ref (mr ρ 25)), (1, .int p1), (2, .int p2)]) (by decide) rfl (fun z => by cases z) (Nat.le_of_ble_eq_true rfl) rfl (fun _ => ?_)
  show X ρ K_X2_setOf 0 [(0, .ref (mr ρ 25)), (1, .int p1), (2, .int p2)] [] h 0 0 (phI h post) psN
  refine x_aload_n 0 dX2_setOf_0 rfl ?_
  refine x_iload_n 1 dX2_setOf_1 rfl ?_
  refine x_callV (ci := 2) [.int p1] 1 dX2_setOf_2 (k_X2_isPlayer G g hw) (GI.s g (t := (12, 0)) rfl (by decide)) rfl q1454 q1456 qs71 q106 q1457 (by decide) rfl rfl ⟨(Nat.le_of_ble_eq_true rfl), (Nat.le_of_ble_eq_true rfl)⟩ (Nat.le_of_ble_eq_true rfl) ⟨(Nat.le_of_ble_eq_true rfl), (Nat.le_of_ble_eq_true rfl)⟩ (fun v9 h_1 hv9 => ?_) (fun _ _ _ _ _ z _ _ => False.elim z)
  obtain ⟨r_4, rfl, g_2, e_3, b_5, hw⟩ := hv9
  have hw := hw g_2 e_3
  show X ρ K_X2_setOf 5 [(0, .ref (mr ρ 25)), (1, .int p1), (2, .int p2)] [.int r_4] h_1 0 0 (phI h post) psN
  obtain ⟨wt_40, wf_41⟩ := hw
  refine x_if_eq 21 dX2_setOf_5 (by decide) (fun c_6 => ?_) (fun c_6 => ?_)
  · have hw := wt_40 c_6
    refine x_aload_n 0 dX2_setOf_21 rfl ?_
    refine x_iconst (-1) dX2_setOf_22 (by decide) ?_
    refine x_callV (ci := 2) [.int (-1)] 1 dX2_setOf_23 (k_X2_no G g_2 hw) (GI.s g_2 (t := (12, 0)) rfl (by decide)) rfl q1387 q1389 qs59 q106 q1390 (by decide) rfl rfl ⟨(Nat.le_of_ble_eq_true rfl), (Nat.le_of_ble_eq_true rfl)⟩ (Nat.le_of_ble_eq_true rfl) ⟨(Nat.le_of_ble_eq_true rfl), (Nat.le_of_ble_eq_true rfl)⟩ (fun v9 h_7 hv9 => ?_) (fun _ _ _ _ _ z _ _ => False.elim z)
    obtain ⟨r_10, rfl, g_8, e_9, hw⟩ := hv9
    have hw := hw g_8 e_9
    show X ρ K_X2_setOf 26 [(0, .ref (mr ρ 25)), (1, .int p1), (2, .int p2)] [.int r_10] h_7 0 0 (phI h post) psN
    exact x_iret dX2_setOf_26 rfl (Nat.le_of_ble_eq_true rfl) (Nat.le_of_ble_eq_true rfl) ⟨_, rfl, g_8, (Ext.tr e_3 e_9), hw⟩
  · have hw := wf_41 c_6
    refine x_iload_n 2 dX2_setOf_8 rfl ?_
    obtain ⟨wt_38, wf_39⟩ := hw
    refine x_if_lt 21 dX2_setOf_9 (by decide) (fun c_12 => ?_) (fun c_12 => ?_)
    · have hw := wt_38 c_12
      refine x_aload_n 0 dX2_setOf_21 rfl ?_
      refine x_iconst (-1) dX2_setOf_22 (by decide) ?_
      refine x_callV (ci := 2) [.int (-1)] 1 dX2_setOf_23 (k_X2_no G g_2 hw) (GI.s g_2 (t := (12, 0)) rfl (by decide)) rfl q1387 q1389 qs59 q106 q1390 (by decide) rfl rfl ⟨(Nat.le_of_ble_eq_true rfl), (Nat.le_of_ble_eq_true rfl)⟩ (Nat.le_of_ble_eq_true rfl) ⟨(Nat.le_of_ble_eq_true rfl), (Nat.le_of_ble_eq_true rfl)⟩ (fun v9 h_13 hv9 => ?_) (fun _ _ _ _ _ z _ _ => False.elim z)
      obtain ⟨r_16, rfl, g_14, e_15, hw⟩ := hv9
      have hw := hw g_14 e_15
      show X ρ K_X2_setOf 26 [(0, .ref (mr ρ 25)), (1, .int p1), (2, .int p2)] [.int r_16] h_13 0 0 (phI h post) psN
      exact x_iret dX2_setOf_26 rfl (Nat.le_of_ble_eq_true rfl) (Nat.le_of_ble_eq_true rfl) ⟨_, rfl, g_14, (Ext.tr e_3 e_15), hw⟩
    · have hw := wf_39 c_12
      refine x_iload_n 2 dX2_setOf_12 rfl ?_
      refine x_aload_n 0 dX2_setOf_13 rfl ?_
      refine x_get (ci := 2) (v := .int (gi h_1 25 12)) 12 dX2_setOf_14 (GI.s g_2 (t := (12, 0)) rfl (by decide)) rfl in_X2 (by decide) q1235 (Or.inl rfl) (fv_i rfl) ?_
      refine x_ishr dX2_setOf_17 ?_
      obtain ⟨wt_36, wf_37⟩ := hw
      refine x_if_eq 27 dX2_setOf_18 (by decide) (fun c_18 => ?_) (fun c_18 => ?_)
      · have hw := wt_36 c_18
        refine x_aload_n 0 dX2_setOf_27 rfl ?_
        refine x_get (ci := 2) (v := .ref (mr ρ 31)) 5 dX2_setOf_28 (GI.s g_2 (t := (12, 0)) rfl (by decide)) rfl in_X2 (by decide) q1228 (Or.inl rfl) (fv_rc rfl (GI.m g_2 (n := 31) rfl (by decide)) (by decide)) ?_
        refine x_iload_n 1 dX2_setOf_31 rfl ?_
        obtain ⟨b_19, hw⟩ := hw
        refine x_iald (n := 4) (j := (Int32.toNatClampNeg p1)) dX2_setOf_32 rfl (GI.s g_2 (t := (1, 4)) rfl (by decide)) b_19 ?_
        refine x_iconst 4 dX2_setOf_33 (by decide) ?_
        obtain ⟨wt_29, wf_30⟩ := hw
        refine x_icmp_eq 44 dX2_setOf_34 (by decide) (fun c_20 => ?_) (fun c_20 => ?_)
        · have hw := wt_29 c_20
          refine x_aload_n 0 dX2_setOf_44 rfl ?_
          refine x_get (ci := 2) (v := .ref (mr ρ 35)) 9 dX2_setOf_45 (GI.s g_2 (t := (12, 0)) rfl (by decide)) rfl in_X2 (by decide) q1232 (Or.inl rfl) (fv_rc rfl (GI.m g_2 (n := 35) rfl (by decide)) (by decide)) ?_
          refine x_iload_n 1 dX2_setOf_48 rfl ?_
          obtain ⟨b_21, hw⟩ := hw
          refine x_iald (n := 4) (j := (Int32.toNatClampNeg p1)) dX2_setOf_49 rfl (GI.s g_2 (t := (1, 4)) rfl (by decide)) b_21 ?_
          refine x_nmi (fun x3_22 ex3_22 => ?_)
          have hw := hw x3_22 ex3_22
          refine x_istore_n (lv' := [(3, .int x3_22), (0, .ref (mr ρ 25)), (1, .int p1), (2, .int p2)]) dX2_setOf_50 (Nat.le_of_ble_eq_true rfl) rfl ?_
          refine x_aload_n 1 dX2_setOf_51 rfl ?_
          refine x_get (ci := 2) (v := .ref (mr ρ 35)) 9 dX2_setOf_52 (GI.s g_2 (t := (12, 0)) rfl (by decide)) rfl in_X2 (by decide) q1232 (Or.inl rfl) (fv_rc rfl (GI.m g_2 (n := 35) rfl (by decide)) (by decide)) ?_
          refine x_iload_n 2 dX2_setOf_55 rfl ?_
          refine x_iload_n 3 dX2_setOf_56 rfl ?_
          obtain ⟨b_23, hw⟩ := hw
          refine x_iast (n := 4) (j := (Int32.toNatClampNeg p1)) dX2_setOf_57 rfl (GI.s g_2 (t := (1, 4)) rfl (by decide)) b_23 ?_
          refine x_iload_n 0 dX2_setOf_58 rfl ?_
          exact x_iret dX2_setOf_59 rfl (Nat.le_of_ble_eq_true rfl) (Nat.le_of_ble_eq_true rfl) ⟨_, rfl, (GI.i g_2), (Ext.i e_3), hw⟩
        · have hw := wf_30 c_20
          refine x_aload_n 0 dX2_setOf_37 rfl ?_
          refine x_bipush (-2) dX2_setOf_38 (by decide) ?_
          refine x_callV (ci := 2) [.int (-2)] 1 dX2_setOf_40 (k_X2_no G g_2 hw) (GI.s g_2 (t := (12, 0)) rfl (by decide)) rfl q1387 q1389 qs59 q106 q1390 (by decide) rfl rfl ⟨(Nat.le_of_ble_eq_true rfl), (Nat.le_of_ble_eq_true rfl)⟩ (Nat.le_of_ble_eq_true rfl) ⟨(Nat.le_of_ble_eq_true rfl), (Nat.le_of_ble_eq_true rfl)⟩ (fun v9 h_24 hv9 => ?_) (fun _ _ _ _ _ z _ _ => False.elim z)
          obtain ⟨r_27, rfl, g_25, e_26, hw⟩ := hv9
          have hw := hw g_25 e_26
          show X ρ K_X2_setOf 43 [(0, .ref (mr ρ 25)), (1, .int p1), (2, .int p2)] [.int r_27] h_24 0 0 (phI h post) psN
          exact x_iret dX2_setOf_43 rfl (Nat.le_of_ble_eq_true rfl) (Nat.le_of_ble_eq_true rfl) ⟨_, rfl, g_25, (Ext.tr e_3 e_26), hw⟩
      · have hw := wf_37 c_18
        refine x_aload_n 0 dX2_setOf_21 rfl ?_
        refine x_iconst (-1) dX2_setOf_22 (by decide) ?_
        refine x_callV (ci := 2) [.int (-1)] 1 dX2_setOf_23 (k_X2_no G g_2 hw) (GI.s g_2 (t := (12, 0)) rfl (by decide)) rfl q1387 q1389 qs59 q106 q1390 (by decide) rfl rfl ⟨(Nat.le_of_ble_eq_true rfl), (Nat.le_of_ble_eq_true rfl)⟩ (Nat.le_of_ble_eq_true rfl) ⟨(Nat.le_of_ble_eq_true rfl), (Nat.le_of_ble_eq_true rfl)⟩ (fun v9 h_31 hv9 => ?_) (fun _ _ _ _ _ z _ _ => False.elim z)
        obtain ⟨r_34, rfl, g_32, e_33, hw⟩ := hv9
        have hw := hw g_32 e_33
        show X ρ K_X2_setOf 26 [(0, .ref (mr ρ 25)), (1, .int p1), (2, .int p2)] [.int r_34] h_31 0 0 (phI h post) psN
        exact x_iret dX2_setOf_26 rfl (Nat.le_of_ble_eq_true rfl) (Nat.le_of_ble_eq_true rfl) ⟨_, rfl, g_32, (Ext.tr e_3 e_33), hw⟩

/-! BeforeTheEnd.presses(II)I -/
def wp_X0_presses (post : Int32 → Hp → Prop) (h : Hp) (p1 : Int32) (p2 : Int32) : Prop := (wp_X0_act (fun r_4 h_1 => GI h_1 → Ext h h_1 → (post r_4 h_1)) h 8 p1 p2 0)
abbrev rm_X0_presses : Room := ({ frames := 19, cells := 1868, slots := 13143, locals := 599 })
abbrev K_X0_presses : Kx := ("BeforeTheEnd", cX0_presses, 3, (Option.some Jvm.ClassFile.FieldType.int), rm_X0_presses, [], false)
set_option maxHeartbeats 4000000 in
theorem k_X0_presses {ρ : Rho} {h : Hp} {post : Int32 → Hp → Prop} {p1 : Int32} {p2 : Int32} (G : G0 ρ) (g : GI h) (hw : wp_X0_presses post h p1 p2) : Con ρ yX0_presses (ws_ yX0_presses cX0_presses 3 (Option.some Jvm.ClassFile.FieldType.int)) rm_X0_presses [.ref (mr ρ 1), .int p1, .int p2] h (phI h post) psN := by
  refine con_of (own := "BeforeTheEnd") (isI := false) (l0 := [(0, .ref (mr ρ 1)), (1, .int p1), (2, .int p2)]) (by decide) rfl (fun z => by cases z) (Nat.le_of_ble_eq_true rfl) rfl (fun _ => ?_)
  show X ρ K_X0_presses 0 [(0, .ref (mr ρ 1)), (1, .int p1), (2, .int p2)] [] h 0 0 (phI h post) psN
  refine x_aload_n 0 dX0_presses_0 rfl ?_
  refine x_bipush 8 dX0_presses_1 (by decide) ?_
  refine x_iload_n 1 dX0_presses_3 rfl ?_
  refine x_iload_n 2 dX0_presses_4 rfl ?_
  refine x_iconst 0 dX0_presses_5 (by decide) ?_
  refine x_callH (ci := 0) [.int 8, .int p1, .int p2, .int 0] 4 dX0_presses_6 (k_X0_act G g hw) (GI.s g (t := (10, 0)) rfl (by decide)) rfl q383 q385 qs3 q104 q386 (by decide) rfl rfl ⟨(Nat.le_of_ble_eq_true rfl), (Nat.le_of_ble_eq_true rfl)⟩ (Nat.le_of_ble_eq_true rfl) ⟨(Nat.le_of_ble_eq_true rfl), (Nat.le_of_ble_eq_true rfl)⟩ (fun v9 h_1 hv9 => ?_) (fun _ _ _ _ _ z _ _ => False.elim z)
  obtain ⟨r_4, rfl, g_2, e_3, hw⟩ := hv9
  have hw := hw g_2 e_3
  show X ρ K_X0_presses 9 [(0, .ref (mr ρ 1)), (1, .int p1), (2, .int p2)] [.int r_4] h_1 1868 13143 (phI h post) psN
  exact x_iret dX0_presses_9 rfl (Nat.le_of_ble_eq_true rfl) (Nat.le_of_ble_eq_true rfl) ⟨_, rfl, g_2, e_3, hw⟩

/-! BeforeTheEndModel.pressWorth(II)J -/
def w_X2_pressWorth_18 (post : Int64 → Hp → Prop) : Nat → Int32 → Int32 → Int64 → Int32 → Hp → Prop
  | 0 => fun _ _ _ _ _ => False
  | n + 1 => fun x2 x3 x4 x6 h => (((gi h 25 12) ≤ x6 → (post x4 h)) ∧ (¬ (gi h 25 12) ≤ x6 → (vp_in x6 24 ∧ (((gi h 29 (Int32.toNatClampNeg x6)) = 0 → (w_X2_pressWorth_18 post n x2 x3 x4 (x6 + 1) h)) ∧ (¬ (gi h 29 (Int32.toNatClampNeg x6)) = 0 → (wp_X2_isBehind (fun r_7 h_4 => GI h_4 → Ext h h_4 → ((¬ r_7 = 0 → (vp_in x6 24 ∧ (vp_in x6 24 ∧ ((((gi h_4 29 (Int32.toNatClampNeg x6)) = x3 → (vp_in x6 24 ∧ vp_in x2 24))) ∧ (∀ z_15 : Int32, z_15 = ((if (gi h_4 29 (Int32.toNatClampNeg x6)) = x3 then ((gi h_4 36 0) + ((gi h_4 36 2) * ((gi h_4 30 (Int32.toNatClampNeg x6)) - (gi h_4 30 (Int32.toNatClampNeg x2))))) else (-(gi h_4 36 1))) : Int32) → (∀ x4_16 : Int64, x4_16 = (x4 + ((gl h_4 45 (Int32.toNatClampNeg x6)) * (Int32.toInt64 z_15))) → (w_X2_pressWorth_18 post n x2 x3 x4_16 (x6 + 1) h_4))))))) ∧ (r_7 = 0 → (w_X2_pressWorth_18 post n x2 x3 x4 (x6 + 1) h_4)))) h x6 x2))))))
def wp_X2_pressWorth (post : Int64 → Hp → Prop) (h : Hp) (p1 : Int32) (p2 : Int32) : Prop := (vp_in ((24 * p1) + p2) 96 ∧ (∀ x3_2 : Int32, x3_2 = (gi h 47 (Int32.toNatClampNeg ((24 * p1) + p2))) → (∃ fu : Nat, w_X2_pressWorth_18 post fu p2 x3_2 0 p2 h)))
abbrev rm_X2_pressWorth : Room := ({ frames := 2, cells := 0, slots := 0, locals := 83 })
abbrev K_X2_pressWorth : Kx := ("BeforeTheEndModel", cX2_pressWorth, 7, (Option.some Jvm.ClassFile.FieldType.long), rm_X2_pressWorth, [], false)
set_option maxHeartbeats 4000000 in
theorem t_X2_pressWorth_18 {ρ : Rho} {h0 : Hp} {post : Int64 → Hp → Prop} (G : G0 ρ) :
    ∀ (n : Nat), ∀ (x2 : Int32) (x3 : Int32) (x4 : Int64) (x6 : Int32) (h : Hp), GI h → Ext h0 h → w_X2_pressWorth_18 post n x2 x3 x4 x6 h → X ρ K_X2_pressWorth 18 [(0, .ref (mr ρ 25)), (2, .int x2), (3, .int x3), (4, .long x4), (6, .int x6)] [] h 0 0 (phL h0 post) psN := by
  intro n
  induction n with
  | zero => intro x2 x3 x4 x6 h g e hw; exact False.elim hw
  | succ n ih =>
    intro x2 x3 x4 x6 h g e hw
    refine x_iload 4 dX2_pressWorth_18 rfl ?_
    refine x_aload_n 0 dX2_pressWorth_20 rfl ?_
    refine x_get (ci := 2) (v := .int (gi h 25 12)) 12 dX2_pressWorth_21 (GI.s g (t := (12, 0)) rfl (by decide)) rfl in_X2 (by decide) q1235 (Or.inl rfl) (fv_i rfl) ?_
    obtain ⟨wt_23, wf_24⟩ := hw
    refine x_icmp_ge 119 dX2_pressWorth_24 (by decide) (fun c_1 => ?_) (fun c_1 => ?_)
    · have hw := wt_23 c_1
      refine x_lload 3 dX2_pressWorth_119 rfl ?_
      exact x_lret dX2_pressWorth_121 rfl (Nat.le_of_ble_eq_true rfl) (Nat.le_of_ble_eq_true rfl) ⟨_, rfl, g, e, hw⟩
    · have hw := wf_24 c_1
      refine x_aload_n 0 dX2_pressWorth_27 rfl ?_
      refine x_get (ci := 2) (v := .ref (mr ρ 29)) 3 dX2_pressWorth_28 (GI.s g (t := (12, 0)) rfl (by decide)) rfl in_X2 (by decide) q1226 (Or.inl rfl) (fv_rc rfl (GI.m g (n := 29) rfl (by decide)) (by decide)) ?_
      refine x_iload 4 dX2_pressWorth_31 rfl ?_
      obtain ⟨b_2, hw⟩ := hw
      refine x_iald (n := 24) (j := (Int32.toNatClampNeg x6)) dX2_pressWorth_33 rfl (GI.s g (t := (1, 24)) rfl (by decide)) b_2 ?_
      obtain ⟨wt_21, wf_22⟩ := hw
      refine x_if_eq 113 dX2_pressWorth_34 (by decide) (fun c_3 => ?_) (fun c_3 => ?_)
      · have hw := wt_21 c_3
        refine x_iinc (v := (x6 + 1)) (lv' := [(6, .int (x6 + 1)), (0, .ref (mr ρ 25)), (2, .int x2), (3, .int x3), (4, .long x4)]) 4 dX2_pressWorth_113 rfl (by rfl) (Nat.le_of_ble_eq_true rfl) rfl ?_
        refine x_goto 18 dX2_pressWorth_116 (by decide) ?_
        refine X.sub [1, 2, 3, 4, 0] rfl ?_
        exact ih x2 x3 x4 (x6 + 1) h g e hw
      · have hw := wf_22 c_3
        refine x_aload_n 0 dX2_pressWorth_37 rfl ?_
        refine x_iload 4 dX2_pressWorth_38 rfl ?_
        refine x_iload_n 1 dX2_pressWorth_40 rfl ?_
        refine x_callV (ci := 2) [.int x6, .int x2] 2 dX2_pressWorth_41 (k_X2_isBehind G g hw) (GI.s g (t := (12, 0)) rfl (by decide)) rfl q1470 q1472 qs73 q106 q1473 (by decide) rfl rfl ⟨(Nat.le_of_ble_eq_true rfl), (Nat.le_of_ble_eq_true rfl)⟩ (Nat.le_of_ble_eq_true rfl) ⟨(Nat.le_of_ble_eq_true rfl), (Nat.le_of_ble_eq_true rfl)⟩ (fun v9 h_4 hv9 => ?_) (fun _ _ _ _ _ z _ _ => False.elim z)
        obtain ⟨r_7, rfl, g_5, e_6, b_8, hw⟩ := hv9
        have hw := hw g_5 e_6
        show X ρ K_X2_pressWorth 44 [(0, .ref (mr ρ 25)), (2, .int x2), (3, .int x3), (4, .long x4), (6, .int x6)] [.int r_7] h_4 0 0 (phL h0 post) psN
        obtain ⟨wt_19, wf_20⟩ := hw
        refine x_if_ne 50 dX2_pressWorth_44 (by decide) (fun c_9 => ?_) (fun c_9 => ?_)
        · have hw := wt_19 c_9
          refine x_lload 3 dX2_pressWorth_50 rfl ?_
          refine x_aload_n 0 dX2_pressWorth_52 rfl ?_
          refine x_get (ci := 2) (v := .ref (mr ρ 45)) 24 dX2_pressWorth_53 (GI.s g_5 (t := (12, 0)) rfl (by decide)) rfl in_X2 (by decide) q1247 (Or.inl rfl) (fv_rc rfl (GI.m g_5 (n := 45) rfl (by decide)) (by decide)) ?_
          refine x_iload 4 dX2_pressWorth_56 rfl ?_
          obtain ⟨b_10, hw⟩ := hw
          refine x_lald (n := 24) (j := (Int32.toNatClampNeg x6)) dX2_pressWorth_58 rfl (GI.s g_5 (t := (2, 24)) rfl (by decide)) b_10 ?_
          refine x_aload_n 0 dX2_pressWorth_59 rfl ?_
          refine x_get (ci := 2) (v := .ref (mr ρ 29)) 3 dX2_pressWorth_60 (GI.s g_5 (t := (12, 0)) rfl (by decide)) rfl in_X2 (by decide) q1226 (Or.inl rfl) (fv_rc rfl (GI.m g_5 (n := 29) rfl (by decide)) (by decide)) ?_
          refine x_iload 4 dX2_pressWorth_63 rfl ?_
          obtain ⟨b_11, hw⟩ := hw
          refine x_iald (n := 24) (j := (Int32.toNatClampNeg x6)) dX2_pressWorth_65 rfl (GI.s g_5 (t := (1, 24)) rfl (by decide)) b_11 ?_
          refine x_iload_n 2 dX2_pressWorth_66 rfl ?_
          obtain ⟨hO_18, hw⟩ := hw
          have kJ_17 : ∀ z_15 : Int32, z_15 = ((if (gi h_4 29 (Int32.toNatClampNeg x6)) = x3 then ((gi h_4 36 0) + ((gi h_4 36 2) * ((gi h_4 30 (Int32.toNatClampNeg x6)) - (gi h_4 30 (Int32.toNatClampNeg x2))))) else (-(gi h_4 36 1))) : Int32) → X ρ K_X2_pressWorth 108 [(0, .ref (mr ρ 25)), (2, .int x2), (3, .int x3), (4, .long x4), (6, .int x6)] [.int z_15, .long (gl h_4 45 (Int32.toNatClampNeg x6)), .long x4] h_4 0 0 (phL h0 post) psN := fun z_15 ez_15 => by
            have hw := hw z_15 ez_15
            refine x_i2l dX2_pressWorth_108 ?_
            refine x_lmul dX2_pressWorth_109 ?_
            refine x_ladd dX2_pressWorth_110 ?_
            refine x_nml (fun x4_16 ex4_16 => ?_)
            have hw := hw x4_16 ex4_16
            refine x_lstore (lv' := [(4, .long x4_16), (0, .ref (mr ρ 25)), (2, .int x2), (3, .int x3), (6, .int x6)]) dX2_pressWorth_111 (Nat.le_of_ble_eq_true rfl) rfl ?_
            refine x_iinc (v := (x6 + 1)) (lv' := [(6, .int (x6 + 1)), (4, .long x4_16), (0, .ref (mr ρ 25)), (2, .int x2), (3, .int x3)]) 4 dX2_pressWorth_113 rfl (by rfl) (Nat.le_of_ble_eq_true rfl) rfl ?_
            refine x_goto 18 dX2_pressWorth_116 (by decide) ?_
            refine X.sub [2, 3, 4, 1, 0] rfl ?_
            exact ih x2 x3 x4_16 (x6 + 1) h_4 g_5 (Ext.tr e e_6) hw
          have hO_180 := hO_18
          refine x_icmp_ne 101 dX2_pressWorth_67 (by decide) (fun c_12 => ?_) (fun c_12 => ?_)
          · refine x_aload_n 0 dX2_pressWorth_101 rfl ?_
            refine x_get (ci := 2) (v := .ref (mr ρ 36)) 10 dX2_pressWorth_102 (GI.s g_5 (t := (12, 0)) rfl (by decide)) rfl in_X2 (by decide) q1233 (Or.inl rfl) (fv_rc rfl (GI.m g_5 (n := 36) rfl (by decide)) (by decide)) ?_
            refine x_iconst 1 dX2_pressWorth_105 (by decide) ?_
            refine x_iald (n := 4) (j := 1) dX2_pressWorth_106 (by decide) (GI.s g_5 (t := (1, 4)) rfl (by decide)) (by unfold vp_in; decide) ?_
            refine x_ineg dX2_pressWorth_107 ?_
            exact kJ_17 _ ((if_neg c_12)).symm
          · have hO_18_ := hO_180 c_12
            obtain ⟨b_13, b_14⟩ := hO_18_
            refine x_aload_n 0 dX2_pressWorth_70 rfl ?_
            refine x_get (ci := 2) (v := .ref (mr ρ 36)) 10 dX2_pressWorth_71 (GI.s g_5 (t := (12, 0)) rfl (by decide)) rfl in_X2 (by decide) q1233 (Or.inl rfl) (fv_rc rfl (GI.m g_5 (n := 36) rfl (by decide)) (by decide)) ?_
            refine x_iconst 0 dX2_pressWorth_74 (by decide) ?_
            refine x_iald (n := 4) (j := 0) dX2_pressWorth_75 (by decide) (GI.s g_5 (t := (1, 4)) rfl (by decide)) (by unfold vp_in; decide) ?_
            refine x_aload_n 0 dX2_pressWorth_76 rfl ?_
            refine x_get (ci := 2) (v := .ref (mr ρ 36)) 10 dX2_pressWorth_77 (GI.s g_5 (t := (12, 0)) rfl (by decide)) rfl in_X2 (by decide) q1233 (Or.inl rfl) (fv_rc rfl (GI.m g_5 (n := 36) rfl (by decide)) (by decide)) ?_
            refine x_iconst 2 dX2_pressWorth_80 (by decide) ?_
            refine x_iald (n := 4) (j := 2) dX2_pressWorth_81 (by decide) (GI.s g_5 (t := (1, 4)) rfl (by decide)) (by unfold vp_in; decide) ?_
            refine x_aload_n 0 dX2_pressWorth_82 rfl ?_
            refine x_get (ci := 2) (v := .ref (mr ρ 30)) 4 dX2_pressWorth_83 (GI.s g_5 (t := (12, 0)) rfl (by decide)) rfl in_X2 (by decide) q1227 (Or.inl rfl) (fv_rc rfl (GI.m g_5 (n := 30) rfl (by decide)) (by decide)) ?_
            refine x_iload 4 dX2_pressWorth_86 rfl ?_
            refine x_iald (n := 24) (j := (Int32.toNatClampNeg x6)) dX2_pressWorth_88 rfl (GI.s g_5 (t := (1, 24)) rfl (by decide)) b_13 ?_
            refine x_aload_n 0 dX2_pressWorth_89 rfl ?_
            refine x_get (ci := 2) (v := .ref (mr ρ 30)) 4 dX2_pressWorth_90 (GI.s g_5 (t := (12, 0)) rfl (by decide)) rfl in_X2 (by decide) q1227 (Or.inl rfl) (fv_rc rfl (GI.m g_5 (n := 30) rfl (by decide)) (by decide)) ?_
            refine x_iload_n 1 dX2_pressWorth_93 rfl ?_
            refine x_iald (n := 24) (j := (Int32.toNatClampNeg x2)) dX2_pressWorth_94 rfl (GI.s g_5 (t := (1, 24)) rfl (by decide)) b_14 ?_
            refine x_isub dX2_pressWorth_95 ?_
            refine x_imul dX2_pressWorth_96 ?_
            refine x_iadd dX2_pressWorth_97 ?_
            refine x_goto 108 dX2_pressWorth_98 (by decide) ?_
            exact kJ_17 _ ((if_pos c_12)).symm
        · have hw := wf_20 c_9
          refine x_goto 113 dX2_pressWorth_47 (by decide) ?_
          refine x_iinc (v := (x6 + 1)) (lv' := [(6, .int (x6 + 1)), (0, .ref (mr ρ 25)), (2, .int x2), (3, .int x3), (4, .long x4)]) 4 dX2_pressWorth_113 rfl (by rfl) (Nat.le_of_ble_eq_true rfl) rfl ?_
          refine x_goto 18 dX2_pressWorth_116 (by decide) ?_
          refine X.sub [1, 2, 3, 4, 0] rfl ?_
          exact ih x2 x3 x4 (x6 + 1) h_4 g_5 (Ext.tr e e_6) hw
set_option maxHeartbeats 4000000 in
theorem k_X2_pressWorth {ρ : Rho} {h : Hp} {post : Int64 → Hp → Prop} {p1 : Int32} {p2 : Int32} (G : G0 ρ) (g : GI h) (hw : wp_X2_pressWorth post h p1 p2) : Con ρ yX2_pressWorth (ws_ yX2_pressWorth cX2_pressWorth 7 (Option.some Jvm.ClassFile.FieldType.long)) rm_X2_pressWorth [.ref (mr ρ 25), .int p1, .int p2] h (phL h post) psN := by
  refine con_of (own := "BeforeTheEndModel") (isI := false) (l0 := [(0, .ref (mr ρ 25)), (1, .int p1), (2, .int p2)]) (by decide) rfl (fun z => by cases z) (Nat.le_of_ble_eq_true rfl) rfl (fun _ => ?_)
  show X ρ K_X2_pressWorth 0 [(0, .ref (mr ρ 25)), (1, .int p1), (2, .int p2)] [] h 0 0 (phL h post) psN
  refine x_aload_n 0 dX2_pressWorth_0 rfl ?_
  refine x_get (ci := 2) (v := .ref (mr ρ 47)) 26 dX2_pressWorth_1 (GI.s g (t := (12, 0)) rfl (by decide)) rfl in_X2 (by decide) q1249 (Or.inl rfl) (fv_rc rfl (GI.m g (n := 47) rfl (by decide)) (by decide)) ?_
  refine x_bipush 24 dX2_pressWorth_4 (by decide) ?_
  refine x_iload_n 1 dX2_pressWorth_6 rfl ?_
  refine x_imul dX2_pressWorth_7 ?_
  refine x_iload_n 2 dX2_pressWorth_8 rfl ?_
  refine x_iadd dX2_pressWorth_9 ?_
  obtain ⟨b_1, hw⟩ := hw
  refine x_iald (n := 96) (j := (Int32.toNatClampNeg ((24 * p1) + p2))) dX2_pressWorth_10 rfl (GI.s g (t := (1, 96)) rfl (by decide)) b_1 ?_
  refine x_nmi (fun x3_2 ex3_2 => ?_)
  have hw := hw x3_2 ex3_2
  refine x_istore_n (lv' := [(3, .int x3_2), (0, .ref (mr ρ 25)), (1, .int p1), (2, .int p2)]) dX2_pressWorth_11 (Nat.le_of_ble_eq_true rfl) rfl ?_
  refine x_lconst 0 dX2_pressWorth_12 (by decide) ?_
  refine x_lstore (lv' := [(4, .long 0), (3, .int x3_2), (0, .ref (mr ρ 25)), (1, .int p1), (2, .int p2)]) dX2_pressWorth_13 (Nat.le_of_ble_eq_true rfl) rfl ?_
  refine x_iload_n 4 dX2_pressWorth_15 rfl ?_
  refine x_istore (lv' := [(6, .int p2), (4, .long 0), (3, .int x3_2), (0, .ref (mr ρ 25)), (1, .int p1), (2, .int p2)]) dX2_pressWorth_16 (Nat.le_of_ble_eq_true rfl) rfl ?_
  refine X.sub [3, 5, 2, 1, 0] rfl ?_
  obtain ⟨fu, hw⟩ := hw
  exact t_X2_pressWorth_18 G  fu p2 x3_2 0 p2 h g Ext.rf hw

/-! BeforeTheEndModel.findAlone(I)V -/
def w_X2_findAlone_94 (post : Hp → Prop) (K35 : Int32 → Int32 → Hp → Prop) (x1 : Int32) (x2 : Int32) (h : Hp) : Prop := ((x2 ≤ 0 → (K35 x1 (x2 + (-1)) h)) ∧ (¬ x2 ≤ 0 → (vp_in x2 24 ∧ (vp_in (gi h 27 (Int32.toNatClampNeg x2)) 24 ∧ (vp_in x2 24 ∧ (vp_in (gi h 27 (Int32.toNatClampNeg x2)) 24 ∧ (∀ h_6 : Hp, h_6 = (sl h 50 (Int32.toNatClampNeg (gi h 27 (Int32.toNatClampNeg x2))) ((gl h 50 (Int32.toNatClampNeg (gi h 27 (Int32.toNatClampNeg x2)))) + (gl h 50 (Int32.toNatClampNeg x2)))) → (K35 x1 (x2 + (-1)) h_6))))))))
def w_X2_findAlone_35 (post : Hp → Prop) : Nat → Int32 → Int32 → Hp → Prop
  | 0 => fun _ _ _ => False
  | n + 1 => fun x1 x2 h => ((x2 < 0 → (post h)) ∧ (¬ x2 < 0 → ((x2 ≤ 0 → (w_X2_findAlone_94 post (w_X2_findAlone_35 post n) x1 x2 h)) ∧ (¬ x2 ≤ 0 → (vp_in ((24 * x1) + x2) 96 ∧ (((gi h 47 (Int32.toNatClampNeg ((24 * x1) + x2))) = 0 → (w_X2_findAlone_94 post (w_X2_findAlone_35 post n) x1 x2 h)) ∧ (¬ (gi h 47 (Int32.toNatClampNeg ((24 * x1) + x2))) = 0 → (wp_X2_pressWorth (fun r_8 h_5 => GI h_5 → Ext h h_5 → (vp_in x2 24 ∧ ((r_8 < (gl h_5 50 (Int32.toNatClampNeg x2)) → (w_X2_findAlone_94 post (w_X2_findAlone_35 post n) x1 x2 h_5)) ∧ (¬ r_8 < (gl h_5 50 (Int32.toNatClampNeg x2)) → (vp_in x2 24 ∧ (w_X2_findAlone_94 post (w_X2_findAlone_35 post n) x1 x2 (si (sl h_5 50 (Int32.toNatClampNeg x2) r_8) 25 31 ((gi (sl h_5 50 (Int32.toNatClampNeg x2) r_8) 25 31) ||| (1 <<< (x2 &&& 31)))))))))) h x1 x2))))))))
def w_X2_findAlone_7 (post : Hp → Prop) : Nat → Int32 → Int32 → Hp → Prop
  | 0 => fun _ _ _ => False
  | n + 1 => fun x1 x2 h => (((gi h 25 12) ≤ x2 → (∃ fu : Nat, w_X2_findAlone_35 post fu x1 ((gi h 25 12) - 1) h)) ∧ (¬ (gi h 25 12) ≤ x2 → (vp_in x2 24 ∧ (w_X2_findAlone_7 post n x1 (x2 + 1) (sl h 50 (Int32.toNatClampNeg x2) 0)))))
def wp_X2_findAlone (post : Hp → Prop) (h : Hp) (p1 : Int32) : Prop := (∃ fu : Nat, w_X2_findAlone_7 post fu p1 0 (si h 25 31 0))
abbrev rm_X2_findAlone : Room := ({ frames := 3, cells := 0, slots := 0, locals := 109 })
abbrev K_X2_findAlone : Kx := ("BeforeTheEndModel", cX2_findAlone, 5, (Option.none : Option Jvm.ClassFile.FieldType), rm_X2_findAlone, [], false)
set_option maxHeartbeats 4000000 in
theorem t_X2_findAlone_94 {ρ : Rho} {h0 : Hp} {post : Hp → Prop} {K35 : Int32 → Int32 → Hp → Prop} (G : G0 ρ) (hK35 : ∀ (x1 : Int32) (x2 : Int32) (h : Hp), GI h → Ext h0 h → K35 x1 x2 h → X ρ K_X2_findAlone 35 [(0, .ref (mr ρ 25)), (1, .int x1), (2, .int x2)] [] h 0 0 (phV h0 post) psN) :
    ∀ (x1 : Int32) (x2 : Int32) (h : Hp), GI h → Ext h0 h → w_X2_findAlone_94 post K35 x1 x2 h → X ρ K_X2_findAlone 94 [(0, .ref (mr ρ 25)), (1, .int x1), (2, .int x2)] [] h 0 0 (phV h0 post) psN := by
  intro x1 x2 h g e hw
  refine x_iload_n 2 dX2_findAlone_94 rfl ?_
  obtain ⟨wt_9, wf_10⟩ := hw
  refine x_if_le 118 dX2_findAlone_95 (by decide) (fun c_1 => ?_) (fun c_1 => ?_)
  · have hw := wt_9 c_1
    refine x_iinc (v := (x2 + (-1))) (lv' := [(2, .int (x2 + (-1))), (0, .ref (mr ρ 25)), (1, .int x1)]) 2 dX2_findAlone_118 rfl (by rfl) (Nat.le_of_ble_eq_true rfl) rfl ?_
    refine x_goto 35 dX2_findAlone_121 (by decide) ?_
    refine X.sub [1, 2, 0] rfl ?_
    exact hK35 x1 (x2 + (-1)) h g e hw
  · have hw := wf_10 c_1
    refine x_aload_n 0 dX2_findAlone_98 rfl ?_
    refine x_get (ci := 2) (v := .ref (mr ρ 50)) 30 dX2_findAlone_99 (GI.s g (t := (12, 0)) rfl (by decide)) rfl in_X2 (by decide) q1253 (Or.inl rfl) (fv_rc rfl (GI.m g (n := 50) rfl (by decide)) (by decide)) ?_
    refine x_aload_n 0 dX2_findAlone_102 rfl ?_
    refine x_get (ci := 2) (v := .ref (mr ρ 27)) 1 dX2_findAlone_103 (GI.s g (t := (12, 0)) rfl (by decide)) rfl in_X2 (by decide) q1224 (Or.inl rfl) (fv_rc rfl (GI.m g (n := 27) rfl (by decide)) (by decide)) ?_
    refine x_iload_n 2 dX2_findAlone_106 rfl ?_
    obtain ⟨b_2, hw⟩ := hw
    refine x_iald (n := 24) (j := (Int32.toNatClampNeg x2)) dX2_findAlone_107 rfl (GI.s g (t := (1, 24)) rfl (by decide)) b_2 ?_
    refine x_dup2 dX2_findAlone_108 rfl rfl ?_
    obtain ⟨b_3, hw⟩ := hw
    refine x_lald (n := 24) (j := (Int32.toNatClampNeg (gi h 27 (Int32.toNatClampNeg x2)))) dX2_findAlone_109 rfl (GI.s g (t := (2, 24)) rfl (by decide)) b_3 ?_
    refine x_aload_n 0 dX2_findAlone_110 rfl ?_
    refine x_get (ci := 2) (v := .ref (mr ρ 50)) 30 dX2_findAlone_111 (GI.s g (t := (12, 0)) rfl (by decide)) rfl in_X2 (by decide) q1253 (Or.inl rfl) (fv_rc rfl (GI.m g (n := 50) rfl (by decide)) (by decide)) ?_
    refine x_iload_n 2 dX2_findAlone_114 rfl ?_
    obtain ⟨b_4, hw⟩ := hw
    refine x_lald (n := 24) (j := (Int32.toNatClampNeg x2)) dX2_findAlone_115 rfl (GI.s g (t := (2, 24)) rfl (by decide)) b_4 ?_
    refine x_ladd dX2_findAlone_116 ?_
    obtain ⟨b_5, hw⟩ := hw
    refine x_last (n := 24) (j := (Int32.toNatClampNeg (gi h 27 (Int32.toNatClampNeg x2)))) dX2_findAlone_117 rfl (GI.s g (t := (2, 24)) rfl (by decide)) b_5 ?_
    refine x_nmh (fun h_6 eh_6 => ?_)
    have hw := hw h_6 eh_6
    have g_7 : GI h_6 := eh_6 ▸ (GI.l g)
    have e_8 : Ext h0 h_6 := eh_6 ▸ (Ext.l e)
    refine x_iinc (v := (x2 + (-1))) (lv' := [(2, .int (x2 + (-1))), (0, .ref (mr ρ 25)), (1, .int x1)]) 2 dX2_findAlone_118 rfl (by rfl) (Nat.le_of_ble_eq_true rfl) rfl ?_
    refine x_goto 35 dX2_findAlone_121 (by decide) ?_
    refine X.sub [1, 2, 0] rfl ?_
    exact hK35 x1 (x2 + (-1)) h_6 g_7 e_8 hw
set_option maxHeartbeats 4000000 in
theorem t_X2_findAlone_35 {ρ : Rho} {h0 : Hp} {post : Hp → Prop} (G : G0 ρ) :
    ∀ (n : Nat), ∀ (x1 : Int32) (x2 : Int32) (h : Hp), GI h → Ext h0 h → w_X2_findAlone_35 post n x1 x2 h → X ρ K_X2_findAlone 35 [(0, .ref (mr ρ 25)), (1, .int x1), (2, .int x2)] [] h 0 0 (phV h0 post) psN := by
  intro n
  induction n with
  | zero => intro x1 x2 h g e hw; exact False.elim hw
  | succ n ih =>
    intro x1 x2 h g e hw
    refine x_iload_n 2 dX2_findAlone_35 rfl ?_
    obtain ⟨wt_19, wf_20⟩ := hw
    refine x_if_lt 124 dX2_findAlone_36 (by decide) (fun c_1 => ?_) (fun c_1 => ?_)
    · have hw := wt_19 c_1
      exact x_vret dX2_findAlone_124 rfl (Nat.le_of_ble_eq_true rfl) (Nat.le_of_ble_eq_true rfl) ⟨rfl, g, e, hw⟩
    · have hw := wf_20 c_1
      refine x_iload_n 2 dX2_findAlone_39 rfl ?_
      obtain ⟨wt_17, wf_18⟩ := hw
      refine x_if_le 94 dX2_findAlone_40 (by decide) (fun c_2 => ?_) (fun c_2 => ?_)
      · have hw := wt_17 c_2
        exact t_X2_findAlone_94 G ih x1 x2 h g e hw
      · have hw := wf_18 c_2
        refine x_aload_n 0 dX2_findAlone_43 rfl ?_
        refine x_get (ci := 2) (v := .ref (mr ρ 47)) 26 dX2_findAlone_44 (GI.s g (t := (12, 0)) rfl (by decide)) rfl in_X2 (by decide) q1249 (Or.inl rfl) (fv_rc rfl (GI.m g (n := 47) rfl (by decide)) (by decide)) ?_
        refine x_bipush 24 dX2_findAlone_47 (by decide) ?_
        refine x_iload_n 1 dX2_findAlone_49 rfl ?_
        refine x_imul dX2_findAlone_50 ?_
        refine x_iload_n 2 dX2_findAlone_51 rfl ?_
        refine x_iadd dX2_findAlone_52 ?_
        obtain ⟨b_3, hw⟩ := hw
        refine x_iald (n := 96) (j := (Int32.toNatClampNeg ((24 * x1) + x2))) dX2_findAlone_53 rfl (GI.s g (t := (1, 96)) rfl (by decide)) b_3 ?_
        obtain ⟨wt_15, wf_16⟩ := hw
        refine x_if_eq 94 dX2_findAlone_54 (by decide) (fun c_4 => ?_) (fun c_4 => ?_)
        · have hw := wt_15 c_4
          exact t_X2_findAlone_94 G ih x1 x2 h g e hw
        · have hw := wf_16 c_4
          refine x_aload_n 0 dX2_findAlone_57 rfl ?_
          refine x_iload_n 1 dX2_findAlone_58 rfl ?_
          refine x_iload_n 2 dX2_findAlone_59 rfl ?_
          refine x_callV (ci := 2) [.int x1, .int x2] 2 dX2_findAlone_60 (k_X2_pressWorth G g hw) (GI.s g (t := (12, 0)) rfl (by decide)) rfl q1533 q1535 qs82 q106 q1536 (by decide) rfl rfl ⟨(Nat.le_of_ble_eq_true rfl), (Nat.le_of_ble_eq_true rfl)⟩ (Nat.le_of_ble_eq_true rfl) ⟨(Nat.le_of_ble_eq_true rfl), (Nat.le_of_ble_eq_true rfl)⟩ (fun v9 h_5 hv9 => ?_) (fun _ _ _ _ _ z _ _ => False.elim z)
          obtain ⟨r_8, rfl, g_6, e_7, hw⟩ := hv9
          have hw := hw g_6 e_7
          show X ρ K_X2_findAlone 63 [(0, .ref (mr ρ 25)), (1, .int x1), (2, .int x2)] [.long r_8] h_5 0 0 (phV h0 post) psN
          refine x_lstore_n (lv' := [(3, .long r_8), (0, .ref (mr ρ 25)), (1, .int x1), (2, .int x2)]) dX2_findAlone_63 (Nat.le_of_ble_eq_true rfl) rfl ?_
          refine x_lload_n 0 dX2_findAlone_64 rfl ?_
          refine x_aload_n 1 dX2_findAlone_65 rfl ?_
          refine x_get (ci := 2) (v := .ref (mr ρ 50)) 30 dX2_findAlone_66 (GI.s g_6 (t := (12, 0)) rfl (by decide)) rfl in_X2 (by decide) q1253 (Or.inl rfl) (fv_rc rfl (GI.m g_6 (n := 50) rfl (by decide)) (by decide)) ?_
          refine x_iload_n 3 dX2_findAlone_69 rfl ?_
          obtain ⟨b_10, hw⟩ := hw
          refine x_lald (n := 24) (j := (Int32.toNatClampNeg x2)) dX2_findAlone_70 rfl (GI.s g_6 (t := (2, 24)) rfl (by decide)) b_10 ?_
          obtain ⟨wt_13, wf_14⟩ := hw
          refine x_lif_lt 94 dX2_findAlone_71 dX2_findAlone_72 (by decide) (fun c_11 => ?_) (fun c_11 => ?_)
          · have hw := wt_13 c_11
            refine X.sub [1, 2, 3] rfl ?_
            exact t_X2_findAlone_94 G ih x1 x2 h_5 g_6 (Ext.tr e e_7) hw
          · have hw := wf_14 c_11
            refine x_aload_n 1 dX2_findAlone_75 rfl ?_
            refine x_get (ci := 2) (v := .ref (mr ρ 50)) 30 dX2_findAlone_76 (GI.s g_6 (t := (12, 0)) rfl (by decide)) rfl in_X2 (by decide) q1253 (Or.inl rfl) (fv_rc rfl (GI.m g_6 (n := 50) rfl (by decide)) (by decide)) ?_
            refine x_iload_n 3 dX2_findAlone_79 rfl ?_
            refine x_lload_n 0 dX2_findAlone_80 rfl ?_
            obtain ⟨b_12, hw⟩ := hw
            refine x_last (n := 24) (j := (Int32.toNatClampNeg x2)) dX2_findAlone_81 rfl (GI.s g_6 (t := (2, 24)) rfl (by decide)) b_12 ?_
            refine x_aload_n 1 dX2_findAlone_82 rfl ?_
            refine x_dup dX2_findAlone_83 rfl ?_
            refine x_get (ci := 2) (v := .int (gi (sl h_5 50 (Int32.toNatClampNeg x2) r_8) 25 31)) 31 dX2_findAlone_84 (GI.s (GI.l g_6) (t := (12, 0)) rfl (by decide)) rfl in_X2 (by decide) q1254 (Or.inl rfl) (fv_i rfl) ?_
            refine x_iconst 1 dX2_findAlone_87 (by decide) ?_
            refine x_iload_n 3 dX2_findAlone_88 rfl ?_
            refine x_ishl dX2_findAlone_89 ?_
            refine x_ior dX2_findAlone_90 ?_
            refine x_put (ci := 2) 31 dX2_findAlone_91 (GI.s (GI.l g_6) (t := (12, 0)) rfl (by decide)) rfl in_X2 tyX2 tyX2_ok nmX2 (by decide) q1254 (Or.inl rfl) rfl rfl rfl (isPut_i rfl) ?_
            refine X.sub [1, 2, 3] rfl ?_
            exact t_X2_findAlone_94 G ih x1 x2 (si (sl h_5 50 (Int32.toNatClampNeg x2) r_8) 25 31 ((gi (sl h_5 50 (Int32.toNatClampNeg x2) r_8) 25 31) ||| (1 <<< (x2 &&& 31)))) (GI.i (GI.l g_6)) (Ext.i (Ext.l (Ext.tr e e_7))) hw
set_option maxHeartbeats 4000000 in
theorem t_X2_findAlone_7 {ρ : Rho} {h0 : Hp} {post : Hp → Prop} (G : G0 ρ) :
    ∀ (n : Nat), ∀ (x1 : Int32) (x2 : Int32) (h : Hp), GI h → Ext h0 h → w_X2_findAlone_7 post n x1 x2 h → X ρ K_X2_findAlone 7 [(0, .ref (mr ρ 25)), (1, .int x1), (2, .int x2)] [] h 0 0 (phV h0 post) psN := by
  intro n
  induction n with
  | zero => intro x1 x2 h g e hw; exact False.elim hw
  | succ n ih =>
    intro x1 x2 h g e hw
    refine x_iload_n 2 dX2_findAlone_7 rfl ?_
    refine x_aload_n 0 dX2_findAlone_8 rfl ?_
    refine x_get (ci := 2) (v := .int (gi h 25 12)) 12 dX2_findAlone_9 (GI.s g (t := (12, 0)) rfl (by decide)) rfl in_X2 (by decide) q1235 (Or.inl rfl) (fv_i rfl) ?_
    obtain ⟨wt_3, wf_4⟩ := hw
    refine x_icmp_ge 28 dX2_findAlone_12 (by decide) (fun c_1 => ?_) (fun c_1 => ?_)
    · have hw := wt_3 c_1
      refine x_aload_n 0 dX2_findAlone_28 rfl ?_
      refine x_get (ci := 2) (v := .int (gi h 25 12)) 12 dX2_findAlone_29 (GI.s g (t := (12, 0)) rfl (by decide)) rfl in_X2 (by decide) q1235 (Or.inl rfl) (fv_i rfl) ?_
      refine x_iconst 1 dX2_findAlone_32 (by decide) ?_
      refine x_isub dX2_findAlone_33 ?_
      refine x_istore_n (lv' := [(2, .int ((gi h 25 12) - 1)), (0, .ref (mr ρ 25)), (1, .int x1)]) dX2_findAlone_34 (Nat.le_of_ble_eq_true rfl) rfl ?_
      refine X.sub [1, 2, 0] rfl ?_
      obtain ⟨fu, hw⟩ := hw
      exact t_X2_findAlone_35 G  fu x1 ((gi h 25 12) - 1) h g e hw
    · have hw := wf_4 c_1
      refine x_aload_n 0 dX2_findAlone_15 rfl ?_
      refine x_get (ci := 2) (v := .ref (mr ρ 50)) 30 dX2_findAlone_16 (GI.s g (t := (12, 0)) rfl (by decide)) rfl in_X2 (by decide) q1253 (Or.inl rfl) (fv_rc rfl (GI.m g (n := 50) rfl (by decide)) (by decide)) ?_
      refine x_iload_n 2 dX2_findAlone_19 rfl ?_
      refine x_lconst 0 dX2_findAlone_20 (by decide) ?_
      obtain ⟨b_2, hw⟩ := hw
      refine x_last (n := 24) (j := (Int32.toNatClampNeg x2)) dX2_findAlone_21 rfl (GI.s g (t := (2, 24)) rfl (by decide)) b_2 ?_
      refine x_iinc (v := (x2 + 1)) (lv' := [(2, .int (x2 + 1)), (0, .ref (mr ρ 25)), (1, .int x1)]) 2 dX2_findAlone_22 rfl (by rfl) (Nat.le_of_ble_eq_true rfl) rfl ?_
      refine x_goto 7 dX2_findAlone_25 (by decide) ?_
      refine X.sub [1, 2, 0] rfl ?_
      exact ih x1 (x2 + 1) (sl h 50 (Int32.toNatClampNeg x2) 0) (GI.l g) (Ext.l e) hw
set_option maxHeartbeats 4000000 in
theorem k_X2_findAlone {ρ : Rho} {h : Hp} {post : Hp → Prop} {p1 : Int32} (G : G0 ρ) (g : GI h) (hw : wp_X2_findAlone post h p1) : Con ρ yX2_findAlone (ws_ yX2_findAlone cX2_findAlone 5 (Option.none : Option Jvm.ClassFile.FieldType)) rm_X2_findAlone [.ref (mr ρ 25), .int p1] h (phV h post) psN := by
  refine con_of (own := "BeforeTheEndModel") (isI := false) (l0 := [(0, .ref (mr ρ 25)), (1, .int p1)]) (by decide) rfl (fun z => by cases z) (Nat.le_of_ble_eq_true rfl) rfl (fun _ => ?_)
  show X ρ K_X2_findAlone 0 [(0, .ref (mr ρ 25)), (1, .int p1)] [] h 0 0 (phV h post) psN
  refine x_aload_n 0 dX2_findAlone_0 rfl ?_
  refine x_iconst 0 dX2_findAlone_1 (by decide) ?_
  refine x_put (ci := 2) 31 dX2_findAlone_2 (GI.s g (t := (12, 0)) rfl (by decide)) rfl in_X2 tyX2 tyX2_ok nmX2 (by decide) q1254 (Or.inl rfl) rfl rfl rfl (isPut_i rfl) ?_
  refine x_iconst 0 dX2_findAlone_5 (by decide) ?_
  refine x_istore_n (lv' := [(2, .int 0), (0, .ref (mr ρ 25)), (1, .int p1)]) dX2_findAlone_6 (Nat.le_of_ble_eq_true rfl) rfl ?_
  refine X.sub [1, 2, 0] rfl ?_
  obtain ⟨fu, hw⟩ := hw
  exact t_X2_findAlone_7 G  fu p1 0 (si h 25 31 0) (GI.i g) (Ext.i Ext.rf) hw
