/-! THE WALK, printed by wip/D-93865w/gen/main.py -/
set_option maxRecDepth 100000
/-! BeforeTheEnd$Tree.add(III)V -/
def wp_X1_add (post : Hp → Prop) (h : Hp) (r0 : Nat) (p1 : Int32) (p2 : Int32) (p3 : Int32) : Prop := (vp_in (gi h r0 0) 24 ∧ (vp_in (gi (si h (r0 + 1) (Int32.toNatClampNeg (gi h r0 0)) p1) r0 0) 24 ∧ (vp_in (gi (si (si h (r0 + 1) (Int32.toNatClampNeg (gi h r0 0)) p1) (r0 + 2) (Int32.toNatClampNeg (gi (si h (r0 + 1) (Int32.toNatClampNeg (gi h r0 0)) p1) r0 0)) p2) r0 0) 24 ∧ (∀ h_4 : Hp, h_4 = (si (si (si h (r0 + 1) (Int32.toNatClampNeg (gi h r0 0)) p1) (r0 + 2) (Int32.toNatClampNeg (gi (si h (r0 + 1) (Int32.toNatClampNeg (gi h r0 0)) p1) r0 0)) p2) (r0 + 3) (Int32.toNatClampNeg (gi (si (si h (r0 + 1) (Int32.toNatClampNeg (gi h r0 0)) p1) (r0 + 2) (Int32.toNatClampNeg (gi (si h (r0 + 1) (Int32.toNatClampNeg (gi h r0 0)) p1) r0 0)) p2) r0 0)) p3) → (vp_in p1 24 ∧ (vp_in (gi h_4 r0 0) 24 ∧ (vp_in (gi (si h_4 (r0 + 4) (Int32.toNatClampNeg (gi h_4 r0 0)) ((gi h_4 (r0 + 4) (Int32.toNatClampNeg p1)) + 1)) r0 0) 24 ∧ (∀ h_11 : Hp, h_11 = (si (si h_4 (r0 + 4) (Int32.toNatClampNeg (gi h_4 r0 0)) ((gi h_4 (r0 + 4) (Int32.toNatClampNeg p1)) + 1)) (r0 + 5) (Int32.toNatClampNeg (gi (si h_4 (r0 + 4) (Int32.toNatClampNeg (gi h_4 r0 0)) ((gi h_4 (r0 + 4) (Int32.toNatClampNeg p1)) + 1)) r0 0)) 0) → (vp_in p1 24 ∧ (vp_in p1 24 ∧ (∀ h_17 : Hp, h_17 = (si (si h_11 (r0 + 5) (Int32.toNatClampNeg p1) ((gi h_11 (r0 + 5) (Int32.toNatClampNeg p1)) + 1)) r0 0 ((gi (si h_11 (r0 + 5) (Int32.toNatClampNeg p1) ((gi h_11 (r0 + 5) (Int32.toNatClampNeg p1)) + 1)) r0 0) + 1)) → (post (si h_17 r0 8 0)))))))))))))
abbrev rm_X1_add : Room := ({ frames := 1, cells := 0, slots := 0, locals := 60 })
abbrev K_X1_add : Kx := ("BeforeTheEnd$Tree", cX1_add, 4, (Option.none : Option Jvm.ClassFile.FieldType), rm_X1_add, [], false)
set_option maxHeartbeats 4000000 in
theorem k_X1_add {ρ : Rho} {h : Hp} {post : Hp → Prop} {r0 : Nat} {p1 : Int32} {p2 : Int32} {p3 : Int32} (G : G0 ρ) (g : GI h) (fr0 : isTree h r0) (hw : wp_X1_add post h r0 p1 p2 p3) : Con ρ yX1_add (ws_ yX1_add cX1_add 4 (Option.none : Option Jvm.ClassFile.FieldType)) rm_X1_add [.ref (mr ρ r0), .int p1, .int p2, .int p3] h (phV h post) psN := by
  refine con_of (own := "BeforeTheEnd$Tree") (isI := false) (l0 := [(0, .ref (mr ρ r0)), (1, .int p1), (2, .int p2), (3, .int p3)]) (by decide) rfl (fun z => by cases z) (Nat.le_of_ble_eq_true rfl) rfl (fun _ => ?_)
  show X ρ K_X1_add 0 [(0, .ref (mr ρ r0)), (1, .int p1), (2, .int p2), (3, .int p3)] [] h 0 0 (phV h post) psN
  refine x_aload_n 0 dX1_add_0 rfl ?_
  refine x_get (ci := 1) (v := .ref (mr ρ (r0 + 1))) 1 dX1_add_1 (isTree.s fr0) rfl in_X1 (by decide) q148 (Or.inl rfl) (fv_rc rfl (isTree.p fr0 1 (by decide) (by decide)) (Nat.succ_ne_zero _)) ?_
  refine x_aload_n 0 dX1_add_4 rfl ?_
  refine x_get (ci := 1) (v := .int (gi h r0 0)) 0 dX1_add_5 (isTree.s fr0) rfl in_X1 (by decide) q145 (Or.inl rfl) (fv_i rfl) ?_
  refine x_iload_n 1 dX1_add_8 rfl ?_
  obtain ⟨b_1, hw⟩ := hw
  refine x_iast (n := 24) (j := (Int32.toNatClampNeg (gi h r0 0))) dX1_add_9 rfl (isTree.a fr0 1 (by decide) (by decide)) b_1 ?_
  refine x_aload_n 0 dX1_add_10 rfl ?_
  refine x_get (ci := 1) (v := .ref (mr ρ (r0 + 2))) 2 dX1_add_11 (isTree.s (isTree.i fr0)) rfl in_X1 (by decide) q150 (Or.inl rfl) (fv_rc rfl (isTree.p (isTree.i fr0) 2 (by decide) (by decide)) (Nat.succ_ne_zero _)) ?_
  refine x_aload_n 0 dX1_add_14 rfl ?_
  refine x_get (ci := 1) (v := .int (gi (si h (r0 + 1) (Int32.toNatClampNeg (gi h r0 0)) p1) r0 0)) 0 dX1_add_15 (isTree.s (isTree.i fr0)) rfl in_X1 (by decide) q145 (Or.inl rfl) (fv_i rfl) ?_
  refine x_iload_n 2 dX1_add_18 rfl ?_
  obtain ⟨b_2, hw⟩ := hw
  refine x_iast (n := 24) (j := (Int32.toNatClampNeg (gi (si h (r0 + 1) (Int32.toNatClampNeg (gi h r0 0)) p1) r0 0))) dX1_add_19 rfl (isTree.a (isTree.i fr0) 2 (by decide) (by decide)) b_2 ?_
  refine x_aload_n 0 dX1_add_20 rfl ?_
  refine x_get (ci := 1) (v := .ref (mr ρ (r0 + 3))) 3 dX1_add_21 (isTree.s (isTree.i (isTree.i fr0))) rfl in_X1 (by decide) q152 (Or.inl rfl) (fv_rc rfl (isTree.p (isTree.i (isTree.i fr0)) 3 (by decide) (by decide)) (Nat.succ_ne_zero _)) ?_
  refine x_aload_n 0 dX1_add_24 rfl ?_
  refine x_get (ci := 1) (v := .int (gi (si (si h (r0 + 1) (Int32.toNatClampNeg (gi h r0 0)) p1) (r0 + 2) (Int32.toNatClampNeg (gi (si h (r0 + 1) (Int32.toNatClampNeg (gi h r0 0)) p1) r0 0)) p2) r0 0)) 0 dX1_add_25 (isTree.s (isTree.i (isTree.i fr0))) rfl in_X1 (by decide) q145 (Or.inl rfl) (fv_i rfl) ?_
  refine x_iload_n 3 dX1_add_28 rfl ?_
  obtain ⟨b_3, hw⟩ := hw
  refine x_iast (n := 24) (j := (Int32.toNatClampNeg (gi (si (si h (r0 + 1) (Int32.toNatClampNeg (gi h r0 0)) p1) (r0 + 2) (Int32.toNatClampNeg (gi (si h (r0 + 1) (Int32.toNatClampNeg (gi h r0 0)) p1) r0 0)) p2) r0 0))) dX1_add_29 rfl (isTree.a (isTree.i (isTree.i fr0)) 3 (by decide) (by decide)) b_3 ?_
  refine x_nmh (fun h_4 eh_4 => ?_)
  have hw := hw h_4 eh_4
  have g_5 : GI h_4 := eh_4 ▸ (GI.i (GI.i (GI.i g)))
  have e_6 : Ext h h_4 := eh_4 ▸ (Ext.i (Ext.i (Ext.i Ext.rf)))
  have f_7 : isTree h_4 r0 := eh_4 ▸ (isTree.i (isTree.i (isTree.i fr0)))
  refine x_aload_n 0 dX1_add_30 rfl ?_
  refine x_get (ci := 1) (v := .ref (mr ρ (r0 + 4))) 4 dX1_add_31 (isTree.s f_7) rfl in_X1 (by decide) q154 (Or.inl rfl) (fv_rc rfl (isTree.p f_7 4 (by decide) (by decide)) (Nat.succ_ne_zero _)) ?_
  refine x_aload_n 0 dX1_add_34 rfl ?_
  refine x_get (ci := 1) (v := .int (gi h_4 r0 0)) 0 dX1_add_35 (isTree.s f_7) rfl in_X1 (by decide) q145 (Or.inl rfl) (fv_i rfl) ?_
  refine x_aload_n 0 dX1_add_38 rfl ?_
  refine x_get (ci := 1) (v := .ref (mr ρ (r0 + 4))) 4 dX1_add_39 (isTree.s f_7) rfl in_X1 (by decide) q154 (Or.inl rfl) (fv_rc rfl (isTree.p f_7 4 (by decide) (by decide)) (Nat.succ_ne_zero _)) ?_
  refine x_iload_n 1 dX1_add_42 rfl ?_
  obtain ⟨b_8, hw⟩ := hw
  refine x_iald (n := 24) (j := (Int32.toNatClampNeg p1)) dX1_add_43 rfl (isTree.a f_7 4 (by decide) (by decide)) b_8 ?_
  refine x_iconst 1 dX1_add_44 (by decide) ?_
  refine x_iadd dX1_add_45 ?_
  obtain ⟨b_9, hw⟩ := hw
  refine x_iast (n := 24) (j := (Int32.toNatClampNeg (gi h_4 r0 0))) dX1_add_46 rfl (isTree.a f_7 4 (by decide) (by decide)) b_9 ?_
  refine x_aload_n 0 dX1_add_47 rfl ?_
  refine x_get (ci := 1) (v := .ref (mr ρ (r0 + 5))) 5 dX1_add_48 (isTree.s (isTree.i f_7)) rfl in_X1 (by decide) q156 (Or.inl rfl) (fv_rc rfl (isTree.p (isTree.i f_7) 5 (by decide) (by decide)) (Nat.succ_ne_zero _)) ?_
  refine x_aload_n 0 dX1_add_51 rfl ?_
  refine x_get (ci := 1) (v := .int (gi (si h_4 (r0 + 4) (Int32.toNatClampNeg (gi h_4 r0 0)) ((gi h_4 (r0 + 4) (Int32.toNatClampNeg p1)) + 1)) r0 0)) 0 dX1_add_52 (isTree.s (isTree.i f_7)) rfl in_X1 (by decide) q145 (Or.inl rfl) (fv_i rfl) ?_
  refine x_iconst 0 dX1_add_55 (by decide) ?_
  obtain ⟨b_10, hw⟩ := hw
  refine x_iast (n := 24) (j := (Int32.toNatClampNeg (gi (si h_4 (r0 + 4) (Int32.toNatClampNeg (gi h_4 r0 0)) ((gi h_4 (r0 + 4) (Int32.toNatClampNeg p1)) + 1)) r0 0))) dX1_add_56 rfl (isTree.a (isTree.i f_7) 5 (by decide) (by decide)) b_10 ?_
  refine x_nmh (fun h_11 eh_11 => ?_)
  have hw := hw h_11 eh_11
  have g_12 : GI h_11 := eh_11 ▸ (GI.i (GI.i g_5))
  have e_13 : Ext h h_11 := eh_11 ▸ (Ext.i (Ext.i e_6))
  have f_14 : isTree h_11 r0 := eh_11 ▸ (isTree.i (isTree.i f_7))
  refine x_aload_n 0 dX1_add_57 rfl ?_
  refine x_get (ci := 1) (v := .ref (mr ρ (r0 + 5))) 5 dX1_add_58 (isTree.s f_14) rfl in_X1 (by decide) q156 (Or.inl rfl) (fv_rc rfl (isTree.p f_14 5 (by decide) (by decide)) (Nat.succ_ne_zero _)) ?_
  refine x_iload_n 1 dX1_add_61 rfl ?_
  refine x_dup2 dX1_add_62 rfl rfl ?_
  obtain ⟨b_15, hw⟩ := hw
  refine x_iald (n := 24) (j := (Int32.toNatClampNeg p1)) dX1_add_63 rfl (isTree.a f_14 5 (by decide) (by decide)) b_15 ?_
  refine x_iconst 1 dX1_add_64 (by decide) ?_
  refine x_iadd dX1_add_65 ?_
  obtain ⟨b_16, hw⟩ := hw
  refine x_iast (n := 24) (j := (Int32.toNatClampNeg p1)) dX1_add_66 rfl (isTree.a f_14 5 (by decide) (by decide)) b_16 ?_
  refine x_aload_n 0 dX1_add_67 rfl ?_
  refine x_dup dX1_add_68 rfl ?_
  refine x_get (ci := 1) (v := .int (gi (si h_11 (r0 + 5) (Int32.toNatClampNeg p1) ((gi h_11 (r0 + 5) (Int32.toNatClampNeg p1)) + 1)) r0 0)) 0 dX1_add_69 (isTree.s (isTree.i f_14)) rfl in_X1 (by decide) q145 (Or.inl rfl) (fv_i rfl) ?_
  refine x_iconst 1 dX1_add_72 (by decide) ?_
  refine x_iadd dX1_add_73 ?_
  refine x_put (ci := 1) 0 dX1_add_74 (isTree.s (isTree.i f_14)) rfl in_X1 tyX1 tyX1_ok nmX1 (by decide) q145 (Or.inl rfl) rfl rfl rfl (isPut_i rfl) ?_
  refine x_nmh (fun h_17 eh_17 => ?_)
  have hw := hw h_17 eh_17
  have g_18 : GI h_17 := eh_17 ▸ (GI.i (GI.i g_12))
  have e_19 : Ext h h_17 := eh_17 ▸ (Ext.i (Ext.i e_13))
  have f_20 : isTree h_17 r0 := eh_17 ▸ (isTree.i (isTree.i f_14))
  refine x_aload_n 0 dX1_add_77 rfl ?_
  refine x_iconst 0 dX1_add_78 (by decide) ?_
  refine x_put (ci := 1) 8 dX1_add_79 (isTree.s f_20) rfl in_X1 tyX1 tyX1_ok nmX1 (by decide) q160 (Or.inl rfl) rfl (isB.n isB_0) (isB.f isB_0) (isPut_i rfl) ?_
  exact x_vret dX1_add_82 rfl (Nat.le_of_ble_eq_true rfl) (Nat.le_of_ble_eq_true rfl) ⟨rfl, (GI.i g_18), (Ext.i e_19), hw⟩

/-! BeforeTheEnd.readQuiz()I -/
def w_X0_readQuiz_86 (post : Int32 → Hp → Prop) (px : Nat → Hp → Prop) (K64 : Nat → Int32 → Nat → Nat → Int32 → Int32 → Hp → Prop) (x2 : Nat) (x3 : Int32) (x4 : Nat) (x5 : Nat) (x6 : Int32) (x7 : Int32) (z0 : Int32) (h : Hp) : Prop := ((¬ z0 = 0 → (vp_in x7 64 ∧ (isTo h (gr h x2 (Int32.toNatClampNeg x7)) ∧ ((sh h (gr h x2 (Int32.toNatClampNeg x7)) = (16, 0) → (vp_in x7 64 ∧ (isTo h (gr h x2 (Int32.toNatClampNeg x7)) ∧ (sh h (gr h x2 (Int32.toNatClampNeg x7)) = (16, 0) ∧ (wp_X1_add (fun h_11 => GI h_11 → Ext h h_11 → (K64 x2 x3 x4 x5 x6 (x7 + 1) h_11)) h x4 (gi h (gr h x2 (Int32.toNatClampNeg x7)) 1) (gi h (gr h x2 (Int32.toNatClampNeg x7)) 2) (gi h (gr h x2 (Int32.toNatClampNeg x7)) 3)))))) ∧ (sh h (gr h x2 (Int32.toNatClampNeg x7)) = (17, 0) → (vp_in x7 64 ∧ (isTo h (gr h x2 (Int32.toNatClampNeg x7)) ∧ (sh h (gr h x2 (Int32.toNatClampNeg x7)) = (17, 0) ∧ (isPl h (gr h (gr h x2 (Int32.toNatClampNeg x7)) 1) ∧ (vp_in x6 4 ∧ (K64 x2 x3 x4 x5 (x6 + 1) (x7 + 1) (sr h x5 (Int32.toNatClampNeg x6) (gr h (gr h x2 (Int32.toNatClampNeg x7)) 1))))))))))))) ∧ (z0 = 0 → (vp_in x7 64 ∧ (isTo (al h (15, 0)) (gr (al h (15, 0)) x2 (Int32.toNatClampNeg x7)) ∧ (wp_X6_init_c5 (fun h_24 => GI h_24 → Ext (al h (15, 0)) h_24 → (px (sz h + 1) h_24)) (al h (15, 0)) (sz h + 1) ((-2000) - (gi (al h (15, 0)) (gr (al h (15, 0)) x2 (Int32.toNatClampNeg x7)) 0)))))))
def w_X0_readQuiz_193 (post : Int32 → Hp → Prop) (px : Nat → Hp → Prop) : Nat → Int32 → Nat → Int32 → Int32 → Hp → Prop
  | 0 => fun _ _ _ _ _ => False
  | n + 1 => fun x3 x5 x6 x7 h => ((x6 ≤ x7 → (post x3 h)) ∧ (¬ x6 ≤ x7 → (vp_in x7 4 ∧ (isPl h (gr h x5 (Int32.toNatClampNeg x7)) ∧ (vp_in (gi h 1 3) 4 ∧ (∀ h_5 : Hp, h_5 = (si (sr h 10 (Int32.toNatClampNeg (gi h 1 3)) (gr h x5 (Int32.toNatClampNeg x7))) 1 3 ((gi (sr h 10 (Int32.toNatClampNeg (gi h 1 3)) (gr h x5 (Int32.toNatClampNeg x7))) 1 3) + 1)) → (w_X0_readQuiz_193 post px n x3 x5 x6 (x7 + 1) h_5)))))))
def w_X0_readQuiz_64 (post : Int32 → Hp → Prop) (px : Nat → Hp → Prop) : Nat → Nat → Int32 → Nat → Nat → Int32 → Int32 → Hp → Prop
  | 0 => fun _ _ _ _ _ _ _ => False
  | n + 1 => fun x2 x3 x4 x5 x6 x7 h => ((x3 ≤ x7 → (∃ fu : Nat, w_X0_readQuiz_193 post px fu x3 x5 x6 0 (si (sr h 1 1 x4) 1 0 ((gi (sr h 1 1 x4) 1 0) + 1)))) ∧ (¬ x3 ≤ x7 → (vp_in x7 64 ∧ (isTo h (gr h x2 (Int32.toNatClampNeg x7)) ∧ (wv_X7_isRight_isTo (fun r_7 h_4 => GI h_4 → Ext h h_4 → (w_X0_readQuiz_86 post px (w_X0_readQuiz_64 post px n) x2 x3 x4 x5 x6 x7 r_7 h_4)) h (gr h x2 (Int32.toNatClampNeg x7)) x4 ((gi h 1 3) + x6))))))
def w_X0_readQuiz_22 (post : Int32 → Hp → Prop) (px : Nat → Hp → Prop) : Nat → Nat → Nat → Int32 → Hp → Prop
  | 0 => fun _ _ _ _ => False
  | n + 1 => fun x1 x2 x3 h => (wp_X5_statement (fun r_4 h_1 => GI h_1 → Ext h h_1 → (isTo h_1 r_4 ∧ (vp_in x3 64 ∧ (((gi (sr h_1 x2 (Int32.toNatClampNeg x3) r_4) x1 1) < (gi (sr h_1 x2 (Int32.toNatClampNeg x3) r_4) x1 0) → (w_X0_readQuiz_22 post px n x1 x2 (x3 + 1) (sr h_1 x2 (Int32.toNatClampNeg x3) r_4))) ∧ (¬ (gi (sr h_1 x2 (Int32.toNatClampNeg x3) r_4) x1 1) < (gi (sr h_1 x2 (Int32.toNatClampNeg x3) r_4) x1 0) → (wp_X1_copied (fun r_11 h_8 => GI h_8 → Ext (sr h_1 x2 (Int32.toNatClampNeg x3) r_4) h_8 → (isTree h_8 r_11 ∧ (∃ fu : Nat, w_X0_readQuiz_64 post px fu x2 (x3 + 1) r_11 (sz h_8 + 1) 0 0 (al h_8 (5, 4))))) (sr h_1 x2 (Int32.toNatClampNeg x3) r_4) (gr (sr h_1 x2 (Int32.toNatClampNeg x3) r_4) 1 1))))))) px h x1)
def wp_X0_readQuiz (post : Int32 → Hp → Prop) (px : Nat → Hp → Prop) (h : Hp) : Prop := (wp_X5_init (fun h_1 => GI h_1 → Ext (al h (14, 0)) h_1 → (isRd h_1 (sz h + 1) ∧ (w_X0_readQuiz_22 post px 64 (sz h + 1) (sz (si h_1 1 14 0) + 1) 0 (al (si h_1 1 14 0) (6, 64))))) (al h (14, 0)) (sz h + 1))
abbrev rm_X0_readQuiz : Room := ({ frames := 14, cells := 1868, slots := 13143, locals := 336 })
abbrev K_X0_readQuiz : Kx := ("BeforeTheEnd", cX0_readQuiz, 9, (Option.some Jvm.ClassFile.FieldType.int), rm_X0_readQuiz, [], false)
set_option maxHeartbeats 4000000 in
theorem t_X0_readQuiz_86 {ρ : Rho} {h0 : Hp} {post : Int32 → Hp → Prop} {px : Nat → Hp → Prop} {K64 : Nat → Int32 → Nat → Nat → Int32 → Int32 → Hp → Prop} (G : G0 ρ) (hK64 : ∀ (x2 : Nat) (x3 : Int32) (x4 : Nat) (x5 : Nat) (x6 : Int32) (x7 : Int32) (h : Hp), GI h → Ext h0 h → sh h x2 = (6, 64) → isTree h x4 → sh h x5 = (5, 4) → K64 x2 x3 x4 x5 x6 x7 h → X ρ K_X0_readQuiz 64 [(0, .ref (mr ρ 1)), (2, .ref (mr ρ x2)), (3, .int x3), (4, .ref (mr ρ x4)), (5, .ref (mr ρ x5)), (6, .int x6), (7, .int x7)] [] h 1867 13136 (phI h0 post) (psX h0 px)) :
    ∀ (x2 : Nat) (x3 : Int32) (x4 : Nat) (x5 : Nat) (x6 : Int32) (x7 : Int32) (z0 : Int32) (h : Hp), GI h → Ext h0 h → sh h x2 = (6, 64) → isTree h x4 → sh h x5 = (5, 4) → w_X0_readQuiz_86 post px K64 x2 x3 x4 x5 x6 x7 z0 h → X ρ K_X0_readQuiz 86 [(0, .ref (mr ρ 1)), (2, .ref (mr ρ x2)), (3, .int x3), (4, .ref (mr ρ x4)), (5, .ref (mr ρ x5)), (6, .int x6), (7, .int x7)] [.int z0] h 1867 13136 (phI h0 post) (psX h0 px) := by
  intro x2 x3 x4 x5 x6 x7 z0 h g e fx2 fx4 fx5 hw
  obtain ⟨wt_29, wf_30⟩ := hw
  refine x_if_ne 108 dX0_readQuiz_86 (by decide) (fun c_1 => ?_) (fun c_1 => ?_)
  · have hw := wt_29 c_1
    refine x_aload_n 1 dX0_readQuiz_108 rfl ?_
    refine x_iload 6 dX0_readQuiz_109 rfl ?_
    obtain ⟨b_2, hw⟩ := hw
    obtain ⟨b_3, hw⟩ := hw
    refine x_aald6 (n := 64) (j := (Int32.toNatClampNeg x7)) dX0_readQuiz_111 rfl fx2 b_2 ?_
    refine x_nn (isTo.nz b_3 (GI.live g)) ?_
    obtain ⟨wt_4, wf_5⟩ := hw
    rcases b_3 with c_6 | c_6
    · have hw := wt_4 c_6
      refine x_instY (ci := 6) dX0_readQuiz_112 c_6 rfl q728 rfl ?_
      refine x_if_eq 150 dX0_readQuiz_115 (by decide) (fun c_7 => absurd c_7 (by decide)) (fun _ => ?_)
      refine x_aload_n 1 dX0_readQuiz_118 rfl ?_
      refine x_iload 6 dX0_readQuiz_119 rfl ?_
      obtain ⟨b_8, hw⟩ := hw
      obtain ⟨b_9, hw⟩ := hw
      refine x_aald6 (n := 64) (j := (Int32.toNatClampNeg x7)) dX0_readQuiz_121 rfl fx2 b_8 ?_
      refine x_nn (isTo.nz b_9 (GI.live g)) ?_
      obtain ⟨b_10, hw⟩ := hw
      refine x_cast (ci := 6) dX0_readQuiz_122 b_10 rfl q728 (Or.inr rfl) ?_
      refine x_astore (lv' := [(8, .ref (mr ρ (gr h x2 (Int32.toNatClampNeg x7)))), (0, .ref (mr ρ 1)), (2, .ref (mr ρ x2)), (3, .int x3), (4, .ref (mr ρ x4)), (5, .ref (mr ρ x5)), (6, .int x6), (7, .int x7)]) dX0_readQuiz_125 (Nat.le_of_ble_eq_true rfl) rfl ?_
      refine x_aload 4 dX0_readQuiz_127 rfl ?_
      refine x_aload 0 dX0_readQuiz_129 rfl ?_
      refine x_getN (ci := 6) (v := .int (gi h (gr h x2 (Int32.toNatClampNeg x7)) 1)) 1 dX0_readQuiz_131 b_10 rfl in_X8 (by decide) q480 (Or.inl rfl) (fv_i rfl) ?_
      refine x_aload 0 dX0_readQuiz_134 rfl ?_
      refine x_getN (ci := 6) (v := .int (gi h (gr h x2 (Int32.toNatClampNeg x7)) 2)) 2 dX0_readQuiz_136 b_10 rfl in_X8 (by decide) q482 (Or.inl rfl) (fv_i rfl) ?_
      refine x_aload 0 dX0_readQuiz_139 rfl ?_
      refine x_getN (ci := 6) (v := .int (gi h (gr h x2 (Int32.toNatClampNeg x7)) 3)) 3 dX0_readQuiz_141 b_10 rfl in_X8 (by decide) q484 (Or.inl rfl) (fv_i rfl) ?_
      refine x_callV (ci := 1) [.int (gi h (gr h x2 (Int32.toNatClampNeg x7)) 1), .int (gi h (gr h x2 (Int32.toNatClampNeg x7)) 2), .int (gi h (gr h x2 (Int32.toNatClampNeg x7)) 3)] 3 dX0_readQuiz_144 (k_X1_add G g fx4 hw) (isTree.s fx4) rfl q729 q730 q731 q105 q732 (by decide) rfl rfl ⟨(Nat.le_of_ble_eq_true rfl), (Nat.le_of_ble_eq_true rfl)⟩ (Nat.le_of_ble_eq_true rfl) ⟨(Nat.le_of_ble_eq_true rfl), (Nat.le_of_ble_eq_true rfl)⟩ (fun v9 h_11 hv9 => ?_) (fun _ _ _ _ _ z _ _ => False.elim z)
      obtain ⟨rfl, g_12, e_13, hw⟩ := hv9
      have hw := hw g_12 e_13
      show X ρ K_X0_readQuiz 147 [(8, .ref (mr ρ (gr h x2 (Int32.toNatClampNeg x7)))), (0, .ref (mr ρ 1)), (2, .ref (mr ρ x2)), (3, .int x3), (4, .ref (mr ρ x4)), (5, .ref (mr ρ x5)), (6, .int x6), (7, .int x7)] [] h_11 1867 13136 (phI h0 post) (psX h0 px)
      refine x_goto 168 dX0_readQuiz_147 (by decide) ?_
      refine x_iinc (v := (x7 + 1)) (lv' := [(7, .int (x7 + 1)), (8, .ref (mr ρ (gr h x2 (Int32.toNatClampNeg x7)))), (0, .ref (mr ρ 1)), (2, .ref (mr ρ x2)), (3, .int x3), (4, .ref (mr ρ x4)), (5, .ref (mr ρ x5)), (6, .int x6)]) 7 dX0_readQuiz_168 rfl (by rfl) (Nat.le_of_ble_eq_true rfl) rfl ?_
      refine x_goto 64 dX0_readQuiz_171 (by decide) ?_
      refine X.sub [2, 3, 4, 5, 6, 7, 0] rfl ?_
      exact hK64 x2 x3 x4 x5 x6 (x7 + 1) h_11 g_12 (Ext.tr e e_13) (Ext.s e_13 fx2 (by decide)) (isTree.ext fx4 e_13) (Ext.s e_13 fx5 (by decide)) hw
    · have hw := wf_5 c_6
      refine x_instN dX0_readQuiz_112 c_6 q728 ?_
      refine x_if_eq 150 dX0_readQuiz_115 (by decide) (fun _ => ?_) (fun c_16 => absurd (by decide) c_16)
      refine x_aload 4 dX0_readQuiz_150 rfl ?_
      refine x_iload 5 dX0_readQuiz_152 rfl ?_
      refine x_aload_n 1 dX0_readQuiz_154 rfl ?_
      refine x_iload 6 dX0_readQuiz_155 rfl ?_
      obtain ⟨b_17, hw⟩ := hw
      obtain ⟨b_18, hw⟩ := hw
      refine x_aald6 (n := 64) (j := (Int32.toNatClampNeg x7)) dX0_readQuiz_157 rfl fx2 b_17 ?_
      refine x_nn (isTo.nz b_18 (GI.live g)) ?_
      obtain ⟨b_19, hw⟩ := hw
      refine x_cast (ci := 7) dX0_readQuiz_158 b_19 rfl q733 (Or.inr rfl) ?_
      refine x_getN (ci := 7) (v := rv ρ (gr h (gr h x2 (Int32.toNatClampNeg x7)) 1)) 1 dX0_readQuiz_161 b_19 rfl in_X9 (by decide) q696 (Or.inl rfl) (fv_r rfl) ?_
      obtain ⟨b_20, hw⟩ := hw
      refine x_nn (isPl.nz b_20 (GI.live g)) ?_
      obtain ⟨b_21, hw⟩ := hw
      refine x_aastisPl (n := 4) (j := (Int32.toNatClampNeg x6)) dX0_readQuiz_164 rfl fx5 b_20 b_21 ?_
      refine x_iinc (v := (x6 + 1)) (lv' := [(6, .int (x6 + 1)), (0, .ref (mr ρ 1)), (2, .ref (mr ρ x2)), (3, .int x3), (4, .ref (mr ρ x4)), (5, .ref (mr ρ x5)), (7, .int x7)]) 5 dX0_readQuiz_165 rfl (by rfl) (Nat.le_of_ble_eq_true rfl) rfl ?_
      refine x_iinc (v := (x7 + 1)) (lv' := [(7, .int (x7 + 1)), (6, .int (x6 + 1)), (0, .ref (mr ρ 1)), (2, .ref (mr ρ x2)), (3, .int x3), (4, .ref (mr ρ x4)), (5, .ref (mr ρ x5))]) 6 dX0_readQuiz_168 rfl (by rfl) (Nat.le_of_ble_eq_true rfl) rfl ?_
      refine x_goto 64 dX0_readQuiz_171 (by decide) ?_
      refine X.sub [2, 3, 4, 5, 6, 1, 0] rfl ?_
      exact hK64 x2 x3 x4 x5 (x6 + 1) (x7 + 1) (sr h x5 (Int32.toNatClampNeg x6) (gr h (gr h x2 (Int32.toNatClampNeg x7)) 1)) (GI.r g fx5 (by decide) (by decide) (by decide)) (Ext.r e fx5 (by decide) (by decide)) fx2 (isTree.r fx4 fx5 (by decide)) fx5 hw
  · have hw := wf_30 c_1
    refine x_new (ci := 5) (n := 7) dX0_readQuiz_89 rfl in_X6n tyT5_ok df_X6 q726 q432 q113 (Nat.le_of_ble_eq_true rfl) (Nat.le_of_ble_eq_true rfl) ?_
    refine x_dup dX0_readQuiz_92 rfl ?_
    refine x_sipush (-2000) dX0_readQuiz_93 (by decide) ?_
    refine x_aload_n 1 dX0_readQuiz_96 rfl ?_
    refine x_iload 6 dX0_readQuiz_97 rfl ?_
    obtain ⟨b_22, hw⟩ := hw
    obtain ⟨b_23, hw⟩ := hw
    refine x_aald6 (n := 64) (j := (Int32.toNatClampNeg x7)) dX0_readQuiz_99 rfl (sh_al (GI.live g) fx2 (by decide)) b_22 ?_
    refine x_nn (isTo.nz b_23 (Live.w (GI.live g))) ?_
    refine x_getTo dX0_readQuiz_100 b_23 q486 ?_
    refine x_isub dX0_readQuiz_103 ?_
    refine x_callI [.int ((-2000) - (gi (al h (15, 0)) (gr (al h (15, 0)) x2 (Int32.toNatClampNeg x7)) 0))] 1 dX0_readQuiz_104 (k_X6_init_c5 G (GI.w g) sh_new hw) q727 q441 q113 q442 rfl (by decide) rfl rfl ⟨(Nat.le_of_ble_eq_true rfl), (Nat.le_of_ble_eq_true rfl)⟩ (Nat.le_of_ble_eq_true rfl) ⟨(Nat.le_of_ble_eq_true rfl), (Nat.le_of_ble_eq_true rfl)⟩ (fun v9 h_24 hv9 => ?_) (fun _ _ _ _ _ z _ _ => False.elim z)
    obtain ⟨rfl, g_25, e_26, hw⟩ := hv9
    have hw := hw g_25 e_26
    show X ρ K_X0_readQuiz 107 [(0, .ref (mr ρ 1)), (2, .ref (mr ρ x2)), (3, .int x3), (4, .ref (mr ρ x4)), (5, .ref (mr ρ x5)), (6, .int x6), (7, .int x7)] [.ref (mr ρ (sz h + 1))] h_24 1868 13143 (phI h0 post) (psX h0 px)
    refine x_athrow dX0_readQuiz_107 ?_
    exact xt_out (Ext.s e_26 sh_new (by decide)) rfl (fun z hz => by cases hz) (Nat.le_of_ble_eq_true rfl) (Nat.le_of_ble_eq_true rfl) ⟨g_25, (Ext.tr (Ext.w e (GI.live g)) e_26), hw⟩
set_option maxHeartbeats 4000000 in
theorem t_X0_readQuiz_193 {ρ : Rho} {h0 : Hp} {post : Int32 → Hp → Prop} {px : Nat → Hp → Prop} (G : G0 ρ) :
    ∀ (n : Nat), ∀ (x3 : Int32) (x5 : Nat) (x6 : Int32) (x7 : Int32) (h : Hp), GI h → Ext h0 h → sh h x5 = (5, 4) → w_X0_readQuiz_193 post px n x3 x5 x6 x7 h → X ρ K_X0_readQuiz 193 [(0, .ref (mr ρ 1)), (3, .int x3), (5, .ref (mr ρ x5)), (6, .int x6), (7, .int x7)] [] h 1867 13136 (phI h0 post) (psX h0 px) := by
  intro n
  induction n with
  | zero => intro x3 x5 x6 x7 h g e fx5 hw; exact False.elim hw
  | succ n ih =>
    intro x3 x5 x6 x7 h g e fx5 hw
    refine x_iload 4 dX0_readQuiz_193 rfl ?_
    refine x_iload 3 dX0_readQuiz_195 rfl ?_
    obtain ⟨wt_9, wf_10⟩ := hw
    refine x_icmp_ge 230 dX0_readQuiz_197 (by decide) (fun c_1 => ?_) (fun c_1 => ?_)
    · have hw := wt_9 c_1
      refine x_iload_n 1 dX0_readQuiz_230 rfl ?_
      exact x_iret dX0_readQuiz_231 rfl (Nat.le_of_ble_eq_true rfl) (Nat.le_of_ble_eq_true rfl) ⟨_, rfl, g, e, hw⟩
    · have hw := wf_10 c_1
      refine x_aload_n 0 dX0_readQuiz_200 rfl ?_
      refine x_get (ci := 0) (v := .ref (mr ρ 10)) 2 dX0_readQuiz_201 (GI.s g (t := (10, 0)) rfl (by decide)) rfl in_X0 (by decide) q189 (Or.inl rfl) (fv_rc rfl (GI.x g (n := 10) rfl (by decide)) (by decide)) ?_
      refine x_aload_n 0 dX0_readQuiz_204 rfl ?_
      refine x_get (ci := 0) (v := .int (gi h 1 3)) 3 dX0_readQuiz_205 (GI.s g (t := (10, 0)) rfl (by decide)) rfl in_X0 (by decide) q190 (Or.inl rfl) (fv_i rfl) ?_
      refine x_aload 2 dX0_readQuiz_208 rfl ?_
      refine x_iload 4 dX0_readQuiz_210 rfl ?_
      obtain ⟨b_2, hw⟩ := hw
      obtain ⟨b_3, hw⟩ := hw
      refine x_aald5 (n := 4) (j := (Int32.toNatClampNeg x7)) dX0_readQuiz_212 rfl fx5 b_2 ?_
      refine x_nn (isPl.nz b_3 (GI.live g)) ?_
      obtain ⟨b_4, hw⟩ := hw
      refine x_aastisPl (n := 4) (j := (Int32.toNatClampNeg (gi h 1 3))) dX0_readQuiz_213 rfl (GI.s g (t := (5, 4)) rfl (by decide)) b_3 b_4 ?_
      refine x_aload_n 0 dX0_readQuiz_214 rfl ?_
      refine x_dup dX0_readQuiz_215 rfl ?_
      refine x_get (ci := 0) (v := .int (gi (sr h 10 (Int32.toNatClampNeg (gi h 1 3)) (gr h x5 (Int32.toNatClampNeg x7))) 1 3)) 3 dX0_readQuiz_216 (GI.s (GI.r g (GI.s g (t := (5, 4)) rfl (by decide)) (by decide) (by decide) (by decide)) (t := (10, 0)) rfl (by decide)) rfl in_X0 (by decide) q190 (Or.inl rfl) (fv_i rfl) ?_
      refine x_iconst 1 dX0_readQuiz_219 (by decide) ?_
      refine x_iadd dX0_readQuiz_220 ?_
      refine x_put (ci := 0) 3 dX0_readQuiz_221 (GI.s (GI.r g (GI.s g (t := (5, 4)) rfl (by decide)) (by decide) (by decide) (by decide)) (t := (10, 0)) rfl (by decide)) rfl in_X0 tyX0 tyX0_ok nmX0 (by decide) q190 (Or.inl rfl) rfl rfl rfl (isPut_i rfl) ?_
      refine x_nmh (fun h_5 eh_5 => ?_)
      have hw := hw h_5 eh_5
      have g_6 : GI h_5 := eh_5 ▸ (GI.i (GI.r g (GI.s g (t := (5, 4)) rfl (by decide)) (by decide) (by decide) (by decide)))
      have e_7 : Ext h0 h_5 := eh_5 ▸ (Ext.i (Ext.r e (GI.s g (t := (5, 4)) rfl (by decide)) (by decide) (by decide)))
      have f_8 : sh h_5 x5 = (5, 4) := eh_5 ▸ fx5
      refine x_iinc (v := (x7 + 1)) (lv' := [(7, .int (x7 + 1)), (0, .ref (mr ρ 1)), (3, .int x3), (5, .ref (mr ρ x5)), (6, .int x6)]) 4 dX0_readQuiz_224 rfl (by rfl) (Nat.le_of_ble_eq_true rfl) rfl ?_
      refine x_goto 193 dX0_readQuiz_227 (by decide) ?_
      refine X.sub [1, 2, 3, 4, 0] rfl ?_
      exact ih x3 x5 x6 (x7 + 1) h_5 g_6 e_7 f_8 hw
set_option maxHeartbeats 4000000 in
theorem t_X0_readQuiz_64 {ρ : Rho} {h0 : Hp} {post : Int32 → Hp → Prop} {px : Nat → Hp → Prop} (G : G0 ρ) :
    ∀ (n : Nat), ∀ (x2 : Nat) (x3 : Int32) (x4 : Nat) (x5 : Nat) (x6 : Int32) (x7 : Int32) (h : Hp), GI h → Ext h0 h → sh h x2 = (6, 64) → isTree h x4 → sh h x5 = (5, 4) → w_X0_readQuiz_64 post px n x2 x3 x4 x5 x6 x7 h → X ρ K_X0_readQuiz 64 [(0, .ref (mr ρ 1)), (2, .ref (mr ρ x2)), (3, .int x3), (4, .ref (mr ρ x4)), (5, .ref (mr ρ x5)), (6, .int x6), (7, .int x7)] [] h 1867 13136 (phI h0 post) (psX h0 px) := by
  intro n
  induction n with
  | zero => intro x2 x3 x4 x5 x6 x7 h g e fx2 fx4 fx5 hw; exact False.elim hw
  | succ n ih =>
    intro x2 x3 x4 x5 x6 x7 h g e fx2 fx4 fx5 hw
    refine x_iload 6 dX0_readQuiz_64 rfl ?_
    refine x_iload_n 2 dX0_readQuiz_66 rfl ?_
    obtain ⟨wt_12, wf_13⟩ := hw
    refine x_icmp_ge 174 dX0_readQuiz_67 (by decide) (fun c_1 => ?_) (fun c_1 => ?_)
    · have hw := wt_12 c_1
      refine x_aload_n 0 dX0_readQuiz_174 rfl ?_
      refine x_aload 3 dX0_readQuiz_175 rfl ?_
      refine x_put (ci := 0) 1 dX0_readQuiz_177 (GI.s g (t := (10, 0)) rfl (by decide)) rfl in_X0 tyX0 tyX0_ok nmX0 (by decide) q188 (Or.inl rfl) rfl rfl rfl (isPut_rn rfl (isTree.nz fx4 (GI.live g))) ?_
      refine x_aload_n 0 dX0_readQuiz_180 rfl ?_
      refine x_dup dX0_readQuiz_181 rfl ?_
      refine x_get (ci := 0) (v := .int (gi (sr h 1 1 x4) 1 0)) 0 dX0_readQuiz_182 (GI.s (GI.rT g fx4) (t := (10, 0)) rfl (by decide)) rfl in_X0 (by decide) q185 (Or.inl rfl) (fv_i rfl) ?_
      refine x_iconst 1 dX0_readQuiz_185 (by decide) ?_
      refine x_iadd dX0_readQuiz_186 ?_
      refine x_put (ci := 0) 0 dX0_readQuiz_187 (GI.s (GI.rT g fx4) (t := (10, 0)) rfl (by decide)) rfl in_X0 tyX0 tyX0_ok nmX0 (by decide) q185 (Or.inl rfl) rfl rfl rfl (isPut_i rfl) ?_
      refine x_iconst 0 dX0_readQuiz_190 (by decide) ?_
      refine x_istore (lv' := [(7, .int 0), (0, .ref (mr ρ 1)), (2, .ref (mr ρ x2)), (3, .int x3), (4, .ref (mr ρ x4)), (5, .ref (mr ρ x5)), (6, .int x6)]) dX0_readQuiz_191 (Nat.le_of_ble_eq_true rfl) rfl ?_
      refine X.sub [1, 3, 5, 6, 0] rfl ?_
      obtain ⟨fu, hw⟩ := hw
      exact t_X0_readQuiz_193 G  fu x3 x5 x6 0 (si (sr h 1 1 x4) 1 0 ((gi (sr h 1 1 x4) 1 0) + 1)) (GI.i (GI.rT g fx4)) (Ext.i (Ext.r e (GI.s g (t := (10, 0)) rfl (by decide)) (by decide) (by decide))) fx5 hw
    · have hw := wf_13 c_1
      refine x_aload_n 1 dX0_readQuiz_70 rfl ?_
      refine x_iload 6 dX0_readQuiz_71 rfl ?_
      obtain ⟨b_2, hw⟩ := hw
      obtain ⟨b_3, hw⟩ := hw
      refine x_aald6 (n := 64) (j := (Int32.toNatClampNeg x7)) dX0_readQuiz_73 rfl fx2 b_2 ?_
      refine x_nn (isTo.nz b_3 (GI.live g)) ?_
      refine x_aload 3 dX0_readQuiz_74 rfl ?_
      refine x_aload_n 0 dX0_readQuiz_76 rfl ?_
      refine x_get (ci := 0) (v := .int (gi h 1 3)) 3 dX0_readQuiz_77 (GI.s g (t := (10, 0)) rfl (by decide)) rfl in_X0 (by decide) q190 (Or.inl rfl) (fv_i rfl) ?_
      refine x_iload 5 dX0_readQuiz_80 rfl ?_
      refine x_iadd dX0_readQuiz_82 ?_
      have kk_11 : ∀ (v9 : Option Value) (h_4 : Hp), (phB h (fun r_7 h_4 => GI h_4 → Ext h h_4 → (w_X0_readQuiz_86 post px (w_X0_readQuiz_64 post px n) x2 x3 x4 x5 x6 x7 r_7 h_4))) v9 h_4 → X ρ K_X0_readQuiz 86 [(0, .ref (mr ρ 1)), (2, .ref (mr ρ x2)), (3, .int x3), (4, .ref (mr ρ x4)), (5, .ref (mr ρ x5)), (6, .int x6), (7, .int x7)] (v9.toList ++ []) h_4 1867 13136 (phI h0 post) (psX h0 px) := by
        intro v9 h_4 hv9
        obtain ⟨r_7, rfl, g_5, e_6, b_8, hw⟩ := hv9
        have hw := hw g_5 e_6
        show X ρ K_X0_readQuiz 86 [(0, .ref (mr ρ 1)), (2, .ref (mr ρ x2)), (3, .int x3), (4, .ref (mr ρ x4)), (5, .ref (mr ρ x5)), (6, .int x6), (7, .int x7)] [.int r_7] h_4 1867 13136 (phI h0 post) (psX h0 px)
        exact t_X0_readQuiz_86 G ih x2 x3 x4 x5 x6 x7 r_7 h_4 g_5 (Ext.tr e e_6) (Ext.s e_6 fx2 (by decide)) (isTree.ext fx4 e_6) (Ext.s e_6 fx5 (by decide)) hw
      obtain ⟨wc_9, wc_10⟩ := hw
      rcases b_3 with fc9 | fc9
      · exact x_callA (ci := 6) (x0 := ⟨"BeforeTheEnd$Told", "isRight", "(LBeforeTheEnd$Tree;I)Z"⟩) (owner := "BeforeTheEnd$Told") [.ref (mr ρ x4), .int ((gi h 1 3) + x6)] 2 dX0_readQuiz_83 (k_X8_isRight_c6 G g fc9 fx4 (wc_9 fc9)) fc9 rfl (lw_U q713 q715 q719 q720 q115 q721) q714 (by decide) rfl rfl ⟨(Nat.le_of_ble_eq_true rfl), (Nat.le_of_ble_eq_true rfl)⟩ (Nat.le_of_ble_eq_true rfl) ⟨(Nat.le_of_ble_eq_true rfl), (Nat.le_of_ble_eq_true rfl)⟩ kk_11 (fun _ _ _ _ _ z _ _ => False.elim z)
      · exact x_callA (ci := 7) (x0 := ⟨"BeforeTheEnd$Told", "isRight", "(LBeforeTheEnd$Tree;I)Z"⟩) (owner := "BeforeTheEnd$Told") [.ref (mr ρ x4), .int ((gi h 1 3) + x6)] 2 dX0_readQuiz_83 (k_X9_isRight_c7 G g fc9 fx4 (wc_10 fc9)) fc9 rfl (lw_U q713 q715 q716 q717 q122 q718) q714 (by decide) rfl rfl ⟨(Nat.le_of_ble_eq_true rfl), (Nat.le_of_ble_eq_true rfl)⟩ (Nat.le_of_ble_eq_true rfl) ⟨(Nat.le_of_ble_eq_true rfl), (Nat.le_of_ble_eq_true rfl)⟩ kk_11 (fun _ _ _ _ _ z _ _ => False.elim z)
set_option maxHeartbeats 4000000 in
theorem t_X0_readQuiz_22 {ρ : Rho} {h0 : Hp} {post : Int32 → Hp → Prop} {px : Nat → Hp → Prop} (G : G0 ρ) :
    ∀ (n : Nat), n ≤ 64 → ∀ (x1 : Nat) (x2 : Nat) (x3 : Int32) (h : Hp), GI h → Ext h0 h → isRd h x1 → sh h x2 = (6, 64) → w_X0_readQuiz_22 post px n x1 x2 x3 h → X ρ K_X0_readQuiz 22 [(0, .ref (mr ρ 1)), (1, .ref (mr ρ x1)), (2, .ref (mr ρ x2)), (3, .int x3)] [] h (2 + (64 - n) * 29) (67 + (64 - n) * 198) (phI h0 post) (psX h0 px) := by
  intro n
  induction n with
  | zero => intro hn x1 x2 x3 h g e fx1 fx2 hw; exact False.elim hw
  | succ n ih =>
    intro hn x1 x2 x3 h g e fx1 fx2 hw
    rw [w_X0_readQuiz_22] at hw
    refine x_aload_n 2 dX0_readQuiz_22 rfl ?_
    refine x_iload_n 3 dX0_readQuiz_23 rfl ?_
    refine x_aload_n 1 dX0_readQuiz_24 rfl ?_
    refine x_callV (ci := 4) [] 0 dX0_readQuiz_25 (k_X5_statement G g fx1 hw) fx1.1 rfl q419 q420 q421 q112 q422 (by decide) rfl rfl ⟨(Nat.le_of_ble_eq_true rfl), (Nat.le_of_ble_eq_true rfl)⟩ (Nat.le_of_ble_eq_true rfl) ⟨(show 2 + (64 - (n + 1)) * 29 + 29 ≤ 1868 by omega), (show 67 + (64 - (n + 1)) * 198 + 198 ≤ 13143 by omega)⟩ (fun v9 h_1 hv9 => ?_) (fun q9 h9 ci9 n9 x9 hx9 hs9 hc9 => xt_out hs9 hc9 (fun z hz => by cases hz) (show 2 + (64 - (n + 1)) * 29 + 29 ≤ 1868 by omega) (show 67 + (64 - (n + 1)) * 198 + 198 ≤ 13143 by omega) ⟨hx9.1, Ext.tr e hx9.2.1, hx9.2.2⟩)
    obtain ⟨r_4, rfl, g_2, e_3, hw⟩ := hv9
    have hw := hw g_2 e_3
    show X ρ K_X0_readQuiz 28 [(0, .ref (mr ρ 1)), (1, .ref (mr ρ x1)), (2, .ref (mr ρ x2)), (3, .int x3)] [.ref (mr ρ r_4), .int x3, .ref (mr ρ x2)] h_1 (2 + (64 - (n + 1)) * 29 + 29) (67 + (64 - (n + 1)) * 198 + 198) (phI h0 post) (psX h0 px)
    obtain ⟨b_5, hw⟩ := hw
    obtain ⟨b_6, hw⟩ := hw
    refine x_aastisTo (n := 64) (j := (Int32.toNatClampNeg x3)) dX0_readQuiz_28 rfl (Ext.s e_3 fx2 (by decide)) b_5 b_6 ?_
    refine x_iinc (v := (x3 + 1)) (lv' := [(3, .int (x3 + 1)), (0, .ref (mr ρ 1)), (1, .ref (mr ρ x1)), (2, .ref (mr ρ x2))]) 3 dX0_readQuiz_29 rfl (by rfl) (Nat.le_of_ble_eq_true rfl) rfl ?_
    refine x_aload_n 2 dX0_readQuiz_32 rfl ?_
    refine x_getN (ci := 4) (v := .int (gi (sr h_1 x2 (Int32.toNatClampNeg x3) r_4) x1 1)) 1 dX0_readQuiz_33 (isRd.r (isRd.ext fx1 e_3) (Ext.s e_3 fx2 (by decide)) (by decide)).1 rfl in_X5 (by decide) q408 (Or.inl rfl) (fv_i rfl) ?_
    refine x_aload_n 2 dX0_readQuiz_36 rfl ?_
    refine x_getN (ci := 4) (v := .int (gi (sr h_1 x2 (Int32.toNatClampNeg x3) r_4) x1 0)) 0 dX0_readQuiz_37 (isRd.r (isRd.ext fx1 e_3) (Ext.s e_3 fx2 (by decide)) (by decide)).1 rfl in_X5 (by decide) q406 (Or.inl rfl) (fv_i rfl) ?_
    obtain ⟨wt_13, wf_14⟩ := hw
    refine x_icmp_lt 22 dX0_readQuiz_40 (by decide) (fun c_7 => ?_) (fun c_7 => ?_)
    · have hw := wt_13 c_7
      refine X.widen (k := 2 + (64 - n) * 29) (n := 67 + (64 - n) * 198) (show 2 + (64 - (n + 1)) * 29 + 29 ≤ 2 + (64 - n) * 29 by omega) (show 67 + (64 - (n + 1)) * 198 + 198 ≤ 67 + (64 - n) * 198 by omega) ?_
      refine X.sub [1, 2, 3, 0] rfl ?_
      exact ih (by omega) x1 x2 (x3 + 1) (sr h_1 x2 (Int32.toNatClampNeg x3) r_4) (GI.r g_2 (Ext.s e_3 fx2 (by decide)) (by decide) (by decide) (by decide)) (Ext.r (Ext.tr e e_3) (Ext.s e_3 fx2 (by decide)) (by decide) (by decide)) (isRd.r (isRd.ext fx1 e_3) (Ext.s e_3 fx2 (by decide)) (by decide)) (Ext.s e_3 fx2 (by decide)) hw
    · have hw := wf_14 c_7
      refine x_aload_n 1 dX0_readQuiz_43 rfl ?_
      refine x_get (ci := 0) (v := .ref (mr ρ (gr (sr h_1 x2 (Int32.toNatClampNeg x3) r_4) 1 1))) 1 dX0_readQuiz_44 (GI.s (GI.r g_2 (Ext.s e_3 fx2 (by decide)) (by decide) (by decide) (by decide)) (t := (10, 0)) rfl (by decide)) rfl in_X0 (by decide) q188 (Or.inl rfl) (fv_rc rfl rfl (isTree.nz (GI.t (GI.r g_2 (Ext.s e_3 fx2 (by decide)) (by decide) (by decide) (by decide))) (Live.r (GI.live g_2)))) ?_
      refine x_callV (ci := 1) [] 0 dX0_readQuiz_47 (k_X1_copied G (GI.r g_2 (Ext.s e_3 fx2 (by decide)) (by decide) (by decide) (by decide)) (GI.t (GI.r g_2 (Ext.s e_3 fx2 (by decide)) (by decide) (by decide) (by decide))) hw) (isTree.s (GI.t (GI.r g_2 (Ext.s e_3 fx2 (by decide)) (by decide) (by decide) (by decide)))) rfl q704 q705 q706 q105 q707 (by decide) rfl rfl ⟨(Nat.le_of_ble_eq_true rfl), (Nat.le_of_ble_eq_true rfl)⟩ (Nat.le_of_ble_eq_true rfl) ⟨(show 2 + (64 - (n + 1)) * 29 + 29 + 8 ≤ 1868 by omega), (show 67 + (64 - (n + 1)) * 198 + 198 + 393 ≤ 13143 by omega)⟩ (fun v9 h_8 hv9 => ?_) (fun _ _ _ _ _ z _ _ => False.elim z)
      obtain ⟨r_11, rfl, g_9, e_10, hw⟩ := hv9
      have hw := hw g_9 e_10
      show X ρ K_X0_readQuiz 50 [(3, .int (x3 + 1)), (0, .ref (mr ρ 1)), (1, .ref (mr ρ x1)), (2, .ref (mr ρ x2))] [.ref (mr ρ r_11)] h_8 (2 + (64 - (n + 1)) * 29 + 29 + 8) (67 + (64 - (n + 1)) * 198 + 198 + 393) (phI h0 post) (psX h0 px)
      obtain ⟨b_12, hw⟩ := hw
      refine x_astore (lv' := [(4, .ref (mr ρ r_11)), (3, .int (x3 + 1)), (0, .ref (mr ρ 1)), (1, .ref (mr ρ x1)), (2, .ref (mr ρ x2))]) dX0_readQuiz_50 (Nat.le_of_ble_eq_true rfl) rfl ?_
      refine x_iconst 4 dX0_readQuiz_52 (by decide) ?_
      refine x_anew 5 4 dX0_readQuiz_53 rfl (by decide) (by decide) q182 q183 (by decide) (by decide) (Nat.le_of_ble_eq_true rfl) (show 2 + (64 - (n + 1)) * 29 + 29 + 8 + 1 ≤ 1868 by omega) (show 67 + (64 - (n + 1)) * 198 + 198 + 393 + 4 ≤ 13143 by omega) ?_
      refine x_astore (lv' := [(5, .ref (mr ρ (sz h_8 + 1))), (4, .ref (mr ρ r_11)), (3, .int (x3 + 1)), (0, .ref (mr ρ 1)), (1, .ref (mr ρ x1)), (2, .ref (mr ρ x2))]) dX0_readQuiz_56 (Nat.le_of_ble_eq_true rfl) rfl ?_
      refine x_iconst 0 dX0_readQuiz_58 (by decide) ?_
      refine x_istore (lv' := [(6, .int 0), (5, .ref (mr ρ (sz h_8 + 1))), (4, .ref (mr ρ r_11)), (3, .int (x3 + 1)), (0, .ref (mr ρ 1)), (1, .ref (mr ρ x1)), (2, .ref (mr ρ x2))]) dX0_readQuiz_59 (Nat.le_of_ble_eq_true rfl) rfl ?_
      refine x_iconst 0 dX0_readQuiz_61 (by decide) ?_
      refine x_istore (lv' := [(7, .int 0), (6, .int 0), (5, .ref (mr ρ (sz h_8 + 1))), (4, .ref (mr ρ r_11)), (3, .int (x3 + 1)), (0, .ref (mr ρ 1)), (1, .ref (mr ρ x1)), (2, .ref (mr ρ x2))]) dX0_readQuiz_62 (Nat.le_of_ble_eq_true rfl) rfl ?_
      refine X.widen (k := 1867) (n := 13136) (show 2 + (64 - (n + 1)) * 29 + 29 + 8 + 1 ≤ 1867 by omega) (show 67 + (64 - (n + 1)) * 198 + 198 + 393 + 4 ≤ 13136 by omega) ?_
      refine X.sub [5, 7, 4, 3, 2, 1, 0] rfl ?_
      obtain ⟨fu, hw⟩ := hw
      exact t_X0_readQuiz_64 G  fu x2 (x3 + 1) r_11 (sz h_8 + 1) 0 0 (al h_8 (5, 4)) (GI.w g_9) (Ext.w (Ext.tr (Ext.r (Ext.tr e e_3) (Ext.s e_3 fx2 (by decide)) (by decide) (by decide)) e_10) (GI.live g_9)) (sh_al (GI.live g_9) (Ext.s e_10 (Ext.s e_3 fx2 (by decide)) (by decide)) (by decide)) (isTree.w b_12 (GI.live g_9)) sh_new hw
set_option maxHeartbeats 4000000 in
theorem k_X0_readQuiz {ρ : Rho} {h : Hp} {post : Int32 → Hp → Prop} {px : Nat → Hp → Prop} (G : G0 ρ) (g : GI h) (hw : wp_X0_readQuiz post px h) : Con ρ yX0_readQuiz (ws_ yX0_readQuiz cX0_readQuiz 9 (Option.some Jvm.ClassFile.FieldType.int)) rm_X0_readQuiz [.ref (mr ρ 1)] h (phI h post) (psX h px) := by
  refine con_of (own := "BeforeTheEnd") (isI := false) (l0 := [(0, .ref (mr ρ 1))]) (by decide) rfl (fun z => by cases z) (Nat.le_of_ble_eq_true rfl) rfl (fun _ => ?_)
  show X ρ K_X0_readQuiz 0 [(0, .ref (mr ρ 1))] [] h 0 0 (phI h post) (psX h px)
  refine x_new (ci := 4) (n := 3) dX0_readQuiz_0 rfl in_X5 tyX5_ok df_X5 q399 q400 q112 (Nat.le_of_ble_eq_true rfl) (Nat.le_of_ble_eq_true rfl) ?_
  refine x_dup dX0_readQuiz_3 rfl ?_
  refine x_aload_n 0 dX0_readQuiz_4 rfl ?_
  refine x_callIN [.ref (mr ρ 1)] 1 dX0_readQuiz_5 (k_X5_init G (GI.w g) sh_new hw) q401 q402 q112 q403 rfl (by decide) rfl rfl ⟨(Nat.le_of_ble_eq_true rfl), (Nat.le_of_ble_eq_true rfl)⟩ (Nat.le_of_ble_eq_true rfl) ⟨(Nat.le_of_ble_eq_true rfl), (Nat.le_of_ble_eq_true rfl)⟩ (fun v9 h_1 hv9 => ?_) (fun _ _ _ _ _ z _ _ => False.elim z)
  obtain ⟨rfl, g_2, e_3, hw⟩ := hv9
  have hw := hw g_2 e_3
  show X ρ K_X0_readQuiz 8 [(0, .ref (mr ρ 1))] [.ref (mr ρ (sz h + 1))] h_1 1 3 (phI h post) (psX h px)
  obtain ⟨f_6, hw⟩ := hw
  refine x_astore_n (lv' := [(1, .ref (mr ρ (sz h + 1))), (0, .ref (mr ρ 1))]) dX0_readQuiz_8 (Nat.le_of_ble_eq_true rfl) rfl ?_
  refine x_aload_n 1 dX0_readQuiz_9 rfl ?_
  refine x_iconst 0 dX0_readQuiz_10 (by decide) ?_
  refine x_put (ci := 0) 14 dX0_readQuiz_11 (GI.s g_2 (t := (10, 0)) rfl (by decide)) rfl in_X0 tyX0 tyX0_ok nmX0 (by decide) q203 (Or.inl rfl) rfl rfl rfl (isPut_i rfl) ?_
  refine x_bipush 64 dX0_readQuiz_14 (by decide) ?_
  refine x_anew 6 64 dX0_readQuiz_16 rfl (by decide) (by decide) q417 q418 (by decide) (by decide) (Nat.le_of_ble_eq_true rfl) (Nat.le_of_ble_eq_true rfl) (Nat.le_of_ble_eq_true rfl) ?_
  refine x_astore_n (lv' := [(2, .ref (mr ρ (sz (si h_1 1 14 0) + 1))), (1, .ref (mr ρ (sz h + 1))), (0, .ref (mr ρ 1))]) dX0_readQuiz_19 (Nat.le_of_ble_eq_true rfl) rfl ?_
  refine x_iconst 0 dX0_readQuiz_20 (by decide) ?_
  refine x_istore_n (lv' := [(3, .int 0), (2, .ref (mr ρ (sz (si h_1 1 14 0) + 1))), (1, .ref (mr ρ (sz h + 1))), (0, .ref (mr ρ 1))]) dX0_readQuiz_21 (Nat.le_of_ble_eq_true rfl) rfl ?_
  refine X.widen (k := 2 + (64 - 64) * 29) (n := 67 + (64 - 64) * 198) (show 2 ≤ 2 + (64 - 64) * 29 by omega) (show 67 ≤ 67 + (64 - 64) * 198 by omega) ?_
  refine X.sub [3, 2, 1, 0] rfl ?_
  exact t_X0_readQuiz_22 G  64 (Nat.le_refl _) (sz h + 1) (sz (si h_1 1 14 0) + 1) 0 (al (si h_1 1 14 0) (6, 64)) (GI.w (GI.i g_2)) (Ext.w (Ext.i (Ext.tr (Ext.w Ext.rf (GI.live g)) e_3)) (Live.i (GI.live g_2))) (isRd.w (isRd.i f_6) (Live.i (GI.live g_2))) sh_new hw

/-! BeforeTheEnd.mustBe(II)V -/
def wp_X0_mustBe (post : Hp → Prop) (px : Nat → Hp → Prop) (h : Hp) (p1 : Int32) (p2 : Int32) : Prop := (wp_X0_in (fun r_4 h_1 => GI h_1 → Ext h h_1 → (wp_X0_must (fun h_6 => GI h_6 → Ext h_1 h_6 → (post h_6)) px h_1 r_4 (-1))) h (Int32.toInt64 p1) 0 (Int32.toInt64 (p2 - 1)))
abbrev rm_X0_mustBe : Room := ({ frames := 10, cells := 1, slots := 7, locals := 242 })
abbrev K_X0_mustBe : Kx := ("BeforeTheEnd", cX0_mustBe, 2, (Option.none : Option Jvm.ClassFile.FieldType), rm_X0_mustBe, [], false)
set_option maxHeartbeats 4000000 in
theorem k_X0_mustBe {ρ : Rho} {h : Hp} {post : Hp → Prop} {px : Nat → Hp → Prop} {p1 : Int32} {p2 : Int32} (G : G0 ρ) (g : GI h) (hw : wp_X0_mustBe post px h p1 p2) : Con ρ yX0_mustBe (ws_ yX0_mustBe cX0_mustBe 2 (Option.none : Option Jvm.ClassFile.FieldType)) rm_X0_mustBe [.int p1, .int p2] h (phV h post) (psX h px) := by
  refine con_of (own := "BeforeTheEnd") (isI := false) (l0 := [(0, .int p1), (1, .int p2)]) (by decide) rfl (fun z => by cases z) (Nat.le_of_ble_eq_true rfl) rfl (fun _ => ?_)
  show X ρ K_X0_mustBe 0 [(0, .int p1), (1, .int p2)] [] h 0 0 (phV h post) (psX h px)
  refine x_iload_n 0 dX0_mustBe_0 rfl ?_
  refine x_i2l dX0_mustBe_1 ?_
  refine x_lconst 0 dX0_mustBe_2 (by decide) ?_
  refine x_iload_n 1 dX0_mustBe_3 rfl ?_
  refine x_iconst 1 dX0_mustBe_4 (by decide) ?_
  refine x_isub dX0_mustBe_5 ?_
  refine x_i2l dX0_mustBe_6 ?_
  refine x_callS [.long (Int32.toInt64 p1), .long 0, .long (Int32.toInt64 (p2 - 1))] 3 dX0_mustBe_7 (k_X0_in G g hw) q745 q464 q104 q465 (by decide) rfl rfl ⟨(Nat.le_of_ble_eq_true rfl), (Nat.le_of_ble_eq_true rfl)⟩ (Nat.le_of_ble_eq_true rfl) ⟨(Nat.le_of_ble_eq_true rfl), (Nat.le_of_ble_eq_true rfl)⟩ (fun v9 h_1 hv9 => ?_) (fun _ _ _ _ _ z _ _ => False.elim z)
  obtain ⟨r_4, rfl, g_2, e_3, b_5, hw⟩ := hv9
  have hw := hw g_2 e_3
  show X ρ K_X0_mustBe 10 [(0, .int p1), (1, .int p2)] [.int r_4] h_1 0 0 (phV h post) (psX h px)
  refine x_iconst (-1) dX0_mustBe_10 (by decide) ?_
  refine x_callS [.int r_4, .int (-1)] 2 dX0_mustBe_11 (k_X0_must G g_2 hw) q294 q295 q104 q296 (by decide) rfl rfl ⟨(Nat.le_of_ble_eq_true rfl), (Nat.le_of_ble_eq_true rfl)⟩ (Nat.le_of_ble_eq_true rfl) ⟨(Nat.le_of_ble_eq_true rfl), (Nat.le_of_ble_eq_true rfl)⟩ (fun v9 h_6 hv9 => ?_) (fun q9 h9 ci9 n9 x9 hx9 hs9 hc9 => xt_out hs9 hc9 (fun z hz => by cases hz) (Nat.le_of_ble_eq_true rfl) (Nat.le_of_ble_eq_true rfl) ⟨hx9.1, Ext.tr e_3 hx9.2.1, hx9.2.2⟩)
  obtain ⟨rfl, g_7, e_8, hw⟩ := hv9
  have hw := hw g_7 e_8
  show X ρ K_X0_mustBe 14 [(0, .int p1), (1, .int p2)] [] h_6 1 7 (phV h post) (psX h px)
  exact x_vret dX0_mustBe_14 rfl (Nat.le_of_ble_eq_true rfl) (Nat.le_of_ble_eq_true rfl) ⟨rfl, g_7, (Ext.tr e_3 e_8), hw⟩

/-! BeforeTheEnd.mustBeWord(I)V -/
def wp_X0_mustBeWord (post : Hp → Prop) (px : Nat → Hp → Prop) (h : Hp) (p1 : Int32) : Prop := (wp_X0_mustBe (fun h_1 => GI h_1 → Ext h h_1 → (post h_1)) px h p1 (gi h (gr h 1 1) 0))
abbrev rm_X0_mustBeWord : Room := ({ frames := 11, cells := 1, slots := 7, locals := 263 })
abbrev K_X0_mustBeWord : Kx := ("BeforeTheEnd", cX0_mustBeWord, 2, (Option.none : Option Jvm.ClassFile.FieldType), rm_X0_mustBeWord, [], false)
set_option maxHeartbeats 4000000 in
theorem k_X0_mustBeWord {ρ : Rho} {h : Hp} {post : Hp → Prop} {px : Nat → Hp → Prop} {p1 : Int32} (G : G0 ρ) (g : GI h) (hw : wp_X0_mustBeWord post px h p1) : Con ρ yX0_mustBeWord (ws_ yX0_mustBeWord cX0_mustBeWord 2 (Option.none : Option Jvm.ClassFile.FieldType)) rm_X0_mustBeWord [.ref (mr ρ 1), .int p1] h (phV h post) (psX h px) := by
  refine con_of (own := "BeforeTheEnd") (isI := false) (l0 := [(0, .ref (mr ρ 1)), (1, .int p1)]) (by decide) rfl (fun z => by cases z) (Nat.le_of_ble_eq_true rfl) rfl (fun _ => ?_)
  show X ρ K_X0_mustBeWord 0 [(0, .ref (mr ρ 1)), (1, .int p1)] [] h 0 0 (phV h post) (psX h px)
  refine x_iload_n 1 dX0_mustBeWord_0 rfl ?_
  refine x_aload_n 0 dX0_mustBeWord_1 rfl ?_
  refine x_get (ci := 0) (v := .ref (mr ρ (gr h 1 1))) 1 dX0_mustBeWord_2 (GI.s g (t := (10, 0)) rfl (by decide)) rfl in_X0 (by decide) q188 (Or.inl rfl) (fv_rc rfl rfl (isTree.nz (GI.t g) (GI.live g))) ?_
  refine x_getN (ci := 1) (v := .int (gi h (gr h 1 1) 0)) 0 dX0_mustBeWord_5 (isTree.s (GI.t g)) rfl in_X1 (by decide) q147 (Or.inl rfl) (fv_i rfl) ?_
  refine x_callS [.int p1, .int (gi h (gr h 1 1) 0)] 2 dX0_mustBeWord_8 (k_X0_mustBe G g hw) q742 q743 q104 q744 (by decide) rfl rfl ⟨(Nat.le_of_ble_eq_true rfl), (Nat.le_of_ble_eq_true rfl)⟩ (Nat.le_of_ble_eq_true rfl) ⟨(Nat.le_of_ble_eq_true rfl), (Nat.le_of_ble_eq_true rfl)⟩ (fun v9 h_1 hv9 => ?_) (fun q9 h9 ci9 n9 x9 hx9 hs9 hc9 => xt_out hs9 hc9 (fun z hz => by cases hz) (Nat.le_of_ble_eq_true rfl) (Nat.le_of_ble_eq_true rfl) ⟨hx9.1, Ext.tr Ext.rf hx9.2.1, hx9.2.2⟩)
  obtain ⟨rfl, g_2, e_3, hw⟩ := hv9
  have hw := hw g_2 e_3
  show X ρ K_X0_mustBeWord 11 [(0, .ref (mr ρ 1)), (1, .int p1)] [] h_1 1 7 (phV h post) (psX h px)
  exact x_vret dX0_mustBeWord_11 rfl (Nat.le_of_ble_eq_true rfl) (Nat.le_of_ble_eq_true rfl) ⟨rfl, g_2, e_3, hw⟩

/-! BeforeTheEnd.wordTold(II)I -/
def wp_X0_wordTold (post : Int32 → Hp → Prop) (px : Nat → Hp → Prop) (h : Hp) (p1 : Int32) (p2 : Int32) : Prop := (wp_X0_mustBeWord (fun h_1 => GI h_1 → Ext h h_1 → (wp_X0_in (fun r_9 h_6 => GI h_6 → Ext h_1 h_6 → (wp_X0_must (fun h_11 => GI h_11 → Ext h_6 h_11 → (((¬ p2 = 0 → ((¬ p2 = 1 → ((¬ p2 = 2 → ((¬ p2 = 3 → (vp_in p1 24)) ∧ (p2 = 3 → (vp_in p1 24)))) ∧ (p2 = 2 → (vp_in p1 24)))) ∧ (p2 = 1 → (vp_in p1 24)))) ∧ (p2 = 0 → (vp_in p1 24))) ∧ (∀ z_25 : Int32, z_25 = ((if p2 = 0 then (gi h_11 ((gr h_11 1 1) + 1) (Int32.toNatClampNeg p1)) else (if p2 = 1 then (gi h_11 ((gr h_11 1 1) + 2) (Int32.toNatClampNeg p1)) else (if p2 = 2 then (gi h_11 ((gr h_11 1 1) + 3) (Int32.toNatClampNeg p1)) else (if p2 = 3 then (gi h_11 ((gr h_11 1 1) + 4) (Int32.toNatClampNeg p1)) else (gi h_11 ((gr h_11 1 1) + 5) (Int32.toNatClampNeg p1)))))) : Int32) → (post z_25 h_11)))) px h_6 r_9 (-2))) h_1 (Int32.toInt64 p2) 0 4)) px h p1)
abbrev rm_X0_wordTold : Room := ({ frames := 12, cells := 2, slots := 14, locals := 284 })
abbrev K_X0_wordTold : Kx := ("BeforeTheEnd", cX0_wordTold, 3, (Option.some Jvm.ClassFile.FieldType.int), rm_X0_wordTold, [], false)
set_option maxHeartbeats 4000000 in
theorem k_X0_wordTold {ρ : Rho} {h : Hp} {post : Int32 → Hp → Prop} {px : Nat → Hp → Prop} {p1 : Int32} {p2 : Int32} (G : G0 ρ) (g : GI h) (hw : wp_X0_wordTold post px h p1 p2) : Con ρ yX0_wordTold (ws_ yX0_wordTold cX0_wordTold 3 (Option.some Jvm.ClassFile.FieldType.int)) rm_X0_wordTold [.ref (mr ρ 1), .int p1, .int p2] h (phI h post) (psX h px) := by
  refine con_of (own := "BeforeTheEnd") (isI := false) (l0 := [(0, .ref (mr ρ 1)), (1, .int p1), (2, .int p2)]) (by decide) rfl (fun z => by cases z) (Nat.le_of_ble_eq_true rfl) rfl (fun _ => ?_)
  show X ρ K_X0_wordTold 0 [(0, .ref (mr ρ 1)), (1, .int p1), (2, .int p2)] [] h 0 0 (phI h post) (psX h px)
  refine x_aload_n 0 dX0_wordTold_0 rfl ?_
  refine x_iload_n 1 dX0_wordTold_1 rfl ?_
  refine x_callV (ci := 0) [.int p1] 1 dX0_wordTold_2 (k_X0_mustBeWord G g hw) (GI.s g (t := (10, 0)) rfl (by decide)) rfl q738 q740 qs15 q104 q741 (by decide) rfl rfl ⟨(Nat.le_of_ble_eq_true rfl), (Nat.le_of_ble_eq_true rfl)⟩ (Nat.le_of_ble_eq_true rfl) ⟨(Nat.le_of_ble_eq_true rfl), (Nat.le_of_ble_eq_true rfl)⟩ (fun v9 h_1 hv9 => ?_) (fun q9 h9 ci9 n9 x9 hx9 hs9 hc9 => xt_out hs9 hc9 (fun z hz => by cases hz) (Nat.le_of_ble_eq_true rfl) (Nat.le_of_ble_eq_true rfl) ⟨hx9.1, Ext.tr Ext.rf hx9.2.1, hx9.2.2⟩)
  obtain ⟨rfl, g_2, e_3, hw⟩ := hv9
  have hw := hw g_2 e_3
  show X ρ K_X0_wordTold 5 [(0, .ref (mr ρ 1)), (1, .int p1), (2, .int p2)] [] h_1 1 7 (phI h post) (psX h px)
  refine x_iload_n 2 dX0_wordTold_5 rfl ?_
  refine x_i2l dX0_wordTold_6 ?_
  refine x_lconst 0 dX0_wordTold_7 (by decide) ?_
  refine x_ldc2 dX0_wordTold_8 q746 ?_
  refine x_callS [.long (Int32.toInt64 p2), .long 0, .long 4] 3 dX0_wordTold_11 (k_X0_in G g_2 hw) q745 q464 q104 q465 (by decide) rfl rfl ⟨(Nat.le_of_ble_eq_true rfl), (Nat.le_of_ble_eq_true rfl)⟩ (Nat.le_of_ble_eq_true rfl) ⟨(Nat.le_of_ble_eq_true rfl), (Nat.le_of_ble_eq_true rfl)⟩ (fun v9 h_6 hv9 => ?_) (fun _ _ _ _ _ z _ _ => False.elim z)
  obtain ⟨r_9, rfl, g_7, e_8, b_10, hw⟩ := hv9
  have hw := hw g_7 e_8
  show X ρ K_X0_wordTold 14 [(0, .ref (mr ρ 1)), (1, .int p1), (2, .int p2)] [.int r_9] h_6 1 7 (phI h post) (psX h px)
  refine x_bipush (-2) dX0_wordTold_14 (by decide) ?_
  refine x_callS [.int r_9, .int (-2)] 2 dX0_wordTold_16 (k_X0_must G g_7 hw) q294 q295 q104 q296 (by decide) rfl rfl ⟨(Nat.le_of_ble_eq_true rfl), (Nat.le_of_ble_eq_true rfl)⟩ (Nat.le_of_ble_eq_true rfl) ⟨(Nat.le_of_ble_eq_true rfl), (Nat.le_of_ble_eq_true rfl)⟩ (fun v9 h_11 hv9 => ?_) (fun q9 h9 ci9 n9 x9 hx9 hs9 hc9 => xt_out hs9 hc9 (fun z hz => by cases hz) (Nat.le_of_ble_eq_true rfl) (Nat.le_of_ble_eq_true rfl) ⟨hx9.1, Ext.tr (Ext.tr e_3 e_8) hx9.2.1, hx9.2.2⟩)
  obtain ⟨rfl, g_12, e_13, hw⟩ := hv9
  have hw := hw g_12 e_13
  show X ρ K_X0_wordTold 19 [(0, .ref (mr ρ 1)), (1, .int p1), (2, .int p2)] [] h_11 2 14 (phI h post) (psX h px)
  refine x_iload_n 2 dX0_wordTold_19 rfl ?_
  obtain ⟨hO_27, hw⟩ := hw
  have kJ_26 : ∀ z_25 : Int32, z_25 = ((if p2 = 0 then (gi h_11 ((gr h_11 1 1) + 1) (Int32.toNatClampNeg p1)) else (if p2 = 1 then (gi h_11 ((gr h_11 1 1) + 2) (Int32.toNatClampNeg p1)) else (if p2 = 2 then (gi h_11 ((gr h_11 1 1) + 3) (Int32.toNatClampNeg p1)) else (if p2 = 3 then (gi h_11 ((gr h_11 1 1) + 4) (Int32.toNatClampNeg p1)) else (gi h_11 ((gr h_11 1 1) + 5) (Int32.toNatClampNeg p1)))))) : Int32) → X ρ K_X0_wordTold 95 [(0, .ref (mr ρ 1)), (1, .int p1), (2, .int p2)] [.int z_25] h_11 2 14 (phI h post) (psX h px) := fun z_25 ez_25 => by
    have hw := hw z_25 ez_25
    exact x_iret dX0_wordTold_95 rfl (Nat.le_of_ble_eq_true rfl) (Nat.le_of_ble_eq_true rfl) ⟨_, rfl, g_12, (Ext.tr (Ext.tr e_3 e_8) e_13), hw⟩
  obtain ⟨hO_270, hO_271⟩ := hO_27
  refine x_if_ne 35 dX0_wordTold_20 (by decide) (fun c_16 => ?_) (fun c_16 => ?_)
  · have hO_27_ := hO_270 c_16
    obtain ⟨hO_27_0, hO_27_1⟩ := hO_27_
    refine x_iload_n 2 dX0_wordTold_35 rfl ?_
    refine x_iconst 1 dX0_wordTold_36 (by decide) ?_
    refine x_icmp_ne 52 dX0_wordTold_37 (by decide) (fun c_17 => ?_) (fun c_17 => ?_)
    · have hO_27__ := hO_27_0 c_17
      obtain ⟨hO_27__0, hO_27__1⟩ := hO_27__
      refine x_iload_n 2 dX0_wordTold_52 rfl ?_
      refine x_iconst 2 dX0_wordTold_53 (by decide) ?_
      refine x_icmp_ne 69 dX0_wordTold_54 (by decide) (fun c_18 => ?_) (fun c_18 => ?_)
      · have hO_27___ := hO_27__0 c_18
        obtain ⟨hO_27___0, hO_27___1⟩ := hO_27___
        refine x_iload_n 2 dX0_wordTold_69 rfl ?_
        refine x_iconst 3 dX0_wordTold_70 (by decide) ?_
        refine x_icmp_ne 86 dX0_wordTold_71 (by decide) (fun c_19 => ?_) (fun c_19 => ?_)
        · have hO_27____ := hO_27___0 c_19
          have b_20 := hO_27____
          refine x_aload_n 0 dX0_wordTold_86 rfl ?_
          refine x_get (ci := 0) (v := .ref (mr ρ (gr h_11 1 1))) 1 dX0_wordTold_87 (GI.s g_12 (t := (10, 0)) rfl (by decide)) rfl in_X0 (by decide) q188 (Or.inl rfl) (fv_rc rfl rfl (isTree.nz (GI.t g_12) (GI.live g_12))) ?_
          refine x_getN (ci := 1) (v := .ref (mr ρ ((gr h_11 1 1) + 5))) 5 dX0_wordTold_90 (isTree.s (GI.t g_12)) rfl in_X1 (by decide) q157 (Or.inl rfl) (fv_rc rfl (isTree.p (GI.t g_12) 5 (by decide) (by decide)) (Nat.succ_ne_zero _)) ?_
          refine x_iload_n 1 dX0_wordTold_93 rfl ?_
          refine x_iald (n := 24) (j := (Int32.toNatClampNeg p1)) dX0_wordTold_94 rfl (isTree.a (GI.t g_12) 5 (by decide) (by decide)) b_20 ?_
          exact kJ_26 _ (((if_neg c_16).trans ((if_neg c_17).trans ((if_neg c_18).trans (if_neg c_19))))).symm
        · have hO_27____ := hO_27___1 c_19
          have b_21 := hO_27____
          refine x_aload_n 0 dX0_wordTold_74 rfl ?_
          refine x_get (ci := 0) (v := .ref (mr ρ (gr h_11 1 1))) 1 dX0_wordTold_75 (GI.s g_12 (t := (10, 0)) rfl (by decide)) rfl in_X0 (by decide) q188 (Or.inl rfl) (fv_rc rfl rfl (isTree.nz (GI.t g_12) (GI.live g_12))) ?_
          refine x_getN (ci := 1) (v := .ref (mr ρ ((gr h_11 1 1) + 4))) 4 dX0_wordTold_78 (isTree.s (GI.t g_12)) rfl in_X1 (by decide) q155 (Or.inl rfl) (fv_rc rfl (isTree.p (GI.t g_12) 4 (by decide) (by decide)) (Nat.succ_ne_zero _)) ?_
          refine x_iload_n 1 dX0_wordTold_81 rfl ?_
          refine x_iald (n := 24) (j := (Int32.toNatClampNeg p1)) dX0_wordTold_82 rfl (isTree.a (GI.t g_12) 4 (by decide) (by decide)) b_21 ?_
          refine x_goto 95 dX0_wordTold_83 (by decide) ?_
          exact kJ_26 _ (((if_neg c_16).trans ((if_neg c_17).trans ((if_neg c_18).trans (if_pos c_19))))).symm
      · have hO_27___ := hO_27__1 c_18
        have b_22 := hO_27___
        refine x_aload_n 0 dX0_wordTold_57 rfl ?_
        refine x_get (ci := 0) (v := .ref (mr ρ (gr h_11 1 1))) 1 dX0_wordTold_58 (GI.s g_12 (t := (10, 0)) rfl (by decide)) rfl in_X0 (by decide) q188 (Or.inl rfl) (fv_rc rfl rfl (isTree.nz (GI.t g_12) (GI.live g_12))) ?_
        refine x_getN (ci := 1) (v := .ref (mr ρ ((gr h_11 1 1) + 3))) 3 dX0_wordTold_61 (isTree.s (GI.t g_12)) rfl in_X1 (by decide) q153 (Or.inl rfl) (fv_rc rfl (isTree.p (GI.t g_12) 3 (by decide) (by decide)) (Nat.succ_ne_zero _)) ?_
        refine x_iload_n 1 dX0_wordTold_64 rfl ?_
        refine x_iald (n := 24) (j := (Int32.toNatClampNeg p1)) dX0_wordTold_65 rfl (isTree.a (GI.t g_12) 3 (by decide) (by decide)) b_22 ?_
        refine x_goto 95 dX0_wordTold_66 (by decide) ?_
        exact kJ_26 _ (((if_neg c_16).trans ((if_neg c_17).trans (if_pos c_18)))).symm
    · have hO_27__ := hO_27_1 c_17
      have b_23 := hO_27__
      refine x_aload_n 0 dX0_wordTold_40 rfl ?_
      refine x_get (ci := 0) (v := .ref (mr ρ (gr h_11 1 1))) 1 dX0_wordTold_41 (GI.s g_12 (t := (10, 0)) rfl (by decide)) rfl in_X0 (by decide) q188 (Or.inl rfl) (fv_rc rfl rfl (isTree.nz (GI.t g_12) (GI.live g_12))) ?_
      refine x_getN (ci := 1) (v := .ref (mr ρ ((gr h_11 1 1) + 2))) 2 dX0_wordTold_44 (isTree.s (GI.t g_12)) rfl in_X1 (by decide) q151 (Or.inl rfl) (fv_rc rfl (isTree.p (GI.t g_12) 2 (by decide) (by decide)) (Nat.succ_ne_zero _)) ?_
      refine x_iload_n 1 dX0_wordTold_47 rfl ?_
      refine x_iald (n := 24) (j := (Int32.toNatClampNeg p1)) dX0_wordTold_48 rfl (isTree.a (GI.t g_12) 2 (by decide) (by decide)) b_23 ?_
      refine x_goto 95 dX0_wordTold_49 (by decide) ?_
      exact kJ_26 _ (((if_neg c_16).trans (if_pos c_17))).symm
  · have hO_27_ := hO_271 c_16
    have b_24 := hO_27_
    refine x_aload_n 0 dX0_wordTold_23 rfl ?_
    refine x_get (ci := 0) (v := .ref (mr ρ (gr h_11 1 1))) 1 dX0_wordTold_24 (GI.s g_12 (t := (10, 0)) rfl (by decide)) rfl in_X0 (by decide) q188 (Or.inl rfl) (fv_rc rfl rfl (isTree.nz (GI.t g_12) (GI.live g_12))) ?_
    refine x_getN (ci := 1) (v := .ref (mr ρ ((gr h_11 1 1) + 1))) 1 dX0_wordTold_27 (isTree.s (GI.t g_12)) rfl in_X1 (by decide) q149 (Or.inl rfl) (fv_rc rfl (isTree.p (GI.t g_12) 1 (by decide) (by decide)) (Nat.succ_ne_zero _)) ?_
    refine x_iload_n 1 dX0_wordTold_30 rfl ?_
    refine x_iald (n := 24) (j := (Int32.toNatClampNeg p1)) dX0_wordTold_31 rfl (isTree.a (GI.t g_12) 1 (by decide) (by decide)) b_24 ?_
    refine x_goto 95 dX0_wordTold_32 (by decide) ?_
    exact kJ_26 _ ((if_pos c_16)).symm

/-! BeforeTheEnd.mustBePlayer(I)V -/
def wp_X0_mustBePlayer (post : Hp → Prop) (px : Nat → Hp → Prop) (h : Hp) (p1 : Int32) : Prop := (wp_X0_mustBe (fun h_1 => GI h_1 → Ext h h_1 → (post h_1)) px h p1 (gi h 1 3))
abbrev rm_X0_mustBePlayer : Room := ({ frames := 11, cells := 1, slots := 7, locals := 263 })
abbrev K_X0_mustBePlayer : Kx := ("BeforeTheEnd", cX0_mustBePlayer, 2, (Option.none : Option Jvm.ClassFile.FieldType), rm_X0_mustBePlayer, [], false)
set_option maxHeartbeats 4000000 in
theorem k_X0_mustBePlayer {ρ : Rho} {h : Hp} {post : Hp → Prop} {px : Nat → Hp → Prop} {p1 : Int32} (G : G0 ρ) (g : GI h) (hw : wp_X0_mustBePlayer post px h p1) : Con ρ yX0_mustBePlayer (ws_ yX0_mustBePlayer cX0_mustBePlayer 2 (Option.none : Option Jvm.ClassFile.FieldType)) rm_X0_mustBePlayer [.ref (mr ρ 1), .int p1] h (phV h post) (psX h px) := by
  refine con_of (own := "BeforeTheEnd") (isI := false) (l0 := [(0, .ref (mr ρ 1)), (1, .int p1)]) (by decide) rfl (fun z => by cases z) (Nat.le_of_ble_eq_true rfl) rfl (fun _ => ?_)
  show X ρ K_X0_mustBePlayer 0 [(0, .ref (mr ρ 1)), (1, .int p1)] [] h 0 0 (phV h post) (psX h px)
  refine x_iload_n 1 dX0_mustBePlayer_0 rfl ?_
  refine x_aload_n 0 dX0_mustBePlayer_1 rfl ?_
  refine x_get (ci := 0) (v := .int (gi h 1 3)) 3 dX0_mustBePlayer_2 (GI.s g (t := (10, 0)) rfl (by decide)) rfl in_X0 (by decide) q190 (Or.inl rfl) (fv_i rfl) ?_
  refine x_callS [.int p1, .int (gi h 1 3)] 2 dX0_mustBePlayer_5 (k_X0_mustBe G g hw) q742 q743 q104 q744 (by decide) rfl rfl ⟨(Nat.le_of_ble_eq_true rfl), (Nat.le_of_ble_eq_true rfl)⟩ (Nat.le_of_ble_eq_true rfl) ⟨(Nat.le_of_ble_eq_true rfl), (Nat.le_of_ble_eq_true rfl)⟩ (fun v9 h_1 hv9 => ?_) (fun q9 h9 ci9 n9 x9 hx9 hs9 hc9 => xt_out hs9 hc9 (fun z hz => by cases hz) (Nat.le_of_ble_eq_true rfl) (Nat.le_of_ble_eq_true rfl) ⟨hx9.1, Ext.tr Ext.rf hx9.2.1, hx9.2.2⟩)
  obtain ⟨rfl, g_2, e_3, hw⟩ := hv9
  have hw := hw g_2 e_3
  show X ρ K_X0_mustBePlayer 8 [(0, .ref (mr ρ 1)), (1, .int p1)] [] h_1 1 7 (phV h post) (psX h px)
  exact x_vret dX0_mustBePlayer_8 rfl (Nat.le_of_ble_eq_true rfl) (Nat.le_of_ble_eq_true rfl) ⟨rfl, g_2, e_3, hw⟩

/-! BeforeTheEnd$Ends.kind()I on an object of class 8 -/
def wp_X11_kind_c8 (post : Int32 → Hp → Prop) (h : Hp) (r0 : Nat) : Prop := (post 0 h)
abbrev rm_X11_kind_c8 : Room := ({ frames := 1, cells := 0, slots := 0, locals := 60 })
abbrev K_X11_kind_c8 : Kx := ("BeforeTheEnd$Ends", cX11_kind, 1, (Option.some Jvm.ClassFile.FieldType.int), rm_X11_kind_c8, [], false)
set_option maxHeartbeats 4000000 in
theorem k_X11_kind_c8 {ρ : Rho} {h : Hp} {post : Int32 → Hp → Prop} {r0 : Nat} (G : G0 ρ) (g : GI h) (fr0 : sh h r0 = (18, 0)) (hw : wp_X11_kind_c8 post h r0) : Con ρ yX11_kind (ws_ yX11_kind cX11_kind 1 (Option.some Jvm.ClassFile.FieldType.int)) rm_X11_kind_c8 [.ref (mr ρ r0)] h (phI h post) psN := by
  refine con_of (own := "BeforeTheEnd$Ends") (isI := false) (l0 := [(0, .ref (mr ρ r0))]) (by decide) rfl (fun z => by cases z) (Nat.le_of_ble_eq_true rfl) rfl (fun _ => ?_)
  show X ρ K_X11_kind_c8 0 [(0, .ref (mr ρ r0))] [] h 0 0 (phI h post) psN
  refine x_iconst 0 dX11_kind_0 (by decide) ?_
  exact x_iret dX11_kind_1 rfl (Nat.le_of_ble_eq_true rfl) (Nat.le_of_ble_eq_true rfl) ⟨_, rfl, g, Ext.rf, hw⟩

/-! BeforeTheEnd$Sure.kind()I on an object of class 9 -/
def wp_X12_kind_c9 (post : Int32 → Hp → Prop) (h : Hp) (r0 : Nat) : Prop := (post 1 h)
abbrev rm_X12_kind_c9 : Room := ({ frames := 1, cells := 0, slots := 0, locals := 60 })
abbrev K_X12_kind_c9 : Kx := ("BeforeTheEnd$Sure", cX12_kind, 1, (Option.some Jvm.ClassFile.FieldType.int), rm_X12_kind_c9, [], false)
set_option maxHeartbeats 4000000 in
theorem k_X12_kind_c9 {ρ : Rho} {h : Hp} {post : Int32 → Hp → Prop} {r0 : Nat} (G : G0 ρ) (g : GI h) (fr0 : sh h r0 = (19, 0)) (hw : wp_X12_kind_c9 post h r0) : Con ρ yX12_kind (ws_ yX12_kind cX12_kind 1 (Option.some Jvm.ClassFile.FieldType.int)) rm_X12_kind_c9 [.ref (mr ρ r0)] h (phI h post) psN := by
  refine con_of (own := "BeforeTheEnd$Sure") (isI := false) (l0 := [(0, .ref (mr ρ r0))]) (by decide) rfl (fun z => by cases z) (Nat.le_of_ble_eq_true rfl) rfl (fun _ => ?_)
  show X ρ K_X12_kind_c9 0 [(0, .ref (mr ρ r0))] [] h 0 0 (phI h post) psN
  refine x_iconst 1 dX12_kind_0 (by decide) ?_
  exact x_iret dX12_kind_1 rfl (Nat.le_of_ble_eq_true rfl) (Nat.le_of_ble_eq_true rfl) ⟨_, rfl, g, Ext.rf, hw⟩

/-! BeforeTheEnd$Bold.kind()I on an object of class 10 -/
def wp_X13_kind_c10 (post : Int32 → Hp → Prop) (h : Hp) (r0 : Nat) : Prop := (post 2 h)
abbrev rm_X13_kind_c10 : Room := ({ frames := 1, cells := 0, slots := 0, locals := 60 })
abbrev K_X13_kind_c10 : Kx := ("BeforeTheEnd$Bold", cX13_kind, 1, (Option.some Jvm.ClassFile.FieldType.int), rm_X13_kind_c10, [], false)
set_option maxHeartbeats 4000000 in
theorem k_X13_kind_c10 {ρ : Rho} {h : Hp} {post : Int32 → Hp → Prop} {r0 : Nat} (G : G0 ρ) (g : GI h) (fr0 : sh h r0 = (20, 0)) (hw : wp_X13_kind_c10 post h r0) : Con ρ yX13_kind (ws_ yX13_kind cX13_kind 1 (Option.some Jvm.ClassFile.FieldType.int)) rm_X13_kind_c10 [.ref (mr ρ r0)] h (phI h post) psN := by
  refine con_of (own := "BeforeTheEnd$Bold") (isI := false) (l0 := [(0, .ref (mr ρ r0))]) (by decide) rfl (fun z => by cases z) (Nat.le_of_ble_eq_true rfl) rfl (fun _ => ?_)
  show X ρ K_X13_kind_c10 0 [(0, .ref (mr ρ r0))] [] h 0 0 (phI h post) psN
  refine x_iconst 2 dX13_kind_0 (by decide) ?_
  exact x_iret dX13_kind_1 rfl (Nat.le_of_ble_eq_true rfl) (Nat.le_of_ble_eq_true rfl) ⟨_, rfl, g, Ext.rf, hw⟩

/-! BeforeTheEnd$Learn.kind()I on an object of class 11 -/
def wp_X14_kind_c11 (post : Int32 → Hp → Prop) (h : Hp) (r0 : Nat) : Prop := (post 3 h)
abbrev rm_X14_kind_c11 : Room := ({ frames := 1, cells := 0, slots := 0, locals := 60 })
abbrev K_X14_kind_c11 : Kx := ("BeforeTheEnd$Learn", cX14_kind, 1, (Option.some Jvm.ClassFile.FieldType.int), rm_X14_kind_c11, [], false)
set_option maxHeartbeats 4000000 in
theorem k_X14_kind_c11 {ρ : Rho} {h : Hp} {post : Int32 → Hp → Prop} {r0 : Nat} (G : G0 ρ) (g : GI h) (fr0 : sh h r0 = (21, 0)) (hw : wp_X14_kind_c11 post h r0) : Con ρ yX14_kind (ws_ yX14_kind cX14_kind 1 (Option.some Jvm.ClassFile.FieldType.int)) rm_X14_kind_c11 [.ref (mr ρ r0)] h (phI h post) psN := by
  refine con_of (own := "BeforeTheEnd$Learn") (isI := false) (l0 := [(0, .ref (mr ρ r0))]) (by decide) rfl (fun z => by cases z) (Nat.le_of_ble_eq_true rfl) rfl (fun _ => ?_)
  show X ρ K_X14_kind_c11 0 [(0, .ref (mr ρ r0))] [] h 0 0 (phI h post) psN
  refine x_iconst 3 dX14_kind_0 (by decide) ?_
  exact x_iret dX14_kind_1 rfl (Nat.le_of_ble_eq_true rfl) (Nat.le_of_ble_eq_true rfl) ⟨_, rfl, g, Ext.rf, hw⟩

/-! BeforeTheEnd$ToldPlayer.kind()I on an object of class 12 -/
def wp_X15_kind_c12 (post : Int32 → Hp → Prop) (h : Hp) (r0 : Nat) : Prop := (post 4 h)
abbrev rm_X15_kind_c12 : Room := ({ frames := 1, cells := 0, slots := 0, locals := 60 })
abbrev K_X15_kind_c12 : Kx := ("BeforeTheEnd$ToldPlayer", cX15_kind, 1, (Option.some Jvm.ClassFile.FieldType.int), rm_X15_kind_c12, [], false)
set_option maxHeartbeats 4000000 in
theorem k_X15_kind_c12 {ρ : Rho} {h : Hp} {post : Int32 → Hp → Prop} {r0 : Nat} (G : G0 ρ) (g : GI h) (fr0 : sh h r0 = (22, 0)) (hw : wp_X15_kind_c12 post h r0) : Con ρ yX15_kind (ws_ yX15_kind cX15_kind 1 (Option.some Jvm.ClassFile.FieldType.int)) rm_X15_kind_c12 [.ref (mr ρ r0)] h (phI h post) psN := by
  refine con_of (own := "BeforeTheEnd$ToldPlayer") (isI := false) (l0 := [(0, .ref (mr ρ r0))]) (by decide) rfl (fun z => by cases z) (Nat.le_of_ble_eq_true rfl) rfl (fun _ => ?_)
  show X ρ K_X15_kind_c12 0 [(0, .ref (mr ρ r0))] [] h 0 0 (phI h post) psN
  refine x_iconst 4 dX15_kind_0 (by decide) ?_
  exact x_iret dX15_kind_1 rfl (Nat.le_of_ble_eq_true rfl) (Nat.le_of_ble_eq_true rfl) ⟨_, rfl, g, Ext.rf, hw⟩

/-! BeforeTheEnd$Alone.kind()I on an object of class 13 -/
def wp_X16_kind_c13 (post : Int32 → Hp → Prop) (h : Hp) (r0 : Nat) : Prop := (post 5 h)
abbrev rm_X16_kind_c13 : Room := ({ frames := 1, cells := 0, slots := 0, locals := 60 })
abbrev K_X16_kind_c13 : Kx := ("BeforeTheEnd$Alone", cX16_kind, 1, (Option.some Jvm.ClassFile.FieldType.int), rm_X16_kind_c13, [], false)
set_option maxHeartbeats 4000000 in
theorem k_X16_kind_c13 {ρ : Rho} {h : Hp} {post : Int32 → Hp → Prop} {r0 : Nat} (G : G0 ρ) (g : GI h) (fr0 : sh h r0 = (23, 0)) (hw : wp_X16_kind_c13 post h r0) : Con ρ yX16_kind (ws_ yX16_kind cX16_kind 1 (Option.some Jvm.ClassFile.FieldType.int)) rm_X16_kind_c13 [.ref (mr ρ r0)] h (phI h post) psN := by
  refine con_of (own := "BeforeTheEnd$Alone") (isI := false) (l0 := [(0, .ref (mr ρ r0))]) (by decide) rfl (fun z => by cases z) (Nat.le_of_ble_eq_true rfl) rfl (fun _ => ?_)
  show X ρ K_X16_kind_c13 0 [(0, .ref (mr ρ r0))] [] h 0 0 (phI h post) psN
  refine x_iconst 5 dX16_kind_0 (by decide) ?_
  exact x_iret dX16_kind_1 rfl (Nat.le_of_ble_eq_true rfl) (Nat.le_of_ble_eq_true rfl) ⟨_, rfl, g, Ext.rf, hw⟩

/-! BeforeTheEnd$Player.kind by the class of the object -/
def wv_X10_kind_isPl (post : Int32 → Hp → Prop) (h : Hp) (r0 : Nat) : Prop := (sh h r0 = (18, 0) → wp_X11_kind_c8 post h r0) ∧ (sh h r0 = (19, 0) → wp_X12_kind_c9 post h r0) ∧ (sh h r0 = (20, 0) → wp_X13_kind_c10 post h r0) ∧ (sh h r0 = (21, 0) → wp_X14_kind_c11 post h r0) ∧ (sh h r0 = (22, 0) → wp_X15_kind_c12 post h r0) ∧ (sh h r0 = (23, 0) → wp_X16_kind_c13 post h r0)

/-! BeforeTheEnd$Player.set()I on an object of class 8 -/
def wp_X10_set_c8 (post : Int32 → Hp → Prop) (h : Hp) (r0 : Nat) : Prop := (post 0 h)
abbrev rm_X10_set_c8 : Room := ({ frames := 1, cells := 0, slots := 0, locals := 60 })
abbrev K_X10_set_c8 : Kx := ("BeforeTheEnd$Player", cX10_set, 1, (Option.some Jvm.ClassFile.FieldType.int), rm_X10_set_c8, [], false)
set_option maxHeartbeats 4000000 in
theorem k_X10_set_c8 {ρ : Rho} {h : Hp} {post : Int32 → Hp → Prop} {r0 : Nat} (G : G0 ρ) (g : GI h) (fr0 : sh h r0 = (18, 0)) (hw : wp_X10_set_c8 post h r0) : Con ρ yX10_set (ws_ yX10_set cX10_set 1 (Option.some Jvm.ClassFile.FieldType.int)) rm_X10_set_c8 [.ref (mr ρ r0)] h (phI h post) psN := by
  refine con_of (own := "BeforeTheEnd$Player") (isI := false) (l0 := [(0, .ref (mr ρ r0))]) (by decide) rfl (fun z => by cases z) (Nat.le_of_ble_eq_true rfl) rfl (fun _ => ?_)
  show X ρ K_X10_set_c8 0 [(0, .ref (mr ρ r0))] [] h 0 0 (phI h post) psN
  refine x_iconst 0 dX10_set_0 (by decide) ?_
  exact x_iret dX10_set_1 rfl (Nat.le_of_ble_eq_true rfl) (Nat.le_of_ble_eq_true rfl) ⟨_, rfl, g, Ext.rf, hw⟩

/-! BeforeTheEnd$Player.set()I on an object of class 9 -/
def wp_X10_set_c9 (post : Int32 → Hp → Prop) (h : Hp) (r0 : Nat) : Prop := (post 0 h)
abbrev rm_X10_set_c9 : Room := ({ frames := 1, cells := 0, slots := 0, locals := 60 })
abbrev K_X10_set_c9 : Kx := ("BeforeTheEnd$Player", cX10_set, 1, (Option.some Jvm.ClassFile.FieldType.int), rm_X10_set_c9, [], false)
set_option maxHeartbeats 4000000 in
theorem k_X10_set_c9 {ρ : Rho} {h : Hp} {post : Int32 → Hp → Prop} {r0 : Nat} (G : G0 ρ) (g : GI h) (fr0 : sh h r0 = (19, 0)) (hw : wp_X10_set_c9 post h r0) : Con ρ yX10_set (ws_ yX10_set cX10_set 1 (Option.some Jvm.ClassFile.FieldType.int)) rm_X10_set_c9 [.ref (mr ρ r0)] h (phI h post) psN := by
  refine con_of (own := "BeforeTheEnd$Player") (isI := false) (l0 := [(0, .ref (mr ρ r0))]) (by decide) rfl (fun z => by cases z) (Nat.le_of_ble_eq_true rfl) rfl (fun _ => ?_)
  show X ρ K_X10_set_c9 0 [(0, .ref (mr ρ r0))] [] h 0 0 (phI h post) psN
  refine x_iconst 0 dX10_set_0 (by decide) ?_
  exact x_iret dX10_set_1 rfl (Nat.le_of_ble_eq_true rfl) (Nat.le_of_ble_eq_true rfl) ⟨_, rfl, g, Ext.rf, hw⟩

/-! BeforeTheEnd$Player.set()I on an object of class 10 -/
def wp_X10_set_c10 (post : Int32 → Hp → Prop) (h : Hp) (r0 : Nat) : Prop := (post 0 h)
abbrev rm_X10_set_c10 : Room := ({ frames := 1, cells := 0, slots := 0, locals := 60 })
abbrev K_X10_set_c10 : Kx := ("BeforeTheEnd$Player", cX10_set, 1, (Option.some Jvm.ClassFile.FieldType.int), rm_X10_set_c10, [], false)
set_option maxHeartbeats 4000000 in
theorem k_X10_set_c10 {ρ : Rho} {h : Hp} {post : Int32 → Hp → Prop} {r0 : Nat} (G : G0 ρ) (g : GI h) (fr0 : sh h r0 = (20, 0)) (hw : wp_X10_set_c10 post h r0) : Con ρ yX10_set (ws_ yX10_set cX10_set 1 (Option.some Jvm.ClassFile.FieldType.int)) rm_X10_set_c10 [.ref (mr ρ r0)] h (phI h post) psN := by
  refine con_of (own := "BeforeTheEnd$Player") (isI := false) (l0 := [(0, .ref (mr ρ r0))]) (by decide) rfl (fun z => by cases z) (Nat.le_of_ble_eq_true rfl) rfl (fun _ => ?_)
  show X ρ K_X10_set_c10 0 [(0, .ref (mr ρ r0))] [] h 0 0 (phI h post) psN
  refine x_iconst 0 dX10_set_0 (by decide) ?_
  exact x_iret dX10_set_1 rfl (Nat.le_of_ble_eq_true rfl) (Nat.le_of_ble_eq_true rfl) ⟨_, rfl, g, Ext.rf, hw⟩

/-! BeforeTheEnd$Player.set()I on an object of class 11 -/
def wp_X10_set_c11 (post : Int32 → Hp → Prop) (h : Hp) (r0 : Nat) : Prop := (post 0 h)
abbrev rm_X10_set_c11 : Room := ({ frames := 1, cells := 0, slots := 0, locals := 60 })
abbrev K_X10_set_c11 : Kx := ("BeforeTheEnd$Player", cX10_set, 1, (Option.some Jvm.ClassFile.FieldType.int), rm_X10_set_c11, [], false)
set_option maxHeartbeats 4000000 in
theorem k_X10_set_c11 {ρ : Rho} {h : Hp} {post : Int32 → Hp → Prop} {r0 : Nat} (G : G0 ρ) (g : GI h) (fr0 : sh h r0 = (21, 0)) (hw : wp_X10_set_c11 post h r0) : Con ρ yX10_set (ws_ yX10_set cX10_set 1 (Option.some Jvm.ClassFile.FieldType.int)) rm_X10_set_c11 [.ref (mr ρ r0)] h (phI h post) psN := by
  refine con_of (own := "BeforeTheEnd$Player") (isI := false) (l0 := [(0, .ref (mr ρ r0))]) (by decide) rfl (fun z => by cases z) (Nat.le_of_ble_eq_true rfl) rfl (fun _ => ?_)
  show X ρ K_X10_set_c11 0 [(0, .ref (mr ρ r0))] [] h 0 0 (phI h post) psN
  refine x_iconst 0 dX10_set_0 (by decide) ?_
  exact x_iret dX10_set_1 rfl (Nat.le_of_ble_eq_true rfl) (Nat.le_of_ble_eq_true rfl) ⟨_, rfl, g, Ext.rf, hw⟩

/-! BeforeTheEnd$ToldPlayer.set()I on an object of class 12 -/
def wp_X15_set_c12 (post : Int32 → Hp → Prop) (h : Hp) (r0 : Nat) : Prop := (post (gi h r0 3) h)
abbrev rm_X15_set_c12 : Room := ({ frames := 1, cells := 0, slots := 0, locals := 60 })
abbrev K_X15_set_c12 : Kx := ("BeforeTheEnd$ToldPlayer", cX15_set, 1, (Option.some Jvm.ClassFile.FieldType.int), rm_X15_set_c12, [], false)
set_option maxHeartbeats 4000000 in
theorem k_X15_set_c12 {ρ : Rho} {h : Hp} {post : Int32 → Hp → Prop} {r0 : Nat} (G : G0 ρ) (g : GI h) (fr0 : sh h r0 = (22, 0)) (hw : wp_X15_set_c12 post h r0) : Con ρ yX15_set (ws_ yX15_set cX15_set 1 (Option.some Jvm.ClassFile.FieldType.int)) rm_X15_set_c12 [.ref (mr ρ r0)] h (phI h post) psN := by
  refine con_of (own := "BeforeTheEnd$ToldPlayer") (isI := false) (l0 := [(0, .ref (mr ρ r0))]) (by decide) rfl (fun z => by cases z) (Nat.le_of_ble_eq_true rfl) rfl (fun _ => ?_)
  show X ρ K_X15_set_c12 0 [(0, .ref (mr ρ r0))] [] h 0 0 (phI h post) psN
  refine x_aload_n 0 dX15_set_0 rfl ?_
  refine x_get (ci := 12) (v := .int (gi h r0 3)) 3 dX15_set_1 fr0 rfl in_X15 (by decide) q666 (Or.inl rfl) (fv_i rfl) ?_
  exact x_iret dX15_set_4 rfl (Nat.le_of_ble_eq_true rfl) (Nat.le_of_ble_eq_true rfl) ⟨_, rfl, g, Ext.rf, hw⟩

/-! BeforeTheEnd$ToldPlayer.set()I on an object of class 13 -/
def wp_X15_set_c13 (post : Int32 → Hp → Prop) (h : Hp) (r0 : Nat) : Prop := (post (gi h r0 3) h)
abbrev rm_X15_set_c13 : Room := ({ frames := 1, cells := 0, slots := 0, locals := 60 })
abbrev K_X15_set_c13 : Kx := ("BeforeTheEnd$ToldPlayer", cX15_set, 1, (Option.some Jvm.ClassFile.FieldType.int), rm_X15_set_c13, [], false)
set_option maxHeartbeats 4000000 in
theorem k_X15_set_c13 {ρ : Rho} {h : Hp} {post : Int32 → Hp → Prop} {r0 : Nat} (G : G0 ρ) (g : GI h) (fr0 : sh h r0 = (23, 0)) (hw : wp_X15_set_c13 post h r0) : Con ρ yX15_set (ws_ yX15_set cX15_set 1 (Option.some Jvm.ClassFile.FieldType.int)) rm_X15_set_c13 [.ref (mr ρ r0)] h (phI h post) psN := by
  refine con_of (own := "BeforeTheEnd$ToldPlayer") (isI := false) (l0 := [(0, .ref (mr ρ r0))]) (by decide) rfl (fun z => by cases z) (Nat.le_of_ble_eq_true rfl) rfl (fun _ => ?_)
  show X ρ K_X15_set_c13 0 [(0, .ref (mr ρ r0))] [] h 0 0 (phI h post) psN
  refine x_aload_n 0 dX15_set_0 rfl ?_
  refine x_get (ci := 13) (v := .int (gi h r0 3)) 3 dX15_set_1 fr0 rfl in_X16 (by decide) q666 (Or.inl rfl) (fv_i rfl) ?_
  exact x_iret dX15_set_4 rfl (Nat.le_of_ble_eq_true rfl) (Nat.le_of_ble_eq_true rfl) ⟨_, rfl, g, Ext.rf, hw⟩

/-! BeforeTheEnd$Player.set by the class of the object -/
def wv_X10_set_isPl (post : Int32 → Hp → Prop) (h : Hp) (r0 : Nat) : Prop := (sh h r0 = (18, 0) → wp_X10_set_c8 post h r0) ∧ (sh h r0 = (19, 0) → wp_X10_set_c9 post h r0) ∧ (sh h r0 = (20, 0) → wp_X10_set_c10 post h r0) ∧ (sh h r0 = (21, 0) → wp_X10_set_c11 post h r0) ∧ (sh h r0 = (22, 0) → wp_X15_set_c12 post h r0) ∧ (sh h r0 = (23, 0) → wp_X15_set_c13 post h r0)

/-! BeforeTheEnd.playerTold(II)I -/
def w_X0_playerTold_34 (post : Int32 → Hp → Prop) (px : Nat → Hp → Prop) (z0 : Int32) (h : Hp) : Prop := (post z0 h)
def w_X0_playerTold_85 (post : Int32 → Hp → Prop) (px : Nat → Hp → Prop) (z0 : Int32) (h : Hp) : Prop := (post z0 h)
def w_X0_playerTold_77 (post : Int32 → Hp → Prop) (px : Nat → Hp → Prop) (x3 : Nat) (z0 : Int32) (h : Hp) : Prop := ((¬ z0 = 4 → (post 0 h)) ∧ (z0 = 4 → (wv_X10_set_isPl (fun r_5 h_2 => GI h_2 → Ext h h_2 → (w_X0_playerTold_85 post px r_5 h_2)) h x3)))
def wp_X0_playerTold (post : Int32 → Hp → Prop) (px : Nat → Hp → Prop) (h : Hp) (p1 : Int32) (p2 : Int32) : Prop := (wp_X0_mustBePlayer (fun h_1 => GI h_1 → Ext h h_1 → (wp_X0_in (fun r_9 h_6 => GI h_6 → Ext h_1 h_6 → (wp_X0_must (fun h_11 => GI h_11 → Ext h_6 h_11 → (vp_in p1 4 ∧ (isPl h_11 (gr h_11 10 (Int32.toNatClampNeg p1)) ∧ ((¬ p2 = 0 → ((¬ p2 = 1 → ((¬ p2 = 2 → ((¬ p2 = 3 → (wv_X10_kind_isPl (fun r_25 h_22 => GI h_22 → Ext h_11 h_22 → (w_X0_playerTold_77 post px (gr h_11 10 (Int32.toNatClampNeg p1)) r_25 h_22)) h_11 (gr h_11 10 (Int32.toNatClampNeg p1)))) ∧ (p2 = 3 → (post (gi h_11 (gr h_11 10 (Int32.toNatClampNeg p1)) 2) h_11)))) ∧ (p2 = 2 → (post (gi h_11 (gr h_11 10 (Int32.toNatClampNeg p1)) 1) h_11)))) ∧ (p2 = 1 → (post (gi h_11 (gr h_11 10 (Int32.toNatClampNeg p1)) 0) h_11)))) ∧ (p2 = 0 → (wv_X10_kind_isPl (fun r_43 h_40 => GI h_40 → Ext h_11 h_40 → (w_X0_playerTold_34 post px r_43 h_40)) h_11 (gr h_11 10 (Int32.toNatClampNeg p1)))))))) px h_6 r_9 (-2))) h_1 (Int32.toInt64 p2) 0 4)) px h p1)
abbrev rm_X0_playerTold : Room := ({ frames := 12, cells := 2, slots := 14, locals := 284 })
abbrev K_X0_playerTold : Kx := ("BeforeTheEnd", cX0_playerTold, 4, (Option.some Jvm.ClassFile.FieldType.int), rm_X0_playerTold, [], false)
set_option maxHeartbeats 4000000 in
theorem t_X0_playerTold_34 {ρ : Rho} {h0 : Hp} {post : Int32 → Hp → Prop} {px : Nat → Hp → Prop} (G : G0 ρ) :
    ∀ (z0 : Int32) (h : Hp), GI h → Ext h0 h → w_X0_playerTold_34 post px z0 h → X ρ K_X0_playerTold 34 [] [.int z0] h 2 14 (phI h0 post) (psX h0 px) := by
  intro z0 h g e hw
  refine x_goto 89 dX0_playerTold_34 (by decide) ?_
  exact x_iret dX0_playerTold_89 rfl (Nat.le_of_ble_eq_true rfl) (Nat.le_of_ble_eq_true rfl) ⟨_, rfl, g, e, hw⟩
set_option maxHeartbeats 4000000 in
theorem t_X0_playerTold_85 {ρ : Rho} {h0 : Hp} {post : Int32 → Hp → Prop} {px : Nat → Hp → Prop} (G : G0 ρ) :
    ∀ (z0 : Int32) (h : Hp), GI h → Ext h0 h → w_X0_playerTold_85 post px z0 h → X ρ K_X0_playerTold 85 [] [.int z0] h 2 14 (phI h0 post) (psX h0 px) := by
  intro z0 h g e hw
  refine x_goto 89 dX0_playerTold_85 (by decide) ?_
  exact x_iret dX0_playerTold_89 rfl (Nat.le_of_ble_eq_true rfl) (Nat.le_of_ble_eq_true rfl) ⟨_, rfl, g, e, hw⟩
set_option maxHeartbeats 4000000 in
theorem t_X0_playerTold_77 {ρ : Rho} {h0 : Hp} {post : Int32 → Hp → Prop} {px : Nat → Hp → Prop} (G : G0 ρ) :
    ∀ (x3 : Nat) (z0 : Int32) (h : Hp), GI h → Ext h0 h → isPl h x3 → w_X0_playerTold_77 post px x3 z0 h → X ρ K_X0_playerTold 77 [(3, .ref (mr ρ x3))] [.int z0] h 2 14 (phI h0 post) (psX h0 px) := by
  intro x3 z0 h g e fx3 hw
  refine x_iconst 4 dX0_playerTold_77 (by decide) ?_
  obtain ⟨wt_14, wf_15⟩ := hw
  refine x_icmp_ne 88 dX0_playerTold_78 (by decide) (fun c_1 => ?_) (fun c_1 => ?_)
  · have hw := wt_14 c_1
    refine x_iconst 0 dX0_playerTold_88 (by decide) ?_
    exact x_iret dX0_playerTold_89 rfl (Nat.le_of_ble_eq_true rfl) (Nat.le_of_ble_eq_true rfl) ⟨_, rfl, g, e, hw⟩
  · have hw := wf_15 c_1
    refine x_aload_n 0 dX0_playerTold_81 rfl ?_
    have kk_13 : ∀ (v9 : Option Value) (h_2 : Hp), (phI h (fun r_5 h_2 => GI h_2 → Ext h h_2 → (w_X0_playerTold_85 post px r_5 h_2))) v9 h_2 → X ρ K_X0_playerTold 85 [(3, .ref (mr ρ x3))] (v9.toList ++ []) h_2 2 14 (phI h0 post) (psX h0 px) := by
      intro v9 h_2 hv9
      obtain ⟨r_5, rfl, g_3, e_4, hw⟩ := hv9
      have hw := hw g_3 e_4
      show X ρ K_X0_playerTold 85 [(3, .ref (mr ρ x3))] [.int r_5] h_2 2 14 (phI h0 post) (psX h0 px)
      refine X.sub [] rfl ?_
      exact t_X0_playerTold_85 G  r_5 h_2 g_3 (Ext.tr e e_4) hw
    obtain ⟨wc_7, wc_8, wc_9, wc_10, wc_11, wc_12⟩ := hw
    rcases fx3 with fc9 | fc9 | fc9 | fc9 | fc9 | fc9
    · exact x_callU (ci := 8) (x0 := ⟨"BeforeTheEnd$Player", "set", "()I"⟩) (owner := "BeforeTheEnd$Player") [] 0 dX0_playerTold_82 (k_X10_set_c8 G g fc9 (wc_7 fc9)) fc9 rfl (lw_U q776 q778 q783 q777 q123 q787) rfl (by decide) rfl rfl ⟨(Nat.le_of_ble_eq_true rfl), (Nat.le_of_ble_eq_true rfl)⟩ (Nat.le_of_ble_eq_true rfl) ⟨(Nat.le_of_ble_eq_true rfl), (Nat.le_of_ble_eq_true rfl)⟩ kk_13 (fun _ _ _ _ _ z _ _ => False.elim z)
    · exact x_callU (ci := 9) (x0 := ⟨"BeforeTheEnd$Player", "set", "()I"⟩) (owner := "BeforeTheEnd$Player") [] 0 dX0_playerTold_82 (k_X10_set_c9 G g fc9 (wc_8 fc9)) fc9 rfl (lw_U q776 q778 q785 q777 q123 q787) rfl (by decide) rfl rfl ⟨(Nat.le_of_ble_eq_true rfl), (Nat.le_of_ble_eq_true rfl)⟩ (Nat.le_of_ble_eq_true rfl) ⟨(Nat.le_of_ble_eq_true rfl), (Nat.le_of_ble_eq_true rfl)⟩ kk_13 (fun _ _ _ _ _ z _ _ => False.elim z)
    · exact x_callU (ci := 10) (x0 := ⟨"BeforeTheEnd$Player", "set", "()I"⟩) (owner := "BeforeTheEnd$Player") [] 0 dX0_playerTold_82 (k_X10_set_c10 G g fc9 (wc_9 fc9)) fc9 rfl (lw_U q776 q778 q782 q777 q123 q787) rfl (by decide) rfl rfl ⟨(Nat.le_of_ble_eq_true rfl), (Nat.le_of_ble_eq_true rfl)⟩ (Nat.le_of_ble_eq_true rfl) ⟨(Nat.le_of_ble_eq_true rfl), (Nat.le_of_ble_eq_true rfl)⟩ kk_13 (fun _ _ _ _ _ z _ _ => False.elim z)
    · exact x_callU (ci := 11) (x0 := ⟨"BeforeTheEnd$Player", "set", "()I"⟩) (owner := "BeforeTheEnd$Player") [] 0 dX0_playerTold_82 (k_X10_set_c11 G g fc9 (wc_10 fc9)) fc9 rfl (lw_U q776 q778 q784 q777 q123 q787) rfl (by decide) rfl rfl ⟨(Nat.le_of_ble_eq_true rfl), (Nat.le_of_ble_eq_true rfl)⟩ (Nat.le_of_ble_eq_true rfl) ⟨(Nat.le_of_ble_eq_true rfl), (Nat.le_of_ble_eq_true rfl)⟩ kk_13 (fun _ _ _ _ _ z _ _ => False.elim z)
    · exact x_callO (ci := 12) (x0 := ⟨"BeforeTheEnd$Player", "set", "()I"⟩) (owner := "BeforeTheEnd$Player") [] 0 dX0_playerTold_82 (k_X15_set_c12 G g fc9 (wc_11 fc9)) fc9 rfl (lw_O q776 q778 q777 q786 q780 q128 q781) q787 (by decide) rfl rfl ⟨(Nat.le_of_ble_eq_true rfl), (Nat.le_of_ble_eq_true rfl)⟩ (Nat.le_of_ble_eq_true rfl) ⟨(Nat.le_of_ble_eq_true rfl), (Nat.le_of_ble_eq_true rfl)⟩ kk_13 (fun _ _ _ _ _ z _ _ => False.elim z)
    · exact x_callO (ci := 13) (x0 := ⟨"BeforeTheEnd$Player", "set", "()I"⟩) (owner := "BeforeTheEnd$Player") [] 0 dX0_playerTold_82 (k_X15_set_c13 G g fc9 (wc_12 fc9)) fc9 rfl (lw_O q776 q778 q777 q779 q780 q128 q781) q787 (by decide) rfl rfl ⟨(Nat.le_of_ble_eq_true rfl), (Nat.le_of_ble_eq_true rfl)⟩ (Nat.le_of_ble_eq_true rfl) ⟨(Nat.le_of_ble_eq_true rfl), (Nat.le_of_ble_eq_true rfl)⟩ kk_13 (fun _ _ _ _ _ z _ _ => False.elim z)
set_option maxHeartbeats 4000000 in
theorem k_X0_playerTold {ρ : Rho} {h : Hp} {post : Int32 → Hp → Prop} {px : Nat → Hp → Prop} {p1 : Int32} {p2 : Int32} (G : G0 ρ) (g : GI h) (hw : wp_X0_playerTold post px h p1 p2) : Con ρ yX0_playerTold (ws_ yX0_playerTold cX0_playerTold 4 (Option.some Jvm.ClassFile.FieldType.int)) rm_X0_playerTold [.ref (mr ρ 1), .int p1, .int p2] h (phI h post) (psX h px) := by
  refine con_of (own := "BeforeTheEnd") (isI := false) (l0 := [(0, .ref (mr ρ 1)), (1, .int p1), (2, .int p2)]) (by decide) rfl (fun z => by cases z) (Nat.le_of_ble_eq_true rfl) rfl (fun _ => ?_)
  show X ρ K_X0_playerTold 0 [(0, .ref (mr ρ 1)), (1, .int p1), (2, .int p2)] [] h 0 0 (phI h post) (psX h px)
  refine x_aload_n 0 dX0_playerTold_0 rfl ?_
  refine x_iload_n 1 dX0_playerTold_1 rfl ?_
  refine x_callV (ci := 0) [.int p1] 1 dX0_playerTold_2 (k_X0_mustBePlayer G g hw) (GI.s g (t := (10, 0)) rfl (by decide)) rfl q751 q753 qs17 q104 q754 (by decide) rfl rfl ⟨(Nat.le_of_ble_eq_true rfl), (Nat.le_of_ble_eq_true rfl)⟩ (Nat.le_of_ble_eq_true rfl) ⟨(Nat.le_of_ble_eq_true rfl), (Nat.le_of_ble_eq_true rfl)⟩ (fun v9 h_1 hv9 => ?_) (fun q9 h9 ci9 n9 x9 hx9 hs9 hc9 => xt_out hs9 hc9 (fun z hz => by cases hz) (Nat.le_of_ble_eq_true rfl) (Nat.le_of_ble_eq_true rfl) ⟨hx9.1, Ext.tr Ext.rf hx9.2.1, hx9.2.2⟩)
  obtain ⟨rfl, g_2, e_3, hw⟩ := hv9
  have hw := hw g_2 e_3
  show X ρ K_X0_playerTold 5 [(0, .ref (mr ρ 1)), (1, .int p1), (2, .int p2)] [] h_1 1 7 (phI h post) (psX h px)
  refine x_iload_n 2 dX0_playerTold_5 rfl ?_
  refine x_i2l dX0_playerTold_6 ?_
  refine x_lconst 0 dX0_playerTold_7 (by decide) ?_
  refine x_ldc2 dX0_playerTold_8 q746 ?_
  refine x_callS [.long (Int32.toInt64 p2), .long 0, .long 4] 3 dX0_playerTold_11 (k_X0_in G g_2 hw) q745 q464 q104 q465 (by decide) rfl rfl ⟨(Nat.le_of_ble_eq_true rfl), (Nat.le_of_ble_eq_true rfl)⟩ (Nat.le_of_ble_eq_true rfl) ⟨(Nat.le_of_ble_eq_true rfl), (Nat.le_of_ble_eq_true rfl)⟩ (fun v9 h_6 hv9 => ?_) (fun _ _ _ _ _ z _ _ => False.elim z)
  obtain ⟨r_9, rfl, g_7, e_8, b_10, hw⟩ := hv9
  have hw := hw g_7 e_8
  show X ρ K_X0_playerTold 14 [(0, .ref (mr ρ 1)), (1, .int p1), (2, .int p2)] [.int r_9] h_6 1 7 (phI h post) (psX h px)
  refine x_bipush (-2) dX0_playerTold_14 (by decide) ?_
  refine x_callS [.int r_9, .int (-2)] 2 dX0_playerTold_16 (k_X0_must G g_7 hw) q294 q295 q104 q296 (by decide) rfl rfl ⟨(Nat.le_of_ble_eq_true rfl), (Nat.le_of_ble_eq_true rfl)⟩ (Nat.le_of_ble_eq_true rfl) ⟨(Nat.le_of_ble_eq_true rfl), (Nat.le_of_ble_eq_true rfl)⟩ (fun v9 h_11 hv9 => ?_) (fun q9 h9 ci9 n9 x9 hx9 hs9 hc9 => xt_out hs9 hc9 (fun z hz => by cases hz) (Nat.le_of_ble_eq_true rfl) (Nat.le_of_ble_eq_true rfl) ⟨hx9.1, Ext.tr (Ext.tr e_3 e_8) hx9.2.1, hx9.2.2⟩)
  obtain ⟨rfl, g_12, e_13, hw⟩ := hv9
  have hw := hw g_12 e_13
  show X ρ K_X0_playerTold 19 [(0, .ref (mr ρ 1)), (1, .int p1), (2, .int p2)] [] h_11 2 14 (phI h post) (psX h px)
  refine x_aload_n 0 dX0_playerTold_19 rfl ?_
  refine x_get (ci := 0) (v := .ref (mr ρ 10)) 2 dX0_playerTold_20 (GI.s g_12 (t := (10, 0)) rfl (by decide)) rfl in_X0 (by decide) q189 (Or.inl rfl) (fv_rc rfl (GI.x g_12 (n := 10) rfl (by decide)) (by decide)) ?_
  refine x_iload_n 1 dX0_playerTold_23 rfl ?_
  obtain ⟨b_16, hw⟩ := hw
  obtain ⟨b_17, hw⟩ := hw
  refine x_aald5 (n := 4) (j := (Int32.toNatClampNeg p1)) dX0_playerTold_24 rfl (GI.s g_12 (t := (5, 4)) rfl (by decide)) b_16 ?_
  refine x_nn (isPl.nz b_17 (GI.live g_12)) ?_
  refine x_astore_n (lv' := [(3, .ref (mr ρ (gr h_11 10 (Int32.toNatClampNeg p1)))), (0, .ref (mr ρ 1)), (1, .int p1), (2, .int p2)]) dX0_playerTold_25 (Nat.le_of_ble_eq_true rfl) rfl ?_
  refine x_iload_n 3 dX0_playerTold_26 rfl ?_
  obtain ⟨wt_52, wf_53⟩ := hw
  refine x_if_ne 37 dX0_playerTold_27 (by decide) (fun c_18 => ?_) (fun c_18 => ?_)
  · have hw := wt_52 c_18
    refine x_iload_n 3 dX0_playerTold_37 rfl ?_
    refine x_iconst 1 dX0_playerTold_38 (by decide) ?_
    obtain ⟨wt_38, wf_39⟩ := hw
    refine x_icmp_ne 49 dX0_playerTold_39 (by decide) (fun c_19 => ?_) (fun c_19 => ?_)
    · have hw := wt_38 c_19
      refine x_iload_n 3 dX0_playerTold_49 rfl ?_
      refine x_iconst 2 dX0_playerTold_50 (by decide) ?_
      obtain ⟨wt_36, wf_37⟩ := hw
      refine x_icmp_ne 61 dX0_playerTold_51 (by decide) (fun c_20 => ?_) (fun c_20 => ?_)
      · have hw := wt_36 c_20
        refine x_iload_n 3 dX0_playerTold_61 rfl ?_
        refine x_iconst 3 dX0_playerTold_62 (by decide) ?_
        obtain ⟨wt_34, wf_35⟩ := hw
        refine x_icmp_ne 73 dX0_playerTold_63 (by decide) (fun c_21 => ?_) (fun c_21 => ?_)
        · have hw := wt_34 c_21
          refine x_aload_n 0 dX0_playerTold_73 rfl ?_
          have kk_33 : ∀ (v9 : Option Value) (h_22 : Hp), (phI h_11 (fun r_25 h_22 => GI h_22 → Ext h_11 h_22 → (w_X0_playerTold_77 post px (gr h_11 10 (Int32.toNatClampNeg p1)) r_25 h_22))) v9 h_22 → X ρ K_X0_playerTold 77 [(3, .ref (mr ρ (gr h_11 10 (Int32.toNatClampNeg p1)))), (0, .ref (mr ρ 1)), (1, .int p1), (2, .int p2)] (v9.toList ++ []) h_22 2 14 (phI h post) (psX h px) := by
            intro v9 h_22 hv9
            obtain ⟨r_25, rfl, g_23, e_24, hw⟩ := hv9
            have hw := hw g_23 e_24
            show X ρ K_X0_playerTold 77 [(3, .ref (mr ρ (gr h_11 10 (Int32.toNatClampNeg p1)))), (0, .ref (mr ρ 1)), (1, .int p1), (2, .int p2)] [.int r_25] h_22 2 14 (phI h post) (psX h px)
            refine X.sub [0] rfl ?_
            exact t_X0_playerTold_77 G  (gr h_11 10 (Int32.toNatClampNeg p1)) r_25 h_22 g_23 (Ext.tr (Ext.tr (Ext.tr e_3 e_8) e_13) e_24) (isPl.ext b_17 e_24) hw
          obtain ⟨wc_27, wc_28, wc_29, wc_30, wc_31, wc_32⟩ := hw
          rcases b_17 with fc9 | fc9 | fc9 | fc9 | fc9 | fc9
          · exact x_callA (ci := 8) (x0 := ⟨"BeforeTheEnd$Player", "kind", "()I"⟩) (owner := "BeforeTheEnd$Player") [] 0 dX0_playerTold_74 (k_X11_kind_c8 G g_12 fc9 (wc_27 fc9)) fc9 rfl (lw_U q755 q757 q764 q765 q124 q766) q756 (by decide) rfl rfl ⟨(Nat.le_of_ble_eq_true rfl), (Nat.le_of_ble_eq_true rfl)⟩ (Nat.le_of_ble_eq_true rfl) ⟨(Nat.le_of_ble_eq_true rfl), (Nat.le_of_ble_eq_true rfl)⟩ kk_33 (fun _ _ _ _ _ z _ _ => False.elim z)
          · exact x_callA (ci := 9) (x0 := ⟨"BeforeTheEnd$Player", "kind", "()I"⟩) (owner := "BeforeTheEnd$Player") [] 0 dX0_playerTold_74 (k_X12_kind_c9 G g_12 fc9 (wc_28 fc9)) fc9 rfl (lw_U q755 q757 q770 q771 q125 q772) q756 (by decide) rfl rfl ⟨(Nat.le_of_ble_eq_true rfl), (Nat.le_of_ble_eq_true rfl)⟩ (Nat.le_of_ble_eq_true rfl) ⟨(Nat.le_of_ble_eq_true rfl), (Nat.le_of_ble_eq_true rfl)⟩ kk_33 (fun _ _ _ _ _ z _ _ => False.elim z)
          · exact x_callA (ci := 10) (x0 := ⟨"BeforeTheEnd$Player", "kind", "()I"⟩) (owner := "BeforeTheEnd$Player") [] 0 dX0_playerTold_74 (k_X13_kind_c10 G g_12 fc9 (wc_29 fc9)) fc9 rfl (lw_U q755 q757 q761 q762 q126 q763) q756 (by decide) rfl rfl ⟨(Nat.le_of_ble_eq_true rfl), (Nat.le_of_ble_eq_true rfl)⟩ (Nat.le_of_ble_eq_true rfl) ⟨(Nat.le_of_ble_eq_true rfl), (Nat.le_of_ble_eq_true rfl)⟩ kk_33 (fun _ _ _ _ _ z _ _ => False.elim z)
          · exact x_callA (ci := 11) (x0 := ⟨"BeforeTheEnd$Player", "kind", "()I"⟩) (owner := "BeforeTheEnd$Player") [] 0 dX0_playerTold_74 (k_X14_kind_c11 G g_12 fc9 (wc_30 fc9)) fc9 rfl (lw_U q755 q757 q767 q768 q127 q769) q756 (by decide) rfl rfl ⟨(Nat.le_of_ble_eq_true rfl), (Nat.le_of_ble_eq_true rfl)⟩ (Nat.le_of_ble_eq_true rfl) ⟨(Nat.le_of_ble_eq_true rfl), (Nat.le_of_ble_eq_true rfl)⟩ kk_33 (fun _ _ _ _ _ z _ _ => False.elim z)
          · exact x_callA (ci := 12) (x0 := ⟨"BeforeTheEnd$Player", "kind", "()I"⟩) (owner := "BeforeTheEnd$Player") [] 0 dX0_playerTold_74 (k_X15_kind_c12 G g_12 fc9 (wc_31 fc9)) fc9 rfl (lw_U q755 q757 q773 q774 q128 q775) q756 (by decide) rfl rfl ⟨(Nat.le_of_ble_eq_true rfl), (Nat.le_of_ble_eq_true rfl)⟩ (Nat.le_of_ble_eq_true rfl) ⟨(Nat.le_of_ble_eq_true rfl), (Nat.le_of_ble_eq_true rfl)⟩ kk_33 (fun _ _ _ _ _ z _ _ => False.elim z)
          · exact x_callA (ci := 13) (x0 := ⟨"BeforeTheEnd$Player", "kind", "()I"⟩) (owner := "BeforeTheEnd$Player") [] 0 dX0_playerTold_74 (k_X16_kind_c13 G g_12 fc9 (wc_32 fc9)) fc9 rfl (lw_U q755 q757 q758 q759 q129 q760) q756 (by decide) rfl rfl ⟨(Nat.le_of_ble_eq_true rfl), (Nat.le_of_ble_eq_true rfl)⟩ (Nat.le_of_ble_eq_true rfl) ⟨(Nat.le_of_ble_eq_true rfl), (Nat.le_of_ble_eq_true rfl)⟩ kk_33 (fun _ _ _ _ _ z _ _ => False.elim z)
        · have hw := wf_35 c_21
          refine x_aload_n 0 dX0_playerTold_66 rfl ?_
          refine x_getP 2 (by decide) dX0_playerTold_67 b_17 q622 ?_
          refine x_goto 89 dX0_playerTold_70 (by decide) ?_
          exact x_iret dX0_playerTold_89 rfl (Nat.le_of_ble_eq_true rfl) (Nat.le_of_ble_eq_true rfl) ⟨_, rfl, g_12, (Ext.tr (Ext.tr e_3 e_8) e_13), hw⟩
      · have hw := wf_37 c_20
        refine x_aload_n 0 dX0_playerTold_54 rfl ?_
        refine x_getP 1 (by decide) dX0_playerTold_55 b_17 q616 ?_
        refine x_goto 89 dX0_playerTold_58 (by decide) ?_
        exact x_iret dX0_playerTold_89 rfl (Nat.le_of_ble_eq_true rfl) (Nat.le_of_ble_eq_true rfl) ⟨_, rfl, g_12, (Ext.tr (Ext.tr e_3 e_8) e_13), hw⟩
    · have hw := wf_39 c_19
      refine x_aload_n 0 dX0_playerTold_42 rfl ?_
      refine x_getP 0 (by decide) dX0_playerTold_43 b_17 q607 ?_
      refine x_goto 89 dX0_playerTold_46 (by decide) ?_
      exact x_iret dX0_playerTold_89 rfl (Nat.le_of_ble_eq_true rfl) (Nat.le_of_ble_eq_true rfl) ⟨_, rfl, g_12, (Ext.tr (Ext.tr e_3 e_8) e_13), hw⟩
  · have hw := wf_53 c_18
    refine x_aload_n 0 dX0_playerTold_30 rfl ?_
    have kk_51 : ∀ (v9 : Option Value) (h_40 : Hp), (phI h_11 (fun r_43 h_40 => GI h_40 → Ext h_11 h_40 → (w_X0_playerTold_34 post px r_43 h_40))) v9 h_40 → X ρ K_X0_playerTold 34 [(3, .ref (mr ρ (gr h_11 10 (Int32.toNatClampNeg p1)))), (0, .ref (mr ρ 1)), (1, .int p1), (2, .int p2)] (v9.toList ++ []) h_40 2 14 (phI h post) (psX h px) := by
      intro v9 h_40 hv9
      obtain ⟨r_43, rfl, g_41, e_42, hw⟩ := hv9
      have hw := hw g_41 e_42
      show X ρ K_X0_playerTold 34 [(3, .ref (mr ρ (gr h_11 10 (Int32.toNatClampNeg p1)))), (0, .ref (mr ρ 1)), (1, .int p1), (2, .int p2)] [.int r_43] h_40 2 14 (phI h post) (psX h px)
      refine X.sub [] rfl ?_
      exact t_X0_playerTold_34 G  r_43 h_40 g_41 (Ext.tr (Ext.tr (Ext.tr e_3 e_8) e_13) e_42) hw
    obtain ⟨wc_45, wc_46, wc_47, wc_48, wc_49, wc_50⟩ := hw
    rcases b_17 with fc9 | fc9 | fc9 | fc9 | fc9 | fc9
    · exact x_callA (ci := 8) (x0 := ⟨"BeforeTheEnd$Player", "kind", "()I"⟩) (owner := "BeforeTheEnd$Player") [] 0 dX0_playerTold_31 (k_X11_kind_c8 G g_12 fc9 (wc_45 fc9)) fc9 rfl (lw_U q755 q757 q764 q765 q124 q766) q756 (by decide) rfl rfl ⟨(Nat.le_of_ble_eq_true rfl), (Nat.le_of_ble_eq_true rfl)⟩ (Nat.le_of_ble_eq_true rfl) ⟨(Nat.le_of_ble_eq_true rfl), (Nat.le_of_ble_eq_true rfl)⟩ kk_51 (fun _ _ _ _ _ z _ _ => False.elim z)
    · exact x_callA (ci := 9) (x0 := ⟨"BeforeTheEnd$Player", "kind", "()I"⟩) (owner := "BeforeTheEnd$Player") [] 0 dX0_playerTold_31 (k_X12_kind_c9 G g_12 fc9 (wc_46 fc9)) fc9 rfl (lw_U q755 q757 q770 q771 q125 q772) q756 (by decide) rfl rfl ⟨(Nat.le_of_ble_eq_true rfl), (Nat.le_of_ble_eq_true rfl)⟩ (Nat.le_of_ble_eq_true rfl) ⟨(Nat.le_of_ble_eq_true rfl), (Nat.le_of_ble_eq_true rfl)⟩ kk_51 (fun _ _ _ _ _ z _ _ => False.elim z)
    · exact x_callA (ci := 10) (x0 := ⟨"BeforeTheEnd$Player", "kind", "()I"⟩) (owner := "BeforeTheEnd$Player") [] 0 dX0_playerTold_31 (k_X13_kind_c10 G g_12 fc9 (wc_47 fc9)) fc9 rfl (lw_U q755 q757 q761 q762 q126 q763) q756 (by decide) rfl rfl ⟨(Nat.le_of_ble_eq_true rfl), (Nat.le_of_ble_eq_true rfl)⟩ (Nat.le_of_ble_eq_true rfl) ⟨(Nat.le_of_ble_eq_true rfl), (Nat.le_of_ble_eq_true rfl)⟩ kk_51 (fun _ _ _ _ _ z _ _ => False.elim z)
    · exact x_callA (ci := 11) (x0 := ⟨"BeforeTheEnd$Player", "kind", "()I"⟩) (owner := "BeforeTheEnd$Player") [] 0 dX0_playerTold_31 (k_X14_kind_c11 G g_12 fc9 (wc_48 fc9)) fc9 rfl (lw_U q755 q757 q767 q768 q127 q769) q756 (by decide) rfl rfl ⟨(Nat.le_of_ble_eq_true rfl), (Nat.le_of_ble_eq_true rfl)⟩ (Nat.le_of_ble_eq_true rfl) ⟨(Nat.le_of_ble_eq_true rfl), (Nat.le_of_ble_eq_true rfl)⟩ kk_51 (fun _ _ _ _ _ z _ _ => False.elim z)
    · exact x_callA (ci := 12) (x0 := ⟨"BeforeTheEnd$Player", "kind", "()I"⟩) (owner := "BeforeTheEnd$Player") [] 0 dX0_playerTold_31 (k_X15_kind_c12 G g_12 fc9 (wc_49 fc9)) fc9 rfl (lw_U q755 q757 q773 q774 q128 q775) q756 (by decide) rfl rfl ⟨(Nat.le_of_ble_eq_true rfl), (Nat.le_of_ble_eq_true rfl)⟩ (Nat.le_of_ble_eq_true rfl) ⟨(Nat.le_of_ble_eq_true rfl), (Nat.le_of_ble_eq_true rfl)⟩ kk_51 (fun _ _ _ _ _ z _ _ => False.elim z)
    · exact x_callA (ci := 13) (x0 := ⟨"BeforeTheEnd$Player", "kind", "()I"⟩) (owner := "BeforeTheEnd$Player") [] 0 dX0_playerTold_31 (k_X16_kind_c13 G g_12 fc9 (wc_50 fc9)) fc9 rfl (lw_U q755 q757 q758 q759 q129 q760) q756 (by decide) rfl rfl ⟨(Nat.le_of_ble_eq_true rfl), (Nat.le_of_ble_eq_true rfl)⟩ (Nat.le_of_ble_eq_true rfl) ⟨(Nat.le_of_ble_eq_true rfl), (Nat.le_of_ble_eq_true rfl)⟩ kk_51 (fun _ _ _ _ _ z _ _ => False.elim z)

/-! BeforeTheEnd$Tree.isWhole()Z -/
def w_X1_isWhole_4 (post : Int32 → Hp → Prop) : Nat → Nat → Int32 → Int32 → Hp → Prop
  | 0 => fun _ _ _ _ => False
  | n + 1 => fun x0 x1 x2 h => (((gi h x0 0) ≤ x2 → (isB x1 ∧ (post x1 h))) ∧ (¬ (gi h x0 0) ≤ x2 → (wp_X1_isEnd (fun r_6 h_3 => GI h_3 → Ext h h_3 → (((r_6 = 0 → (vp_in x2 24))) ∧ (∀ z_11 : Int32, z_11 = ((if r_6 = 0 then (if (gi h_3 (x0 + 5) (Int32.toNatClampNeg x2)) ≤ 0 then 0 else 1) else 1) : Int32) → (w_X1_isWhole_4 post n x0 (x1 &&& z_11) (x2 + 1) h_3)))) h x0 x2)))
def wp_X1_isWhole (post : Int32 → Hp → Prop) (h : Hp) (r0 : Nat) : Prop := (∃ fu : Nat, w_X1_isWhole_4 post fu r0 1 0 h)
abbrev rm_X1_isWhole : Room := ({ frames := 2, cells := 0, slots := 0, locals := 81 })
abbrev K_X1_isWhole : Kx := ("BeforeTheEnd$Tree", cX1_isWhole, 3, (Option.some Jvm.ClassFile.FieldType.boolean), rm_X1_isWhole, [], false)
set_option maxHeartbeats 4000000 in
theorem t_X1_isWhole_4 {ρ : Rho} {h0 : Hp} {post : Int32 → Hp → Prop} (G : G0 ρ) :
    ∀ (n : Nat), ∀ (x0 : Nat) (x1 : Int32) (x2 : Int32) (h : Hp), GI h → Ext h0 h → isTree h x0 → w_X1_isWhole_4 post n x0 x1 x2 h → X ρ K_X1_isWhole 4 [(0, .ref (mr ρ x0)), (1, .int x1), (2, .int x2)] [] h 0 0 (phB h0 post) psN := by
  intro n
  induction n with
  | zero => intro x0 x1 x2 h g e fx0 hw; exact False.elim hw
  | succ n ih =>
    intro x0 x1 x2 h g e fx0 hw
    refine x_iload_n 2 dX1_isWhole_4 rfl ?_
    refine x_aload_n 0 dX1_isWhole_5 rfl ?_
    refine x_get (ci := 1) (v := .int (gi h x0 0)) 0 dX1_isWhole_6 (isTree.s fx0) rfl in_X1 (by decide) q145 (Or.inl rfl) (fv_i rfl) ?_
    obtain ⟨wt_14, wf_15⟩ := hw
    refine x_icmp_ge 43 dX1_isWhole_9 (by decide) (fun c_1 => ?_) (fun c_1 => ?_)
    · have hw := wt_14 c_1
      refine x_iload_n 1 dX1_isWhole_43 rfl ?_
      obtain ⟨b_2, hw⟩ := hw
      exact x_zret dX1_isWhole_44 rfl (isB.n b_2) (Nat.le_of_ble_eq_true rfl) (Nat.le_of_ble_eq_true rfl) ⟨_, rfl, g, e, b_2, hw⟩
    · have hw := wf_15 c_1
      refine x_iload_n 1 dX1_isWhole_12 rfl ?_
      refine x_aload_n 0 dX1_isWhole_13 rfl ?_
      refine x_iload_n 2 dX1_isWhole_14 rfl ?_
      refine x_callV (ci := 1) [.int x2] 1 dX1_isWhole_15 (k_X1_isEnd G g fx0 hw) (isTree.s fx0) rfl q792 q723 q724 q105 q725 (by decide) rfl rfl ⟨(Nat.le_of_ble_eq_true rfl), (Nat.le_of_ble_eq_true rfl)⟩ (Nat.le_of_ble_eq_true rfl) ⟨(Nat.le_of_ble_eq_true rfl), (Nat.le_of_ble_eq_true rfl)⟩ (fun v9 h_3 hv9 => ?_) (fun _ _ _ _ _ z _ _ => False.elim z)
      obtain ⟨r_6, rfl, g_4, e_5, b_7, hw⟩ := hv9
      have hw := hw g_4 e_5
      show X ρ K_X1_isWhole 18 [(0, .ref (mr ρ x0)), (1, .int x1), (2, .int x2)] [.int r_6, .int x1] h_3 0 0 (phB h0 post) psN
      obtain ⟨hO_13, hw⟩ := hw
      have kJ_12 : ∀ z_11 : Int32, z_11 = ((if r_6 = 0 then (if (gi h_3 (x0 + 5) (Int32.toNatClampNeg x2)) ≤ 0 then 0 else 1) else 1) : Int32) → X ρ K_X1_isWhole 35 [(0, .ref (mr ρ x0)), (1, .int x1), (2, .int x2)] [.int z_11, .int x1] h_3 0 0 (phB h0 post) psN := fun z_11 ez_11 => by
        have hw := hw z_11 ez_11
        refine x_iand dX1_isWhole_35 ?_
        refine x_istore_n (lv' := [(1, .int (x1 &&& z_11)), (0, .ref (mr ρ x0)), (2, .int x2)]) dX1_isWhole_36 (Nat.le_of_ble_eq_true rfl) rfl ?_
        refine x_iinc (v := (x2 + 1)) (lv' := [(2, .int (x2 + 1)), (1, .int (x1 &&& z_11)), (0, .ref (mr ρ x0))]) 2 dX1_isWhole_37 rfl (by rfl) (Nat.le_of_ble_eq_true rfl) rfl ?_
        refine x_goto 4 dX1_isWhole_40 (by decide) ?_
        refine X.sub [2, 1, 0] rfl ?_
        exact ih x0 (x1 &&& z_11) (x2 + 1) h_3 g_4 (Ext.tr e e_5) (isTree.ext fx0 e_5) hw
      have hO_130 := hO_13
      refine x_if_ne 30 dX1_isWhole_18 (by decide) (fun c_8 => ?_) (fun c_8 => ?_)
      · refine x_iconst 1 dX1_isWhole_30 (by decide) ?_
        refine x_goto 35 dX1_isWhole_31 (by decide) ?_
        exact kJ_12 _ ((if_neg c_8)).symm
      · have hO_13_ := hO_130 c_8
        have b_9 := hO_13_
        refine x_aload_n 0 dX1_isWhole_21 rfl ?_
        refine x_get (ci := 1) (v := .ref (mr ρ (x0 + 5))) 5 dX1_isWhole_22 (isTree.s (isTree.ext fx0 e_5)) rfl in_X1 (by decide) q156 (Or.inl rfl) (fv_rc rfl (isTree.p (isTree.ext fx0 e_5) 5 (by decide) (by decide)) (Nat.succ_ne_zero _)) ?_
        refine x_iload_n 2 dX1_isWhole_25 rfl ?_
        refine x_iald (n := 24) (j := (Int32.toNatClampNeg x2)) dX1_isWhole_26 rfl (isTree.a (isTree.ext fx0 e_5) 5 (by decide) (by decide)) b_9 ?_
        refine x_if_le 34 dX1_isWhole_27 (by decide) (fun c_10 => ?_) (fun c_10 => ?_)
        · refine x_iconst 0 dX1_isWhole_34 (by decide) ?_
          exact kJ_12 _ (((if_pos c_8).trans (if_pos c_10))).symm
        · refine x_iconst 1 dX1_isWhole_30 (by decide) ?_
          refine x_goto 35 dX1_isWhole_31 (by decide) ?_
          exact kJ_12 _ (((if_pos c_8).trans (if_neg c_10))).symm
set_option maxHeartbeats 4000000 in
theorem k_X1_isWhole {ρ : Rho} {h : Hp} {post : Int32 → Hp → Prop} {r0 : Nat} (G : G0 ρ) (g : GI h) (fr0 : isTree h r0) (hw : wp_X1_isWhole post h r0) : Con ρ yX1_isWhole (ws_ yX1_isWhole cX1_isWhole 3 (Option.some Jvm.ClassFile.FieldType.boolean)) rm_X1_isWhole [.ref (mr ρ r0)] h (phB h post) psN := by
  refine con_of (own := "BeforeTheEnd$Tree") (isI := false) (l0 := [(0, .ref (mr ρ r0))]) (by decide) rfl (fun z => by cases z) (Nat.le_of_ble_eq_true rfl) rfl (fun _ => ?_)
  show X ρ K_X1_isWhole 0 [(0, .ref (mr ρ r0))] [] h 0 0 (phB h post) psN
  refine x_iconst 1 dX1_isWhole_0 (by decide) ?_
  refine x_istore_n (lv' := [(1, .int 1), (0, .ref (mr ρ r0))]) dX1_isWhole_1 (Nat.le_of_ble_eq_true rfl) rfl ?_
  refine x_iconst 0 dX1_isWhole_2 (by decide) ?_
  refine x_istore_n (lv' := [(2, .int 0), (1, .int 1), (0, .ref (mr ρ r0))]) dX1_isWhole_3 (Nat.le_of_ble_eq_true rfl) rfl ?_
  refine X.sub [2, 1, 0] rfl ?_
  obtain ⟨fu, hw⟩ := hw
  exact t_X1_isWhole_4 G  fu r0 1 0 h g Ext.rf fr0 hw

/-! BeforeTheEnd$Tree.isBehind(II)Z -/
def w_X1_isBehind_2 (post : Int32 → Hp → Prop) : Nat → Nat → Int32 → Int32 → Hp → Prop
  | 0 => fun _ _ _ _ => False
  | n + 1 => fun x0 x2 x3 h => (vp_in x3 24 ∧ (vp_in x2 24 ∧ (((gi h (x0 + 4) (Int32.toNatClampNeg x3)) ≤ (gi h (x0 + 4) (Int32.toNatClampNeg x2)) → (∀ z_5 : Int32, z_5 = ((if x3 = x2 then 1 else 0) : Int32) → (post z_5 h))) ∧ (¬ (gi h (x0 + 4) (Int32.toNatClampNeg x3)) ≤ (gi h (x0 + 4) (Int32.toNatClampNeg x2)) → (vp_in x3 24 ∧ (∀ x3_8 : Int32, x3_8 = (gi h (x0 + 1) (Int32.toNatClampNeg x3)) → (w_X1_isBehind_2 post n x0 x2 x3_8 h)))))))
def wp_X1_isBehind (post : Int32 → Hp → Prop) (h : Hp) (r0 : Nat) (p1 : Int32) (p2 : Int32) : Prop := (∃ fu : Nat, w_X1_isBehind_2 post fu r0 p2 p1 h)
abbrev rm_X1_isBehind : Room := ({ frames := 1, cells := 0, slots := 0, locals := 60 })
abbrev K_X1_isBehind : Kx := ("BeforeTheEnd$Tree", cX1_isBehind, 4, (Option.some Jvm.ClassFile.FieldType.boolean), rm_X1_isBehind, [], false)
set_option maxHeartbeats 4000000 in
theorem t_X1_isBehind_2 {ρ : Rho} {h0 : Hp} {post : Int32 → Hp → Prop} (G : G0 ρ) :
    ∀ (n : Nat), ∀ (x0 : Nat) (x2 : Int32) (x3 : Int32) (h : Hp), GI h → Ext h0 h → isTree h x0 → w_X1_isBehind_2 post n x0 x2 x3 h → X ρ K_X1_isBehind 2 [(0, .ref (mr ρ x0)), (2, .int x2), (3, .int x3)] [] h 0 0 (phB h0 post) psN := by
  intro n
  induction n with
  | zero => intro x0 x2 x3 h g e fx0 hw; exact False.elim hw
  | succ n ih =>
    intro x0 x2 x3 h g e fx0 hw
    refine x_aload_n 0 dX1_isBehind_2 rfl ?_
    refine x_get (ci := 1) (v := .ref (mr ρ (x0 + 4))) 4 dX1_isBehind_3 (isTree.s fx0) rfl in_X1 (by decide) q154 (Or.inl rfl) (fv_rc rfl (isTree.p fx0 4 (by decide) (by decide)) (Nat.succ_ne_zero _)) ?_
    refine x_iload_n 2 dX1_isBehind_6 rfl ?_
    obtain ⟨b_1, hw⟩ := hw
    refine x_iald (n := 24) (j := (Int32.toNatClampNeg x3)) dX1_isBehind_7 rfl (isTree.a fx0 4 (by decide) (by decide)) b_1 ?_
    refine x_aload_n 0 dX1_isBehind_8 rfl ?_
    refine x_get (ci := 1) (v := .ref (mr ρ (x0 + 4))) 4 dX1_isBehind_9 (isTree.s fx0) rfl in_X1 (by decide) q154 (Or.inl rfl) (fv_rc rfl (isTree.p fx0 4 (by decide) (by decide)) (Nat.succ_ne_zero _)) ?_
    refine x_iload_n 1 dX1_isBehind_12 rfl ?_
    obtain ⟨b_2, hw⟩ := hw
    refine x_iald (n := 24) (j := (Int32.toNatClampNeg x2)) dX1_isBehind_13 rfl (isTree.a fx0 4 (by decide) (by decide)) b_2 ?_
    obtain ⟨wt_9, wf_10⟩ := hw
    refine x_icmp_le 27 dX1_isBehind_14 (by decide) (fun c_3 => ?_) (fun c_3 => ?_)
    · have hw := wt_9 c_3
      refine x_iload_n 2 dX1_isBehind_27 rfl ?_
      refine x_iload_n 1 dX1_isBehind_28 rfl ?_
      have kJ_6 : ∀ z_5 : Int32, z_5 = ((if x3 = x2 then 1 else 0) : Int32) → X ρ K_X1_isBehind 37 [(0, .ref (mr ρ x0)), (2, .int x2), (3, .int x3)] [.int z_5] h 0 0 (phB h0 post) psN := fun z_5 ez_5 => by
        have hw := hw z_5 ez_5
        exact x_zret dX1_isBehind_37 rfl (isB.n (Eq.mpr (congrArg isB ez_5) (isB_ite isB_1 isB_0))) (Nat.le_of_ble_eq_true rfl) (Nat.le_of_ble_eq_true rfl) ⟨_, rfl, g, e, (Eq.mpr (congrArg isB ez_5) (isB_ite isB_1 isB_0)), hw⟩
      refine x_icmp_ne 36 dX1_isBehind_29 (by decide) (fun c_4 => ?_) (fun c_4 => ?_)
      · refine x_iconst 0 dX1_isBehind_36 (by decide) ?_
        exact kJ_6 _ ((if_neg c_4)).symm
      · refine x_iconst 1 dX1_isBehind_32 (by decide) ?_
        refine x_goto 37 dX1_isBehind_33 (by decide) ?_
        exact kJ_6 _ ((if_pos c_4)).symm
    · have hw := wf_10 c_3
      refine x_aload_n 0 dX1_isBehind_17 rfl ?_
      refine x_get (ci := 1) (v := .ref (mr ρ (x0 + 1))) 1 dX1_isBehind_18 (isTree.s fx0) rfl in_X1 (by decide) q148 (Or.inl rfl) (fv_rc rfl (isTree.p fx0 1 (by decide) (by decide)) (Nat.succ_ne_zero _)) ?_
      refine x_iload_n 2 dX1_isBehind_21 rfl ?_
      obtain ⟨b_7, hw⟩ := hw
      refine x_iald (n := 24) (j := (Int32.toNatClampNeg x3)) dX1_isBehind_22 rfl (isTree.a fx0 1 (by decide) (by decide)) b_7 ?_
      refine x_nmi (fun x3_8 ex3_8 => ?_)
      have hw := hw x3_8 ex3_8
      refine x_istore_n (lv' := [(3, .int x3_8), (0, .ref (mr ρ x0)), (2, .int x2)]) dX1_isBehind_23 (Nat.le_of_ble_eq_true rfl) rfl ?_
      refine x_goto 2 dX1_isBehind_24 (by decide) ?_
      refine X.sub [1, 2, 0] rfl ?_
      exact ih x0 x2 x3_8 h g e fx0 hw
set_option maxHeartbeats 4000000 in
theorem k_X1_isBehind {ρ : Rho} {h : Hp} {post : Int32 → Hp → Prop} {r0 : Nat} {p1 : Int32} {p2 : Int32} (G : G0 ρ) (g : GI h) (fr0 : isTree h r0) (hw : wp_X1_isBehind post h r0 p1 p2) : Con ρ yX1_isBehind (ws_ yX1_isBehind cX1_isBehind 4 (Option.some Jvm.ClassFile.FieldType.boolean)) rm_X1_isBehind [.ref (mr ρ r0), .int p1, .int p2] h (phB h post) psN := by
  refine con_of (own := "BeforeTheEnd$Tree") (isI := false) (l0 := [(0, .ref (mr ρ r0)), (1, .int p1), (2, .int p2)]) (by decide) rfl (fun z => by cases z) (Nat.le_of_ble_eq_true rfl) rfl (fun _ => ?_)
  show X ρ K_X1_isBehind 0 [(0, .ref (mr ρ r0)), (1, .int p1), (2, .int p2)] [] h 0 0 (phB h post) psN
  refine x_iload_n 1 dX1_isBehind_0 rfl ?_
  refine x_istore_n (lv' := [(3, .int p1), (0, .ref (mr ρ r0)), (1, .int p1), (2, .int p2)]) dX1_isBehind_1 (Nat.le_of_ble_eq_true rfl) rfl ?_
  refine X.sub [1, 3, 0] rfl ?_
  obtain ⟨fu, hw⟩ := hw
  exact t_X1_isBehind_2 G  fu r0 p2 p1 h g Ext.rf fr0 hw

/-! BeforeTheEnd$Tree.left(I)I -/
def w_X1_left_4 (post : Int32 → Hp → Prop) : Nat → Nat → Int32 → Int32 → Int32 → Hp → Prop
  | 0 => fun _ _ _ _ _ => False
  | n + 1 => fun x0 x1 x2 x3 h => (((gi h x0 0) ≤ x3 → (post x2 h)) ∧ (¬ (gi h x0 0) ≤ x3 → (wp_X1_isEnd (fun r_5 h_2 => GI h_2 → Ext h h_2 → ((r_5 = 0 → (w_X1_left_4 post n x0 x1 (x2 ||| 0) (x3 + 1) h_2)) ∧ (¬ r_5 = 0 → (wp_X1_isBehind (fun r_11 h_8 => GI h_8 → Ext h_2 h_8 → (((¬ r_11 = 0 → (vp_in x3 24))) ∧ (∀ z_15 : Int32, z_15 = ((if r_11 = 0 then 0 else (1 <<< ((gi h_8 (x0 + 3) (Int32.toNatClampNeg x3)) &&& 31))) : Int32) → (w_X1_left_4 post n x0 x1 (x2 ||| z_15) (x3 + 1) h_8)))) h_2 x0 x3 x1)))) h x0 x3)))
def wp_X1_left (post : Int32 → Hp → Prop) (h : Hp) (r0 : Nat) (p1 : Int32) : Prop := (∃ fu : Nat, w_X1_left_4 post fu r0 p1 0 p1 h)
abbrev rm_X1_left : Room := ({ frames := 2, cells := 0, slots := 0, locals := 83 })
abbrev K_X1_left : Kx := ("BeforeTheEnd$Tree", cX1_left, 4, (Option.some Jvm.ClassFile.FieldType.int), rm_X1_left, [], false)
set_option maxHeartbeats 4000000 in
theorem t_X1_left_4 {ρ : Rho} {h0 : Hp} {post : Int32 → Hp → Prop} (G : G0 ρ) :
    ∀ (n : Nat), ∀ (x0 : Nat) (x1 : Int32) (x2 : Int32) (x3 : Int32) (h : Hp), GI h → Ext h0 h → isTree h x0 → w_X1_left_4 post n x0 x1 x2 x3 h → X ρ K_X1_left 4 [(0, .ref (mr ρ x0)), (1, .int x1), (2, .int x2), (3, .int x3)] [] h 0 0 (phI h0 post) psN := by
  intro n
  induction n with
  | zero => intro x0 x1 x2 x3 h g e fx0 hw; exact False.elim hw
  | succ n ih =>
    intro x0 x1 x2 x3 h g e fx0 hw
    refine x_iload_n 3 dX1_left_4 rfl ?_
    refine x_aload_n 0 dX1_left_5 rfl ?_
    refine x_get (ci := 1) (v := .int (gi h x0 0)) 0 dX1_left_6 (isTree.s fx0) rfl in_X1 (by decide) q145 (Or.inl rfl) (fv_i rfl) ?_
    obtain ⟨wt_20, wf_21⟩ := hw
    refine x_icmp_ge 50 dX1_left_9 (by decide) (fun c_1 => ?_) (fun c_1 => ?_)
    · have hw := wt_20 c_1
      refine x_iload_n 2 dX1_left_50 rfl ?_
      exact x_iret dX1_left_51 rfl (Nat.le_of_ble_eq_true rfl) (Nat.le_of_ble_eq_true rfl) ⟨_, rfl, g, e, hw⟩
    · have hw := wf_21 c_1
      refine x_iload_n 2 dX1_left_12 rfl ?_
      refine x_aload_n 0 dX1_left_13 rfl ?_
      refine x_iload_n 3 dX1_left_14 rfl ?_
      refine x_callV (ci := 1) [.int x3] 1 dX1_left_15 (k_X1_isEnd G g fx0 hw) (isTree.s fx0) rfl q792 q723 q724 q105 q725 (by decide) rfl rfl ⟨(Nat.le_of_ble_eq_true rfl), (Nat.le_of_ble_eq_true rfl)⟩ (Nat.le_of_ble_eq_true rfl) ⟨(Nat.le_of_ble_eq_true rfl), (Nat.le_of_ble_eq_true rfl)⟩ (fun v9 h_2 hv9 => ?_) (fun _ _ _ _ _ z _ _ => False.elim z)
      obtain ⟨r_5, rfl, g_3, e_4, b_6, hw⟩ := hv9
      have hw := hw g_3 e_4
      show X ρ K_X1_left 18 [(0, .ref (mr ρ x0)), (1, .int x1), (2, .int x2), (3, .int x3)] [.int r_5, .int x2] h_2 0 0 (phI h0 post) psN
      obtain ⟨wt_18, wf_19⟩ := hw
      refine x_if_eq 41 dX1_left_18 (by decide) (fun c_7 => ?_) (fun c_7 => ?_)
      · have hw := wt_18 c_7
        refine x_iconst 0 dX1_left_41 (by decide) ?_
        refine x_ior dX1_left_42 ?_
        refine x_istore_n (lv' := [(2, .int (x2 ||| 0)), (0, .ref (mr ρ x0)), (1, .int x1), (3, .int x3)]) dX1_left_43 (Nat.le_of_ble_eq_true rfl) rfl ?_
        refine x_iinc (v := (x3 + 1)) (lv' := [(3, .int (x3 + 1)), (2, .int (x2 ||| 0)), (0, .ref (mr ρ x0)), (1, .int x1)]) 3 dX1_left_44 rfl (by rfl) (Nat.le_of_ble_eq_true rfl) rfl ?_
        refine x_goto 4 dX1_left_47 (by decide) ?_
        refine X.sub [2, 3, 1, 0] rfl ?_
        exact ih x0 x1 (x2 ||| 0) (x3 + 1) h_2 g_3 (Ext.tr e e_4) (isTree.ext fx0 e_4) hw
      · have hw := wf_19 c_7
        refine x_aload_n 0 dX1_left_21 rfl ?_
        refine x_iload_n 3 dX1_left_22 rfl ?_
        refine x_iload_n 1 dX1_left_23 rfl ?_
        refine x_callV (ci := 1) [.int x3, .int x1] 2 dX1_left_24 (k_X1_isBehind G g_3 (isTree.ext fx0 e_4) hw) (isTree.s (isTree.ext fx0 e_4)) rfl q797 q798 q799 q105 q800 (by decide) rfl rfl ⟨(Nat.le_of_ble_eq_true rfl), (Nat.le_of_ble_eq_true rfl)⟩ (Nat.le_of_ble_eq_true rfl) ⟨(Nat.le_of_ble_eq_true rfl), (Nat.le_of_ble_eq_true rfl)⟩ (fun v9 h_8 hv9 => ?_) (fun _ _ _ _ _ z _ _ => False.elim z)
        obtain ⟨r_11, rfl, g_9, e_10, b_12, hw⟩ := hv9
        have hw := hw g_9 e_10
        show X ρ K_X1_left 27 [(0, .ref (mr ρ x0)), (1, .int x1), (2, .int x2), (3, .int x3)] [.int r_11, .int x2] h_8 0 0 (phI h0 post) psN
        obtain ⟨hO_17, hw⟩ := hw
        have kJ_16 : ∀ z_15 : Int32, z_15 = ((if r_11 = 0 then 0 else (1 <<< ((gi h_8 (x0 + 3) (Int32.toNatClampNeg x3)) &&& 31))) : Int32) → X ρ K_X1_left 42 [(0, .ref (mr ρ x0)), (1, .int x1), (2, .int x2), (3, .int x3)] [.int z_15, .int x2] h_8 0 0 (phI h0 post) psN := fun z_15 ez_15 => by
          have hw := hw z_15 ez_15
          refine x_ior dX1_left_42 ?_
          refine x_istore_n (lv' := [(2, .int (x2 ||| z_15)), (0, .ref (mr ρ x0)), (1, .int x1), (3, .int x3)]) dX1_left_43 (Nat.le_of_ble_eq_true rfl) rfl ?_
          refine x_iinc (v := (x3 + 1)) (lv' := [(3, .int (x3 + 1)), (2, .int (x2 ||| z_15)), (0, .ref (mr ρ x0)), (1, .int x1)]) 3 dX1_left_44 rfl (by rfl) (Nat.le_of_ble_eq_true rfl) rfl ?_
          refine x_goto 4 dX1_left_47 (by decide) ?_
          refine X.sub [2, 3, 1, 0] rfl ?_
          exact ih x0 x1 (x2 ||| z_15) (x3 + 1) h_8 g_9 (Ext.tr (Ext.tr e e_4) e_10) (isTree.ext (isTree.ext fx0 e_4) e_10) hw
        have hO_170 := hO_17
        refine x_if_eq 41 dX1_left_27 (by decide) (fun c_13 => ?_) (fun c_13 => ?_)
        · refine x_iconst 0 dX1_left_41 (by decide) ?_
          exact kJ_16 _ ((if_pos c_13)).symm
        · have hO_17_ := hO_170 c_13
          have b_14 := hO_17_
          refine x_iconst 1 dX1_left_30 (by decide) ?_
          refine x_aload_n 0 dX1_left_31 rfl ?_
          refine x_get (ci := 1) (v := .ref (mr ρ (x0 + 3))) 3 dX1_left_32 (isTree.s (isTree.ext (isTree.ext fx0 e_4) e_10)) rfl in_X1 (by decide) q152 (Or.inl rfl) (fv_rc rfl (isTree.p (isTree.ext (isTree.ext fx0 e_4) e_10) 3 (by decide) (by decide)) (Nat.succ_ne_zero _)) ?_
          refine x_iload_n 3 dX1_left_35 rfl ?_
          refine x_iald (n := 24) (j := (Int32.toNatClampNeg x3)) dX1_left_36 rfl (isTree.a (isTree.ext (isTree.ext fx0 e_4) e_10) 3 (by decide) (by decide)) b_14 ?_
          refine x_ishl dX1_left_37 ?_
          refine x_goto 42 dX1_left_38 (by decide) ?_
          exact kJ_16 _ ((if_neg c_13)).symm
set_option maxHeartbeats 4000000 in
theorem k_X1_left {ρ : Rho} {h : Hp} {post : Int32 → Hp → Prop} {r0 : Nat} {p1 : Int32} (G : G0 ρ) (g : GI h) (fr0 : isTree h r0) (hw : wp_X1_left post h r0 p1) : Con ρ yX1_left (ws_ yX1_left cX1_left 4 (Option.some Jvm.ClassFile.FieldType.int)) rm_X1_left [.ref (mr ρ r0), .int p1] h (phI h post) psN := by
  refine con_of (own := "BeforeTheEnd$Tree") (isI := false) (l0 := [(0, .ref (mr ρ r0)), (1, .int p1)]) (by decide) rfl (fun z => by cases z) (Nat.le_of_ble_eq_true rfl) rfl (fun _ => ?_)
  show X ρ K_X1_left 0 [(0, .ref (mr ρ r0)), (1, .int p1)] [] h 0 0 (phI h post) psN
  refine x_iconst 0 dX1_left_0 (by decide) ?_
  refine x_istore_n (lv' := [(2, .int 0), (0, .ref (mr ρ r0)), (1, .int p1)]) dX1_left_1 (Nat.le_of_ble_eq_true rfl) rfl ?_
  refine x_iload_n 2 dX1_left_2 rfl ?_
  refine x_istore_n (lv' := [(3, .int p1), (2, .int 0), (0, .ref (mr ρ r0)), (1, .int p1)]) dX1_left_3 (Nat.le_of_ble_eq_true rfl) rfl ?_
  refine X.sub [2, 3, 1, 0] rfl ?_
  obtain ⟨fu, hw⟩ := hw
  exact t_X1_left_4 G  fu r0 p1 0 p1 h g Ext.rf fr0 hw

/-! BeforeTheEnd.mustBeWhole()V -/
def wp_X0_mustBeWhole (post : Hp → Prop) (px : Nat → Hp → Prop) (h : Hp) : Prop := (wp_X1_isWhole (fun r_4 h_1 => GI h_1 → Ext h h_1 → (wp_X0_must (fun h_6 => GI h_6 → Ext h_1 h_6 → (post h_6)) px h_1 r_4 (-3))) h (gr h 1 1))
abbrev rm_X0_mustBeWhole : Room := ({ frames := 10, cells := 1, slots := 7, locals := 242 })
abbrev K_X0_mustBeWhole : Kx := ("BeforeTheEnd", cX0_mustBeWhole, 1, (Option.none : Option Jvm.ClassFile.FieldType), rm_X0_mustBeWhole, [], false)
set_option maxHeartbeats 4000000 in
theorem k_X0_mustBeWhole {ρ : Rho} {h : Hp} {post : Hp → Prop} {px : Nat → Hp → Prop} (G : G0 ρ) (g : GI h) (hw : wp_X0_mustBeWhole post px h) : Con ρ yX0_mustBeWhole (ws_ yX0_mustBeWhole cX0_mustBeWhole 1 (Option.none : Option Jvm.ClassFile.FieldType)) rm_X0_mustBeWhole [.ref (mr ρ 1)] h (phV h post) (psX h px) := by
  refine con_of (own := "BeforeTheEnd") (isI := false) (l0 := [(0, .ref (mr ρ 1))]) (by decide) rfl (fun z => by cases z) (Nat.le_of_ble_eq_true rfl) rfl (fun _ => ?_)
  show X ρ K_X0_mustBeWhole 0 [(0, .ref (mr ρ 1))] [] h 0 0 (phV h post) (psX h px)
  refine x_aload_n 0 dX0_mustBeWhole_0 rfl ?_
  refine x_get (ci := 0) (v := .ref (mr ρ (gr h 1 1))) 1 dX0_mustBeWhole_1 (GI.s g (t := (10, 0)) rfl (by decide)) rfl in_X0 (by decide) q188 (Or.inl rfl) (fv_rc rfl rfl (isTree.nz (GI.t g) (GI.live g))) ?_
  refine x_callV (ci := 1) [] 0 dX0_mustBeWhole_4 (k_X1_isWhole G g (GI.t g) hw) (isTree.s (GI.t g)) rfl q788 q789 q790 q105 q791 (by decide) rfl rfl ⟨(Nat.le_of_ble_eq_true rfl), (Nat.le_of_ble_eq_true rfl)⟩ (Nat.le_of_ble_eq_true rfl) ⟨(Nat.le_of_ble_eq_true rfl), (Nat.le_of_ble_eq_true rfl)⟩ (fun v9 h_1 hv9 => ?_) (fun _ _ _ _ _ z _ _ => False.elim z)
  obtain ⟨r_4, rfl, g_2, e_3, b_5, hw⟩ := hv9
  have hw := hw g_2 e_3
  show X ρ K_X0_mustBeWhole 7 [(0, .ref (mr ρ 1))] [.int r_4] h_1 0 0 (phV h post) (psX h px)
  refine x_bipush (-3) dX0_mustBeWhole_7 (by decide) ?_
  refine x_callS [.int r_4, .int (-3)] 2 dX0_mustBeWhole_9 (k_X0_must G g_2 hw) q294 q295 q104 q296 (by decide) rfl rfl ⟨(Nat.le_of_ble_eq_true rfl), (Nat.le_of_ble_eq_true rfl)⟩ (Nat.le_of_ble_eq_true rfl) ⟨(Nat.le_of_ble_eq_true rfl), (Nat.le_of_ble_eq_true rfl)⟩ (fun v9 h_6 hv9 => ?_) (fun q9 h9 ci9 n9 x9 hx9 hs9 hc9 => xt_out hs9 hc9 (fun z hz => by cases hz) (Nat.le_of_ble_eq_true rfl) (Nat.le_of_ble_eq_true rfl) ⟨hx9.1, Ext.tr e_3 hx9.2.1, hx9.2.2⟩)
  obtain ⟨rfl, g_7, e_8, hw⟩ := hv9
  have hw := hw g_7 e_8
  show X ρ K_X0_mustBeWhole 12 [(0, .ref (mr ρ 1))] [] h_6 1 7 (phV h post) (psX h px)
  exact x_vret dX0_mustBeWhole_12 rfl (Nat.le_of_ble_eq_true rfl) (Nat.le_of_ble_eq_true rfl) ⟨rfl, g_7, (Ext.tr e_3 e_8), hw⟩

/-! BeforeTheEnd.divisor(JJ)J -/
def w_X0_divisor_6 (post : Int64 → Hp → Prop) : Nat → Int64 → Int64 → Hp → Prop
  | 0 => fun _ _ _ => False
  | n + 1 => fun x4 x6 h => ((x6 = 0 → (post x4 h)) ∧ (¬ x6 = 0 → (¬ x6 = 0 ∧ (w_X0_divisor_6 post n x6 (x4 - x4 / x6 * x6) h))))
def wp_X0_divisor (post : Int64 → Hp → Prop) (h : Hp) (p1 : Int64) (p2 : Int64) : Prop := (∃ fu : Nat, w_X0_divisor_6 post fu p1 p2 h)
abbrev rm_X0_divisor : Room := ({ frames := 1, cells := 0, slots := 0, locals := 60 })
abbrev K_X0_divisor : Kx := ("BeforeTheEnd", cX0_divisor, 10, (Option.some Jvm.ClassFile.FieldType.long), rm_X0_divisor, [], false)
set_option maxHeartbeats 4000000 in
theorem t_X0_divisor_6 {ρ : Rho} {h0 : Hp} {post : Int64 → Hp → Prop} (G : G0 ρ) :
    ∀ (n : Nat), ∀ (x4 : Int64) (x6 : Int64) (h : Hp), GI h → Ext h0 h → w_X0_divisor_6 post n x4 x6 h → X ρ K_X0_divisor 6 [(4, .long x4), (6, .long x6)] [] h 0 0 (phL h0 post) psN := by
  intro n
  induction n with
  | zero => intro x4 x6 h g e hw; exact False.elim hw
  | succ n ih =>
    intro x4 x6 h g e hw
    refine x_lload 1 dX0_divisor_6 rfl ?_
    refine x_lconst 0 dX0_divisor_8 (by decide) ?_
    obtain ⟨wt_3, wf_4⟩ := hw
    refine x_lif_eq 31 dX0_divisor_9 dX0_divisor_10 (by decide) (fun c_1 => ?_) (fun c_1 => ?_)
    · have hw := wt_3 c_1
      refine x_lload 0 dX0_divisor_31 rfl ?_
      exact x_lret dX0_divisor_33 rfl (Nat.le_of_ble_eq_true rfl) (Nat.le_of_ble_eq_true rfl) ⟨_, rfl, g, e, hw⟩
    · have hw := wf_4 c_1
      refine x_lload 0 dX0_divisor_13 rfl ?_
      refine x_lload 1 dX0_divisor_15 rfl ?_
      obtain ⟨b_2, hw⟩ := hw
      refine x_lrem dX0_divisor_17 b_2 ?_
      refine x_lstore (lv' := [(8, .long (x4 - x4 / x6 * x6)), (4, .long x4), (6, .long x6)]) dX0_divisor_18 (Nat.le_of_ble_eq_true rfl) rfl ?_
      refine x_lload 2 dX0_divisor_20 rfl ?_
      refine x_lstore (lv' := [(4, .long x6), (8, .long (x4 - x4 / x6 * x6)), (6, .long x6)]) dX0_divisor_22 (Nat.le_of_ble_eq_true rfl) rfl ?_
      refine x_lload 1 dX0_divisor_24 rfl ?_
      refine x_lstore (lv' := [(6, .long (x4 - x4 / x6 * x6)), (4, .long x6), (8, .long (x4 - x4 / x6 * x6))]) dX0_divisor_26 (Nat.le_of_ble_eq_true rfl) rfl ?_
      refine x_goto 6 dX0_divisor_28 (by decide) ?_
      refine X.sub [1, 0] rfl ?_
      exact ih x6 (x4 - x4 / x6 * x6) h g e hw
set_option maxHeartbeats 4000000 in
theorem k_X0_divisor {ρ : Rho} {h : Hp} {post : Int64 → Hp → Prop} {p1 : Int64} {p2 : Int64} (G : G0 ρ) (g : GI h) (hw : wp_X0_divisor post h p1 p2) : Con ρ yX0_divisor (ws_ yX0_divisor cX0_divisor 10 (Option.some Jvm.ClassFile.FieldType.long)) rm_X0_divisor [.long p1, .long p2] h (phL h post) psN := by
  refine con_of (own := "BeforeTheEnd") (isI := false) (l0 := [(0, .long p1), (2, .long p2)]) (by decide) rfl (fun z => by cases z) (Nat.le_of_ble_eq_true rfl) rfl (fun _ => ?_)
  show X ρ K_X0_divisor 0 [(0, .long p1), (2, .long p2)] [] h 0 0 (phL h post) psN
  refine x_lload_n 0 dX0_divisor_0 rfl ?_
  refine x_lstore (lv' := [(4, .long p1), (0, .long p1), (2, .long p2)]) dX0_divisor_1 (Nat.le_of_ble_eq_true rfl) rfl ?_
  refine x_lload_n 2 dX0_divisor_3 rfl ?_
  refine x_lstore (lv' := [(6, .long p2), (4, .long p1), (0, .long p1), (2, .long p2)]) dX0_divisor_4 (Nat.le_of_ble_eq_true rfl) rfl ?_
  refine X.sub [1, 0] rfl ?_
  obtain ⟨fu, hw⟩ := hw
  exact t_X0_divisor_6 G  fu p1 p2 h g Ext.rf hw
