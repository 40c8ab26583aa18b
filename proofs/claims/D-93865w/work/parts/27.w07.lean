/-! THE WALK, printed by wip/D-93865w/gen/main.py -/
set_option maxRecDepth 100000
/-! BeforeTheEnd.hadTold(II)I -/
def w_X0_hadTold_35 (post : Int32 → Hp → Prop) (px : Nat → Hp → Prop) : Nat → Int32 → Nat → Int32 → Int32 → Int32 → Hp → Prop
  | 0 => fun _ _ _ _ _ _ => False
  | n + 1 => fun x1 x3 x4 x5 x6 h => ((x1 ≤ x6 → (wp_X0_hadBy (fun r_5 h_2 => GI h_2 → Ext h h_2 → (post r_5 h_2)) h x3 x1)) ∧ (¬ x1 ≤ x6 → (vp_in x6 5 ∧ (vp_in x6 5 ∧ (wp_X0_in (fun r_12 h_9 => GI h_9 → Ext (si h x3 (Int32.toNatClampNeg x6) (x4 - x4 / 10 * 10)) h_9 → (((¬ r_12 = 0 → (vp_in x6 5))) ∧ (∀ z_17 : Int32, z_17 = ((if r_12 = 0 then 0 else (if ((x5 >>> ((gi h_9 x3 (Int32.toNatClampNeg x6)) &&& 31)) &&& 1) = 0 then 1 else 0)) : Int32) → (wp_X0_must (fun h_18 => GI h_18 → Ext h_9 h_18 → (vp_in x6 5 ∧ (∀ x5_24 : Int32, x5_24 = (x5 ||| (1 <<< ((gi h_18 x3 (Int32.toNatClampNeg x6)) &&& 31))) → (w_X0_hadTold_35 post px n x1 x3 (x4 / 10) x5_24 (x6 + 1) h_18)))) px h_9 z_17 (-1))))) (si h x3 (Int32.toNatClampNeg x6) (x4 - x4 / 10 * 10)) (Int32.toInt64 (gi (si h x3 (Int32.toNatClampNeg x6) (x4 - x4 / 10 * 10)) x3 (Int32.toNatClampNeg x6))) 0 (Int32.toInt64 ((gi (si h x3 (Int32.toNatClampNeg x6) (x4 - x4 / 10 * 10)) 1 6) - 1)))))))
def wp_X0_hadTold (post : Int32 → Hp → Prop) (px : Nat → Hp → Prop) (h : Hp) (p1 : Int32) (p2 : Int32) : Prop := (wp_X0_within (fun h_1 => GI h_1 → Ext h h_1 → (∀ z_7 : Int32, z_7 = ((if p2 < 0 then 0 else 1) : Int32) → (wp_X0_must (fun h_8 => GI h_8 → Ext h_1 h_8 → (w_X0_hadTold_35 post px 6 p1 (sz h_8 + 1) p2 0 0 (al h_8 (1, 5)))) px h_1 z_7 (-1)))) px h (Int32.toInt64 p1) 0 5)
abbrev rm_X0_hadTold : Room := ({ frames := 11, cells := 10, slots := 68, locals := 267 })
abbrev K_X0_hadTold : Kx := ("BeforeTheEnd", cX0_hadTold, 7, (Option.some Jvm.ClassFile.FieldType.int), rm_X0_hadTold, [], false)
set_option maxHeartbeats 4000000 in
theorem t_X0_hadTold_35 {ρ : Rho} {h0 : Hp} {post : Int32 → Hp → Prop} {px : Nat → Hp → Prop} (G : G0 ρ) :
    ∀ (n : Nat), n ≤ 6 → ∀ (x1 : Int32) (x3 : Nat) (x4 : Int32) (x5 : Int32) (x6 : Int32) (h : Hp), GI h → Ext h0 h → sh h x3 = (1, 5) → w_X0_hadTold_35 post px n x1 x3 x4 x5 x6 h → X ρ K_X0_hadTold 35 [(0, .ref (mr ρ 1)), (1, .int x1), (3, .ref (mr ρ x3)), (4, .int x4), (5, .int x5), (6, .int x6)] [] h (4 + (6 - n) * 1) (26 + (6 - n) * 7) (phI h0 post) (psX h0 px) := by
  intro n
  induction n with
  | zero => intro hn x1 x3 x4 x5 x6 h g e fx3 hw; exact False.elim hw
  | succ n ih =>
    intro hn x1 x3 x4 x5 x6 h g e fx3 hw
    refine x_iload 5 dX0_hadTold_35 rfl ?_
    refine x_iload_n 1 dX0_hadTold_37 rfl ?_
    obtain ⟨wt_27, wf_28⟩ := hw
    refine x_icmp_ge 114 dX0_hadTold_38 (by decide) (fun c_1 => ?_) (fun c_1 => ?_)
    · have hw := wt_27 c_1
      refine x_aload_n 0 dX0_hadTold_114 rfl ?_
      refine x_aload_n 2 dX0_hadTold_115 rfl ?_
      refine x_iload_n 1 dX0_hadTold_116 rfl ?_
      refine x_callV (ci := 0) [.ref (mr ρ x3), .int x1] 2 dX0_hadTold_117 (k_X0_hadBy G g fx3 hw) (GI.s g (t := (10, 0)) rfl (by decide)) rfl q994 q996 qs45 q104 q997 (by decide) rfl rfl ⟨(Nat.le_of_ble_eq_true rfl), (Nat.le_of_ble_eq_true rfl)⟩ (Nat.le_of_ble_eq_true rfl) ⟨(show 4 + (6 - (n + 1)) * 1 + 0 ≤ 10 by omega), (show 26 + (6 - (n + 1)) * 7 + 0 ≤ 68 by omega)⟩ (fun v9 h_2 hv9 => ?_) (fun _ _ _ _ _ z _ _ => False.elim z)
      obtain ⟨r_5, rfl, g_3, e_4, hw⟩ := hv9
      have hw := hw g_3 e_4
      show X ρ K_X0_hadTold 120 [(0, .ref (mr ρ 1)), (1, .int x1), (3, .ref (mr ρ x3)), (4, .int x4), (5, .int x5), (6, .int x6)] [.int r_5] h_2 (4 + (6 - (n + 1)) * 1) (26 + (6 - (n + 1)) * 7) (phI h0 post) (psX h0 px)
      exact x_iret dX0_hadTold_120 rfl (show 4 + (6 - (n + 1)) * 1 ≤ 10 by omega) (show 26 + (6 - (n + 1)) * 7 ≤ 68 by omega) ⟨_, rfl, g_3, (Ext.tr e e_4), hw⟩
    · have hw := wf_28 c_1
      refine x_aload_n 2 dX0_hadTold_41 rfl ?_
      refine x_iload 5 dX0_hadTold_42 rfl ?_
      refine x_iload 3 dX0_hadTold_44 rfl ?_
      refine x_bipush 10 dX0_hadTold_46 (by decide) ?_
      refine x_irem dX0_hadTold_48 (by decide) ?_
      obtain ⟨b_7, hw⟩ := hw
      refine x_iast (n := 5) (j := (Int32.toNatClampNeg x6)) dX0_hadTold_49 rfl fx3 b_7 ?_
      refine x_iload 3 dX0_hadTold_50 rfl ?_
      refine x_bipush 10 dX0_hadTold_52 (by decide) ?_
      refine x_idiv dX0_hadTold_54 (by decide) ?_
      refine x_istore (lv' := [(4, .int (x4 / 10)), (0, .ref (mr ρ 1)), (1, .int x1), (3, .ref (mr ρ x3)), (5, .int x5), (6, .int x6)]) dX0_hadTold_55 (Nat.le_of_ble_eq_true rfl) rfl ?_
      refine x_aload_n 3 dX0_hadTold_57 rfl ?_
      refine x_iload 5 dX0_hadTold_58 rfl ?_
      obtain ⟨b_8, hw⟩ := hw
      refine x_iald (n := 5) (j := (Int32.toNatClampNeg x6)) dX0_hadTold_60 rfl fx3 b_8 ?_
      refine x_i2l dX0_hadTold_61 ?_
      refine x_lconst 0 dX0_hadTold_62 (by decide) ?_
      refine x_aload_n 1 dX0_hadTold_63 rfl ?_
      refine x_get (ci := 0) (v := .int (gi (si h x3 (Int32.toNatClampNeg x6) (x4 - x4 / 10 * 10)) 1 6)) 6 dX0_hadTold_64 (GI.s (GI.i g) (t := (10, 0)) rfl (by decide)) rfl in_X0 (by decide) q193 (Or.inl rfl) (fv_i rfl) ?_
      refine x_iconst 1 dX0_hadTold_67 (by decide) ?_
      refine x_isub dX0_hadTold_68 ?_
      refine x_i2l dX0_hadTold_69 ?_
      refine x_callS [.long (Int32.toInt64 (gi (si h x3 (Int32.toNatClampNeg x6) (x4 - x4 / 10 * 10)) x3 (Int32.toNatClampNeg x6))), .long 0, .long (Int32.toInt64 ((gi (si h x3 (Int32.toNatClampNeg x6) (x4 - x4 / 10 * 10)) 1 6) - 1))] 3 dX0_hadTold_70 (k_X0_in G (GI.i g) hw) q745 q464 q104 q465 (by decide) rfl rfl ⟨(Nat.le_of_ble_eq_true rfl), (Nat.le_of_ble_eq_true rfl)⟩ (Nat.le_of_ble_eq_true rfl) ⟨(show 4 + (6 - (n + 1)) * 1 + 0 ≤ 10 by omega), (show 26 + (6 - (n + 1)) * 7 + 0 ≤ 68 by omega)⟩ (fun v9 h_9 hv9 => ?_) (fun _ _ _ _ _ z _ _ => False.elim z)
      obtain ⟨r_12, rfl, g_10, e_11, b_13, hw⟩ := hv9
      have hw := hw g_10 e_11
      show X ρ K_X0_hadTold 73 [(4, .int (x4 / 10)), (0, .ref (mr ρ 1)), (1, .int x1), (3, .ref (mr ρ x3)), (5, .int x5), (6, .int x6)] [.int r_12] h_9 (4 + (6 - (n + 1)) * 1) (26 + (6 - (n + 1)) * 7) (phI h0 post) (psX h0 px)
      obtain ⟨hO_26, hw⟩ := hw
      have kJ_25 : ∀ z_17 : Int32, z_17 = ((if r_12 = 0 then 0 else (if ((x5 >>> ((gi h_9 x3 (Int32.toNatClampNeg x6)) &&& 31)) &&& 1) = 0 then 1 else 0)) : Int32) → X ρ K_X0_hadTold 93 [(4, .int (x4 / 10)), (0, .ref (mr ρ 1)), (1, .int x1), (3, .ref (mr ρ x3)), (5, .int x5), (6, .int x6)] [.int z_17] h_9 (4 + (6 - (n + 1)) * 1) (26 + (6 - (n + 1)) * 7) (phI h0 post) (psX h0 px) := fun z_17 ez_17 => by
        have hw := hw z_17 ez_17
        refine x_iconst (-1) dX0_hadTold_93 (by decide) ?_
        refine x_callS [.int z_17, .int (-1)] 2 dX0_hadTold_94 (k_X0_must G g_10 hw) q294 q295 q104 q296 (by decide) rfl rfl ⟨(Nat.le_of_ble_eq_true rfl), (Nat.le_of_ble_eq_true rfl)⟩ (Nat.le_of_ble_eq_true rfl) ⟨(show 4 + (6 - (n + 1)) * 1 + 1 ≤ 10 by omega), (show 26 + (6 - (n + 1)) * 7 + 7 ≤ 68 by omega)⟩ (fun v9 h_18 hv9 => ?_) (fun q9 h9 ci9 n9 x9 hx9 hs9 hc9 => xt_out hs9 hc9 (fun z hz => by cases hz) (show 4 + (6 - (n + 1)) * 1 + 1 ≤ 10 by omega) (show 26 + (6 - (n + 1)) * 7 + 7 ≤ 68 by omega) ⟨hx9.1, Ext.tr (Ext.tr (Ext.i e) e_11) hx9.2.1, hx9.2.2⟩)
        obtain ⟨rfl, g_19, e_20, hw⟩ := hv9
        have hw := hw g_19 e_20
        show X ρ K_X0_hadTold 97 [(4, .int (x4 / 10)), (0, .ref (mr ρ 1)), (1, .int x1), (3, .ref (mr ρ x3)), (5, .int x5), (6, .int x6)] [] h_18 (4 + (6 - (n + 1)) * 1 + 1) (26 + (6 - (n + 1)) * 7 + 7) (phI h0 post) (psX h0 px)
        refine x_iload 4 dX0_hadTold_97 rfl ?_
        refine x_iconst 1 dX0_hadTold_99 (by decide) ?_
        refine x_aload_n 3 dX0_hadTold_100 rfl ?_
        refine x_iload 5 dX0_hadTold_101 rfl ?_
        obtain ⟨b_23, hw⟩ := hw
        refine x_iald (n := 5) (j := (Int32.toNatClampNeg x6)) dX0_hadTold_103 rfl (Ext.s e_20 (Ext.s e_11 fx3 (by decide)) (by decide)) b_23 ?_
        refine x_ishl dX0_hadTold_104 ?_
        refine x_ior dX0_hadTold_105 ?_
        refine x_nmi (fun x5_24 ex5_24 => ?_)
        have hw := hw x5_24 ex5_24
        refine x_istore (lv' := [(5, .int x5_24), (4, .int (x4 / 10)), (0, .ref (mr ρ 1)), (1, .int x1), (3, .ref (mr ρ x3)), (6, .int x6)]) dX0_hadTold_106 (Nat.le_of_ble_eq_true rfl) rfl ?_
        refine x_iinc (v := (x6 + 1)) (lv' := [(6, .int (x6 + 1)), (5, .int x5_24), (4, .int (x4 / 10)), (0, .ref (mr ρ 1)), (1, .int x1), (3, .ref (mr ρ x3))]) 5 dX0_hadTold_108 rfl (by rfl) (Nat.le_of_ble_eq_true rfl) rfl ?_
        refine x_goto 35 dX0_hadTold_111 (by decide) ?_
        refine X.widen (k := 4 + (6 - n) * 1) (n := 26 + (6 - n) * 7) (show 4 + (6 - (n + 1)) * 1 + 1 ≤ 4 + (6 - n) * 1 by omega) (show 26 + (6 - (n + 1)) * 7 + 7 ≤ 26 + (6 - n) * 7 by omega) ?_
        refine X.sub [3, 4, 5, 2, 1, 0] rfl ?_
        exact ih (by omega) x1 x3 (x4 / 10) x5_24 (x6 + 1) h_18 g_19 (Ext.tr (Ext.tr (Ext.i e) e_11) e_20) (Ext.s e_20 (Ext.s e_11 fx3 (by decide)) (by decide)) hw
      have hO_260 := hO_26
      refine x_if_eq 92 dX0_hadTold_73 (by decide) (fun c_14 => ?_) (fun c_14 => ?_)
      · refine x_iconst 0 dX0_hadTold_92 (by decide) ?_
        exact kJ_25 _ ((if_pos c_14)).symm
      · have hO_26_ := hO_260 c_14
        have b_15 := hO_26_
        refine x_iload 4 dX0_hadTold_76 rfl ?_
        refine x_aload_n 3 dX0_hadTold_78 rfl ?_
        refine x_iload 5 dX0_hadTold_79 rfl ?_
        refine x_iald (n := 5) (j := (Int32.toNatClampNeg x6)) dX0_hadTold_81 rfl (Ext.s e_11 fx3 (by decide)) b_15 ?_
        refine x_ishr dX0_hadTold_82 ?_
        refine x_iconst 1 dX0_hadTold_83 (by decide) ?_
        refine x_iand dX0_hadTold_84 ?_
        refine x_if_ne 92 dX0_hadTold_85 (by decide) (fun c_16 => ?_) (fun c_16 => ?_)
        · refine x_iconst 0 dX0_hadTold_92 (by decide) ?_
          exact kJ_25 _ (((if_neg c_14).trans (if_neg c_16))).symm
        · refine x_iconst 1 dX0_hadTold_88 (by decide) ?_
          refine x_goto 93 dX0_hadTold_89 (by decide) ?_
          exact kJ_25 _ (((if_neg c_14).trans (if_pos c_16))).symm
set_option maxHeartbeats 4000000 in
theorem k_X0_hadTold {ρ : Rho} {h : Hp} {post : Int32 → Hp → Prop} {px : Nat → Hp → Prop} {p1 : Int32} {p2 : Int32} (G : G0 ρ) (g : GI h) (hw : wp_X0_hadTold post px h p1 p2) : Con ρ yX0_hadTold (ws_ yX0_hadTold cX0_hadTold 7 (Option.some Jvm.ClassFile.FieldType.int)) rm_X0_hadTold [.ref (mr ρ 1), .int p1, .int p2] h (phI h post) (psX h px) := by
  refine con_of (own := "BeforeTheEnd") (isI := false) (l0 := [(0, .ref (mr ρ 1)), (1, .int p1), (2, .int p2)]) (by decide) rfl (fun z => by cases z) (Nat.le_of_ble_eq_true rfl) rfl (fun _ => ?_)
  show X ρ K_X0_hadTold 0 [(0, .ref (mr ρ 1)), (1, .int p1), (2, .int p2)] [] h 0 0 (phI h post) (psX h px)
  refine x_iload_n 1 dX0_hadTold_0 rfl ?_
  refine x_i2l dX0_hadTold_1 ?_
  refine x_lconst 0 dX0_hadTold_2 (by decide) ?_
  refine x_ldc2 dX0_hadTold_3 q993 ?_
  refine x_callS [.long (Int32.toInt64 p1), .long 0, .long 5] 3 dX0_hadTold_6 (k_X0_within G g hw) q834 q835 q104 q836 (by decide) rfl rfl ⟨(Nat.le_of_ble_eq_true rfl), (Nat.le_of_ble_eq_true rfl)⟩ (Nat.le_of_ble_eq_true rfl) ⟨(Nat.le_of_ble_eq_true rfl), (Nat.le_of_ble_eq_true rfl)⟩ (fun v9 h_1 hv9 => ?_) (fun q9 h9 ci9 n9 x9 hx9 hs9 hc9 => xt_out hs9 hc9 (fun z hz => by cases hz) (Nat.le_of_ble_eq_true rfl) (Nat.le_of_ble_eq_true rfl) ⟨hx9.1, Ext.tr Ext.rf hx9.2.1, hx9.2.2⟩)
  obtain ⟨rfl, g_2, e_3, hw⟩ := hv9
  have hw := hw g_2 e_3
  show X ρ K_X0_hadTold 9 [(0, .ref (mr ρ 1)), (1, .int p1), (2, .int p2)] [] h_1 2 14 (phI h post) (psX h px)
  refine x_iload_n 2 dX0_hadTold_9 rfl ?_
  have kJ_13 : ∀ z_7 : Int32, z_7 = ((if p2 < 0 then 0 else 1) : Int32) → X ρ K_X0_hadTold 18 [(0, .ref (mr ρ 1)), (1, .int p1), (2, .int p2)] [.int z_7] h_1 2 14 (phI h post) (psX h px) := fun z_7 ez_7 => by
    have hw := hw z_7 ez_7
    refine x_iconst (-1) dX0_hadTold_18 (by decide) ?_
    refine x_callS [.int z_7, .int (-1)] 2 dX0_hadTold_19 (k_X0_must G g_2 hw) q294 q295 q104 q296 (by decide) rfl rfl ⟨(Nat.le_of_ble_eq_true rfl), (Nat.le_of_ble_eq_true rfl)⟩ (Nat.le_of_ble_eq_true rfl) ⟨(Nat.le_of_ble_eq_true rfl), (Nat.le_of_ble_eq_true rfl)⟩ (fun v9 h_8 hv9 => ?_) (fun q9 h9 ci9 n9 x9 hx9 hs9 hc9 => xt_out hs9 hc9 (fun z hz => by cases hz) (Nat.le_of_ble_eq_true rfl) (Nat.le_of_ble_eq_true rfl) ⟨hx9.1, Ext.tr e_3 hx9.2.1, hx9.2.2⟩)
    obtain ⟨rfl, g_9, e_10, hw⟩ := hv9
    have hw := hw g_9 e_10
    show X ρ K_X0_hadTold 22 [(0, .ref (mr ρ 1)), (1, .int p1), (2, .int p2)] [] h_8 3 21 (phI h post) (psX h px)
    refine x_iconst 5 dX0_hadTold_22 (by decide) ?_
    refine x_newa 1 5 dX0_hadTold_23 rfl (by decide) (by decide) q180 (by decide) (by decide) (Nat.le_of_ble_eq_true rfl) (Nat.le_of_ble_eq_true rfl) (Nat.le_of_ble_eq_true rfl) ?_
    refine x_astore_n (lv' := [(3, .ref (mr ρ (sz h_8 + 1))), (0, .ref (mr ρ 1)), (1, .int p1), (2, .int p2)]) dX0_hadTold_25 (Nat.le_of_ble_eq_true rfl) rfl ?_
    refine x_iload_n 3 dX0_hadTold_26 rfl ?_
    refine x_istore (lv' := [(4, .int p2), (3, .ref (mr ρ (sz h_8 + 1))), (0, .ref (mr ρ 1)), (1, .int p1), (2, .int p2)]) dX0_hadTold_27 (Nat.le_of_ble_eq_true rfl) rfl ?_
    refine x_iconst 0 dX0_hadTold_29 (by decide) ?_
    refine x_istore (lv' := [(5, .int 0), (4, .int p2), (3, .ref (mr ρ (sz h_8 + 1))), (0, .ref (mr ρ 1)), (1, .int p1), (2, .int p2)]) dX0_hadTold_30 (Nat.le_of_ble_eq_true rfl) rfl ?_
    refine x_iconst 0 dX0_hadTold_32 (by decide) ?_
    refine x_istore (lv' := [(6, .int 0), (5, .int 0), (4, .int p2), (3, .ref (mr ρ (sz h_8 + 1))), (0, .ref (mr ρ 1)), (1, .int p1), (2, .int p2)]) dX0_hadTold_33 (Nat.le_of_ble_eq_true rfl) rfl ?_
    refine X.widen (k := 4 + (6 - 6) * 1) (n := 26 + (6 - 6) * 7) (show 4 ≤ 4 + (6 - 6) * 1 by omega) (show 26 ≤ 26 + (6 - 6) * 7 by omega) ?_
    refine X.sub [4, 5, 3, 2, 1, 0] rfl ?_
    exact t_X0_hadTold_35 G  6 (Nat.le_refl _) p1 (sz h_8 + 1) p2 0 0 (al h_8 (1, 5)) (GI.w g_9) (Ext.w (Ext.tr e_3 e_10) (GI.live g_9)) sh_new hw
  refine x_if_lt 17 dX0_hadTold_10 (by decide) (fun c_6 => ?_) (fun c_6 => ?_)
  · refine x_iconst 0 dX0_hadTold_17 (by decide) ?_
    exact kJ_13 _ ((if_pos c_6)).symm
  · refine x_iconst 1 dX0_hadTold_13 (by decide) ?_
    refine x_goto 18 dX0_hadTold_14 (by decide) ?_
    exact kJ_13 _ ((if_neg c_6)).symm

/-! BeforeTheEnd.seek(IIZ)V: by its depth -/
def w_X0_seek_53 (post : Hp → Prop) (WS : (Hp → Prop) → Hp → Int32 → Int32 → Int32 → Prop) (x1 : Int32) (x4 : Int32) (h : Hp) : Prop := (¬ x1 < 0 ∧ ((0 : Int32).toNatClampNeg + x1.toNatClampNeg ≤ 5 ∧ ((0 : Int32).toNatClampNeg + x1.toNatClampNeg ≤ 5 ∧ (post (cpi (si h 1 29 x4) 23 0 24 0 (Int32.toNatClampNeg x1))))))
def w_X0_seek_77 (post : Hp → Prop) (WS : (Hp → Prop) → Hp → Int32 → Int32 → Int32 → Prop) : Nat → Int32 → Int32 → Int32 → Int32 → Hp → Prop
  | 0 => fun _ _ _ _ _ => False
  | n + 1 => fun x1 x2 x3 x4 h => (((gi h 1 6) ≤ x4 → (post h)) ∧ (¬ (gi h 1 6) ≤ x4 → ((¬ ((x2 >>> (x4 &&& 31)) &&& 1) = 0 → (w_X0_seek_77 post WS n x1 x2 x3 (x4 + 1) h)) ∧ (((x2 >>> (x4 &&& 31)) &&& 1) = 0 → (vp_in x1 5 ∧ (WS (fun h_4 => GI h_4 → Ext (si h 23 (Int32.toNatClampNeg x1) x4) h_4 → (w_X0_seek_77 post WS n x1 x2 x3 (x4 + 1) h_4)) (si h 23 (Int32.toNatClampNeg x1) x4) (x1 + 1) (x2 ||| (1 <<< (x4 &&& 31))) x3))))))
def wp_X0_seek : Nat → (Hp → Prop) → Hp → Int32 → Int32 → Int32 → Prop
  | 0 => fun _ _ _ _ _ => False
  | d + 1 => fun post h p1 p2 p3 => ((¬ p1 = (gi h 1 6) → (∃ fu : Nat, w_X0_seek_77 post (wp_X0_seek d) fu p1 p2 p3 0 h)) ∧ (p1 = (gi h 1 6) → (wp_X0_hadBy (fun r_5 h_2 => GI h_2 → Ext h h_2 → (((gi h_2 1 29) = (-9) → (w_X0_seek_53 post (wp_X0_seek d) p1 r_5 h_2)) ∧ (¬ (gi h_2 1 29) = (-9) → ((p3 = 0 → (((gi h_2 1 29) ≤ r_5 → (post h_2)) ∧ (¬ (gi h_2 1 29) ≤ r_5 → (w_X0_seek_53 post (wp_X0_seek d) p1 r_5 h_2)))) ∧ (¬ p3 = 0 → ((r_5 ≤ (gi h_2 1 29) → (post h_2)) ∧ (¬ r_5 ≤ (gi h_2 1 29) → (w_X0_seek_53 post (wp_X0_seek d) p1 r_5 h_2)))))))) h 23 p1)))
abbrev rm_X0_seek (d : Nat) : Room := ({ frames := 4 + d, cells := 0, slots := 0, locals := 200 + d * 40 })
abbrev K_X0_seek (d : Nat) : Kx := ("BeforeTheEnd", cX0_seek, 5, (Option.none : Option Jvm.ClassFile.FieldType), rm_X0_seek d, [], false)
set_option maxHeartbeats 4000000 in
theorem t_X0_seek_53 {ρ : Rho} {d : Nat} {h0 : Hp} {post : Hp → Prop} {WS : (Hp → Prop) → Hp → Int32 → Int32 → Int32 → Prop} (G : G0 ρ) (hS : ∀ (post : Hp → Prop) (h : Hp) (p1 p2 p3 : Int32), GI h → WS post h p1 p2 p3 → Con ρ yX0_seek (ws_ yX0_seek cX0_seek 5 (Option.none : Option Jvm.ClassFile.FieldType)) (rm_X0_seek d) [.ref (mr ρ 1), .int p1, .int p2, .int p3] h (phV h post) psN) :
    ∀ (x1 : Int32) (x4 : Int32) (h : Hp), GI h → Ext h0 h → w_X0_seek_53 post WS x1 x4 h → X ρ (K_X0_seek (d + 1)) 53 [(0, .ref (mr ρ 1)), (1, .int x1), (4, .int x4)] [] h 0 0 (phV h0 post) psN := by
  intro x1 x4 h g e hw
  refine x_aload_n 0 dX0_seek_53 rfl ?_
  refine x_iload 2 dX0_seek_54 rfl ?_
  refine x_put (ci := 0) 29 dX0_seek_56 (GI.s g (t := (10, 0)) rfl (by decide)) rfl in_X0 tyX0 tyX0_ok nmX0 (by decide) q218 (Or.inl rfl) rfl rfl rfl (isPut_i rfl) ?_
  refine x_aload_n 0 dX0_seek_59 rfl ?_
  refine x_get (ci := 0) (v := .ref (mr ρ 23)) 27 dX0_seek_60 (GI.s (GI.i g) (t := (10, 0)) rfl (by decide)) rfl in_X0 (by decide) q216 (Or.inl rfl) (fv_rc rfl (GI.x (GI.i g) (n := 23) rfl (by decide)) (by decide)) ?_
  refine x_iconst 0 dX0_seek_63 (by decide) ?_
  refine x_aload_n 0 dX0_seek_64 rfl ?_
  refine x_get (ci := 0) (v := .ref (mr ρ 24)) 28 dX0_seek_65 (GI.s (GI.i g) (t := (10, 0)) rfl (by decide)) rfl in_X0 (by decide) q217 (Or.inl rfl) (fv_rc rfl (GI.x (GI.i g) (n := 24) rfl (by decide)) (by decide)) ?_
  refine x_iconst 0 dX0_seek_68 (by decide) ?_
  refine x_iload_n 1 dX0_seek_69 rfl ?_
  obtain ⟨b_1, hw⟩ := hw
  obtain ⟨b_2, hw⟩ := hw
  obtain ⟨b_3, hw⟩ := hw
  refine x_copy dX0_seek_70 (GI.s (GI.i g) (t := (1, 5)) rfl (by decide)) (GI.s (GI.i g) (t := (1, 5)) rfl (by decide)) q1006 q712 q711 q130 (by decide) (by decide) b_1 b_2 b_3 (by show 1 ≤ 4 + (d + 1); omega) (Nat.le_trans (m := 100) (Nat.le_of_ble_eq_true rfl) (by show 100 ≤ 200 + (d + 1) * 40; omega)) ?_
  show X ρ (K_X0_seek (d + 1)) 73 [(0, .ref (mr ρ 1)), (1, .int x1), (4, .int x4)] [] (cpi (si h 1 29 x4) 23 0 24 0 (Int32.toNatClampNeg x1)) 0 0 (phV h0 post) psN
  exact x_vret dX0_seek_73 rfl (Nat.le_of_ble_eq_true rfl) (Nat.le_of_ble_eq_true rfl) ⟨rfl, (GI.c (GI.i g)), (Ext.c (Ext.i e)), hw⟩
set_option maxHeartbeats 4000000 in
theorem t_X0_seek_77 {ρ : Rho} {d : Nat} {h0 : Hp} {post : Hp → Prop} {WS : (Hp → Prop) → Hp → Int32 → Int32 → Int32 → Prop} (G : G0 ρ) (hS : ∀ (post : Hp → Prop) (h : Hp) (p1 p2 p3 : Int32), GI h → WS post h p1 p2 p3 → Con ρ yX0_seek (ws_ yX0_seek cX0_seek 5 (Option.none : Option Jvm.ClassFile.FieldType)) (rm_X0_seek d) [.ref (mr ρ 1), .int p1, .int p2, .int p3] h (phV h post) psN) :
    ∀ (n : Nat), ∀ (x1 : Int32) (x2 : Int32) (x3 : Int32) (x4 : Int32) (h : Hp), GI h → Ext h0 h → w_X0_seek_77 post WS n x1 x2 x3 x4 h → X ρ (K_X0_seek (d + 1)) 77 [(0, .ref (mr ρ 1)), (1, .int x1), (2, .int x2), (3, .int x3), (4, .int x4)] [] h 0 0 (phV h0 post) psN := by
  intro n
  induction n with
  | zero => intro x1 x2 x3 x4 h g e hw; exact False.elim hw
  | succ n ih =>
    intro x1 x2 x3 x4 h g e hw
    refine x_iload 4 dX0_seek_77 rfl ?_
    refine x_aload_n 0 dX0_seek_79 rfl ?_
    refine x_get (ci := 0) (v := .int (gi h 1 6)) 6 dX0_seek_80 (GI.s g (t := (10, 0)) rfl (by decide)) rfl in_X0 (by decide) q193 (Or.inl rfl) (fv_i rfl) ?_
    obtain ⟨wt_11, wf_12⟩ := hw
    refine x_icmp_ge 123 dX0_seek_83 (by decide) (fun c_1 => ?_) (fun c_1 => ?_)
    · have hw := wt_11 c_1
      exact x_vret dX0_seek_123 rfl (Nat.le_of_ble_eq_true rfl) (Nat.le_of_ble_eq_true rfl) ⟨rfl, g, e, hw⟩
    · have hw := wf_12 c_1
      refine x_iload_n 2 dX0_seek_86 rfl ?_
      refine x_iload 4 dX0_seek_87 rfl ?_
      refine x_ishr dX0_seek_89 ?_
      refine x_iconst 1 dX0_seek_90 (by decide) ?_
      refine x_iand dX0_seek_91 ?_
      obtain ⟨wt_9, wf_10⟩ := hw
      refine x_if_ne 117 dX0_seek_92 (by decide) (fun c_2 => ?_) (fun c_2 => ?_)
      · have hw := wt_9 c_2
        refine x_iinc (v := (x4 + 1)) (lv' := [(4, .int (x4 + 1)), (0, .ref (mr ρ 1)), (1, .int x1), (2, .int x2), (3, .int x3)]) 4 dX0_seek_117 rfl (by rfl) (Nat.le_of_ble_eq_true rfl) rfl ?_
        refine x_goto 77 dX0_seek_120 (by decide) ?_
        refine X.sub [1, 2, 3, 4, 0] rfl ?_
        exact ih x1 x2 x3 (x4 + 1) h g e hw
      · have hw := wf_10 c_2
        refine x_aload_n 0 dX0_seek_95 rfl ?_
        refine x_get (ci := 0) (v := .ref (mr ρ 23)) 27 dX0_seek_96 (GI.s g (t := (10, 0)) rfl (by decide)) rfl in_X0 (by decide) q216 (Or.inl rfl) (fv_rc rfl (GI.x g (n := 23) rfl (by decide)) (by decide)) ?_
        refine x_iload_n 1 dX0_seek_99 rfl ?_
        refine x_iload 4 dX0_seek_100 rfl ?_
        obtain ⟨b_3, hw⟩ := hw
        refine x_iast (n := 5) (j := (Int32.toNatClampNeg x1)) dX0_seek_102 rfl (GI.s g (t := (1, 5)) rfl (by decide)) b_3 ?_
        refine x_aload_n 0 dX0_seek_103 rfl ?_
        refine x_iload_n 1 dX0_seek_104 rfl ?_
        refine x_iconst 1 dX0_seek_105 (by decide) ?_
        refine x_iadd dX0_seek_106 ?_
        refine x_iload_n 2 dX0_seek_107 rfl ?_
        refine x_iconst 1 dX0_seek_108 (by decide) ?_
        refine x_iload 4 dX0_seek_109 rfl ?_
        refine x_ishl dX0_seek_111 ?_
        refine x_ior dX0_seek_112 ?_
        refine x_iload_n 3 dX0_seek_113 rfl ?_
        refine x_callV (ci := 0) [.int (x1 + 1), .int (x2 ||| (1 <<< (x4 &&& 31))), .int x3] 3 dX0_seek_114 (hS _ _ _ _ _ (GI.i g) hw) (GI.s (GI.i g) (t := (10, 0)) rfl (by decide)) rfl q1002 q1004 qs47 q104 q1005 (by decide) rfl rfl ⟨by show 4 + d + 1 ≤ 4 + (d + 1); omega, by show 8 + (5 + 11) + (200 + d * 40) ≤ 200 + (d + 1) * 40; omega⟩ (Nat.le_of_ble_eq_true rfl) ⟨(Nat.le_of_ble_eq_true rfl), (Nat.le_of_ble_eq_true rfl)⟩ (fun v9 h_4 hv9 => ?_) (fun _ _ _ _ _ z _ _ => False.elim z)
        obtain ⟨rfl, g_5, e_6, hw⟩ := hv9
        have hw := hw g_5 e_6
        show X ρ (K_X0_seek (d + 1)) 117 [(0, .ref (mr ρ 1)), (1, .int x1), (2, .int x2), (3, .int x3), (4, .int x4)] [] h_4 0 0 (phV h0 post) psN
        refine x_iinc (v := (x4 + 1)) (lv' := [(4, .int (x4 + 1)), (0, .ref (mr ρ 1)), (1, .int x1), (2, .int x2), (3, .int x3)]) 4 dX0_seek_117 rfl (by rfl) (Nat.le_of_ble_eq_true rfl) rfl ?_
        refine x_goto 77 dX0_seek_120 (by decide) ?_
        refine X.sub [1, 2, 3, 4, 0] rfl ?_
        exact ih x1 x2 x3 (x4 + 1) h_4 g_5 (Ext.tr (Ext.i e) e_6) hw
set_option maxHeartbeats 4000000 in
theorem k_X0_seek {ρ : Rho} (G : G0 ρ) : ∀ (d : Nat) (post : Hp → Prop) (h : Hp) (p1 p2 p3 : Int32), GI h → wp_X0_seek d post h p1 p2 p3 → Con ρ yX0_seek (ws_ yX0_seek cX0_seek 5 (Option.none : Option Jvm.ClassFile.FieldType)) (rm_X0_seek d) [.ref (mr ρ 1), .int p1, .int p2, .int p3] h (phV h post) psN := by
  intro d
  induction d with
  | zero => intro post h p1 p2 p3 g hw; exact False.elim hw
  | succ d hS =>
    intro post h p1 p2 p3 g hw
    refine con_of (own := "BeforeTheEnd") (isI := false) (l0 := [(0, .ref (mr ρ 1)), (1, .int p1), (2, .int p2), (3, .int p3)]) (by decide) rfl (fun z => by cases z) (Nat.le_of_ble_eq_true rfl) rfl (fun _ => ?_)
    show X ρ (K_X0_seek (d + 1)) 0 [(0, .ref (mr ρ 1)), (1, .int p1), (2, .int p2), (3, .int p3)] [] h 0 0 (phV h post) psN
    refine x_iload_n 1 dX0_seek_0 rfl ?_
    refine x_aload_n 0 dX0_seek_1 rfl ?_
    refine x_get (ci := 0) (v := .int (gi h 1 6)) 6 dX0_seek_2 (GI.s g (t := (10, 0)) rfl (by decide)) rfl in_X0 (by decide) q193 (Or.inl rfl) (fv_i rfl) ?_
    obtain ⟨wt_19, wf_20⟩ := hw
    refine x_icmp_ne 74 dX0_seek_5 (by decide) (fun c_1 => ?_) (fun c_1 => ?_)
    · have hw := wt_19 c_1
      refine x_iconst 0 dX0_seek_74 (by decide) ?_
      refine x_istore (lv' := [(4, .int 0), (0, .ref (mr ρ 1)), (1, .int p1), (2, .int p2), (3, .int p3)]) dX0_seek_75 (Nat.le_of_ble_eq_true rfl) rfl ?_
      refine X.sub [1, 2, 3, 4, 0] rfl ?_
      obtain ⟨fu, hw⟩ := hw
      exact t_X0_seek_77 G hS  fu p1 p2 p3 0 h g Ext.rf hw
    · have hw := wf_20 c_1
      refine x_aload_n 0 dX0_seek_8 rfl ?_
      refine x_aload_n 0 dX0_seek_9 rfl ?_
      refine x_get (ci := 0) (v := .ref (mr ρ 23)) 27 dX0_seek_10 (GI.s g (t := (10, 0)) rfl (by decide)) rfl in_X0 (by decide) q216 (Or.inl rfl) (fv_rc rfl (GI.x g (n := 23) rfl (by decide)) (by decide)) ?_
      refine x_iload_n 1 dX0_seek_13 rfl ?_
      refine x_callV (ci := 0) [.ref (mr ρ 23), .int p1] 2 dX0_seek_14 (k_X0_hadBy G g (GI.s g (t := (1, 5)) rfl (by decide)) hw) (GI.s g (t := (10, 0)) rfl (by decide)) rfl q994 q996 qs45 q104 q997 (by decide) rfl rfl ⟨by show 2 + 1 ≤ 4 + (d + 1); omega, by show 8 + (5 + 11) + 82 ≤ 200 + (d + 1) * 40; omega⟩ (Nat.le_of_ble_eq_true rfl) ⟨(Nat.le_of_ble_eq_true rfl), (Nat.le_of_ble_eq_true rfl)⟩ (fun v9 h_2 hv9 => ?_) (fun _ _ _ _ _ z _ _ => False.elim z)
      obtain ⟨r_5, rfl, g_3, e_4, hw⟩ := hv9
      have hw := hw g_3 e_4
      show X ρ (K_X0_seek (d + 1)) 17 [(0, .ref (mr ρ 1)), (1, .int p1), (2, .int p2), (3, .int p3)] [.int r_5] h_2 0 0 (phV h post) psN
      refine x_istore (lv' := [(4, .int r_5), (0, .ref (mr ρ 1)), (1, .int p1), (2, .int p2), (3, .int p3)]) dX0_seek_17 (Nat.le_of_ble_eq_true rfl) rfl ?_
      refine x_aload_n 1 dX0_seek_19 rfl ?_
      refine x_get (ci := 0) (v := .int (gi h_2 1 29)) 29 dX0_seek_20 (GI.s g_3 (t := (10, 0)) rfl (by decide)) rfl in_X0 (by decide) q218 (Or.inl rfl) (fv_i rfl) ?_
      refine x_bipush (-9) dX0_seek_23 (by decide) ?_
      obtain ⟨wt_17, wf_18⟩ := hw
      refine x_icmp_eq 53 dX0_seek_25 (by decide) (fun c_7 => ?_) (fun c_7 => ?_)
      · have hw := wt_17 c_7
        refine X.sub [1, 2, 0] rfl ?_
        exact t_X0_seek_53 G hS  p1 r_5 h_2 g_3 e_4 hw
      · have hw := wf_18 c_7
        refine x_iload_n 4 dX0_seek_28 rfl ?_
        obtain ⟨wt_15, wf_16⟩ := hw
        refine x_if_eq 44 dX0_seek_29 (by decide) (fun c_8 => ?_) (fun c_8 => ?_)
        · have hw := wt_15 c_8
          refine x_iload 0 dX0_seek_44 rfl ?_
          refine x_aload_n 1 dX0_seek_46 rfl ?_
          refine x_get (ci := 0) (v := .int (gi h_2 1 29)) 29 dX0_seek_47 (GI.s g_3 (t := (10, 0)) rfl (by decide)) rfl in_X0 (by decide) q218 (Or.inl rfl) (fv_i rfl) ?_
          obtain ⟨wt_10, wf_11⟩ := hw
          refine x_icmp_ge 73 dX0_seek_50 (by decide) (fun c_9 => ?_) (fun c_9 => ?_)
          · have hw := wt_10 c_9
            exact x_vret dX0_seek_73 rfl (Nat.le_of_ble_eq_true rfl) (Nat.le_of_ble_eq_true rfl) ⟨rfl, g_3, e_4, hw⟩
          · have hw := wf_11 c_9
            refine X.sub [1, 2, 0] rfl ?_
            exact t_X0_seek_53 G hS  p1 r_5 h_2 g_3 e_4 hw
        · have hw := wf_16 c_8
          refine x_iload 0 dX0_seek_32 rfl ?_
          refine x_aload_n 1 dX0_seek_34 rfl ?_
          refine x_get (ci := 0) (v := .int (gi h_2 1 29)) 29 dX0_seek_35 (GI.s g_3 (t := (10, 0)) rfl (by decide)) rfl in_X0 (by decide) q218 (Or.inl rfl) (fv_i rfl) ?_
          obtain ⟨wt_13, wf_14⟩ := hw
          refine x_icmp_le 73 dX0_seek_38 (by decide) (fun c_12 => ?_) (fun c_12 => ?_)
          · have hw := wt_13 c_12
            exact x_vret dX0_seek_73 rfl (Nat.le_of_ble_eq_true rfl) (Nat.le_of_ble_eq_true rfl) ⟨rfl, g_3, e_4, hw⟩
          · have hw := wf_14 c_12
            refine x_goto 53 dX0_seek_41 (by decide) ?_
            refine X.sub [1, 2, 0] rfl ?_
            exact t_X0_seek_53 G hS  p1 r_5 h_2 g_3 e_4 hw

/-! BeforeTheEnd.orderTold(IZ)I -/
def wp_X0_orderTold (post : Int32 → Hp → Prop) (px : Nat → Hp → Prop) (h : Hp) (p1 : Int32) (p2 : Int32) : Prop := (∀ z_2 : Int32, z_2 = ((if p1 < (-1) then 0 else 1) : Int32) → (wp_X0_must (fun h_3 => GI h_3 → Ext h h_3 → (wp_X0_seek 7 (fun h_8 => GI h_8 → Ext (si h_3 1 29 (-9)) h_8 → (((0 ≤ p1 → ((¬ (gi h_8 1 6) ≤ p1 → (vp_in p1 5))))) ∧ (∀ z_16 : Int32, z_16 = ((if 0 ≤ p1 then (if (gi h_8 1 6) ≤ p1 then (-9) else (gi h_8 24 (Int32.toNatClampNeg p1))) else (gi h_8 1 29)) : Int32) → (post z_16 h_8)))) (si h_3 1 29 (-9)) 0 0 p2)) px h z_2 (-4)))
abbrev rm_X0_orderTold : Room := ({ frames := 12, cells := 1, slots := 7, locals := 504 })
abbrev K_X0_orderTold : Kx := ("BeforeTheEnd", cX0_orderTold, 3, (Option.some Jvm.ClassFile.FieldType.int), rm_X0_orderTold, [], false)
set_option maxHeartbeats 4000000 in
theorem k_X0_orderTold {ρ : Rho} {h : Hp} {post : Int32 → Hp → Prop} {px : Nat → Hp → Prop} {p1 : Int32} {p2 : Int32} (G : G0 ρ) (g : GI h) (hw : wp_X0_orderTold post px h p1 p2) : Con ρ yX0_orderTold (ws_ yX0_orderTold cX0_orderTold 3 (Option.some Jvm.ClassFile.FieldType.int)) rm_X0_orderTold [.ref (mr ρ 1), .int p1, .int p2] h (phI h post) (psX h px) := by
  refine con_of (own := "BeforeTheEnd") (isI := false) (l0 := [(0, .ref (mr ρ 1)), (1, .int p1), (2, .int p2)]) (by decide) rfl (fun z => by cases z) (Nat.le_of_ble_eq_true rfl) rfl (fun _ => ?_)
  show X ρ K_X0_orderTold 0 [(0, .ref (mr ρ 1)), (1, .int p1), (2, .int p2)] [] h 0 0 (phI h post) (psX h px)
  refine x_iload_n 1 dX0_orderTold_0 rfl ?_
  refine x_iconst (-1) dX0_orderTold_1 (by decide) ?_
  have kJ_19 : ∀ z_2 : Int32, z_2 = ((if p1 < (-1) then 0 else 1) : Int32) → X ρ K_X0_orderTold 10 [(0, .ref (mr ρ 1)), (1, .int p1), (2, .int p2)] [.int z_2] h 0 0 (phI h post) (psX h px) := fun z_2 ez_2 => by
    have hw := hw z_2 ez_2
    refine x_bipush (-4) dX0_orderTold_10 (by decide) ?_
    refine x_callS [.int z_2, .int (-4)] 2 dX0_orderTold_12 (k_X0_must G g hw) q294 q295 q104 q296 (by decide) rfl rfl ⟨(Nat.le_of_ble_eq_true rfl), (Nat.le_of_ble_eq_true rfl)⟩ (Nat.le_of_ble_eq_true rfl) ⟨(Nat.le_of_ble_eq_true rfl), (Nat.le_of_ble_eq_true rfl)⟩ (fun v9 h_3 hv9 => ?_) (fun q9 h9 ci9 n9 x9 hx9 hs9 hc9 => xt_out hs9 hc9 (fun z hz => by cases hz) (Nat.le_of_ble_eq_true rfl) (Nat.le_of_ble_eq_true rfl) ⟨hx9.1, Ext.tr Ext.rf hx9.2.1, hx9.2.2⟩)
    obtain ⟨rfl, g_4, e_5, hw⟩ := hv9
    have hw := hw g_4 e_5
    show X ρ K_X0_orderTold 15 [(0, .ref (mr ρ 1)), (1, .int p1), (2, .int p2)] [] h_3 1 7 (phI h post) (psX h px)
    refine x_aload_n 0 dX0_orderTold_15 rfl ?_
    refine x_bipush (-9) dX0_orderTold_16 (by decide) ?_
    refine x_put (ci := 0) 29 dX0_orderTold_18 (GI.s g_4 (t := (10, 0)) rfl (by decide)) rfl in_X0 tyX0 tyX0_ok nmX0 (by decide) q218 (Or.inl rfl) rfl rfl rfl (isPut_i rfl) ?_
    refine x_aload_n 0 dX0_orderTold_21 rfl ?_
    refine x_iconst 0 dX0_orderTold_22 (by decide) ?_
    refine x_iconst 0 dX0_orderTold_23 (by decide) ?_
    refine x_iload_n 2 dX0_orderTold_24 rfl ?_
    refine x_callV (ci := 0) [.int 0, .int 0, .int p2] 3 dX0_orderTold_25 (k_X0_seek G 7 _ _ _ _ _ (GI.i g_4) hw) (GI.s (GI.i g_4) (t := (10, 0)) rfl (by decide)) rfl q1002 q1004 qs47 q104 q1005 (by decide) rfl rfl ⟨(Nat.le_of_ble_eq_true rfl), (Nat.le_of_ble_eq_true rfl)⟩ (Nat.le_of_ble_eq_true rfl) ⟨(Nat.le_of_ble_eq_true rfl), (Nat.le_of_ble_eq_true rfl)⟩ (fun v9 h_8 hv9 => ?_) (fun _ _ _ _ _ z _ _ => False.elim z)
    obtain ⟨rfl, g_9, e_10, hw⟩ := hv9
    have hw := hw g_9 e_10
    show X ρ K_X0_orderTold 28 [(0, .ref (mr ρ 1)), (1, .int p1), (2, .int p2)] [] h_8 1 7 (phI h post) (psX h px)
    refine x_iload_n 1 dX0_orderTold_28 rfl ?_
    obtain ⟨hO_18, hw⟩ := hw
    have kJ_17 : ∀ z_16 : Int32, z_16 = ((if 0 ≤ p1 then (if (gi h_8 1 6) ≤ p1 then (-9) else (gi h_8 24 (Int32.toNatClampNeg p1))) else (gi h_8 1 29)) : Int32) → X ρ K_X0_orderTold 58 [(0, .ref (mr ρ 1)), (1, .int p1), (2, .int p2)] [.int z_16] h_8 1 7 (phI h post) (psX h px) := fun z_16 ez_16 => by
      have hw := hw z_16 ez_16
      exact x_iret dX0_orderTold_58 rfl (Nat.le_of_ble_eq_true rfl) (Nat.le_of_ble_eq_true rfl) ⟨_, rfl, g_9, (Ext.tr (Ext.i e_5) e_10), hw⟩
    have hO_180 := hO_18
    refine x_if_ge 39 dX0_orderTold_29 (by decide) (fun c_13 => ?_) (fun c_13 => ?_)
    · have hO_18_ := hO_180 c_13
      have hO_18_0 := hO_18_
      refine x_iload_n 1 dX0_orderTold_39 rfl ?_
      refine x_aload_n 0 dX0_orderTold_40 rfl ?_
      refine x_get (ci := 0) (v := .int (gi h_8 1 6)) 6 dX0_orderTold_41 (GI.s g_9 (t := (10, 0)) rfl (by decide)) rfl in_X0 (by decide) q193 (Or.inl rfl) (fv_i rfl) ?_
      refine x_icmp_ge 56 dX0_orderTold_44 (by decide) (fun c_14 => ?_) (fun c_14 => ?_)
      · refine x_bipush (-9) dX0_orderTold_56 (by decide) ?_
        exact kJ_17 _ (((if_pos c_13).trans (if_pos c_14))).symm
      · have hO_18__ := hO_18_0 c_14
        have b_15 := hO_18__
        refine x_aload_n 0 dX0_orderTold_47 rfl ?_
        refine x_get (ci := 0) (v := .ref (mr ρ 24)) 28 dX0_orderTold_48 (GI.s g_9 (t := (10, 0)) rfl (by decide)) rfl in_X0 (by decide) q217 (Or.inl rfl) (fv_rc rfl (GI.x g_9 (n := 24) rfl (by decide)) (by decide)) ?_
        refine x_iload_n 1 dX0_orderTold_51 rfl ?_
        refine x_iald (n := 5) (j := (Int32.toNatClampNeg p1)) dX0_orderTold_52 rfl (GI.s g_9 (t := (1, 5)) rfl (by decide)) b_15 ?_
        refine x_goto 58 dX0_orderTold_53 (by decide) ?_
        exact kJ_17 _ (((if_pos c_13).trans (if_neg c_14))).symm
    · refine x_aload_n 0 dX0_orderTold_32 rfl ?_
      refine x_get (ci := 0) (v := .int (gi h_8 1 29)) 29 dX0_orderTold_33 (GI.s g_9 (t := (10, 0)) rfl (by decide)) rfl in_X0 (by decide) q218 (Or.inl rfl) (fv_i rfl) ?_
      refine x_goto 58 dX0_orderTold_36 (by decide) ?_
      exact kJ_17 _ ((if_neg c_13)).symm
  refine x_icmp_lt 9 dX0_orderTold_2 (by decide) (fun c_1 => ?_) (fun c_1 => ?_)
  · refine x_iconst 0 dX0_orderTold_9 (by decide) ?_
    exact kJ_19 _ ((if_pos c_1)).symm
  · refine x_iconst 1 dX0_orderTold_5 (by decide) ?_
    refine x_goto 10 dX0_orderTold_6 (by decide) ?_
    exact kJ_19 _ ((if_neg c_1)).symm

/-! BeforeTheEnd.draw(I)I -/
def wp_X0_draw (post : Int32 → Hp → Prop) (h : Hp) (p1 : Int32) : Prop := (¬ p1 = 0 ∧ (post ((((gi (si h 1 30 (((gi h 1 30) * 1664525) + 1013904223)) 1 30) &&& 2147483647) / 256) - (((gi (si h 1 30 (((gi h 1 30) * 1664525) + 1013904223)) 1 30) &&& 2147483647) / 256) / p1 * p1) (si h 1 30 (((gi h 1 30) * 1664525) + 1013904223))))
abbrev rm_X0_draw : Room := ({ frames := 1, cells := 0, slots := 0, locals := 60 })
abbrev K_X0_draw : Kx := ("BeforeTheEnd", cX0_draw, 2, (Option.some Jvm.ClassFile.FieldType.int), rm_X0_draw, [], false)
set_option maxHeartbeats 4000000 in
theorem k_X0_draw {ρ : Rho} {h : Hp} {post : Int32 → Hp → Prop} {p1 : Int32} (G : G0 ρ) (g : GI h) (hw : wp_X0_draw post h p1) : Con ρ yX0_draw (ws_ yX0_draw cX0_draw 2 (Option.some Jvm.ClassFile.FieldType.int)) rm_X0_draw [.ref (mr ρ 1), .int p1] h (phI h post) psN := by
  refine con_of (own := "BeforeTheEnd") (isI := false) (l0 := [(0, .ref (mr ρ 1)), (1, .int p1)]) (by decide) rfl (fun z => by cases z) (Nat.le_of_ble_eq_true rfl) rfl (fun _ => ?_)
  show X ρ K_X0_draw 0 [(0, .ref (mr ρ 1)), (1, .int p1)] [] h 0 0 (phI h post) psN
  refine x_aload_n 0 dX0_draw_0 rfl ?_
  refine x_aload_n 0 dX0_draw_1 rfl ?_
  refine x_get (ci := 0) (v := .int (gi h 1 30)) 30 dX0_draw_2 (GI.s g (t := (10, 0)) rfl (by decide)) rfl in_X0 (by decide) q219 (Or.inl rfl) (fv_i rfl) ?_
  refine x_ldcw dX0_draw_5 q1025 ?_
  refine x_imul dX0_draw_8 ?_
  refine x_ldcw dX0_draw_9 q1026 ?_
  refine x_iadd dX0_draw_12 ?_
  refine x_put (ci := 0) 30 dX0_draw_13 (GI.s g (t := (10, 0)) rfl (by decide)) rfl in_X0 tyX0 tyX0_ok nmX0 (by decide) q219 (Or.inl rfl) rfl rfl rfl (isPut_i rfl) ?_
  refine x_aload_n 0 dX0_draw_16 rfl ?_
  refine x_get (ci := 0) (v := .int (gi (si h 1 30 (((gi h 1 30) * 1664525) + 1013904223)) 1 30)) 30 dX0_draw_17 (GI.s (GI.i g) (t := (10, 0)) rfl (by decide)) rfl in_X0 (by decide) q219 (Or.inl rfl) (fv_i rfl) ?_
  refine x_ldcw dX0_draw_20 q1027 ?_
  refine x_iand dX0_draw_23 ?_
  refine x_sipush 256 dX0_draw_24 (by decide) ?_
  refine x_idiv dX0_draw_27 (by decide) ?_
  refine x_iload_n 1 dX0_draw_28 rfl ?_
  obtain ⟨b_1, hw⟩ := hw
  refine x_irem dX0_draw_29 b_1 ?_
  exact x_iret dX0_draw_30 rfl (Nat.le_of_ble_eq_true rfl) (Nat.le_of_ble_eq_true rfl) ⟨_, rfl, (GI.i g), (Ext.i Ext.rf), hw⟩

/-! BeforeTheEnd.drawnEnd()I -/
def w_X0_drawnEnd_30 (post : Int32 → Hp → Prop) (K2 : Int32 → Hp → Prop) : Nat → Int32 → Int32 → Int32 → Hp → Prop
  | 0 => fun _ _ _ _ => False
  | n + 1 => fun x1 x2 x3 h => ((x2 < 0 → (K2 x3 h)) ∧ (¬ x2 < 0 → (vp_in (x3 + 1) 24 ∧ ((((gi h ((gr h 1 1) + 1) (Int32.toNatClampNeg (x3 + 1))) = x1 → (vp_in (x3 + 1) 24))) ∧ (∀ z_5 : Int32, z_5 = ((if (gi h ((gr h 1 1) + 1) (Int32.toNatClampNeg (x3 + 1))) = x1 then (gi h ((gr h 1 1) + 2) (Int32.toNatClampNeg (x3 + 1))) else 0) : Int32) → (w_X0_drawnEnd_30 post K2 n x1 (x2 - z_5) (x3 + 1) h))))))
def w_X0_drawnEnd_2 (post : Int32 → Hp → Prop) : Nat → Int32 → Hp → Prop
  | 0 => fun _ _ => False
  | n + 1 => fun x1 h => (wp_X1_isEnd (fun r_4 h_1 => GI h_1 → Ext h h_1 → ((¬ r_4 = 0 → (post x1 h_1)) ∧ (r_4 = 0 → (wp_X1_sumOf (fun r_10 h_7 => GI h_7 → Ext h_1 h_7 → (wp_X0_draw (fun r_15 h_12 => GI h_12 → Ext h_7 h_12 → (∃ fu : Nat, w_X0_drawnEnd_30 post (w_X0_drawnEnd_2 post n) fu x1 r_15 x1 h_12)) h_7 (Int64.toInt32 r_10))) h_1 (gr h_1 1 1) x1 0)))) h (gr h 1 1) x1)
def wp_X0_drawnEnd (post : Int32 → Hp → Prop) (h : Hp) : Prop := (∃ fu : Nat, w_X0_drawnEnd_2 post fu 0 h)
abbrev rm_X0_drawnEnd : Room := ({ frames := 3, cells := 0, slots := 0, locals := 116 })
abbrev K_X0_drawnEnd : Kx := ("BeforeTheEnd", cX0_drawnEnd, 4, (Option.some Jvm.ClassFile.FieldType.int), rm_X0_drawnEnd, [], false)
set_option maxHeartbeats 4000000 in
theorem t_X0_drawnEnd_30 {ρ : Rho} {h0 : Hp} {post : Int32 → Hp → Prop} {K2 : Int32 → Hp → Prop} (G : G0 ρ) (hK2 : ∀ (x1 : Int32) (h : Hp), GI h → Ext h0 h → K2 x1 h → X ρ K_X0_drawnEnd 2 [(0, .ref (mr ρ 1)), (1, .int x1)] [] h 0 0 (phI h0 post) psN) :
    ∀ (n : Nat), ∀ (x1 : Int32) (x2 : Int32) (x3 : Int32) (h : Hp), GI h → Ext h0 h → w_X0_drawnEnd_30 post K2 n x1 x2 x3 h → X ρ K_X0_drawnEnd 30 [(0, .ref (mr ρ 1)), (1, .int x1), (2, .int x2), (3, .int x3)] [] h 0 0 (phI h0 post) psN := by
  intro n
  induction n with
  | zero => intro x1 x2 x3 h g e hw; exact False.elim hw
  | succ n ih =>
    intro x1 x2 x3 h g e hw
    refine x_iload_n 2 dX0_drawnEnd_30 rfl ?_
    obtain ⟨wt_8, wf_9⟩ := hw
    refine x_if_lt 69 dX0_drawnEnd_31 (by decide) (fun c_1 => ?_) (fun c_1 => ?_)
    · have hw := wt_8 c_1
      refine x_iload_n 3 dX0_drawnEnd_69 rfl ?_
      refine x_istore_n (lv' := [(1, .int x3), (0, .ref (mr ρ 1)), (2, .int x2), (3, .int x3)]) dX0_drawnEnd_70 (Nat.le_of_ble_eq_true rfl) rfl ?_
      refine x_goto 2 dX0_drawnEnd_71 (by decide) ?_
      refine X.sub [1, 0] rfl ?_
      exact hK2 x3 h g e hw
    · have hw := wf_9 c_1
      refine x_iinc (v := (x3 + 1)) (lv' := [(3, .int (x3 + 1)), (0, .ref (mr ρ 1)), (1, .int x1), (2, .int x2)]) 3 dX0_drawnEnd_34 rfl (by rfl) (Nat.le_of_ble_eq_true rfl) rfl ?_
      refine x_iload_n 3 dX0_drawnEnd_37 rfl ?_
      refine x_aload_n 1 dX0_drawnEnd_38 rfl ?_
      refine x_get (ci := 0) (v := .ref (mr ρ (gr h 1 1))) 1 dX0_drawnEnd_39 (GI.s g (t := (10, 0)) rfl (by decide)) rfl in_X0 (by decide) q188 (Or.inl rfl) (fv_rc rfl rfl (isTree.nz (GI.t g) (GI.live g))) ?_
      refine x_getN (ci := 1) (v := .ref (mr ρ ((gr h 1 1) + 1))) 1 dX0_drawnEnd_42 (isTree.s (GI.t g)) rfl in_X1 (by decide) q149 (Or.inl rfl) (fv_rc rfl (isTree.p (GI.t g) 1 (by decide) (by decide)) (Nat.succ_ne_zero _)) ?_
      refine x_iload_n 0 dX0_drawnEnd_45 rfl ?_
      obtain ⟨b_2, hw⟩ := hw
      refine x_iald (n := 24) (j := (Int32.toNatClampNeg (x3 + 1))) dX0_drawnEnd_46 rfl (isTree.a (GI.t g) 1 (by decide) (by decide)) b_2 ?_
      refine x_iload_n 2 dX0_drawnEnd_47 rfl ?_
      obtain ⟨hO_7, hw⟩ := hw
      have kJ_6 : ∀ z_5 : Int32, z_5 = ((if (gi h ((gr h 1 1) + 1) (Int32.toNatClampNeg (x3 + 1))) = x1 then (gi h ((gr h 1 1) + 2) (Int32.toNatClampNeg (x3 + 1))) else 0) : Int32) → X ρ K_X0_drawnEnd 64 [(3, .int (x3 + 1)), (0, .ref (mr ρ 1)), (1, .int x1), (2, .int x2)] [.int z_5, .int x2] h 0 0 (phI h0 post) psN := fun z_5 ez_5 => by
        have hw := hw z_5 ez_5
        refine x_isub dX0_drawnEnd_64 ?_
        refine x_istore_n (lv' := [(2, .int (x2 - z_5)), (3, .int (x3 + 1)), (0, .ref (mr ρ 1)), (1, .int x1)]) dX0_drawnEnd_65 (Nat.le_of_ble_eq_true rfl) rfl ?_
        refine x_goto 30 dX0_drawnEnd_66 (by decide) ?_
        refine X.sub [2, 3, 0, 1] rfl ?_
        exact ih x1 (x2 - z_5) (x3 + 1) h g e hw
      have hO_70 := hO_7
      refine x_icmp_ne 63 dX0_drawnEnd_48 (by decide) (fun c_3 => ?_) (fun c_3 => ?_)
      · refine x_iconst 0 dX0_drawnEnd_63 (by decide) ?_
        exact kJ_6 _ ((if_neg c_3)).symm
      · have hO_7_ := hO_70 c_3
        have b_4 := hO_7_
        refine x_aload_n 1 dX0_drawnEnd_51 rfl ?_
        refine x_get (ci := 0) (v := .ref (mr ρ (gr h 1 1))) 1 dX0_drawnEnd_52 (GI.s g (t := (10, 0)) rfl (by decide)) rfl in_X0 (by decide) q188 (Or.inl rfl) (fv_rc rfl rfl (isTree.nz (GI.t g) (GI.live g))) ?_
        refine x_getN (ci := 1) (v := .ref (mr ρ ((gr h 1 1) + 2))) 2 dX0_drawnEnd_55 (isTree.s (GI.t g)) rfl in_X1 (by decide) q151 (Or.inl rfl) (fv_rc rfl (isTree.p (GI.t g) 2 (by decide) (by decide)) (Nat.succ_ne_zero _)) ?_
        refine x_iload_n 0 dX0_drawnEnd_58 rfl ?_
        refine x_iald (n := 24) (j := (Int32.toNatClampNeg (x3 + 1))) dX0_drawnEnd_59 rfl (isTree.a (GI.t g) 2 (by decide) (by decide)) b_4 ?_
        refine x_goto 64 dX0_drawnEnd_60 (by decide) ?_
        exact kJ_6 _ ((if_pos c_3)).symm
set_option maxHeartbeats 4000000 in
theorem t_X0_drawnEnd_2 {ρ : Rho} {h0 : Hp} {post : Int32 → Hp → Prop} (G : G0 ρ) :
    ∀ (n : Nat), ∀ (x1 : Int32) (h : Hp), GI h → Ext h0 h → w_X0_drawnEnd_2 post n x1 h → X ρ K_X0_drawnEnd 2 [(0, .ref (mr ρ 1)), (1, .int x1)] [] h 0 0 (phI h0 post) psN := by
  intro n
  induction n with
  | zero => intro x1 h g e hw; exact False.elim hw
  | succ n ih =>
    intro x1 h g e hw
    rw [w_X0_drawnEnd_2] at hw
    refine x_aload_n 0 dX0_drawnEnd_2 rfl ?_
    refine x_get (ci := 0) (v := .ref (mr ρ (gr h 1 1))) 1 dX0_drawnEnd_3 (GI.s g (t := (10, 0)) rfl (by decide)) rfl in_X0 (by decide) q188 (Or.inl rfl) (fv_rc rfl rfl (isTree.nz (GI.t g) (GI.live g))) ?_
    refine x_iload_n 1 dX0_drawnEnd_6 rfl ?_
    refine x_callV (ci := 1) [.int x1] 1 dX0_drawnEnd_7 (k_X1_isEnd G g (GI.t g) hw) (isTree.s (GI.t g)) rfl q870 q723 q724 q105 q725 (by decide) rfl rfl ⟨(Nat.le_of_ble_eq_true rfl), (Nat.le_of_ble_eq_true rfl)⟩ (Nat.le_of_ble_eq_true rfl) ⟨(Nat.le_of_ble_eq_true rfl), (Nat.le_of_ble_eq_true rfl)⟩ (fun v9 h_1 hv9 => ?_) (fun _ _ _ _ _ z _ _ => False.elim z)
    obtain ⟨r_4, rfl, g_2, e_3, b_5, hw⟩ := hv9
    have hw := hw g_2 e_3
    show X ρ K_X0_drawnEnd 10 [(0, .ref (mr ρ 1)), (1, .int x1)] [.int r_4] h_1 0 0 (phI h0 post) psN
    obtain ⟨wt_17, wf_18⟩ := hw
    refine x_if_ne 74 dX0_drawnEnd_10 (by decide) (fun c_6 => ?_) (fun c_6 => ?_)
    · have hw := wt_17 c_6
      refine x_iload_n 1 dX0_drawnEnd_74 rfl ?_
      exact x_iret dX0_drawnEnd_75 rfl (Nat.le_of_ble_eq_true rfl) (Nat.le_of_ble_eq_true rfl) ⟨_, rfl, g_2, (Ext.tr e e_3), hw⟩
    · have hw := wf_18 c_6
      refine x_aload_n 0 dX0_drawnEnd_13 rfl ?_
      refine x_aload_n 0 dX0_drawnEnd_14 rfl ?_
      refine x_get (ci := 0) (v := .ref (mr ρ (gr h_1 1 1))) 1 dX0_drawnEnd_15 (GI.s g_2 (t := (10, 0)) rfl (by decide)) rfl in_X0 (by decide) q188 (Or.inl rfl) (fv_rc rfl rfl (isTree.nz (GI.t g_2) (GI.live g_2))) ?_
      refine x_iload_n 1 dX0_drawnEnd_18 rfl ?_
      refine x_iconst 0 dX0_drawnEnd_19 (by decide) ?_
      refine x_callN (ci := 1) [.int x1, .int 0] 2 dX0_drawnEnd_20 (k_X1_sumOf G g_2 (GI.t g_2) hw) (isTree.s (GI.t g_2)) rfl q1020 q819 qs21 q105 q820 (by decide) rfl rfl ⟨(Nat.le_of_ble_eq_true rfl), (Nat.le_of_ble_eq_true rfl)⟩ (Nat.le_of_ble_eq_true rfl) ⟨(Nat.le_of_ble_eq_true rfl), (Nat.le_of_ble_eq_true rfl)⟩ (fun v9 h_7 hv9 => ?_) (fun _ _ _ _ _ z _ _ => False.elim z)
      obtain ⟨r_10, rfl, g_8, e_9, hw⟩ := hv9
      have hw := hw g_8 e_9
      show X ρ K_X0_drawnEnd 23 [(0, .ref (mr ρ 1)), (1, .int x1)] [.long r_10, .ref (mr ρ 1)] h_7 0 0 (phI h0 post) psN
      refine x_l2i dX0_drawnEnd_23 ?_
      refine x_callV (ci := 0) [.int (Int64.toInt32 r_10)] 1 dX0_drawnEnd_24 (k_X0_draw G g_8 hw) (GI.s g_8 (t := (10, 0)) rfl (by decide)) rfl q1021 q1023 qs51 q104 q1024 (by decide) rfl rfl ⟨(Nat.le_of_ble_eq_true rfl), (Nat.le_of_ble_eq_true rfl)⟩ (Nat.le_of_ble_eq_true rfl) ⟨(Nat.le_of_ble_eq_true rfl), (Nat.le_of_ble_eq_true rfl)⟩ (fun v9 h_12 hv9 => ?_) (fun _ _ _ _ _ z _ _ => False.elim z)
      obtain ⟨r_15, rfl, g_13, e_14, hw⟩ := hv9
      have hw := hw g_13 e_14
      show X ρ K_X0_drawnEnd 27 [(0, .ref (mr ρ 1)), (1, .int x1)] [.int r_15] h_12 0 0 (phI h0 post) psN
      refine x_istore_n (lv' := [(2, .int r_15), (0, .ref (mr ρ 1)), (1, .int x1)]) dX0_drawnEnd_27 (Nat.le_of_ble_eq_true rfl) rfl ?_
      refine x_iload_n 2 dX0_drawnEnd_28 rfl ?_
      refine x_istore_n (lv' := [(3, .int x1), (2, .int r_15), (0, .ref (mr ρ 1)), (1, .int x1)]) dX0_drawnEnd_29 (Nat.le_of_ble_eq_true rfl) rfl ?_
      refine X.sub [2, 3, 1, 0] rfl ?_
      obtain ⟨fu, hw⟩ := hw
      exact t_X0_drawnEnd_30 G ih fu x1 r_15 x1 h_12 g_13 (Ext.tr (Ext.tr (Ext.tr e e_3) e_9) e_14) hw
set_option maxHeartbeats 4000000 in
theorem k_X0_drawnEnd {ρ : Rho} {h : Hp} {post : Int32 → Hp → Prop} (G : G0 ρ) (g : GI h) (hw : wp_X0_drawnEnd post h) : Con ρ yX0_drawnEnd (ws_ yX0_drawnEnd cX0_drawnEnd 4 (Option.some Jvm.ClassFile.FieldType.int)) rm_X0_drawnEnd [.ref (mr ρ 1)] h (phI h post) psN := by
  refine con_of (own := "BeforeTheEnd") (isI := false) (l0 := [(0, .ref (mr ρ 1))]) (by decide) rfl (fun z => by cases z) (Nat.le_of_ble_eq_true rfl) rfl (fun _ => ?_)
  show X ρ K_X0_drawnEnd 0 [(0, .ref (mr ρ 1))] [] h 0 0 (phI h post) psN
  refine x_iconst 0 dX0_drawnEnd_0 (by decide) ?_
  refine x_istore_n (lv' := [(1, .int 0), (0, .ref (mr ρ 1))]) dX0_drawnEnd_1 (Nat.le_of_ble_eq_true rfl) rfl ?_
  refine X.sub [1, 0] rfl ?_
  obtain ⟨fu, hw⟩ := hw
  exact t_X0_drawnEnd_2 G  fu 0 h g Ext.rf hw

/-! BeforeTheEnd.eveningOf(III)I -/
def w_X0_eveningOf_11 (post : Int32 → Hp → Prop) : Nat → Int32 → Int32 → Int32 → Int32 → Hp → Prop
  | 0 => fun _ _ _ _ _ => False
  | n + 1 => fun x1 x3 x4 x5 h => ((x1 ≤ x5 → (post x4 h)) ∧ (¬ x1 ≤ x5 → (wp_X0_drawnEnd (fun r_5 h_2 => GI h_2 → Ext h h_2 → (wp_X0_runTo (fun h_7 => GI h_7 → Ext h_2 h_7 → (vp_in x3 4 ∧ (∀ x4_13 : Int32, x4_13 = (x4 + (gi h_7 18 (Int32.toNatClampNeg x3))) → (w_X0_eveningOf_11 post n x1 x3 x4_13 (x5 + 1) h_7)))) h_2 r_5)) h)))
def wp_X0_eveningOf (post : Int32 → Hp → Prop) (h : Hp) (p1 : Int32) (p2 : Int32) (p3 : Int32) : Prop := (∃ fu : Nat, w_X0_eveningOf_11 post fu p1 p3 0 0 (si h 1 30 p2))
abbrev rm_X0_eveningOf : Room := ({ frames := 12, cells := 0, slots := 0, locals := 336 })
abbrev K_X0_eveningOf : Kx := ("BeforeTheEnd", cX0_eveningOf, 6, (Option.some Jvm.ClassFile.FieldType.int), rm_X0_eveningOf, [], false)
set_option maxHeartbeats 4000000 in
theorem t_X0_eveningOf_11 {ρ : Rho} {h0 : Hp} {post : Int32 → Hp → Prop} (G : G0 ρ) :
    ∀ (n : Nat), ∀ (x1 : Int32) (x3 : Int32) (x4 : Int32) (x5 : Int32) (h : Hp), GI h → Ext h0 h → w_X0_eveningOf_11 post n x1 x3 x4 x5 h → X ρ K_X0_eveningOf 11 [(0, .ref (mr ρ 1)), (1, .int x1), (3, .int x3), (4, .int x4), (5, .int x5)] [] h 0 0 (phI h0 post) psN := by
  intro n
  induction n with
  | zero => intro x1 x3 x4 x5 h g e hw; exact False.elim hw
  | succ n ih =>
    intro x1 x3 x4 x5 h g e hw
    refine x_iload 4 dX0_eveningOf_11 rfl ?_
    refine x_iload_n 1 dX0_eveningOf_13 rfl ?_
    obtain ⟨wt_14, wf_15⟩ := hw
    refine x_icmp_ge 42 dX0_eveningOf_14 (by decide) (fun c_1 => ?_) (fun c_1 => ?_)
    · have hw := wt_14 c_1
      refine x_iload 3 dX0_eveningOf_42 rfl ?_
      exact x_iret dX0_eveningOf_44 rfl (Nat.le_of_ble_eq_true rfl) (Nat.le_of_ble_eq_true rfl) ⟨_, rfl, g, e, hw⟩
    · have hw := wf_15 c_1
      refine x_aload_n 0 dX0_eveningOf_17 rfl ?_
      refine x_aload_n 0 dX0_eveningOf_18 rfl ?_
      refine x_callV (ci := 0) [] 0 dX0_eveningOf_19 (k_X0_drawnEnd G g hw) (GI.s g (t := (10, 0)) rfl (by decide)) rfl q1016 q1018 qs50 q104 q1019 (by decide) rfl rfl ⟨(Nat.le_of_ble_eq_true rfl), (Nat.le_of_ble_eq_true rfl)⟩ (Nat.le_of_ble_eq_true rfl) ⟨(Nat.le_of_ble_eq_true rfl), (Nat.le_of_ble_eq_true rfl)⟩ (fun v9 h_2 hv9 => ?_) (fun _ _ _ _ _ z _ _ => False.elim z)
      obtain ⟨r_5, rfl, g_3, e_4, hw⟩ := hv9
      have hw := hw g_3 e_4
      show X ρ K_X0_eveningOf 22 [(0, .ref (mr ρ 1)), (1, .int x1), (3, .int x3), (4, .int x4), (5, .int x5)] [.int r_5, .ref (mr ρ 1)] h_2 0 0 (phI h0 post) psN
      refine x_callV (ci := 0) [.int r_5] 1 dX0_eveningOf_22 (k_X0_runTo G g_3 hw) (GI.s g_3 (t := (10, 0)) rfl (by decide)) rfl q921 q923 qs30 q104 q924 (by decide) rfl rfl ⟨(Nat.le_of_ble_eq_true rfl), (Nat.le_of_ble_eq_true rfl)⟩ (Nat.le_of_ble_eq_true rfl) ⟨(Nat.le_of_ble_eq_true rfl), (Nat.le_of_ble_eq_true rfl)⟩ (fun v9 h_7 hv9 => ?_) (fun _ _ _ _ _ z _ _ => False.elim z)
      obtain ⟨rfl, g_8, e_9, hw⟩ := hv9
      have hw := hw g_8 e_9
      show X ρ K_X0_eveningOf 25 [(0, .ref (mr ρ 1)), (1, .int x1), (3, .int x3), (4, .int x4), (5, .int x5)] [] h_7 0 0 (phI h0 post) psN
      refine x_iload 3 dX0_eveningOf_25 rfl ?_
      refine x_aload_n 0 dX0_eveningOf_27 rfl ?_
      refine x_get (ci := 0) (v := .ref (mr ρ 18)) 20 dX0_eveningOf_28 (GI.s g_8 (t := (10, 0)) rfl (by decide)) rfl in_X0 (by decide) q209 (Or.inl rfl) (fv_rc rfl (GI.x g_8 (n := 18) rfl (by decide)) (by decide)) ?_
      refine x_iload_n 2 dX0_eveningOf_31 rfl ?_
      obtain ⟨b_12, hw⟩ := hw
      refine x_iald (n := 4) (j := (Int32.toNatClampNeg x3)) dX0_eveningOf_32 rfl (GI.s g_8 (t := (1, 4)) rfl (by decide)) b_12 ?_
      refine x_iadd dX0_eveningOf_33 ?_
      refine x_nmi (fun x4_13 ex4_13 => ?_)
      have hw := hw x4_13 ex4_13
      refine x_istore (lv' := [(4, .int x4_13), (0, .ref (mr ρ 1)), (1, .int x1), (3, .int x3), (5, .int x5)]) dX0_eveningOf_34 (Nat.le_of_ble_eq_true rfl) rfl ?_
      refine x_iinc (v := (x5 + 1)) (lv' := [(5, .int (x5 + 1)), (4, .int x4_13), (0, .ref (mr ρ 1)), (1, .int x1), (3, .int x3)]) 4 dX0_eveningOf_36 rfl (by rfl) (Nat.le_of_ble_eq_true rfl) rfl ?_
      refine x_goto 11 dX0_eveningOf_39 (by decide) ?_
      refine X.sub [2, 3, 4, 1, 0] rfl ?_
      exact ih x1 x3 x4_13 (x5 + 1) h_7 g_8 (Ext.tr (Ext.tr e e_4) e_9) hw
set_option maxHeartbeats 4000000 in
theorem k_X0_eveningOf {ρ : Rho} {h : Hp} {post : Int32 → Hp → Prop} {p1 : Int32} {p2 : Int32} {p3 : Int32} (G : G0 ρ) (g : GI h) (hw : wp_X0_eveningOf post h p1 p2 p3) : Con ρ yX0_eveningOf (ws_ yX0_eveningOf cX0_eveningOf 6 (Option.some Jvm.ClassFile.FieldType.int)) rm_X0_eveningOf [.ref (mr ρ 1), .int p1, .int p2, .int p3] h (phI h post) psN := by
  refine con_of (own := "BeforeTheEnd") (isI := false) (l0 := [(0, .ref (mr ρ 1)), (1, .int p1), (2, .int p2), (3, .int p3)]) (by decide) rfl (fun z => by cases z) (Nat.le_of_ble_eq_true rfl) rfl (fun _ => ?_)
  show X ρ K_X0_eveningOf 0 [(0, .ref (mr ρ 1)), (1, .int p1), (2, .int p2), (3, .int p3)] [] h 0 0 (phI h post) psN
  refine x_aload_n 0 dX0_eveningOf_0 rfl ?_
  refine x_iload_n 2 dX0_eveningOf_1 rfl ?_
  refine x_put (ci := 0) 30 dX0_eveningOf_2 (GI.s g (t := (10, 0)) rfl (by decide)) rfl in_X0 tyX0 tyX0_ok nmX0 (by decide) q219 (Or.inl rfl) rfl rfl rfl (isPut_i rfl) ?_
  refine x_iconst 0 dX0_eveningOf_5 (by decide) ?_
  refine x_istore (lv' := [(4, .int 0), (0, .ref (mr ρ 1)), (1, .int p1), (2, .int p2), (3, .int p3)]) dX0_eveningOf_6 (Nat.le_of_ble_eq_true rfl) rfl ?_
  refine x_iconst 0 dX0_eveningOf_8 (by decide) ?_
  refine x_istore (lv' := [(5, .int 0), (4, .int 0), (0, .ref (mr ρ 1)), (1, .int p1), (2, .int p2), (3, .int p3)]) dX0_eveningOf_9 (Nat.le_of_ble_eq_true rfl) rfl ?_
  refine X.sub [2, 3, 5, 1, 0] rfl ?_
  obtain ⟨fu, hw⟩ := hw
  exact t_X0_eveningOf_11 G  fu p1 p3 0 0 (si h 1 30 p2) (GI.i g) (Ext.i Ext.rf) hw

/-! BeforeTheEnd.eveningTold(III)I -/
def wp_X0_eveningTold (post : Int32 → Hp → Prop) (px : Nat → Hp → Prop) (h : Hp) (p1 : Int32) (p2 : Int32) (p3 : Int32) : Prop := (wp_X0_mustBePlayer (fun h_1 => GI h_1 → Ext h h_1 → (wp_X0_within (fun h_6 => GI h_6 → Ext h_1 h_6 → (wp_X0_mustBeWhole (fun h_11 => GI h_11 → Ext h_6 h_11 → (wp_X0_eveningOf (fun r_19 h_16 => GI h_16 → Ext h_11 h_16 → (post r_19 h_16)) h_11 p1 p2 p3)) px h_6)) px h_1 (Int32.toInt64 p1) 1 20)) px h p3)
abbrev rm_X0_eveningTold : Room := ({ frames := 13, cells := 4, slots := 28, locals := 361 })
abbrev K_X0_eveningTold : Kx := ("BeforeTheEnd", cX0_eveningTold, 4, (Option.some Jvm.ClassFile.FieldType.int), rm_X0_eveningTold, [], false)
set_option maxHeartbeats 4000000 in
theorem k_X0_eveningTold {ρ : Rho} {h : Hp} {post : Int32 → Hp → Prop} {px : Nat → Hp → Prop} {p1 : Int32} {p2 : Int32} {p3 : Int32} (G : G0 ρ) (g : GI h) (hw : wp_X0_eveningTold post px h p1 p2 p3) : Con ρ yX0_eveningTold (ws_ yX0_eveningTold cX0_eveningTold 4 (Option.some Jvm.ClassFile.FieldType.int)) rm_X0_eveningTold [.ref (mr ρ 1), .int p1, .int p2, .int p3] h (phI h post) (psX h px) := by
  refine con_of (own := "BeforeTheEnd") (isI := false) (l0 := [(0, .ref (mr ρ 1)), (1, .int p1), (2, .int p2), (3, .int p3)]) (by decide) rfl (fun z => by cases z) (Nat.le_of_ble_eq_true rfl) rfl (fun _ => ?_)
  show X ρ K_X0_eveningTold 0 [(0, .ref (mr ρ 1)), (1, .int p1), (2, .int p2), (3, .int p3)] [] h 0 0 (phI h post) (psX h px)
  refine x_aload_n 0 dX0_eveningTold_0 rfl ?_
  refine x_iload_n 3 dX0_eveningTold_1 rfl ?_
  refine x_callV (ci := 0) [.int p3] 1 dX0_eveningTold_2 (k_X0_mustBePlayer G g hw) (GI.s g (t := (10, 0)) rfl (by decide)) rfl q751 q753 qs17 q104 q754 (by decide) rfl rfl ⟨(Nat.le_of_ble_eq_true rfl), (Nat.le_of_ble_eq_true rfl)⟩ (Nat.le_of_ble_eq_true rfl) ⟨(Nat.le_of_ble_eq_true rfl), (Nat.le_of_ble_eq_true rfl)⟩ (fun v9 h_1 hv9 => ?_) (fun q9 h9 ci9 n9 x9 hx9 hs9 hc9 => xt_out hs9 hc9 (fun z hz => by cases hz) (Nat.le_of_ble_eq_true rfl) (Nat.le_of_ble_eq_true rfl) ⟨hx9.1, Ext.tr Ext.rf hx9.2.1, hx9.2.2⟩)
  obtain ⟨rfl, g_2, e_3, hw⟩ := hv9
  have hw := hw g_2 e_3
  show X ρ K_X0_eveningTold 5 [(0, .ref (mr ρ 1)), (1, .int p1), (2, .int p2), (3, .int p3)] [] h_1 1 7 (phI h post) (psX h px)
  refine x_iload_n 1 dX0_eveningTold_5 rfl ?_
  refine x_i2l dX0_eveningTold_6 ?_
  refine x_lconst 1 dX0_eveningTold_7 (by decide) ?_
  refine x_ldc2 dX0_eveningTold_8 q1011 ?_
  refine x_callS [.long (Int32.toInt64 p1), .long 1, .long 20] 3 dX0_eveningTold_11 (k_X0_within G g_2 hw) q834 q835 q104 q836 (by decide) rfl rfl ⟨(Nat.le_of_ble_eq_true rfl), (Nat.le_of_ble_eq_true rfl)⟩ (Nat.le_of_ble_eq_true rfl) ⟨(Nat.le_of_ble_eq_true rfl), (Nat.le_of_ble_eq_true rfl)⟩ (fun v9 h_6 hv9 => ?_) (fun q9 h9 ci9 n9 x9 hx9 hs9 hc9 => xt_out hs9 hc9 (fun z hz => by cases hz) (Nat.le_of_ble_eq_true rfl) (Nat.le_of_ble_eq_true rfl) ⟨hx9.1, Ext.tr e_3 hx9.2.1, hx9.2.2⟩)
  obtain ⟨rfl, g_7, e_8, hw⟩ := hv9
  have hw := hw g_7 e_8
  show X ρ K_X0_eveningTold 14 [(0, .ref (mr ρ 1)), (1, .int p1), (2, .int p2), (3, .int p3)] [] h_6 3 21 (phI h post) (psX h px)
  refine x_aload_n 0 dX0_eveningTold_14 rfl ?_
  refine x_callV (ci := 0) [] 0 dX0_eveningTold_15 (k_X0_mustBeWhole G g_7 hw) (GI.s g_7 (t := (10, 0)) rfl (by decide)) rfl q801 q803 qs18 q104 q804 (by decide) rfl rfl ⟨(Nat.le_of_ble_eq_true rfl), (Nat.le_of_ble_eq_true rfl)⟩ (Nat.le_of_ble_eq_true rfl) ⟨(Nat.le_of_ble_eq_true rfl), (Nat.le_of_ble_eq_true rfl)⟩ (fun v9 h_11 hv9 => ?_) (fun q9 h9 ci9 n9 x9 hx9 hs9 hc9 => xt_out hs9 hc9 (fun z hz => by cases hz) (Nat.le_of_ble_eq_true rfl) (Nat.le_of_ble_eq_true rfl) ⟨hx9.1, Ext.tr (Ext.tr e_3 e_8) hx9.2.1, hx9.2.2⟩)
  obtain ⟨rfl, g_12, e_13, hw⟩ := hv9
  have hw := hw g_12 e_13
  show X ρ K_X0_eveningTold 18 [(0, .ref (mr ρ 1)), (1, .int p1), (2, .int p2), (3, .int p3)] [] h_11 4 28 (phI h post) (psX h px)
  refine x_aload_n 0 dX0_eveningTold_18 rfl ?_
  refine x_iload_n 1 dX0_eveningTold_19 rfl ?_
  refine x_iload_n 2 dX0_eveningTold_20 rfl ?_
  refine x_iload_n 3 dX0_eveningTold_21 rfl ?_
  refine x_callV (ci := 0) [.int p1, .int p2, .int p3] 3 dX0_eveningTold_22 (k_X0_eveningOf G g_12 hw) (GI.s g_12 (t := (10, 0)) rfl (by decide)) rfl q1012 q1014 qs49 q104 q1015 (by decide) rfl rfl ⟨(Nat.le_of_ble_eq_true rfl), (Nat.le_of_ble_eq_true rfl)⟩ (Nat.le_of_ble_eq_true rfl) ⟨(Nat.le_of_ble_eq_true rfl), (Nat.le_of_ble_eq_true rfl)⟩ (fun v9 h_16 hv9 => ?_) (fun _ _ _ _ _ z _ _ => False.elim z)
  obtain ⟨r_19, rfl, g_17, e_18, hw⟩ := hv9
  have hw := hw g_17 e_18
  show X ρ K_X0_eveningTold 25 [(0, .ref (mr ρ 1)), (1, .int p1), (2, .int p2), (3, .int p3)] [.int r_19] h_16 4 28 (phI h post) (psX h px)
  exact x_iret dX0_eveningTold_25 rfl (Nat.le_of_ble_eq_true rfl) (Nat.le_of_ble_eq_true rfl) ⟨_, rfl, g_17, (Ext.tr (Ext.tr (Ext.tr e_3 e_8) e_13) e_18), hw⟩

/-! BeforeTheEnd.judgeRow(I)I -/
def w_X0_judgeRow_17 (post : Int32 → Hp → Prop) : Nat → Int32 → Int32 → Hp → Prop
  | 0 => fun _ _ _ => False
  | n + 1 => fun x2 x3 h => ((x2 ≤ x3 → (post (-9) h)) ∧ (¬ x2 ≤ x3 → (wp_X0_drawnEnd (fun r_5 h_2 => GI h_2 → Ext h h_2 → (wp_X0_runTo (fun h_7 => GI h_7 → Ext h_2 h_7 → (vp_in x3 20 ∧ (∀ z_14 : Int32, z_14 = ((if (gi h_7 1 18) = (-9) then 9 else (gi h_7 1 18)) : Int32) → (((gi h_7 15 (Int32.toNatClampNeg x3)) = z_14 → (w_X0_judgeRow_17 post n x2 (x3 + 1) h_7)) ∧ (¬ (gi h_7 15 (Int32.toNatClampNeg x3)) = z_14 → (post x3 h_7)))))) h_2 r_5)) h)))
def wp_X0_judgeRow (post : Int32 → Hp → Prop) (h : Hp) (p1 : Int32) : Prop := (∃ fu : Nat, w_X0_judgeRow_17 post fu (gi (si h 1 30 p1) 1 12) 0 (si (si h 1 30 p1) 1 12 0))
abbrev rm_X0_judgeRow : Room := ({ frames := 12, cells := 0, slots := 0, locals := 336 })
abbrev K_X0_judgeRow : Kx := ("BeforeTheEnd", cX0_judgeRow, 4, (Option.some Jvm.ClassFile.FieldType.int), rm_X0_judgeRow, [], false)
set_option maxHeartbeats 4000000 in
theorem t_X0_judgeRow_17 {ρ : Rho} {h0 : Hp} {post : Int32 → Hp → Prop} (G : G0 ρ) :
    ∀ (n : Nat), ∀ (x2 : Int32) (x3 : Int32) (h : Hp), GI h → Ext h0 h → w_X0_judgeRow_17 post n x2 x3 h → X ρ K_X0_judgeRow 17 [(0, .ref (mr ρ 1)), (2, .int x2), (3, .int x3)] [] h 0 0 (phI h0 post) psN := by
  intro n
  induction n with
  | zero => intro x2 x3 h g e hw; exact False.elim hw
  | succ n ih =>
    intro x2 x3 h g e hw
    refine x_iload_n 2 dX0_judgeRow_17 rfl ?_
    refine x_iload_n 1 dX0_judgeRow_18 rfl ?_
    obtain ⟨wt_19, wf_20⟩ := hw
    refine x_icmp_ge 65 dX0_judgeRow_19 (by decide) (fun c_1 => ?_) (fun c_1 => ?_)
    · have hw := wt_19 c_1
      refine x_bipush (-9) dX0_judgeRow_65 (by decide) ?_
      exact x_iret dX0_judgeRow_67 rfl (Nat.le_of_ble_eq_true rfl) (Nat.le_of_ble_eq_true rfl) ⟨_, rfl, g, e, hw⟩
    · have hw := wf_20 c_1
      refine x_aload_n 0 dX0_judgeRow_22 rfl ?_
      refine x_aload_n 0 dX0_judgeRow_23 rfl ?_
      refine x_callV (ci := 0) [] 0 dX0_judgeRow_24 (k_X0_drawnEnd G g hw) (GI.s g (t := (10, 0)) rfl (by decide)) rfl q1016 q1018 qs50 q104 q1019 (by decide) rfl rfl ⟨(Nat.le_of_ble_eq_true rfl), (Nat.le_of_ble_eq_true rfl)⟩ (Nat.le_of_ble_eq_true rfl) ⟨(Nat.le_of_ble_eq_true rfl), (Nat.le_of_ble_eq_true rfl)⟩ (fun v9 h_2 hv9 => ?_) (fun _ _ _ _ _ z _ _ => False.elim z)
      obtain ⟨r_5, rfl, g_3, e_4, hw⟩ := hv9
      have hw := hw g_3 e_4
      show X ρ K_X0_judgeRow 27 [(0, .ref (mr ρ 1)), (2, .int x2), (3, .int x3)] [.int r_5, .ref (mr ρ 1)] h_2 0 0 (phI h0 post) psN
      refine x_callV (ci := 0) [.int r_5] 1 dX0_judgeRow_27 (k_X0_runTo G g_3 hw) (GI.s g_3 (t := (10, 0)) rfl (by decide)) rfl q921 q923 qs30 q104 q924 (by decide) rfl rfl ⟨(Nat.le_of_ble_eq_true rfl), (Nat.le_of_ble_eq_true rfl)⟩ (Nat.le_of_ble_eq_true rfl) ⟨(Nat.le_of_ble_eq_true rfl), (Nat.le_of_ble_eq_true rfl)⟩ (fun v9 h_7 hv9 => ?_) (fun _ _ _ _ _ z _ _ => False.elim z)
      obtain ⟨rfl, g_8, e_9, hw⟩ := hv9
      have hw := hw g_8 e_9
      show X ρ K_X0_judgeRow 30 [(0, .ref (mr ρ 1)), (2, .int x2), (3, .int x3)] [] h_7 0 0 (phI h0 post) psN
      refine x_aload_n 0 dX0_judgeRow_30 rfl ?_
      refine x_get (ci := 0) (v := .ref (mr ρ 15)) 11 dX0_judgeRow_31 (GI.s g_8 (t := (10, 0)) rfl (by decide)) rfl in_X0 (by decide) q198 (Or.inl rfl) (fv_rc rfl (GI.x g_8 (n := 15) rfl (by decide)) (by decide)) ?_
      refine x_iload_n 2 dX0_judgeRow_34 rfl ?_
      obtain ⟨b_12, hw⟩ := hw
      refine x_bald (n := 20) (j := (Int32.toNatClampNeg x3)) dX0_judgeRow_35 rfl (GI.s g_8 (t := (3, 20)) rfl (by decide)) b_12 ?_
      refine x_aload_n 0 dX0_judgeRow_36 rfl ?_
      refine x_get (ci := 0) (v := .int (gi h_7 1 18)) 18 dX0_judgeRow_37 (GI.s g_8 (t := (10, 0)) rfl (by decide)) rfl in_X0 (by decide) q207 (Or.inl rfl) (fv_i rfl) ?_
      refine x_bipush (-9) dX0_judgeRow_40 (by decide) ?_
      have kJ_18 : ∀ z_14 : Int32, z_14 = ((if (gi h_7 1 18) = (-9) then 9 else (gi h_7 1 18)) : Int32) → X ρ K_X0_judgeRow 54 [(0, .ref (mr ρ 1)), (2, .int x2), (3, .int x3)] [.int z_14, .int (gi h_7 15 (Int32.toNatClampNeg x3))] h_7 0 0 (phI h0 post) psN := fun z_14 ez_14 => by
        have hw := hw z_14 ez_14
        obtain ⟨wt_16, wf_17⟩ := hw
        refine x_icmp_eq 59 dX0_judgeRow_54 (by decide) (fun c_15 => ?_) (fun c_15 => ?_)
        · have hw := wt_16 c_15
          refine x_iinc (v := (x3 + 1)) (lv' := [(3, .int (x3 + 1)), (0, .ref (mr ρ 1)), (2, .int x2)]) 2 dX0_judgeRow_59 rfl (by rfl) (Nat.le_of_ble_eq_true rfl) rfl ?_
          refine x_goto 17 dX0_judgeRow_62 (by decide) ?_
          refine X.sub [1, 2, 0] rfl ?_
          exact ih x2 (x3 + 1) h_7 g_8 (Ext.tr (Ext.tr e e_4) e_9) hw
        · have hw := wf_17 c_15
          refine x_iload_n 2 dX0_judgeRow_57 rfl ?_
          exact x_iret dX0_judgeRow_58 rfl (Nat.le_of_ble_eq_true rfl) (Nat.le_of_ble_eq_true rfl) ⟨_, rfl, g_8, (Ext.tr (Ext.tr e e_4) e_9), hw⟩
      refine x_icmp_ne 50 dX0_judgeRow_42 (by decide) (fun c_13 => ?_) (fun c_13 => ?_)
      · refine x_aload_n 0 dX0_judgeRow_50 rfl ?_
        refine x_get (ci := 0) (v := .int (gi h_7 1 18)) 18 dX0_judgeRow_51 (GI.s g_8 (t := (10, 0)) rfl (by decide)) rfl in_X0 (by decide) q207 (Or.inl rfl) (fv_i rfl) ?_
        exact kJ_18 _ ((if_neg c_13)).symm
      · refine x_bipush 9 dX0_judgeRow_45 (by decide) ?_
        refine x_goto 54 dX0_judgeRow_47 (by decide) ?_
        exact kJ_18 _ ((if_pos c_13)).symm
set_option maxHeartbeats 4000000 in
theorem k_X0_judgeRow {ρ : Rho} {h : Hp} {post : Int32 → Hp → Prop} {p1 : Int32} (G : G0 ρ) (g : GI h) (hw : wp_X0_judgeRow post h p1) : Con ρ yX0_judgeRow (ws_ yX0_judgeRow cX0_judgeRow 4 (Option.some Jvm.ClassFile.FieldType.int)) rm_X0_judgeRow [.ref (mr ρ 1), .int p1] h (phI h post) psN := by
  refine con_of (own := "BeforeTheEnd") (isI := false) (l0 := [(0, .ref (mr ρ 1)), (1, .int p1)]) (by decide) rfl (fun z => by cases z) (Nat.le_of_ble_eq_true rfl) rfl (fun _ => ?_)
  show X ρ K_X0_judgeRow 0 [(0, .ref (mr ρ 1)), (1, .int p1)] [] h 0 0 (phI h post) psN
  refine x_aload_n 0 dX0_judgeRow_0 rfl ?_
  refine x_iload_n 1 dX0_judgeRow_1 rfl ?_
  refine x_put (ci := 0) 30 dX0_judgeRow_2 (GI.s g (t := (10, 0)) rfl (by decide)) rfl in_X0 tyX0 tyX0_ok nmX0 (by decide) q219 (Or.inl rfl) rfl rfl rfl (isPut_i rfl) ?_
  refine x_aload_n 0 dX0_judgeRow_5 rfl ?_
  refine x_get (ci := 0) (v := .int (gi (si h 1 30 p1) 1 12)) 12 dX0_judgeRow_6 (GI.s (GI.i g) (t := (10, 0)) rfl (by decide)) rfl in_X0 (by decide) q199 (Or.inl rfl) (fv_i rfl) ?_
  refine x_istore_n (lv' := [(2, .int (gi (si h 1 30 p1) 1 12)), (0, .ref (mr ρ 1)), (1, .int p1)]) dX0_judgeRow_9 (Nat.le_of_ble_eq_true rfl) rfl ?_
  refine x_aload_n 1 dX0_judgeRow_10 rfl ?_
  refine x_iconst 0 dX0_judgeRow_11 (by decide) ?_
  refine x_put (ci := 0) 12 dX0_judgeRow_12 (GI.s (GI.i g) (t := (10, 0)) rfl (by decide)) rfl in_X0 tyX0 tyX0_ok nmX0 (by decide) q199 (Or.inl rfl) rfl rfl rfl (isPut_i rfl) ?_
  refine x_iconst 0 dX0_judgeRow_15 (by decide) ?_
  refine x_istore_n (lv' := [(3, .int 0), (2, .int (gi (si h 1 30 p1) 1 12)), (0, .ref (mr ρ 1)), (1, .int p1)]) dX0_judgeRow_16 (Nat.le_of_ble_eq_true rfl) rfl ?_
  refine X.sub [2, 1, 0] rfl ?_
  obtain ⟨fu, hw⟩ := hw
  exact t_X0_judgeRow_17 G  fu (gi (si h 1 30 p1) 1 12) 0 (si (si h 1 30 p1) 1 12 0) (GI.i (GI.i g)) (Ext.i (Ext.i Ext.rf)) hw

/-! BeforeTheEnd$Player.copied()LBeforeTheEnd$Player; on an object of class 8 -/
def wp_X10_copied_c8 (post : Nat → Hp → Prop) (h : Hp) (r0 : Nat) : Prop := (post r0 h)
abbrev rm_X10_copied_c8 : Room := ({ frames := 1, cells := 1, slots := 6, locals := 60 })
abbrev K_X10_copied_c8 : Kx := ("BeforeTheEnd$Player", cX10_copied, 1, (Option.some (Jvm.ClassFile.FieldType.object "BeforeTheEnd$Player")), rm_X10_copied_c8, [], false)
set_option maxHeartbeats 4000000 in
theorem k_X10_copied_c8 {ρ : Rho} {h : Hp} {post : Nat → Hp → Prop} {r0 : Nat} (G : G0 ρ) (g : GI h) (fr0 : sh h r0 = (18, 0)) (hw : wp_X10_copied_c8 post h r0) : Con ρ yX10_copied (ws_ yX10_copied cX10_copied 1 (Option.some (Jvm.ClassFile.FieldType.object "BeforeTheEnd$Player"))) rm_X10_copied_c8 [.ref (mr ρ r0)] h (phR ρ h post) psN := by
  refine con_of (own := "BeforeTheEnd$Player") (isI := false) (l0 := [(0, .ref (mr ρ r0))]) (by decide) rfl (fun z => by cases z) (Nat.le_of_ble_eq_true rfl) rfl (fun _ => ?_)
  show X ρ K_X10_copied_c8 0 [(0, .ref (mr ρ r0))] [] h 0 0 (phR ρ h post) psN
  refine x_aload_n 0 dX10_copied_0 rfl ?_
  exact x_aret dX10_copied_1 rfl (Nat.le_of_ble_eq_true rfl) (Nat.le_of_ble_eq_true rfl) ⟨_, rfl, g, Ext.rf, hw⟩

/-! BeforeTheEnd$Player.copied()LBeforeTheEnd$Player; on an object of class 9 -/
def wp_X10_copied_c9 (post : Nat → Hp → Prop) (h : Hp) (r0 : Nat) : Prop := (post r0 h)
abbrev rm_X10_copied_c9 : Room := ({ frames := 1, cells := 1, slots := 6, locals := 60 })
abbrev K_X10_copied_c9 : Kx := ("BeforeTheEnd$Player", cX10_copied, 1, (Option.some (Jvm.ClassFile.FieldType.object "BeforeTheEnd$Player")), rm_X10_copied_c9, [], false)
set_option maxHeartbeats 4000000 in
theorem k_X10_copied_c9 {ρ : Rho} {h : Hp} {post : Nat → Hp → Prop} {r0 : Nat} (G : G0 ρ) (g : GI h) (fr0 : sh h r0 = (19, 0)) (hw : wp_X10_copied_c9 post h r0) : Con ρ yX10_copied (ws_ yX10_copied cX10_copied 1 (Option.some (Jvm.ClassFile.FieldType.object "BeforeTheEnd$Player"))) rm_X10_copied_c9 [.ref (mr ρ r0)] h (phR ρ h post) psN := by
  refine con_of (own := "BeforeTheEnd$Player") (isI := false) (l0 := [(0, .ref (mr ρ r0))]) (by decide) rfl (fun z => by cases z) (Nat.le_of_ble_eq_true rfl) rfl (fun _ => ?_)
  show X ρ K_X10_copied_c9 0 [(0, .ref (mr ρ r0))] [] h 0 0 (phR ρ h post) psN
  refine x_aload_n 0 dX10_copied_0 rfl ?_
  exact x_aret dX10_copied_1 rfl (Nat.le_of_ble_eq_true rfl) (Nat.le_of_ble_eq_true rfl) ⟨_, rfl, g, Ext.rf, hw⟩

/-! BeforeTheEnd$Player.copied()LBeforeTheEnd$Player; on an object of class 10 -/
def wp_X10_copied_c10 (post : Nat → Hp → Prop) (h : Hp) (r0 : Nat) : Prop := (post r0 h)
abbrev rm_X10_copied_c10 : Room := ({ frames := 1, cells := 1, slots := 6, locals := 60 })
abbrev K_X10_copied_c10 : Kx := ("BeforeTheEnd$Player", cX10_copied, 1, (Option.some (Jvm.ClassFile.FieldType.object "BeforeTheEnd$Player")), rm_X10_copied_c10, [], false)
set_option maxHeartbeats 4000000 in
theorem k_X10_copied_c10 {ρ : Rho} {h : Hp} {post : Nat → Hp → Prop} {r0 : Nat} (G : G0 ρ) (g : GI h) (fr0 : sh h r0 = (20, 0)) (hw : wp_X10_copied_c10 post h r0) : Con ρ yX10_copied (ws_ yX10_copied cX10_copied 1 (Option.some (Jvm.ClassFile.FieldType.object "BeforeTheEnd$Player"))) rm_X10_copied_c10 [.ref (mr ρ r0)] h (phR ρ h post) psN := by
  refine con_of (own := "BeforeTheEnd$Player") (isI := false) (l0 := [(0, .ref (mr ρ r0))]) (by decide) rfl (fun z => by cases z) (Nat.le_of_ble_eq_true rfl) rfl (fun _ => ?_)
  show X ρ K_X10_copied_c10 0 [(0, .ref (mr ρ r0))] [] h 0 0 (phR ρ h post) psN
  refine x_aload_n 0 dX10_copied_0 rfl ?_
  exact x_aret dX10_copied_1 rfl (Nat.le_of_ble_eq_true rfl) (Nat.le_of_ble_eq_true rfl) ⟨_, rfl, g, Ext.rf, hw⟩

/-! BeforeTheEnd$Player.copied()LBeforeTheEnd$Player; on an object of class 11 -/
def wp_X10_copied_c11 (post : Nat → Hp → Prop) (h : Hp) (r0 : Nat) : Prop := (post r0 h)
abbrev rm_X10_copied_c11 : Room := ({ frames := 1, cells := 1, slots := 6, locals := 60 })
abbrev K_X10_copied_c11 : Kx := ("BeforeTheEnd$Player", cX10_copied, 1, (Option.some (Jvm.ClassFile.FieldType.object "BeforeTheEnd$Player")), rm_X10_copied_c11, [], false)
set_option maxHeartbeats 4000000 in
theorem k_X10_copied_c11 {ρ : Rho} {h : Hp} {post : Nat → Hp → Prop} {r0 : Nat} (G : G0 ρ) (g : GI h) (fr0 : sh h r0 = (21, 0)) (hw : wp_X10_copied_c11 post h r0) : Con ρ yX10_copied (ws_ yX10_copied cX10_copied 1 (Option.some (Jvm.ClassFile.FieldType.object "BeforeTheEnd$Player"))) rm_X10_copied_c11 [.ref (mr ρ r0)] h (phR ρ h post) psN := by
  refine con_of (own := "BeforeTheEnd$Player") (isI := false) (l0 := [(0, .ref (mr ρ r0))]) (by decide) rfl (fun z => by cases z) (Nat.le_of_ble_eq_true rfl) rfl (fun _ => ?_)
  show X ρ K_X10_copied_c11 0 [(0, .ref (mr ρ r0))] [] h 0 0 (phR ρ h post) psN
  refine x_aload_n 0 dX10_copied_0 rfl ?_
  exact x_aret dX10_copied_1 rfl (Nat.le_of_ble_eq_true rfl) (Nat.le_of_ble_eq_true rfl) ⟨_, rfl, g, Ext.rf, hw⟩

/-! BeforeTheEnd$ToldPlayer.copied()LBeforeTheEnd$Player; on an object of class 12 -/
def wp_X15_copied_c12 (post : Nat → Hp → Prop) (h : Hp) (r0 : Nat) : Prop := (wp_X15_init_c12 (fun h_1 => GI h_1 → Ext (al h (22, 0)) h_1 → (post (sz h + 1) (si h_1 (sz h + 1) 3 (gi h_1 r0 3)))) (al h (22, 0)) (sz h + 1) (gi (al h (22, 0)) r0 0) (gi (al h (22, 0)) r0 1) (gi (al h (22, 0)) r0 2))
abbrev rm_X15_copied_c12 : Room := ({ frames := 3, cells := 1, slots := 6, locals := 106 })
abbrev K_X15_copied_c12 : Kx := ("BeforeTheEnd$ToldPlayer", cX15_copied, 2, (Option.some (Jvm.ClassFile.FieldType.object "BeforeTheEnd$Player")), rm_X15_copied_c12, [], false)
set_option maxHeartbeats 4000000 in
theorem k_X15_copied_c12 {ρ : Rho} {h : Hp} {post : Nat → Hp → Prop} {r0 : Nat} (G : G0 ρ) (g : GI h) (fr0 : sh h r0 = (22, 0)) (hw : wp_X15_copied_c12 post h r0) : Con ρ yX15_copied (ws_ yX15_copied cX15_copied 2 (Option.some (Jvm.ClassFile.FieldType.object "BeforeTheEnd$Player"))) rm_X15_copied_c12 [.ref (mr ρ r0)] h (phR ρ h post) psN := by
  refine con_of (own := "BeforeTheEnd$ToldPlayer") (isI := false) (l0 := [(0, .ref (mr ρ r0))]) (by decide) rfl (fun z => by cases z) (Nat.le_of_ble_eq_true rfl) rfl (fun _ => ?_)
  show X ρ K_X15_copied_c12 0 [(0, .ref (mr ρ r0))] [] h 0 0 (phR ρ h post) psN
  refine x_new (ci := 12) (n := 4) dX15_copied_0 rfl in_X15 tyX15_ok df_X15 q1052 q661 q128 (Nat.le_of_ble_eq_true rfl) (Nat.le_of_ble_eq_true rfl) ?_
  refine x_dup dX15_copied_3 rfl ?_
  refine x_aload_n 0 dX15_copied_4 rfl ?_
  refine x_get (ci := 12) (v := .int (gi (al h (22, 0)) r0 0)) 0 dX15_copied_5 (sh_al (GI.live g) fr0 (by decide)) rfl in_X15 (by decide) q605 (Or.inr q606) (fv_i rfl) ?_
  refine x_aload_n 0 dX15_copied_8 rfl ?_
  refine x_get (ci := 12) (v := .int (gi (al h (22, 0)) r0 1)) 1 dX15_copied_9 (sh_al (GI.live g) fr0 (by decide)) rfl in_X15 (by decide) q614 (Or.inr q615) (fv_i rfl) ?_
  refine x_aload_n 0 dX15_copied_12 rfl ?_
  refine x_get (ci := 12) (v := .int (gi (al h (22, 0)) r0 2)) 2 dX15_copied_13 (sh_al (GI.live g) fr0 (by decide)) rfl in_X15 (by decide) q620 (Or.inr q621) (fv_i rfl) ?_
  refine x_callI [.int (gi (al h (22, 0)) r0 0), .int (gi (al h (22, 0)) r0 1), .int (gi (al h (22, 0)) r0 2)] 3 dX15_copied_16 (k_X15_init_c12 G (GI.w g) sh_new hw) q1053 q663 q128 q664 rfl (by decide) rfl rfl ⟨(Nat.le_of_ble_eq_true rfl), (Nat.le_of_ble_eq_true rfl)⟩ (Nat.le_of_ble_eq_true rfl) ⟨(Nat.le_of_ble_eq_true rfl), (Nat.le_of_ble_eq_true rfl)⟩ (fun v9 h_1 hv9 => ?_) (fun _ _ _ _ _ z _ _ => False.elim z)
  obtain ⟨rfl, g_2, e_3, hw⟩ := hv9
  have hw := hw g_2 e_3
  show X ρ K_X15_copied_c12 19 [(0, .ref (mr ρ r0))] [.ref (mr ρ (sz h + 1))] h_1 1 4 (phR ρ h post) psN
  refine x_astore_n (lv' := [(1, .ref (mr ρ (sz h + 1))), (0, .ref (mr ρ r0))]) dX15_copied_19 (Nat.le_of_ble_eq_true rfl) rfl ?_
  refine x_aload_n 0 dX15_copied_20 rfl ?_
  refine x_aload_n 1 dX15_copied_21 rfl ?_
  refine x_get (ci := 12) (v := .int (gi h_1 r0 3)) 3 dX15_copied_22 (Ext.s e_3 (sh_al (GI.live g) fr0 (by decide)) (by decide)) rfl in_X15 (by decide) q666 (Or.inl rfl) (fv_i rfl) ?_
  refine x_put (ci := 12) 3 dX15_copied_25 (Ext.s e_3 sh_new (by decide)) rfl in_X15 tyX15 tyX15_ok nmX15 (by decide) q666 (Or.inl rfl) rfl rfl rfl (isPut_i rfl) ?_
  refine x_aload_n 0 dX15_copied_28 rfl ?_
  exact x_aret dX15_copied_29 rfl (Nat.le_of_ble_eq_true rfl) (Nat.le_of_ble_eq_true rfl) ⟨_, rfl, (GI.i g_2), (Ext.i (Ext.tr (Ext.w Ext.rf (GI.live g)) e_3)), hw⟩

/-! BeforeTheEnd$Alone.copied()LBeforeTheEnd$Player; on an object of class 13 -/
def wp_X16_copied_c13 (post : Nat → Hp → Prop) (h : Hp) (r0 : Nat) : Prop := (wp_X16_init_c13 (fun h_1 => GI h_1 → Ext (al h (23, 0)) h_1 → (post (sz h + 1) h_1)) (al h (23, 0)) (sz h + 1) (gi (al h (23, 0)) r0 0) (gi (al h (23, 0)) r0 1) (gi (al h (23, 0)) r0 2))
abbrev rm_X16_copied_c13 : Room := ({ frames := 4, cells := 1, slots := 6, locals := 129 })
abbrev K_X16_copied_c13 : Kx := ("BeforeTheEnd$Alone", cX16_copied, 1, (Option.some (Jvm.ClassFile.FieldType.object "BeforeTheEnd$Player")), rm_X16_copied_c13, [], false)
set_option maxHeartbeats 4000000 in
theorem k_X16_copied_c13 {ρ : Rho} {h : Hp} {post : Nat → Hp → Prop} {r0 : Nat} (G : G0 ρ) (g : GI h) (fr0 : sh h r0 = (23, 0)) (hw : wp_X16_copied_c13 post h r0) : Con ρ yX16_copied (ws_ yX16_copied cX16_copied 1 (Option.some (Jvm.ClassFile.FieldType.object "BeforeTheEnd$Player"))) rm_X16_copied_c13 [.ref (mr ρ r0)] h (phR ρ h post) psN := by
  refine con_of (own := "BeforeTheEnd$Alone") (isI := false) (l0 := [(0, .ref (mr ρ r0))]) (by decide) rfl (fun z => by cases z) (Nat.le_of_ble_eq_true rfl) rfl (fun _ => ?_)
  show X ρ K_X16_copied_c13 0 [(0, .ref (mr ρ r0))] [] h 0 0 (phR ρ h post) psN
  refine x_new (ci := 13) (n := 6) dX16_copied_0 rfl in_X16 tyX16_ok df_X16 q1043 q675 q129 (Nat.le_of_ble_eq_true rfl) (Nat.le_of_ble_eq_true rfl) ?_
  refine x_dup dX16_copied_3 rfl ?_
  refine x_aload_n 0 dX16_copied_4 rfl ?_
  refine x_get (ci := 13) (v := .int (gi (al h (23, 0)) r0 0)) 0 dX16_copied_5 (sh_al (GI.live g) fr0 (by decide)) rfl in_X16 (by decide) q603 (Or.inr q604) (fv_i rfl) ?_
  refine x_aload_n 0 dX16_copied_8 rfl ?_
  refine x_get (ci := 13) (v := .int (gi (al h (23, 0)) r0 1)) 1 dX16_copied_9 (sh_al (GI.live g) fr0 (by decide)) rfl in_X16 (by decide) q612 (Or.inr q613) (fv_i rfl) ?_
  refine x_aload_n 0 dX16_copied_12 rfl ?_
  refine x_get (ci := 13) (v := .int (gi (al h (23, 0)) r0 2)) 2 dX16_copied_13 (sh_al (GI.live g) fr0 (by decide)) rfl in_X16 (by decide) q618 (Or.inr q619) (fv_i rfl) ?_
  refine x_callI [.int (gi (al h (23, 0)) r0 0), .int (gi (al h (23, 0)) r0 1), .int (gi (al h (23, 0)) r0 2)] 3 dX16_copied_16 (k_X16_init_c13 G (GI.w g) sh_new hw) q1044 q677 q129 q678 rfl (by decide) rfl rfl ⟨(Nat.le_of_ble_eq_true rfl), (Nat.le_of_ble_eq_true rfl)⟩ (Nat.le_of_ble_eq_true rfl) ⟨(Nat.le_of_ble_eq_true rfl), (Nat.le_of_ble_eq_true rfl)⟩ (fun v9 h_1 hv9 => ?_) (fun _ _ _ _ _ z _ _ => False.elim z)
  obtain ⟨rfl, g_2, e_3, hw⟩ := hv9
  have hw := hw g_2 e_3
  show X ρ K_X16_copied_c13 19 [(0, .ref (mr ρ r0))] [.ref (mr ρ (sz h + 1))] h_1 1 6 (phR ρ h post) psN
  exact x_aret dX16_copied_19 rfl (Nat.le_of_ble_eq_true rfl) (Nat.le_of_ble_eq_true rfl) ⟨_, rfl, g_2, (Ext.tr (Ext.w Ext.rf (GI.live g)) e_3), hw⟩

/-! BeforeTheEnd$Player.copied by the class of the object -/
def wv_X10_copied_isPl (post : Nat → Hp → Prop) (h : Hp) (r0 : Nat) : Prop := (sh h r0 = (18, 0) → wp_X10_copied_c8 post h r0) ∧ (sh h r0 = (19, 0) → wp_X10_copied_c9 post h r0) ∧ (sh h r0 = (20, 0) → wp_X10_copied_c10 post h r0) ∧ (sh h r0 = (21, 0) → wp_X10_copied_c11 post h r0) ∧ (sh h r0 = (22, 0) → wp_X15_copied_c12 post h r0) ∧ (sh h r0 = (23, 0) → wp_X16_copied_c13 post h r0)

/-! BeforeTheEnd.takeImage()I -/
def w_X0_takeImage_43 (post : Int32 → Hp → Prop) (K21 : Int32 → Hp → Prop) (x1 : Int32) (z0 : Nat) (z1 : Int32) (h : Hp) : Prop := (vp_in z1 4 ∧ (K21 (x1 + 1) (sr h 13 (Int32.toNatClampNeg z1) z0)))
def w_X0_takeImage_21 (post : Int32 → Hp → Prop) : Nat → Int32 → Hp → Prop
  | 0 => fun _ _ => False
  | n + 1 => fun x1 h => (((gi h 1 3) ≤ x1 → (post (gi (si (cpi (cpi h 11 0 14 0 4) 12 0 14 4 5) 14 9 (gi (cpi (cpi h 11 0 14 0 4) 12 0 14 4 5) 1 6)) (gr (si (cpi (cpi h 11 0 14 0 4) 12 0 14 4 5) 14 9 (gi (cpi (cpi h 11 0 14 0 4) 12 0 14 4 5) 1 6)) 1 1) 0) (si (cpi (cpi h 11 0 14 0 4) 12 0 14 4 5) 14 9 (gi (cpi (cpi h 11 0 14 0 4) 12 0 14 4 5) 1 6)))) ∧ (¬ (gi h 1 3) ≤ x1 → (vp_in x1 4 ∧ (isPl h (gr h 10 (Int32.toNatClampNeg x1)) ∧ (wv_X10_copied_isPl (fun r_7 h_4 => GI h_4 → Ext h h_4 → (isPl h_4 r_7 ∧ (w_X0_takeImage_43 post (w_X0_takeImage_21 post n) x1 r_7 x1 h_4))) h (gr h 10 (Int32.toNatClampNeg x1)))))))
def wp_X0_takeImage (post : Int32 → Hp → Prop) (h : Hp) : Prop := (wp_X1_copied (fun r_4 h_1 => GI h_1 → Ext h h_1 → (isTree h_1 r_4 ∧ (w_X0_takeImage_21 post 5 0 (si (sr h_1 1 7 r_4) 1 9 (gi (sr h_1 1 7 r_4) 1 3))))) h (gr h 1 1))
abbrev rm_X0_takeImage : Room := ({ frames := 5, cells := 13, slots := 423, locals := 149 })
abbrev K_X0_takeImage : Kx := ("BeforeTheEnd", cX0_takeImage, 2, (Option.some Jvm.ClassFile.FieldType.int), rm_X0_takeImage, [], false)
set_option maxHeartbeats 4000000 in
theorem t_X0_takeImage_43 {ρ : Rho} {h0 : Hp} {post : Int32 → Hp → Prop} {K21 : Int32 → Hp → Prop} (G : G0 ρ) (n : Nat) (hn : n + 1 ≤ 5) (hK21 : ∀ (x1 : Int32) (h : Hp), GI h → Ext h0 h → K21 x1 h → X ρ K_X0_takeImage 21 [(0, .ref (mr ρ 1)), (1, .int x1)] [] h (8 + (5 - n) * 1) (393 + (5 - n) * 6) (phI h0 post) psN) :
    ∀ (x1 : Int32) (z0 : Nat) (z1 : Int32) (h : Hp), GI h → Ext h0 h → isPl h z0 → w_X0_takeImage_43 post K21 x1 z0 z1 h → X ρ K_X0_takeImage 43 [(0, .ref (mr ρ 1)), (1, .int x1)] [.ref (mr ρ z0), .int z1, .ref (mr ρ 13)] h (8 + (5 - (n + 1)) * 1 + 1) (393 + (5 - (n + 1)) * 6 + 6) (phI h0 post) psN := by
  intro x1 z0 z1 h g e fz0 hw
  obtain ⟨b_1, hw⟩ := hw
  refine x_aastisPl (n := 4) (j := (Int32.toNatClampNeg z1)) dX0_takeImage_43 rfl (GI.s g (t := (5, 4)) rfl (by decide)) fz0 b_1 ?_
  refine x_iinc (v := (x1 + 1)) (lv' := [(1, .int (x1 + 1)), (0, .ref (mr ρ 1))]) 1 dX0_takeImage_44 rfl (by rfl) (Nat.le_of_ble_eq_true rfl) rfl ?_
  refine x_goto 21 dX0_takeImage_47 (by decide) ?_
  refine X.widen (k := 8 + (5 - n) * 1) (n := 393 + (5 - n) * 6) (show 8 + (5 - (n + 1)) * 1 + 1 ≤ 8 + (5 - n) * 1 by omega) (show 393 + (5 - (n + 1)) * 6 + 6 ≤ 393 + (5 - n) * 6 by omega) ?_
  refine X.sub [1, 0] rfl ?_
  exact hK21 (x1 + 1) (sr h 13 (Int32.toNatClampNeg z1) z0) (GI.r g (GI.s g (t := (5, 4)) rfl (by decide)) (by decide) (by decide) (by decide)) (Ext.r e (GI.s g (t := (5, 4)) rfl (by decide)) (by decide) (by decide)) hw
set_option maxHeartbeats 4000000 in
theorem t_X0_takeImage_21 {ρ : Rho} {h0 : Hp} {post : Int32 → Hp → Prop} (G : G0 ρ) :
    ∀ (n : Nat), n ≤ 5 → ∀ (x1 : Int32) (h : Hp), GI h → Ext h0 h → w_X0_takeImage_21 post n x1 h → X ρ K_X0_takeImage 21 [(0, .ref (mr ρ 1)), (1, .int x1)] [] h (8 + (5 - n) * 1) (393 + (5 - n) * 6) (phI h0 post) psN := by
  intro n
  induction n with
  | zero => intro hn x1 h g e hw; exact False.elim hw
  | succ n ih =>
    intro hn x1 h g e hw
    refine x_iload_n 1 dX0_takeImage_21 rfl ?_
    refine x_aload_n 0 dX0_takeImage_22 rfl ?_
    refine x_get (ci := 0) (v := .int (gi h 1 3)) 3 dX0_takeImage_23 (GI.s g (t := (10, 0)) rfl (by decide)) rfl in_X0 (by decide) q190 (Or.inl rfl) (fv_i rfl) ?_
    obtain ⟨wt_16, wf_17⟩ := hw
    refine x_icmp_ge 50 dX0_takeImage_26 (by decide) (fun c_1 => ?_) (fun c_1 => ?_)
    · have hw := wt_16 c_1
      refine x_aload_n 0 dX0_takeImage_50 rfl ?_
      refine x_get (ci := 0) (v := .ref (mr ρ 11)) 4 dX0_takeImage_51 (GI.s g (t := (10, 0)) rfl (by decide)) rfl in_X0 (by decide) q191 (Or.inl rfl) (fv_rc rfl (GI.x g (n := 11) rfl (by decide)) (by decide)) ?_
      refine x_iconst 0 dX0_takeImage_54 (by decide) ?_
      refine x_aload_n 0 dX0_takeImage_55 rfl ?_
      refine x_get (ci := 0) (v := .ref (mr ρ 14)) 10 dX0_takeImage_56 (GI.s g (t := (10, 0)) rfl (by decide)) rfl in_X0 (by decide) q197 (Or.inl rfl) (fv_rc rfl (GI.x g (n := 14) rfl (by decide)) (by decide)) ?_
      refine x_iconst 0 dX0_takeImage_59 (by decide) ?_
      refine x_iconst 4 dX0_takeImage_60 (by decide) ?_
      refine x_copy dX0_takeImage_61 (GI.s g (t := (1, 4)) rfl (by decide)) (GI.s g (t := (1, 10)) rfl (by decide)) q1006 q712 q711 q130 (by decide) (by decide) (by decide) (by decide) (by decide) (Nat.le_of_ble_eq_true rfl) (Nat.le_of_ble_eq_true rfl) ?_
      show X ρ K_X0_takeImage 64 [(0, .ref (mr ρ 1)), (1, .int x1)] [] (cpi h 11 0 14 0 4) (8 + (5 - (n + 1)) * 1) (393 + (5 - (n + 1)) * 6) (phI h0 post) psN
      refine x_aload_n 0 dX0_takeImage_64 rfl ?_
      refine x_get (ci := 0) (v := .ref (mr ρ 12)) 5 dX0_takeImage_65 (GI.s (GI.c g) (t := (10, 0)) rfl (by decide)) rfl in_X0 (by decide) q192 (Or.inl rfl) (fv_rc rfl (GI.x (GI.c g) (n := 12) rfl (by decide)) (by decide)) ?_
      refine x_iconst 0 dX0_takeImage_68 (by decide) ?_
      refine x_aload_n 0 dX0_takeImage_69 rfl ?_
      refine x_get (ci := 0) (v := .ref (mr ρ 14)) 10 dX0_takeImage_70 (GI.s (GI.c g) (t := (10, 0)) rfl (by decide)) rfl in_X0 (by decide) q197 (Or.inl rfl) (fv_rc rfl (GI.x (GI.c g) (n := 14) rfl (by decide)) (by decide)) ?_
      refine x_iconst 4 dX0_takeImage_73 (by decide) ?_
      refine x_iconst 5 dX0_takeImage_74 (by decide) ?_
      refine x_copy dX0_takeImage_75 (GI.s (GI.c g) (t := (1, 5)) rfl (by decide)) (GI.s (GI.c g) (t := (1, 10)) rfl (by decide)) q1006 q712 q711 q130 (by decide) (by decide) (by decide) (by decide) (by decide) (Nat.le_of_ble_eq_true rfl) (Nat.le_of_ble_eq_true rfl) ?_
      show X ρ K_X0_takeImage 78 [(0, .ref (mr ρ 1)), (1, .int x1)] [] (cpi (cpi h 11 0 14 0 4) 12 0 14 4 5) (8 + (5 - (n + 1)) * 1) (393 + (5 - (n + 1)) * 6) (phI h0 post) psN
      refine x_aload_n 0 dX0_takeImage_78 rfl ?_
      refine x_get (ci := 0) (v := .ref (mr ρ 14)) 10 dX0_takeImage_79 (GI.s (GI.c (GI.c g)) (t := (10, 0)) rfl (by decide)) rfl in_X0 (by decide) q197 (Or.inl rfl) (fv_rc rfl (GI.x (GI.c (GI.c g)) (n := 14) rfl (by decide)) (by decide)) ?_
      refine x_bipush 9 dX0_takeImage_82 (by decide) ?_
      refine x_aload_n 0 dX0_takeImage_84 rfl ?_
      refine x_get (ci := 0) (v := .int (gi (cpi (cpi h 11 0 14 0 4) 12 0 14 4 5) 1 6)) 6 dX0_takeImage_85 (GI.s (GI.c (GI.c g)) (t := (10, 0)) rfl (by decide)) rfl in_X0 (by decide) q193 (Or.inl rfl) (fv_i rfl) ?_
      refine x_iast (n := 10) (j := 9) dX0_takeImage_88 (by decide) (GI.s (GI.c (GI.c g)) (t := (1, 10)) rfl (by decide)) (by unfold vp_in; decide) ?_
      refine x_aload_n 0 dX0_takeImage_89 rfl ?_
      refine x_get (ci := 0) (v := .ref (mr ρ (gr (si (cpi (cpi h 11 0 14 0 4) 12 0 14 4 5) 14 9 (gi (cpi (cpi h 11 0 14 0 4) 12 0 14 4 5) 1 6)) 1 1))) 1 dX0_takeImage_90 (GI.s (GI.i (GI.c (GI.c g))) (t := (10, 0)) rfl (by decide)) rfl in_X0 (by decide) q188 (Or.inl rfl) (fv_rc rfl rfl (isTree.nz (GI.t (GI.i (GI.c (GI.c g)))) (Live.i (Live.c (Live.c (GI.live g)))))) ?_
      refine x_getN (ci := 1) (v := .int (gi (si (cpi (cpi h 11 0 14 0 4) 12 0 14 4 5) 14 9 (gi (cpi (cpi h 11 0 14 0 4) 12 0 14 4 5) 1 6)) (gr (si (cpi (cpi h 11 0 14 0 4) 12 0 14 4 5) 14 9 (gi (cpi (cpi h 11 0 14 0 4) 12 0 14 4 5) 1 6)) 1 1) 0)) 0 dX0_takeImage_93 (isTree.s (GI.t (GI.i (GI.c (GI.c g))))) rfl in_X1 (by decide) q147 (Or.inl rfl) (fv_i rfl) ?_
      exact x_iret dX0_takeImage_96 rfl (show 8 + (5 - (n + 1)) * 1 ≤ 13 by omega) (show 393 + (5 - (n + 1)) * 6 ≤ 423 by omega) ⟨_, rfl, (GI.i (GI.c (GI.c g))), (Ext.i (Ext.c (Ext.c e))), hw⟩
    · have hw := wf_17 c_1
      refine x_aload_n 0 dX0_takeImage_29 rfl ?_
      refine x_get (ci := 0) (v := .ref (mr ρ 13)) 8 dX0_takeImage_30 (GI.s g (t := (10, 0)) rfl (by decide)) rfl in_X0 (by decide) q195 (Or.inl rfl) (fv_rc rfl (GI.x g (n := 13) rfl (by decide)) (by decide)) ?_
      refine x_iload_n 1 dX0_takeImage_33 rfl ?_
      refine x_aload_n 0 dX0_takeImage_34 rfl ?_
      refine x_get (ci := 0) (v := .ref (mr ρ 10)) 2 dX0_takeImage_35 (GI.s g (t := (10, 0)) rfl (by decide)) rfl in_X0 (by decide) q189 (Or.inl rfl) (fv_rc rfl (GI.x g (n := 10) rfl (by decide)) (by decide)) ?_
      refine x_iload_n 1 dX0_takeImage_38 rfl ?_
      obtain ⟨b_2, hw⟩ := hw
      obtain ⟨b_3, hw⟩ := hw
      refine x_aald5 (n := 4) (j := (Int32.toNatClampNeg x1)) dX0_takeImage_39 rfl (GI.s g (t := (5, 4)) rfl (by decide)) b_2 ?_
      refine x_nn (isPl.nz b_3 (GI.live g)) ?_
      have kk_15 : ∀ (v9 : Option Value) (h_4 : Hp), (phR ρ h (fun r_7 h_4 => GI h_4 → Ext h h_4 → (isPl h_4 r_7 ∧ (w_X0_takeImage_43 post (w_X0_takeImage_21 post n) x1 r_7 x1 h_4)))) v9 h_4 → X ρ K_X0_takeImage 43 [(0, .ref (mr ρ 1)), (1, .int x1)] (v9.toList ++ [.int x1, .ref (mr ρ 13)]) h_4 (8 + (5 - (n + 1)) * 1 + 1) (393 + (5 - (n + 1)) * 6 + 6) (phI h0 post) psN := by
        intro v9 h_4 hv9
        obtain ⟨r_7, rfl, g_5, e_6, hw⟩ := hv9
        have hw := hw g_5 e_6
        show X ρ K_X0_takeImage 43 [(0, .ref (mr ρ 1)), (1, .int x1)] [.ref (mr ρ r_7), .int x1, .ref (mr ρ 13)] h_4 (8 + (5 - (n + 1)) * 1 + 1) (393 + (5 - (n + 1)) * 6 + 6) (phI h0 post) psN
        obtain ⟨b_8, hw⟩ := hw
        exact t_X0_takeImage_43 G n hn (ih (by omega)) x1 r_7 x1 h_4 g_5 (Ext.tr e e_6) b_8 hw
      obtain ⟨wc_9, wc_10, wc_11, wc_12, wc_13, wc_14⟩ := hw
      rcases b_3 with fc9 | fc9 | fc9 | fc9 | fc9 | fc9
      · exact x_callU (ci := 8) (x0 := ⟨"BeforeTheEnd$Player", "copied", "()LBeforeTheEnd$Player;"⟩) (owner := "BeforeTheEnd$Player") [] 0 dX0_takeImage_40 (k_X10_copied_c8 G g fc9 (wc_9 fc9)) fc9 rfl (lw_U q1037 q1039 q1046 q1038 q123 q1054) rfl (by decide) rfl rfl ⟨(Nat.le_of_ble_eq_true rfl), (Nat.le_of_ble_eq_true rfl)⟩ (Nat.le_of_ble_eq_true rfl) ⟨(show 8 + (5 - (n + 1)) * 1 + 1 ≤ 13 by omega), (show 393 + (5 - (n + 1)) * 6 + 6 ≤ 423 by omega)⟩ kk_15 (fun _ _ _ _ _ z _ _ => False.elim z)
      · exact x_callU (ci := 9) (x0 := ⟨"BeforeTheEnd$Player", "copied", "()LBeforeTheEnd$Player;"⟩) (owner := "BeforeTheEnd$Player") [] 0 dX0_takeImage_40 (k_X10_copied_c9 G g fc9 (wc_10 fc9)) fc9 rfl (lw_U q1037 q1039 q1048 q1038 q123 q1054) rfl (by decide) rfl rfl ⟨(Nat.le_of_ble_eq_true rfl), (Nat.le_of_ble_eq_true rfl)⟩ (Nat.le_of_ble_eq_true rfl) ⟨(show 8 + (5 - (n + 1)) * 1 + 1 ≤ 13 by omega), (show 393 + (5 - (n + 1)) * 6 + 6 ≤ 423 by omega)⟩ kk_15 (fun _ _ _ _ _ z _ _ => False.elim z)
      · exact x_callU (ci := 10) (x0 := ⟨"BeforeTheEnd$Player", "copied", "()LBeforeTheEnd$Player;"⟩) (owner := "BeforeTheEnd$Player") [] 0 dX0_takeImage_40 (k_X10_copied_c10 G g fc9 (wc_11 fc9)) fc9 rfl (lw_U q1037 q1039 q1045 q1038 q123 q1054) rfl (by decide) rfl rfl ⟨(Nat.le_of_ble_eq_true rfl), (Nat.le_of_ble_eq_true rfl)⟩ (Nat.le_of_ble_eq_true rfl) ⟨(show 8 + (5 - (n + 1)) * 1 + 1 ≤ 13 by omega), (show 393 + (5 - (n + 1)) * 6 + 6 ≤ 423 by omega)⟩ kk_15 (fun _ _ _ _ _ z _ _ => False.elim z)
      · exact x_callU (ci := 11) (x0 := ⟨"BeforeTheEnd$Player", "copied", "()LBeforeTheEnd$Player;"⟩) (owner := "BeforeTheEnd$Player") [] 0 dX0_takeImage_40 (k_X10_copied_c11 G g fc9 (wc_12 fc9)) fc9 rfl (lw_U q1037 q1039 q1047 q1038 q123 q1054) rfl (by decide) rfl rfl ⟨(Nat.le_of_ble_eq_true rfl), (Nat.le_of_ble_eq_true rfl)⟩ (Nat.le_of_ble_eq_true rfl) ⟨(show 8 + (5 - (n + 1)) * 1 + 1 ≤ 13 by omega), (show 393 + (5 - (n + 1)) * 6 + 6 ≤ 423 by omega)⟩ kk_15 (fun _ _ _ _ _ z _ _ => False.elim z)
      · exact x_callO (ci := 12) (x0 := ⟨"BeforeTheEnd$Player", "copied", "()LBeforeTheEnd$Player;"⟩) (owner := "BeforeTheEnd$Player") [] 0 dX0_takeImage_40 (k_X15_copied_c12 G g fc9 (wc_13 fc9)) fc9 rfl (lw_O q1037 q1039 q1038 q1049 q1050 q128 q1051) q1054 (by decide) rfl rfl ⟨(Nat.le_of_ble_eq_true rfl), (Nat.le_of_ble_eq_true rfl)⟩ (Nat.le_of_ble_eq_true rfl) ⟨(show 8 + (5 - (n + 1)) * 1 + 1 ≤ 13 by omega), (show 393 + (5 - (n + 1)) * 6 + 6 ≤ 423 by omega)⟩ kk_15 (fun _ _ _ _ _ z _ _ => False.elim z)
      · exact x_callO (ci := 13) (x0 := ⟨"BeforeTheEnd$Player", "copied", "()LBeforeTheEnd$Player;"⟩) (owner := "BeforeTheEnd$Player") [] 0 dX0_takeImage_40 (k_X16_copied_c13 G g fc9 (wc_14 fc9)) fc9 rfl (lw_O q1037 q1039 q1038 q1040 q1041 q129 q1042) q1054 (by decide) rfl rfl ⟨(Nat.le_of_ble_eq_true rfl), (Nat.le_of_ble_eq_true rfl)⟩ (Nat.le_of_ble_eq_true rfl) ⟨(show 8 + (5 - (n + 1)) * 1 + 1 ≤ 13 by omega), (show 393 + (5 - (n + 1)) * 6 + 6 ≤ 423 by omega)⟩ kk_15 (fun _ _ _ _ _ z _ _ => False.elim z)
set_option maxHeartbeats 4000000 in
theorem k_X0_takeImage {ρ : Rho} {h : Hp} {post : Int32 → Hp → Prop} (G : G0 ρ) (g : GI h) (hw : wp_X0_takeImage post h) : Con ρ yX0_takeImage (ws_ yX0_takeImage cX0_takeImage 2 (Option.some Jvm.ClassFile.FieldType.int)) rm_X0_takeImage [.ref (mr ρ 1)] h (phI h post) psN := by
  refine con_of (own := "BeforeTheEnd") (isI := false) (l0 := [(0, .ref (mr ρ 1))]) (by decide) rfl (fun z => by cases z) (Nat.le_of_ble_eq_true rfl) rfl (fun _ => ?_)
  show X ρ K_X0_takeImage 0 [(0, .ref (mr ρ 1))] [] h 0 0 (phI h post) psN
  refine x_aload_n 0 dX0_takeImage_0 rfl ?_
  refine x_aload_n 0 dX0_takeImage_1 rfl ?_
  refine x_get (ci := 0) (v := .ref (mr ρ (gr h 1 1))) 1 dX0_takeImage_2 (GI.s g (t := (10, 0)) rfl (by decide)) rfl in_X0 (by decide) q188 (Or.inl rfl) (fv_rc rfl rfl (isTree.nz (GI.t g) (GI.live g))) ?_
  refine x_callV (ci := 1) [] 0 dX0_takeImage_5 (k_X1_copied G g (GI.t g) hw) (isTree.s (GI.t g)) rfl q704 q705 q706 q105 q707 (by decide) rfl rfl ⟨(Nat.le_of_ble_eq_true rfl), (Nat.le_of_ble_eq_true rfl)⟩ (Nat.le_of_ble_eq_true rfl) ⟨(Nat.le_of_ble_eq_true rfl), (Nat.le_of_ble_eq_true rfl)⟩ (fun v9 h_1 hv9 => ?_) (fun _ _ _ _ _ z _ _ => False.elim z)
  obtain ⟨r_4, rfl, g_2, e_3, hw⟩ := hv9
  have hw := hw g_2 e_3
  show X ρ K_X0_takeImage 8 [(0, .ref (mr ρ 1))] [.ref (mr ρ r_4), .ref (mr ρ 1)] h_1 8 393 (phI h post) psN
  obtain ⟨b_5, hw⟩ := hw
  refine x_put (ci := 0) 7 dX0_takeImage_8 (GI.s g_2 (t := (10, 0)) rfl (by decide)) rfl in_X0 tyX0 tyX0_ok nmX0 (by decide) q194 (Or.inl rfl) rfl rfl rfl (isPut_rn rfl (isTree.nz b_5 (GI.live g_2))) ?_
  refine x_aload_n 0 dX0_takeImage_11 rfl ?_
  refine x_aload_n 0 dX0_takeImage_12 rfl ?_
  refine x_get (ci := 0) (v := .int (gi (sr h_1 1 7 r_4) 1 3)) 3 dX0_takeImage_13 (GI.s (GI.rI g_2) (t := (10, 0)) rfl (by decide)) rfl in_X0 (by decide) q190 (Or.inl rfl) (fv_i rfl) ?_
  refine x_put (ci := 0) 9 dX0_takeImage_16 (GI.s (GI.rI g_2) (t := (10, 0)) rfl (by decide)) rfl in_X0 tyX0 tyX0_ok nmX0 (by decide) q196 (Or.inl rfl) rfl rfl rfl (isPut_i rfl) ?_
  refine x_iconst 0 dX0_takeImage_19 (by decide) ?_
  refine x_istore_n (lv' := [(1, .int 0), (0, .ref (mr ρ 1))]) dX0_takeImage_20 (Nat.le_of_ble_eq_true rfl) rfl ?_
  refine X.widen (k := 8 + (5 - 5) * 1) (n := 393 + (5 - 5) * 6) (show 8 ≤ 8 + (5 - 5) * 1 by omega) (show 393 ≤ 393 + (5 - 5) * 6 by omega) ?_
  refine X.sub [1, 0] rfl ?_
  exact t_X0_takeImage_21 G  5 (Nat.le_refl _) 0 (si (sr h_1 1 7 r_4) 1 9 (gi (sr h_1 1 7 r_4) 1 3)) (GI.i (GI.rI g_2)) (Ext.i (Ext.r e_3 (GI.s g_2 (t := (10, 0)) rfl (by decide)) (by decide) (by decide))) hw

/-! BeforeTheEnd.goOn()I -/
def w_X0_goOn_70 (post : Int32 → Hp → Prop) (px : Nat → Hp → Prop) (K48 : Int32 → Hp → Prop) (x1 : Int32) (z0 : Nat) (z1 : Int32) (h : Hp) : Prop := (vp_in z1 4 ∧ (K48 (x1 + 1) (sr h 10 (Int32.toNatClampNeg z1) z0)))
def w_X0_goOn_48 (post : Int32 → Hp → Prop) (px : Nat → Hp → Prop) : Nat → Int32 → Hp → Prop
  | 0 => fun _ _ => False
  | n + 1 => fun x1 h => (((gi h 1 3) ≤ x1 → (post (gi (si (cpi (cpi h 14 0 11 0 4) 14 4 12 0 5) 1 6 (gi (cpi (cpi h 14 0 11 0 4) 14 4 12 0 5) 14 9)) (gr (si (cpi (cpi h 14 0 11 0 4) 14 4 12 0 5) 1 6 (gi (cpi (cpi h 14 0 11 0 4) 14 4 12 0 5) 14 9)) 1 1) 0) (si (cpi (cpi h 14 0 11 0 4) 14 4 12 0 5) 1 6 (gi (cpi (cpi h 14 0 11 0 4) 14 4 12 0 5) 14 9)))) ∧ (¬ (gi h 1 3) ≤ x1 → (vp_in x1 4 ∧ (isPl h (gr h 13 (Int32.toNatClampNeg x1)) ∧ (wv_X10_copied_isPl (fun r_7 h_4 => GI h_4 → Ext h h_4 → (isPl h_4 r_7 ∧ (w_X0_goOn_70 post px (w_X0_goOn_48 post px n) x1 r_7 x1 h_4))) h (gr h 13 (Int32.toNatClampNeg x1)))))))
def w_X0_goOn_12 (post : Int32 → Hp → Prop) (px : Nat → Hp → Prop) (z0 : Int32) (h : Hp) : Prop := (wp_X0_must (fun h_1 => GI h_1 → Ext h h_1 → (isTree h_1 (gr h_1 1 7) ∧ (wp_X1_copied (fun r_10 h_7 => GI h_7 → Ext h_1 h_7 → (isTree h_7 r_10 ∧ (w_X0_goOn_48 post px 5 0 (si (si (sr h_7 1 1 r_10) 1 0 ((gi (sr h_7 1 1 r_10) 1 0) + 1)) 1 3 (gi (si (sr h_7 1 1 r_10) 1 0 ((gi (sr h_7 1 1 r_10) 1 0) + 1)) 1 9))))) h_1 (gr h_1 1 7)))) px h z0 (-3))
def wp_X0_goOn (post : Int32 → Hp → Prop) (px : Nat → Hp → Prop) (h : Hp) : Prop := (((gr h 1 7) = 0 → (w_X0_goOn_12 post px 0 h)) ∧ (¬ (gr h 1 7) = 0 → (w_X0_goOn_12 post px 1 h)))
abbrev rm_X0_goOn : Room := ({ frames := 10, cells := 14, slots := 430, locals := 242 })
abbrev K_X0_goOn : Kx := ("BeforeTheEnd", cX0_goOn, 2, (Option.some Jvm.ClassFile.FieldType.int), rm_X0_goOn, [], false)
set_option maxHeartbeats 4000000 in
theorem t_X0_goOn_70 {ρ : Rho} {h0 : Hp} {post : Int32 → Hp → Prop} {px : Nat → Hp → Prop} {K48 : Int32 → Hp → Prop} (G : G0 ρ) (n : Nat) (hn : n + 1 ≤ 5) (hK48 : ∀ (x1 : Int32) (h : Hp), GI h → Ext h0 h → K48 x1 h → X ρ K_X0_goOn 48 [(0, .ref (mr ρ 1)), (1, .int x1)] [] h (9 + (5 - n) * 1) (400 + (5 - n) * 6) (phI h0 post) (psX h0 px)) :
    ∀ (x1 : Int32) (z0 : Nat) (z1 : Int32) (h : Hp), GI h → Ext h0 h → isPl h z0 → w_X0_goOn_70 post px K48 x1 z0 z1 h → X ρ K_X0_goOn 70 [(0, .ref (mr ρ 1)), (1, .int x1)] [.ref (mr ρ z0), .int z1, .ref (mr ρ 10)] h (9 + (5 - (n + 1)) * 1 + 1) (400 + (5 - (n + 1)) * 6 + 6) (phI h0 post) (psX h0 px) := by
  intro x1 z0 z1 h g e fz0 hw
  obtain ⟨b_1, hw⟩ := hw
  refine x_aastisPl (n := 4) (j := (Int32.toNatClampNeg z1)) dX0_goOn_70 rfl (GI.s g (t := (5, 4)) rfl (by decide)) fz0 b_1 ?_
  refine x_iinc (v := (x1 + 1)) (lv' := [(1, .int (x1 + 1)), (0, .ref (mr ρ 1))]) 1 dX0_goOn_71 rfl (by rfl) (Nat.le_of_ble_eq_true rfl) rfl ?_
  refine x_goto 48 dX0_goOn_74 (by decide) ?_
  refine X.widen (k := 9 + (5 - n) * 1) (n := 400 + (5 - n) * 6) (show 9 + (5 - (n + 1)) * 1 + 1 ≤ 9 + (5 - n) * 1 by omega) (show 400 + (5 - (n + 1)) * 6 + 6 ≤ 400 + (5 - n) * 6 by omega) ?_
  refine X.sub [1, 0] rfl ?_
  exact hK48 (x1 + 1) (sr h 10 (Int32.toNatClampNeg z1) z0) (GI.r g (GI.s g (t := (5, 4)) rfl (by decide)) (by decide) (by decide) (by decide)) (Ext.r e (GI.s g (t := (5, 4)) rfl (by decide)) (by decide) (by decide)) hw
set_option maxHeartbeats 4000000 in
theorem t_X0_goOn_48 {ρ : Rho} {h0 : Hp} {post : Int32 → Hp → Prop} {px : Nat → Hp → Prop} (G : G0 ρ) :
    ∀ (n : Nat), n ≤ 5 → ∀ (x1 : Int32) (h : Hp), GI h → Ext h0 h → w_X0_goOn_48 post px n x1 h → X ρ K_X0_goOn 48 [(0, .ref (mr ρ 1)), (1, .int x1)] [] h (9 + (5 - n) * 1) (400 + (5 - n) * 6) (phI h0 post) (psX h0 px) := by
  intro n
  induction n with
  | zero => intro hn x1 h g e hw; exact False.elim hw
  | succ n ih =>
    intro hn x1 h g e hw
    refine x_iload_n 1 dX0_goOn_48 rfl ?_
    refine x_aload_n 0 dX0_goOn_49 rfl ?_
    refine x_get (ci := 0) (v := .int (gi h 1 3)) 3 dX0_goOn_50 (GI.s g (t := (10, 0)) rfl (by decide)) rfl in_X0 (by decide) q190 (Or.inl rfl) (fv_i rfl) ?_
    obtain ⟨wt_16, wf_17⟩ := hw
    refine x_icmp_ge 77 dX0_goOn_53 (by decide) (fun c_1 => ?_) (fun c_1 => ?_)
    · have hw := wt_16 c_1
      refine x_aload_n 0 dX0_goOn_77 rfl ?_
      refine x_get (ci := 0) (v := .ref (mr ρ 14)) 10 dX0_goOn_78 (GI.s g (t := (10, 0)) rfl (by decide)) rfl in_X0 (by decide) q197 (Or.inl rfl) (fv_rc rfl (GI.x g (n := 14) rfl (by decide)) (by decide)) ?_
      refine x_iconst 0 dX0_goOn_81 (by decide) ?_
      refine x_aload_n 0 dX0_goOn_82 rfl ?_
      refine x_get (ci := 0) (v := .ref (mr ρ 11)) 4 dX0_goOn_83 (GI.s g (t := (10, 0)) rfl (by decide)) rfl in_X0 (by decide) q191 (Or.inl rfl) (fv_rc rfl (GI.x g (n := 11) rfl (by decide)) (by decide)) ?_
      refine x_iconst 0 dX0_goOn_86 (by decide) ?_
      refine x_iconst 4 dX0_goOn_87 (by decide) ?_
      refine x_copy dX0_goOn_88 (GI.s g (t := (1, 10)) rfl (by decide)) (GI.s g (t := (1, 4)) rfl (by decide)) q1006 q712 q711 q130 (by decide) (by decide) (by decide) (by decide) (by decide) (Nat.le_of_ble_eq_true rfl) (Nat.le_of_ble_eq_true rfl) ?_
      show X ρ K_X0_goOn 91 [(0, .ref (mr ρ 1)), (1, .int x1)] [] (cpi h 14 0 11 0 4) (9 + (5 - (n + 1)) * 1) (400 + (5 - (n + 1)) * 6) (phI h0 post) (psX h0 px)
      refine x_aload_n 0 dX0_goOn_91 rfl ?_
      refine x_get (ci := 0) (v := .ref (mr ρ 14)) 10 dX0_goOn_92 (GI.s (GI.c g) (t := (10, 0)) rfl (by decide)) rfl in_X0 (by decide) q197 (Or.inl rfl) (fv_rc rfl (GI.x (GI.c g) (n := 14) rfl (by decide)) (by decide)) ?_
      refine x_iconst 4 dX0_goOn_95 (by decide) ?_
      refine x_aload_n 0 dX0_goOn_96 rfl ?_
      refine x_get (ci := 0) (v := .ref (mr ρ 12)) 5 dX0_goOn_97 (GI.s (GI.c g) (t := (10, 0)) rfl (by decide)) rfl in_X0 (by decide) q192 (Or.inl rfl) (fv_rc rfl (GI.x (GI.c g) (n := 12) rfl (by decide)) (by decide)) ?_
      refine x_iconst 0 dX0_goOn_100 (by decide) ?_
      refine x_iconst 5 dX0_goOn_101 (by decide) ?_
      refine x_copy dX0_goOn_102 (GI.s (GI.c g) (t := (1, 10)) rfl (by decide)) (GI.s (GI.c g) (t := (1, 5)) rfl (by decide)) q1006 q712 q711 q130 (by decide) (by decide) (by decide) (by decide) (by decide) (Nat.le_of_ble_eq_true rfl) (Nat.le_of_ble_eq_true rfl) ?_
      show X ρ K_X0_goOn 105 [(0, .ref (mr ρ 1)), (1, .int x1)] [] (cpi (cpi h 14 0 11 0 4) 14 4 12 0 5) (9 + (5 - (n + 1)) * 1) (400 + (5 - (n + 1)) * 6) (phI h0 post) (psX h0 px)
      refine x_aload_n 0 dX0_goOn_105 rfl ?_
      refine x_aload_n 0 dX0_goOn_106 rfl ?_
      refine x_get (ci := 0) (v := .ref (mr ρ 14)) 10 dX0_goOn_107 (GI.s (GI.c (GI.c g)) (t := (10, 0)) rfl (by decide)) rfl in_X0 (by decide) q197 (Or.inl rfl) (fv_rc rfl (GI.x (GI.c (GI.c g)) (n := 14) rfl (by decide)) (by decide)) ?_
      refine x_bipush 9 dX0_goOn_110 (by decide) ?_
      refine x_iald (n := 10) (j := 9) dX0_goOn_112 (by decide) (GI.s (GI.c (GI.c g)) (t := (1, 10)) rfl (by decide)) (by unfold vp_in; decide) ?_
      refine x_put (ci := 0) 6 dX0_goOn_113 (GI.s (GI.c (GI.c g)) (t := (10, 0)) rfl (by decide)) rfl in_X0 tyX0 tyX0_ok nmX0 (by decide) q193 (Or.inl rfl) rfl rfl rfl (isPut_i rfl) ?_
      refine x_aload_n 0 dX0_goOn_116 rfl ?_
      refine x_get (ci := 0) (v := .ref (mr ρ (gr (si (cpi (cpi h 14 0 11 0 4) 14 4 12 0 5) 1 6 (gi (cpi (cpi h 14 0 11 0 4) 14 4 12 0 5) 14 9)) 1 1))) 1 dX0_goOn_117 (GI.s (GI.i (GI.c (GI.c g))) (t := (10, 0)) rfl (by decide)) rfl in_X0 (by decide) q188 (Or.inl rfl) (fv_rc rfl rfl (isTree.nz (GI.t (GI.i (GI.c (GI.c g)))) (Live.i (Live.c (Live.c (GI.live g)))))) ?_
      refine x_getN (ci := 1) (v := .int (gi (si (cpi (cpi h 14 0 11 0 4) 14 4 12 0 5) 1 6 (gi (cpi (cpi h 14 0 11 0 4) 14 4 12 0 5) 14 9)) (gr (si (cpi (cpi h 14 0 11 0 4) 14 4 12 0 5) 1 6 (gi (cpi (cpi h 14 0 11 0 4) 14 4 12 0 5) 14 9)) 1 1) 0)) 0 dX0_goOn_120 (isTree.s (GI.t (GI.i (GI.c (GI.c g))))) rfl in_X1 (by decide) q147 (Or.inl rfl) (fv_i rfl) ?_
      exact x_iret dX0_goOn_123 rfl (show 9 + (5 - (n + 1)) * 1 ≤ 14 by omega) (show 400 + (5 - (n + 1)) * 6 ≤ 430 by omega) ⟨_, rfl, (GI.i (GI.c (GI.c g))), (Ext.i (Ext.c (Ext.c e))), hw⟩
    · have hw := wf_17 c_1
      refine x_aload_n 0 dX0_goOn_56 rfl ?_
      refine x_get (ci := 0) (v := .ref (mr ρ 10)) 2 dX0_goOn_57 (GI.s g (t := (10, 0)) rfl (by decide)) rfl in_X0 (by decide) q189 (Or.inl rfl) (fv_rc rfl (GI.x g (n := 10) rfl (by decide)) (by decide)) ?_
      refine x_iload_n 1 dX0_goOn_60 rfl ?_
      refine x_aload_n 0 dX0_goOn_61 rfl ?_
      refine x_get (ci := 0) (v := .ref (mr ρ 13)) 8 dX0_goOn_62 (GI.s g (t := (10, 0)) rfl (by decide)) rfl in_X0 (by decide) q195 (Or.inl rfl) (fv_rc rfl (GI.x g (n := 13) rfl (by decide)) (by decide)) ?_
      refine x_iload_n 1 dX0_goOn_65 rfl ?_
      obtain ⟨b_2, hw⟩ := hw
      obtain ⟨b_3, hw⟩ := hw
      refine x_aald5 (n := 4) (j := (Int32.toNatClampNeg x1)) dX0_goOn_66 rfl (GI.s g (t := (5, 4)) rfl (by decide)) b_2 ?_
      refine x_nn (isPl.nz b_3 (GI.live g)) ?_
      have kk_15 : ∀ (v9 : Option Value) (h_4 : Hp), (phR ρ h (fun r_7 h_4 => GI h_4 → Ext h h_4 → (isPl h_4 r_7 ∧ (w_X0_goOn_70 post px (w_X0_goOn_48 post px n) x1 r_7 x1 h_4)))) v9 h_4 → X ρ K_X0_goOn 70 [(0, .ref (mr ρ 1)), (1, .int x1)] (v9.toList ++ [.int x1, .ref (mr ρ 10)]) h_4 (9 + (5 - (n + 1)) * 1 + 1) (400 + (5 - (n + 1)) * 6 + 6) (phI h0 post) (psX h0 px) := by
        intro v9 h_4 hv9
        obtain ⟨r_7, rfl, g_5, e_6, hw⟩ := hv9
        have hw := hw g_5 e_6
        show X ρ K_X0_goOn 70 [(0, .ref (mr ρ 1)), (1, .int x1)] [.ref (mr ρ r_7), .int x1, .ref (mr ρ 10)] h_4 (9 + (5 - (n + 1)) * 1 + 1) (400 + (5 - (n + 1)) * 6 + 6) (phI h0 post) (psX h0 px)
        obtain ⟨b_8, hw⟩ := hw
        exact t_X0_goOn_70 G n hn (ih (by omega)) x1 r_7 x1 h_4 g_5 (Ext.tr e e_6) b_8 hw
      obtain ⟨wc_9, wc_10, wc_11, wc_12, wc_13, wc_14⟩ := hw
      rcases b_3 with fc9 | fc9 | fc9 | fc9 | fc9 | fc9
      · exact x_callU (ci := 8) (x0 := ⟨"BeforeTheEnd$Player", "copied", "()LBeforeTheEnd$Player;"⟩) (owner := "BeforeTheEnd$Player") [] 0 dX0_goOn_67 (k_X10_copied_c8 G g fc9 (wc_9 fc9)) fc9 rfl (lw_U q1037 q1039 q1046 q1038 q123 q1054) rfl (by decide) rfl rfl ⟨(Nat.le_of_ble_eq_true rfl), (Nat.le_of_ble_eq_true rfl)⟩ (Nat.le_of_ble_eq_true rfl) ⟨(show 9 + (5 - (n + 1)) * 1 + 1 ≤ 14 by omega), (show 400 + (5 - (n + 1)) * 6 + 6 ≤ 430 by omega)⟩ kk_15 (fun _ _ _ _ _ z _ _ => False.elim z)
      · exact x_callU (ci := 9) (x0 := ⟨"BeforeTheEnd$Player", "copied", "()LBeforeTheEnd$Player;"⟩) (owner := "BeforeTheEnd$Player") [] 0 dX0_goOn_67 (k_X10_copied_c9 G g fc9 (wc_10 fc9)) fc9 rfl (lw_U q1037 q1039 q1048 q1038 q123 q1054) rfl (by decide) rfl rfl ⟨(Nat.le_of_ble_eq_true rfl), (Nat.le_of_ble_eq_true rfl)⟩ (Nat.le_of_ble_eq_true rfl) ⟨(show 9 + (5 - (n + 1)) * 1 + 1 ≤ 14 by omega), (show 400 + (5 - (n + 1)) * 6 + 6 ≤ 430 by omega)⟩ kk_15 (fun _ _ _ _ _ z _ _ => False.elim z)
      · exact x_callU (ci := 10) (x0 := ⟨"BeforeTheEnd$Player", "copied", "()LBeforeTheEnd$Player;"⟩) (owner := "BeforeTheEnd$Player") [] 0 dX0_goOn_67 (k_X10_copied_c10 G g fc9 (wc_11 fc9)) fc9 rfl (lw_U q1037 q1039 q1045 q1038 q123 q1054) rfl (by decide) rfl rfl ⟨(Nat.le_of_ble_eq_true rfl), (Nat.le_of_ble_eq_true rfl)⟩ (Nat.le_of_ble_eq_true rfl) ⟨(show 9 + (5 - (n + 1)) * 1 + 1 ≤ 14 by omega), (show 400 + (5 - (n + 1)) * 6 + 6 ≤ 430 by omega)⟩ kk_15 (fun _ _ _ _ _ z _ _ => False.elim z)
      · exact x_callU (ci := 11) (x0 := ⟨"BeforeTheEnd$Player", "copied", "()LBeforeTheEnd$Player;"⟩) (owner := "BeforeTheEnd$Player") [] 0 dX0_goOn_67 (k_X10_copied_c11 G g fc9 (wc_12 fc9)) fc9 rfl (lw_U q1037 q1039 q1047 q1038 q123 q1054) rfl (by decide) rfl rfl ⟨(Nat.le_of_ble_eq_true rfl), (Nat.le_of_ble_eq_true rfl)⟩ (Nat.le_of_ble_eq_true rfl) ⟨(show 9 + (5 - (n + 1)) * 1 + 1 ≤ 14 by omega), (show 400 + (5 - (n + 1)) * 6 + 6 ≤ 430 by omega)⟩ kk_15 (fun _ _ _ _ _ z _ _ => False.elim z)
      · exact x_callO (ci := 12) (x0 := ⟨"BeforeTheEnd$Player", "copied", "()LBeforeTheEnd$Player;"⟩) (owner := "BeforeTheEnd$Player") [] 0 dX0_goOn_67 (k_X15_copied_c12 G g fc9 (wc_13 fc9)) fc9 rfl (lw_O q1037 q1039 q1038 q1049 q1050 q128 q1051) q1054 (by decide) rfl rfl ⟨(Nat.le_of_ble_eq_true rfl), (Nat.le_of_ble_eq_true rfl)⟩ (Nat.le_of_ble_eq_true rfl) ⟨(show 9 + (5 - (n + 1)) * 1 + 1 ≤ 14 by omega), (show 400 + (5 - (n + 1)) * 6 + 6 ≤ 430 by omega)⟩ kk_15 (fun _ _ _ _ _ z _ _ => False.elim z)
      · exact x_callO (ci := 13) (x0 := ⟨"BeforeTheEnd$Player", "copied", "()LBeforeTheEnd$Player;"⟩) (owner := "BeforeTheEnd$Player") [] 0 dX0_goOn_67 (k_X16_copied_c13 G g fc9 (wc_14 fc9)) fc9 rfl (lw_O q1037 q1039 q1038 q1040 q1041 q129 q1042) q1054 (by decide) rfl rfl ⟨(Nat.le_of_ble_eq_true rfl), (Nat.le_of_ble_eq_true rfl)⟩ (Nat.le_of_ble_eq_true rfl) ⟨(show 9 + (5 - (n + 1)) * 1 + 1 ≤ 14 by omega), (show 400 + (5 - (n + 1)) * 6 + 6 ≤ 430 by omega)⟩ kk_15 (fun _ _ _ _ _ z _ _ => False.elim z)
set_option maxHeartbeats 4000000 in
theorem t_X0_goOn_12 {ρ : Rho} {h0 : Hp} {post : Int32 → Hp → Prop} {px : Nat → Hp → Prop} (G : G0 ρ) :
    ∀ (z0 : Int32) (h : Hp), GI h → Ext h0 h → w_X0_goOn_12 post px z0 h → X ρ K_X0_goOn 12 [(0, .ref (mr ρ 1))] [.int z0] h 0 0 (phI h0 post) (psX h0 px) := by
  intro z0 h g e hw
  refine x_bipush (-3) dX0_goOn_12 (by decide) ?_
  refine x_callS [.int z0, .int (-3)] 2 dX0_goOn_14 (k_X0_must G g hw) q294 q295 q104 q296 (by decide) rfl rfl ⟨(Nat.le_of_ble_eq_true rfl), (Nat.le_of_ble_eq_true rfl)⟩ (Nat.le_of_ble_eq_true rfl) ⟨(Nat.le_of_ble_eq_true rfl), (Nat.le_of_ble_eq_true rfl)⟩ (fun v9 h_1 hv9 => ?_) (fun q9 h9 ci9 n9 x9 hx9 hs9 hc9 => xt_out hs9 hc9 (fun z hz => by cases hz) (Nat.le_of_ble_eq_true rfl) (Nat.le_of_ble_eq_true rfl) ⟨hx9.1, Ext.tr e hx9.2.1, hx9.2.2⟩)
  obtain ⟨rfl, g_2, e_3, hw⟩ := hv9
  have hw := hw g_2 e_3
  show X ρ K_X0_goOn 17 [(0, .ref (mr ρ 1))] [] h_1 1 7 (phI h0 post) (psX h0 px)
  refine x_aload_n 0 dX0_goOn_17 rfl ?_
  refine x_aload_n 0 dX0_goOn_18 rfl ?_
  refine x_get (ci := 0) (v := rv ρ (gr h_1 1 7)) 7 dX0_goOn_19 (GI.s g_2 (t := (10, 0)) rfl (by decide)) rfl in_X0 (by decide) q194 (Or.inl rfl) (fv_r rfl) ?_
  obtain ⟨b_6, hw⟩ := hw
  refine x_nn (isTree.nz b_6 (GI.live g_2)) ?_
  refine x_callV (ci := 1) [] 0 dX0_goOn_22 (k_X1_copied G g_2 b_6 hw) (isTree.s b_6) rfl q704 q705 q706 q105 q707 (by decide) rfl rfl ⟨(Nat.le_of_ble_eq_true rfl), (Nat.le_of_ble_eq_true rfl)⟩ (Nat.le_of_ble_eq_true rfl) ⟨(Nat.le_of_ble_eq_true rfl), (Nat.le_of_ble_eq_true rfl)⟩ (fun v9 h_7 hv9 => ?_) (fun _ _ _ _ _ z _ _ => False.elim z)
  obtain ⟨r_10, rfl, g_8, e_9, hw⟩ := hv9
  have hw := hw g_8 e_9
  show X ρ K_X0_goOn 25 [(0, .ref (mr ρ 1))] [.ref (mr ρ r_10), .ref (mr ρ 1)] h_7 9 400 (phI h0 post) (psX h0 px)
  obtain ⟨b_11, hw⟩ := hw
  refine x_put (ci := 0) 1 dX0_goOn_25 (GI.s g_8 (t := (10, 0)) rfl (by decide)) rfl in_X0 tyX0 tyX0_ok nmX0 (by decide) q188 (Or.inl rfl) rfl rfl rfl (isPut_rn rfl (isTree.nz b_11 (GI.live g_8))) ?_
  refine x_aload_n 0 dX0_goOn_28 rfl ?_
  refine x_dup dX0_goOn_29 rfl ?_
  refine x_get (ci := 0) (v := .int (gi (sr h_7 1 1 r_10) 1 0)) 0 dX0_goOn_30 (GI.s (GI.rT g_8 b_11) (t := (10, 0)) rfl (by decide)) rfl in_X0 (by decide) q185 (Or.inl rfl) (fv_i rfl) ?_
  refine x_iconst 1 dX0_goOn_33 (by decide) ?_
  refine x_iadd dX0_goOn_34 ?_
  refine x_put (ci := 0) 0 dX0_goOn_35 (GI.s (GI.rT g_8 b_11) (t := (10, 0)) rfl (by decide)) rfl in_X0 tyX0 tyX0_ok nmX0 (by decide) q185 (Or.inl rfl) rfl rfl rfl (isPut_i rfl) ?_
  refine x_aload_n 0 dX0_goOn_38 rfl ?_
  refine x_aload_n 0 dX0_goOn_39 rfl ?_
  refine x_get (ci := 0) (v := .int (gi (si (sr h_7 1 1 r_10) 1 0 ((gi (sr h_7 1 1 r_10) 1 0) + 1)) 1 9)) 9 dX0_goOn_40 (GI.s (GI.i (GI.rT g_8 b_11)) (t := (10, 0)) rfl (by decide)) rfl in_X0 (by decide) q196 (Or.inl rfl) (fv_i rfl) ?_
  refine x_put (ci := 0) 3 dX0_goOn_43 (GI.s (GI.i (GI.rT g_8 b_11)) (t := (10, 0)) rfl (by decide)) rfl in_X0 tyX0 tyX0_ok nmX0 (by decide) q190 (Or.inl rfl) rfl rfl rfl (isPut_i rfl) ?_
  refine x_iconst 0 dX0_goOn_46 (by decide) ?_
  refine x_istore_n (lv' := [(1, .int 0), (0, .ref (mr ρ 1))]) dX0_goOn_47 (Nat.le_of_ble_eq_true rfl) rfl ?_
  refine X.widen (k := 9 + (5 - 5) * 1) (n := 400 + (5 - 5) * 6) (show 9 ≤ 9 + (5 - 5) * 1 by omega) (show 400 ≤ 400 + (5 - 5) * 6 by omega) ?_
  refine X.sub [1, 0] rfl ?_
  exact t_X0_goOn_48 G  5 (Nat.le_refl _) 0 (si (si (sr h_7 1 1 r_10) 1 0 ((gi (sr h_7 1 1 r_10) 1 0) + 1)) 1 3 (gi (si (sr h_7 1 1 r_10) 1 0 ((gi (sr h_7 1 1 r_10) 1 0) + 1)) 1 9)) (GI.i (GI.i (GI.rT g_8 b_11))) (Ext.i (Ext.i (Ext.r (Ext.tr (Ext.tr e e_3) e_9) (GI.s g_8 (t := (10, 0)) rfl (by decide)) (by decide) (by decide)))) hw
set_option maxHeartbeats 4000000 in
theorem k_X0_goOn {ρ : Rho} {h : Hp} {post : Int32 → Hp → Prop} {px : Nat → Hp → Prop} (G : G0 ρ) (g : GI h) (hw : wp_X0_goOn post px h) : Con ρ yX0_goOn (ws_ yX0_goOn cX0_goOn 2 (Option.some Jvm.ClassFile.FieldType.int)) rm_X0_goOn [.ref (mr ρ 1)] h (phI h post) (psX h px) := by
  refine con_of (own := "BeforeTheEnd") (isI := false) (l0 := [(0, .ref (mr ρ 1))]) (by decide) rfl (fun z => by cases z) (Nat.le_of_ble_eq_true rfl) rfl (fun _ => ?_)
  show X ρ K_X0_goOn 0 [(0, .ref (mr ρ 1))] [] h 0 0 (phI h post) (psX h px)
  refine x_aload_n 0 dX0_goOn_0 rfl ?_
  refine x_get (ci := 0) (v := rv ρ (gr h 1 7)) 7 dX0_goOn_1 (GI.s g (t := (10, 0)) rfl (by decide)) rfl in_X0 (by decide) q194 (Or.inl rfl) (fv_r rfl) ?_
  obtain ⟨wt_2, wf_3⟩ := hw
  refine x_ifnull 11 dX0_goOn_4 (by decide) (fun c_1 => ?_) (fun c_1 => ?_)
  · have hw := wt_2 c_1
    refine x_iconst 0 dX0_goOn_11 (by decide) ?_
    exact t_X0_goOn_12 G  0 h g Ext.rf hw
  · have hw := wf_3 c_1
    refine x_iconst 1 dX0_goOn_7 (by decide) ?_
    refine x_goto 12 dX0_goOn_8 (by decide) ?_
    exact t_X0_goOn_12 G  1 h g Ext.rf hw
