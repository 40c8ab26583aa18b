/-! THE LAW'S OWN BODY, printed by wip/D-93865w/gen/lawgen.py -/
set_option maxRecDepth 100000
abbrev K_L : Kx := ("BeforeTheEndLaw", cL_law, 4, some .boolean, room_1, [], false)
section XLAW
variable {ρ : Rho} {K : Kx} {pc : Nat} {lv lv' : List (Nat × Value)} {st : List Value} {h : Hp} {cs ss : Nat} {Φ : Option Value → Hp → Prop} {Ψ : Nat → Hp → Prop}
/-- a place of the script -/
theorem x_scr {bs L : Nat} {xs : Nat → Int32} (hS : va_X bs L xs (rS ρ) (rS ρ).heap) {i : Int32} {j : Nat} (d : decode (kC K) pc = .ok (.iaload, 1)) (hj : i.toNatClampNeg = j) (hin : vp_in i L) (kk : X ρ K (pc + 1) lv (.int (xs j) :: st) h cs ss Φ Ψ) : X ρ K pc lv (.int i :: .ref bs :: st) h cs ss Φ Ψ := by
  subst hj
  intro p e R s m args below meth c H locs ls a r0 hl hlv
  obtain ⟨cell, h1, h2, h3, h4, h5⟩ := hS
  have hlt : i.toNatClampNeg < L := Nat.not_le.mp fun q => hin (Or.inr q)
  exact W.iald (v := .int (xs i.toNatClampNeg)) a.1 a.2.1 (cell := cell) (by rw [r0.2.1 _ (Array.getElem?_eq_some_iff.mp h1).1]; exact h1) (State.isArrayOf_alike (amb_wh a).alike h2) h3 (by rw [h4]; exact hin) (h5 _ hlt) rfl rfl d (kk p e R s m args below meth c H locs ls a r0 hl hlv)
/-- its length -/
theorem x_slen {bs L : Nat} {xs : Nat → Int32} (hS : va_X bs L xs (rS ρ) (rS ρ).heap) (d : decode (kC K) pc = .ok (.arraylength, 1)) (kk : X ρ K (pc + 1) lv (.int L.toInt32 :: st) h cs ss Φ Ψ) : X ρ K pc lv (.ref bs :: st) h cs ss Φ Ψ := by
  intro p e R s m args below meth c H locs ls a r0 hl hlv
  obtain ⟨cell, h1, h2, h3, h4, h5⟩ := hS
  have hx : H[bs]? = some cell := by rw [r0.2.1 _ (Array.getElem?_eq_some_iff.mp h1).1]; exact h1
  have h9 : cell.slots.size.toInt32 = L.toInt32 := by rw [h4]
  exact W.alen a.1 a.2.1 (cell := cell) hx (ty := .int) (State.isArrayOf_alike (amb_wh a).alike h2) (n := L.toInt32) h9 rfl rfl d (kk p e R s m args below meth c H locs ls a r0 hl hlv)
theorem x_lcmp0 {x y : Int64} (h : x = y) : lg_cmp x y = 0 := by
  subst h
  simp [lg_cmp]
end XLAW
set_option maxHeartbeats 4000000 in
theorem t_L_0 {ρ : Rho} {bs L : Nat} {xs : Nat → Int32} {i : Int32} {h : Hp} {cs ss : Nat} {Q : Hp → Prop} {Φ : Option Value → Hp → Prop} (G : G0 ρ) (g : GI h) (hS : va_X bs L xs (rS ρ) (rS ρ).heap) (b1 : vp_in (i + 1) L) (b2 : vp_in (i + 2) L) (b3 : vp_in (i + 3) L) (hcs : cs + 2000 ≤ 1200128) (hss : ss + 14000 ≤ 5501098)
    (hw : wp_X0_feed (fun r1 h1 => GI h1 → Ext h h1 → wp_X2_feed (fun r2 h2 => GI h2 → Ext h1 h2 → (r1 = r2 ∧ Q h2)) h1 (xs (Int32.toNatClampNeg (i + 1))) (((Int32.toInt64 (xs (Int32.toNatClampNeg (i + 2)))) <<< (Int32.toInt64 32 &&& 63)) ||| ((Int32.toInt64 (xs (Int32.toNatClampNeg (i + 3)))) &&& 4294967295))) h (xs (Int32.toNatClampNeg (i + 1))) (((Int32.toInt64 (xs (Int32.toNatClampNeg (i + 2)))) <<< (Int32.toInt64 32 &&& 63)) ||| ((Int32.toInt64 (xs (Int32.toNatClampNeg (i + 3)))) &&& 4294967295)))
    (hk : ∀ h2, GI h2 → Q h2 → X ρ K_L 1182 [(3, .int i), (0, .ref bs), (1, .ref (mr ρ 1)), (2, .ref (mr ρ 25))] [] h2 (cs + 2000) (ss + 14000) Φ psN) : X ρ K_L 184 [(3, .int i), (0, .ref bs), (1, .ref (mr ρ 1)), (2, .ref (mr ρ 25))] [] h cs ss Φ psN := by
  refine x_aload_n 2 dL_law_184 rfl ?_
  refine x_aload_n 1 dL_law_185 rfl ?_
  refine x_iload_n 0 dL_law_186 rfl ?_
  refine x_iconst 1 dL_law_187 (by decide) ?_
  refine x_iadd dL_law_188 ?_
  refine x_scr hS dL_law_189 rfl b1 ?_
  refine x_aload_n 1 dL_law_190 rfl ?_
  refine x_iload_n 0 dL_law_191 rfl ?_
  refine x_iconst 2 dL_law_192 (by decide) ?_
  refine x_iadd dL_law_193 ?_
  refine x_scr hS dL_law_194 rfl b2 ?_
  refine x_i2l dL_law_195 ?_
  refine x_bipush 32 dL_law_196 (by decide) ?_
  refine x_lshl dL_law_198 ?_
  refine x_aload_n 1 dL_law_199 rfl ?_
  refine x_iload_n 0 dL_law_200 rfl ?_
  refine x_iconst 3 dL_law_201 (by decide) ?_
  refine x_iadd dL_law_202 ?_
  refine x_scr hS dL_law_203 rfl b3 ?_
  refine x_i2l dL_law_204 ?_
  refine x_ldc2 dL_law_205 q1718 ?_
  refine x_land dL_law_208 ?_
  refine x_lor dL_law_209 ?_
  refine x_callH (ci := 0) [.int (xs (Int32.toNatClampNeg (i + 1))), .long (((Int32.toInt64 (xs (Int32.toNatClampNeg (i + 2)))) <<< (Int32.toInt64 32 &&& 63)) ||| ((Int32.toInt64 (xs (Int32.toNatClampNeg (i + 3)))) &&& 4294967295))] 2 dL_law_210 (k_X0_feed G g hw) (GI.s g (t := (10, 0)) rfl (by decide)) rfl q285 q286 q287 q104 q288 (by decide) rfl rfl ⟨(Nat.le_of_ble_eq_true rfl), (Nat.le_of_ble_eq_true rfl)⟩ (Nat.le_of_ble_eq_true rfl) ⟨by show _ ≤ 1200128; show cs + 2 ≤ 1200128; omega, by show _ ≤ 5501098; show ss + 14 ≤ 5501098; omega⟩ (fun v9 h1 hv9 => ?_) (fun _ _ _ _ _ z _ _ => False.elim z)
  obtain ⟨r1, rfl, g1, e1, hw⟩ := hv9
  have hw := hw g1 e1
  show X ρ K_L 213 [(3, .int i), (0, .ref bs), (1, .ref (mr ρ 1)), (2, .ref (mr ρ 25))] [.int r1] h1 (cs + 2) (ss + 14) Φ psN
  refine x_aload_n 3 dL_law_213 rfl ?_
  refine x_aload_n 1 dL_law_214 rfl ?_
  refine x_iload_n 0 dL_law_215 rfl ?_
  refine x_iconst 1 dL_law_216 (by decide) ?_
  refine x_iadd dL_law_217 ?_
  refine x_scr hS dL_law_218 rfl b1 ?_
  refine x_aload_n 1 dL_law_219 rfl ?_
  refine x_iload_n 0 dL_law_220 rfl ?_
  refine x_iconst 2 dL_law_221 (by decide) ?_
  refine x_iadd dL_law_222 ?_
  refine x_scr hS dL_law_223 rfl b2 ?_
  refine x_i2l dL_law_224 ?_
  refine x_bipush 32 dL_law_225 (by decide) ?_
  refine x_lshl dL_law_227 ?_
  refine x_aload_n 1 dL_law_228 rfl ?_
  refine x_iload_n 0 dL_law_229 rfl ?_
  refine x_iconst 3 dL_law_230 (by decide) ?_
  refine x_iadd dL_law_231 ?_
  refine x_scr hS dL_law_232 rfl b3 ?_
  refine x_i2l dL_law_233 ?_
  refine x_ldc2 dL_law_234 q1718 ?_
  refine x_land dL_law_237 ?_
  refine x_lor dL_law_238 ?_
  refine x_callV (ci := 2) [.int (xs (Int32.toNatClampNeg (i + 1))), .long (((Int32.toInt64 (xs (Int32.toNatClampNeg (i + 2)))) <<< (Int32.toInt64 32 &&& 63)) ||| ((Int32.toInt64 (xs (Int32.toNatClampNeg (i + 3)))) &&& 4294967295))] 2 dL_law_239 (k_X2_feed G g1 hw) (GI.s g1 (t := (12, 0)) rfl (by decide)) rfl q1380 q1381 q1382 q106 q1383 (by decide) rfl rfl ⟨(Nat.le_of_ble_eq_true rfl), (Nat.le_of_ble_eq_true rfl)⟩ (Nat.le_of_ble_eq_true rfl) ⟨by show _ ≤ 1200128; show cs + 2 + 0 ≤ 1200128; omega, by show _ ≤ 5501098; show ss + 14 + 0 ≤ 5501098; omega⟩ (fun v9 h2 hv9 => ?_) (fun _ _ _ _ _ z _ _ => False.elim z)
  obtain ⟨r2, rfl, g2, e2, hw⟩ := hv9
  have hw := hw g2 e2
  show X ρ K_L 242 [(3, .int i), (0, .ref bs), (1, .ref (mr ρ 1)), (2, .ref (mr ρ 25))] [.int r2, .int r1] h2 (cs + 2 + 0) (ss + 14 + 0) Φ psN
  obtain ⟨hr, hw⟩ := hw
  refine x_icmp_eq 1182 dL_law_242 (by decide) (fun _ => ?_) (fun z => absurd hr z)
  exact X.widen (k := cs + 2000) (n := ss + 14000) (by omega) (by omega) (hk h2 g2 hw)
set_option maxHeartbeats 4000000 in
theorem t_L_1 {ρ : Rho} {bs L : Nat} {xs : Nat → Int32} {i : Int32} {h : Hp} {cs ss : Nat} {Q : Hp → Prop} {Φ : Option Value → Hp → Prop} (G : G0 ρ) (g : GI h) (hS : va_X bs L xs (rS ρ) (rS ρ).heap) (b1 : vp_in (i + 1) L) (b2 : vp_in (i + 2) L) (b3 : vp_in (i + 3) L) (hcs : cs + 2000 ≤ 1200128) (hss : ss + 14000 ≤ 5501098)
    (hw : wp_X0_quiz (fun r1 h1 => GI h1 → Ext h h1 → wp_X2_quiz (fun r2 h2 => GI h2 → Ext h1 h2 → (r1 = r2 ∧ Q h2)) h1 ) h )
    (hk : ∀ h2, GI h2 → Q h2 → X ρ K_L 1182 [(3, .int i), (0, .ref bs), (1, .ref (mr ρ 1)), (2, .ref (mr ρ 25))] [] h2 (cs + 2000) (ss + 14000) Φ psN) : X ρ K_L 247 [(3, .int i), (0, .ref bs), (1, .ref (mr ρ 1)), (2, .ref (mr ρ 25))] [] h cs ss Φ psN := by
  refine x_aload_n 2 dL_law_247 rfl ?_
  refine x_callV (ci := 0) [] 0 dL_law_248 (k_X0_quiz G g hw) (GI.s g (t := (10, 0)) rfl (by decide)) rfl q379 q380 q381 q104 q382 (by decide) rfl rfl ⟨(Nat.le_of_ble_eq_true rfl), (Nat.le_of_ble_eq_true rfl)⟩ (Nat.le_of_ble_eq_true rfl) ⟨by show _ ≤ 1200128; show cs + 1868 ≤ 1200128; omega, by show _ ≤ 5501098; show ss + 13143 ≤ 5501098; omega⟩ (fun v9 h1 hv9 => ?_) (fun _ _ _ _ _ z _ _ => False.elim z)
  obtain ⟨r1, rfl, g1, e1, hw⟩ := hv9
  have hw := hw g1 e1
  show X ρ K_L 251 [(3, .int i), (0, .ref bs), (1, .ref (mr ρ 1)), (2, .ref (mr ρ 25))] [.int r1] h1 (cs + 1868) (ss + 13143) Φ psN
  refine x_aload_n 3 dL_law_251 rfl ?_
  refine x_callV (ci := 2) [] 0 dL_law_252 (k_X2_quiz G g1 hw) (GI.s g1 (t := (12, 0)) rfl (by decide)) rfl q1392 q1393 q1394 q106 q1395 (by decide) rfl rfl ⟨(Nat.le_of_ble_eq_true rfl), (Nat.le_of_ble_eq_true rfl)⟩ (Nat.le_of_ble_eq_true rfl) ⟨by show _ ≤ 1200128; show cs + 1868 + 0 ≤ 1200128; omega, by show _ ≤ 5501098; show ss + 13143 + 0 ≤ 5501098; omega⟩ (fun v9 h2 hv9 => ?_) (fun _ _ _ _ _ z _ _ => False.elim z)
  obtain ⟨r2, rfl, g2, e2, hw⟩ := hv9
  have hw := hw g2 e2
  show X ρ K_L 255 [(3, .int i), (0, .ref bs), (1, .ref (mr ρ 1)), (2, .ref (mr ρ 25))] [.int r2, .int r1] h2 (cs + 1868 + 0) (ss + 13143 + 0) Φ psN
  obtain ⟨hr, hw⟩ := hw
  refine x_icmp_eq 1182 dL_law_255 (by decide) (fun _ => ?_) (fun z => absurd hr z)
  exact X.widen (k := cs + 2000) (n := ss + 14000) (by omega) (by omega) (hk h2 g2 hw)
set_option maxHeartbeats 4000000 in
theorem t_L_2 {ρ : Rho} {bs L : Nat} {xs : Nat → Int32} {i : Int32} {h : Hp} {cs ss : Nat} {Q : Hp → Prop} {Φ : Option Value → Hp → Prop} (G : G0 ρ) (g : GI h) (hS : va_X bs L xs (rS ρ) (rS ρ).heap) (b1 : vp_in (i + 1) L) (b2 : vp_in (i + 2) L) (b3 : vp_in (i + 3) L) (hcs : cs + 2000 ≤ 1200128) (hss : ss + 14000 ≤ 5501098)
    (hw : wp_X0_word (fun r1 h1 => GI h1 → Ext h h1 → wp_X2_word (fun r2 h2 => GI h2 → Ext h1 h2 → (r1 = r2 ∧ Q h2)) h1 (xs (Int32.toNatClampNeg (i + 1))) (xs (Int32.toNatClampNeg (i + 2)))) h (xs (Int32.toNatClampNeg (i + 1))) (xs (Int32.toNatClampNeg (i + 2))))
    (hk : ∀ h2, GI h2 → Q h2 → X ρ K_L 1182 [(3, .int i), (0, .ref bs), (1, .ref (mr ρ 1)), (2, .ref (mr ρ 25))] [] h2 (cs + 2000) (ss + 14000) Φ psN) : X ρ K_L 260 [(3, .int i), (0, .ref bs), (1, .ref (mr ρ 1)), (2, .ref (mr ρ 25))] [] h cs ss Φ psN := by
  refine x_aload_n 2 dL_law_260 rfl ?_
  refine x_aload_n 1 dL_law_261 rfl ?_
  refine x_iload_n 0 dL_law_262 rfl ?_
  refine x_iconst 1 dL_law_263 (by decide) ?_
  refine x_iadd dL_law_264 ?_
  refine x_scr hS dL_law_265 rfl b1 ?_
  refine x_aload_n 1 dL_law_266 rfl ?_
  refine x_iload_n 0 dL_law_267 rfl ?_
  refine x_iconst 2 dL_law_268 (by decide) ?_
  refine x_iadd dL_law_269 ?_
  refine x_scr hS dL_law_270 rfl b2 ?_
  refine x_callV (ci := 0) [.int (xs (Int32.toNatClampNeg (i + 1))), .int (xs (Int32.toNatClampNeg (i + 2)))] 2 dL_law_271 (k_X0_word G g hw) (GI.s g (t := (10, 0)) rfl (by decide)) rfl q1059 q1060 q1061 q104 q1062 (by decide) rfl rfl ⟨(Nat.le_of_ble_eq_true rfl), (Nat.le_of_ble_eq_true rfl)⟩ (Nat.le_of_ble_eq_true rfl) ⟨by show _ ≤ 1200128; show cs + 1868 ≤ 1200128; omega, by show _ ≤ 5501098; show ss + 13143 ≤ 5501098; omega⟩ (fun v9 h1 hv9 => ?_) (fun _ _ _ _ _ z _ _ => False.elim z)
  obtain ⟨r1, rfl, g1, e1, hw⟩ := hv9
  have hw := hw g1 e1
  show X ρ K_L 274 [(3, .int i), (0, .ref bs), (1, .ref (mr ρ 1)), (2, .ref (mr ρ 25))] [.int r1] h1 (cs + 1868) (ss + 13143) Φ psN
  refine x_aload_n 3 dL_law_274 rfl ?_
  refine x_aload_n 1 dL_law_275 rfl ?_
  refine x_iload_n 0 dL_law_276 rfl ?_
  refine x_iconst 1 dL_law_277 (by decide) ?_
  refine x_iadd dL_law_278 ?_
  refine x_scr hS dL_law_279 rfl b1 ?_
  refine x_aload_n 1 dL_law_280 rfl ?_
  refine x_iload_n 0 dL_law_281 rfl ?_
  refine x_iconst 2 dL_law_282 (by decide) ?_
  refine x_iadd dL_law_283 ?_
  refine x_scr hS dL_law_284 rfl b2 ?_
  refine x_callV (ci := 2) [.int (xs (Int32.toNatClampNeg (i + 1))), .int (xs (Int32.toNatClampNeg (i + 2)))] 2 dL_law_285 (k_X2_word G g1 hw) (GI.s g1 (t := (12, 0)) rfl (by decide)) rfl q1442 q1443 q1444 q106 q1445 (by decide) rfl rfl ⟨(Nat.le_of_ble_eq_true rfl), (Nat.le_of_ble_eq_true rfl)⟩ (Nat.le_of_ble_eq_true rfl) ⟨by show _ ≤ 1200128; show cs + 1868 + 0 ≤ 1200128; omega, by show _ ≤ 5501098; show ss + 13143 + 0 ≤ 5501098; omega⟩ (fun v9 h2 hv9 => ?_) (fun _ _ _ _ _ z _ _ => False.elim z)
  obtain ⟨r2, rfl, g2, e2, hw⟩ := hv9
  have hw := hw g2 e2
  show X ρ K_L 288 [(3, .int i), (0, .ref bs), (1, .ref (mr ρ 1)), (2, .ref (mr ρ 25))] [.int r2, .int r1] h2 (cs + 1868 + 0) (ss + 13143 + 0) Φ psN
  obtain ⟨hr, hw⟩ := hw
  refine x_icmp_eq 1182 dL_law_288 (by decide) (fun _ => ?_) (fun z => absurd hr z)
  exact X.widen (k := cs + 2000) (n := ss + 14000) (by omega) (by omega) (hk h2 g2 hw)
set_option maxHeartbeats 4000000 in
theorem t_L_3 {ρ : Rho} {bs L : Nat} {xs : Nat → Int32} {i : Int32} {h : Hp} {cs ss : Nat} {Q : Hp → Prop} {Φ : Option Value → Hp → Prop} (G : G0 ρ) (g : GI h) (hS : va_X bs L xs (rS ρ) (rS ρ).heap) (b1 : vp_in (i + 1) L) (b2 : vp_in (i + 2) L) (b3 : vp_in (i + 3) L) (hcs : cs + 2000 ≤ 1200128) (hss : ss + 14000 ≤ 5501098)
    (hw : wp_X0_player (fun r1 h1 => GI h1 → Ext h h1 → wp_X2_player (fun r2 h2 => GI h2 → Ext h1 h2 → (r1 = r2 ∧ Q h2)) h1 (xs (Int32.toNatClampNeg (i + 1))) (xs (Int32.toNatClampNeg (i + 2)))) h (xs (Int32.toNatClampNeg (i + 1))) (xs (Int32.toNatClampNeg (i + 2))))
    (hk : ∀ h2, GI h2 → Q h2 → X ρ K_L 1182 [(3, .int i), (0, .ref bs), (1, .ref (mr ρ 1)), (2, .ref (mr ρ 25))] [] h2 (cs + 2000) (ss + 14000) Φ psN) : X ρ K_L 293 [(3, .int i), (0, .ref bs), (1, .ref (mr ρ 1)), (2, .ref (mr ρ 25))] [] h cs ss Φ psN := by
  refine x_aload_n 2 dL_law_293 rfl ?_
  refine x_aload_n 1 dL_law_294 rfl ?_
  refine x_iload_n 0 dL_law_295 rfl ?_
  refine x_iconst 1 dL_law_296 (by decide) ?_
  refine x_iadd dL_law_297 ?_
  refine x_scr hS dL_law_298 rfl b1 ?_
  refine x_aload_n 1 dL_law_299 rfl ?_
  refine x_iload_n 0 dL_law_300 rfl ?_
  refine x_iconst 2 dL_law_301 (by decide) ?_
  refine x_iadd dL_law_302 ?_
  refine x_scr hS dL_law_303 rfl b2 ?_
  refine x_callV (ci := 0) [.int (xs (Int32.toNatClampNeg (i + 1))), .int (xs (Int32.toNatClampNeg (i + 2)))] 2 dL_law_304 (k_X0_player G g hw) (GI.s g (t := (10, 0)) rfl (by decide)) rfl q1063 q1064 q1065 q104 q1066 (by decide) rfl rfl ⟨(Nat.le_of_ble_eq_true rfl), (Nat.le_of_ble_eq_true rfl)⟩ (Nat.le_of_ble_eq_true rfl) ⟨by show _ ≤ 1200128; show cs + 1868 ≤ 1200128; omega, by show _ ≤ 5501098; show ss + 13143 ≤ 5501098; omega⟩ (fun v9 h1 hv9 => ?_) (fun _ _ _ _ _ z _ _ => False.elim z)
  obtain ⟨r1, rfl, g1, e1, hw⟩ := hv9
  have hw := hw g1 e1
  show X ρ K_L 307 [(3, .int i), (0, .ref bs), (1, .ref (mr ρ 1)), (2, .ref (mr ρ 25))] [.int r1] h1 (cs + 1868) (ss + 13143) Φ psN
  refine x_aload_n 3 dL_law_307 rfl ?_
  refine x_aload_n 1 dL_law_308 rfl ?_
  refine x_iload_n 0 dL_law_309 rfl ?_
  refine x_iconst 1 dL_law_310 (by decide) ?_
  refine x_iadd dL_law_311 ?_
  refine x_scr hS dL_law_312 rfl b1 ?_
  refine x_aload_n 1 dL_law_313 rfl ?_
  refine x_iload_n 0 dL_law_314 rfl ?_
  refine x_iconst 2 dL_law_315 (by decide) ?_
  refine x_iadd dL_law_316 ?_
  refine x_scr hS dL_law_317 rfl b2 ?_
  refine x_callV (ci := 2) [.int (xs (Int32.toNatClampNeg (i + 1))), .int (xs (Int32.toNatClampNeg (i + 2)))] 2 dL_law_318 (k_X2_player G g1 hw) (GI.s g1 (t := (12, 0)) rfl (by decide)) rfl q1450 q1451 q1452 q106 q1453 (by decide) rfl rfl ⟨(Nat.le_of_ble_eq_true rfl), (Nat.le_of_ble_eq_true rfl)⟩ (Nat.le_of_ble_eq_true rfl) ⟨by show _ ≤ 1200128; show cs + 1868 + 0 ≤ 1200128; omega, by show _ ≤ 5501098; show ss + 13143 + 0 ≤ 5501098; omega⟩ (fun v9 h2 hv9 => ?_) (fun _ _ _ _ _ z _ _ => False.elim z)
  obtain ⟨r2, rfl, g2, e2, hw⟩ := hv9
  have hw := hw g2 e2
  show X ρ K_L 321 [(3, .int i), (0, .ref bs), (1, .ref (mr ρ 1)), (2, .ref (mr ρ 25))] [.int r2, .int r1] h2 (cs + 1868 + 0) (ss + 13143 + 0) Φ psN
  obtain ⟨hr, hw⟩ := hw
  refine x_icmp_eq 1182 dL_law_321 (by decide) (fun _ => ?_) (fun z => absurd hr z)
  exact X.widen (k := cs + 2000) (n := ss + 14000) (by omega) (by omega) (hk h2 g2 hw)
set_option maxHeartbeats 4000000 in
theorem t_L_4 {ρ : Rho} {bs L : Nat} {xs : Nat → Int32} {i : Int32} {h : Hp} {cs ss : Nat} {Q : Hp → Prop} {Φ : Option Value → Hp → Prop} (G : G0 ρ) (g : GI h) (hS : va_X bs L xs (rS ρ) (rS ρ).heap) (b1 : vp_in (i + 1) L) (b2 : vp_in (i + 2) L) (b3 : vp_in (i + 3) L) (hcs : cs + 2000 ≤ 1200128) (hss : ss + 14000 ≤ 5501098)
    (hw : wp_X0_whole (fun r1 h1 => GI h1 → Ext h h1 → wp_X2_whole (fun r2 h2 => GI h2 → Ext h1 h2 → (r1 = r2 ∧ Q h2)) h1 ) h )
    (hk : ∀ h2, GI h2 → Q h2 → X ρ K_L 1182 [(3, .int i), (0, .ref bs), (1, .ref (mr ρ 1)), (2, .ref (mr ρ 25))] [] h2 (cs + 2000) (ss + 14000) Φ psN) : X ρ K_L 326 [(3, .int i), (0, .ref bs), (1, .ref (mr ρ 1)), (2, .ref (mr ρ 25))] [] h cs ss Φ psN := by
  refine x_aload_n 2 dL_law_326 rfl ?_
  refine x_callV (ci := 0) [] 0 dL_law_327 (k_X0_whole G g hw) (GI.s g (t := (10, 0)) rfl (by decide)) rfl q1067 q1068 q1069 q104 q1070 (by decide) rfl rfl ⟨(Nat.le_of_ble_eq_true rfl), (Nat.le_of_ble_eq_true rfl)⟩ (Nat.le_of_ble_eq_true rfl) ⟨by show _ ≤ 1200128; show cs + 1868 ≤ 1200128; omega, by show _ ≤ 5501098; show ss + 13143 ≤ 5501098; omega⟩ (fun v9 h1 hv9 => ?_) (fun _ _ _ _ _ z _ _ => False.elim z)
  obtain ⟨r1, rfl, g1, e1, hw⟩ := hv9
  have hw := hw g1 e1
  show X ρ K_L 330 [(3, .int i), (0, .ref bs), (1, .ref (mr ρ 1)), (2, .ref (mr ρ 25))] [.int r1] h1 (cs + 1868) (ss + 13143) Φ psN
  refine x_aload_n 3 dL_law_330 rfl ?_
  refine x_callV (ci := 2) [] 0 dL_law_331 (k_X2_whole G g1 hw) (GI.s g1 (t := (12, 0)) rfl (by decide)) rfl q1458 q1459 q1460 q106 q1461 (by decide) rfl rfl ⟨(Nat.le_of_ble_eq_true rfl), (Nat.le_of_ble_eq_true rfl)⟩ (Nat.le_of_ble_eq_true rfl) ⟨by show _ ≤ 1200128; show cs + 1868 + 0 ≤ 1200128; omega, by show _ ≤ 5501098; show ss + 13143 + 0 ≤ 5501098; omega⟩ (fun v9 h2 hv9 => ?_) (fun _ _ _ _ _ z _ _ => False.elim z)
  obtain ⟨r2, rfl, g2, e2, hw⟩ := hv9
  have hw := hw g2 e2
  show X ρ K_L 334 [(3, .int i), (0, .ref bs), (1, .ref (mr ρ 1)), (2, .ref (mr ρ 25))] [.int r2, .int r1] h2 (cs + 1868 + 0) (ss + 13143 + 0) Φ psN
  obtain ⟨hr, hw⟩ := hw
  refine x_icmp_eq 1182 dL_law_334 (by decide) (fun _ => ?_) (fun z => absurd hr z)
  exact X.widen (k := cs + 2000) (n := ss + 14000) (by omega) (by omega) (hk h2 g2 hw)
set_option maxHeartbeats 4000000 in
theorem t_L_5 {ρ : Rho} {bs L : Nat} {xs : Nat → Int32} {i : Int32} {h : Hp} {cs ss : Nat} {Q : Hp → Prop} {Φ : Option Value → Hp → Prop} (G : G0 ρ) (g : GI h) (hS : va_X bs L xs (rS ρ) (rS ρ).heap) (b1 : vp_in (i + 1) L) (b2 : vp_in (i + 2) L) (b3 : vp_in (i + 3) L) (hcs : cs + 2000 ≤ 1200128) (hss : ss + 14000 ≤ 5501098)
    (hw : wp_X0_left (fun r1 h1 => GI h1 → Ext h h1 → wp_X2_left (fun r2 h2 => GI h2 → Ext h1 h2 → (r1 = r2 ∧ Q h2)) h1 (xs (Int32.toNatClampNeg (i + 1)))) h (xs (Int32.toNatClampNeg (i + 1))))
    (hk : ∀ h2, GI h2 → Q h2 → X ρ K_L 1182 [(3, .int i), (0, .ref bs), (1, .ref (mr ρ 1)), (2, .ref (mr ρ 25))] [] h2 (cs + 2000) (ss + 14000) Φ psN) : X ρ K_L 339 [(3, .int i), (0, .ref bs), (1, .ref (mr ρ 1)), (2, .ref (mr ρ 25))] [] h cs ss Φ psN := by
  refine x_aload_n 2 dL_law_339 rfl ?_
  refine x_aload_n 1 dL_law_340 rfl ?_
  refine x_iload_n 0 dL_law_341 rfl ?_
  refine x_iconst 1 dL_law_342 (by decide) ?_
  refine x_iadd dL_law_343 ?_
  refine x_scr hS dL_law_344 rfl b1 ?_
  refine x_callV (ci := 0) [.int (xs (Int32.toNatClampNeg (i + 1)))] 1 dL_law_345 (k_X0_left G g hw) (GI.s g (t := (10, 0)) rfl (by decide)) rfl q1071 q1072 q1073 q104 q1074 (by decide) rfl rfl ⟨(Nat.le_of_ble_eq_true rfl), (Nat.le_of_ble_eq_true rfl)⟩ (Nat.le_of_ble_eq_true rfl) ⟨by show _ ≤ 1200128; show cs + 1868 ≤ 1200128; omega, by show _ ≤ 5501098; show ss + 13143 ≤ 5501098; omega⟩ (fun v9 h1 hv9 => ?_) (fun _ _ _ _ _ z _ _ => False.elim z)
  obtain ⟨r1, rfl, g1, e1, hw⟩ := hv9
  have hw := hw g1 e1
  show X ρ K_L 348 [(3, .int i), (0, .ref bs), (1, .ref (mr ρ 1)), (2, .ref (mr ρ 25))] [.int r1] h1 (cs + 1868) (ss + 13143) Φ psN
  refine x_aload_n 3 dL_law_348 rfl ?_
  refine x_aload_n 1 dL_law_349 rfl ?_
  refine x_iload_n 0 dL_law_350 rfl ?_
  refine x_iconst 1 dL_law_351 (by decide) ?_
  refine x_iadd dL_law_352 ?_
  refine x_scr hS dL_law_353 rfl b1 ?_
  refine x_callV (ci := 2) [.int (xs (Int32.toNatClampNeg (i + 1)))] 1 dL_law_354 (k_X2_left G g1 hw) (GI.s g1 (t := (12, 0)) rfl (by decide)) rfl q1466 q1467 q1468 q106 q1469 (by decide) rfl rfl ⟨(Nat.le_of_ble_eq_true rfl), (Nat.le_of_ble_eq_true rfl)⟩ (Nat.le_of_ble_eq_true rfl) ⟨by show _ ≤ 1200128; show cs + 1868 + 0 ≤ 1200128; omega, by show _ ≤ 5501098; show ss + 13143 + 0 ≤ 5501098; omega⟩ (fun v9 h2 hv9 => ?_) (fun _ _ _ _ _ z _ _ => False.elim z)
  obtain ⟨r2, rfl, g2, e2, hw⟩ := hv9
  have hw := hw g2 e2
  show X ρ K_L 357 [(3, .int i), (0, .ref bs), (1, .ref (mr ρ 1)), (2, .ref (mr ρ 25))] [.int r2, .int r1] h2 (cs + 1868 + 0) (ss + 13143 + 0) Φ psN
  obtain ⟨hr, hw⟩ := hw
  refine x_icmp_eq 1182 dL_law_357 (by decide) (fun _ => ?_) (fun z => absurd hr z)
  exact X.widen (k := cs + 2000) (n := ss + 14000) (by omega) (by omega) (hk h2 g2 hw)
set_option maxHeartbeats 4000000 in
theorem t_L_6 {ρ : Rho} {bs L : Nat} {xs : Nat → Int32} {i : Int32} {h : Hp} {cs ss : Nat} {Q : Hp → Prop} {Φ : Option Value → Hp → Prop} (G : G0 ρ) (g : GI h) (hS : va_X bs L xs (rS ρ) (rS ρ).heap) (b1 : vp_in (i + 1) L) (b2 : vp_in (i + 2) L) (b3 : vp_in (i + 3) L) (hcs : cs + 2000 ≤ 1200128) (hss : ss + 14000 ≤ 5501098)
    (hw : wp_X0_chance (fun r1 h1 => GI h1 → Ext h h1 → wp_X2_chance (fun r2 h2 => GI h2 → Ext h1 h2 → (r1 = r2 ∧ Q h2)) h1 (xs (Int32.toNatClampNeg (i + 1))) (xs (Int32.toNatClampNeg (i + 2))) (xs (Int32.toNatClampNeg (i + 3)))) h (xs (Int32.toNatClampNeg (i + 1))) (xs (Int32.toNatClampNeg (i + 2))) (xs (Int32.toNatClampNeg (i + 3))))
    (hk : ∀ h2, GI h2 → Q h2 → X ρ K_L 1182 [(3, .int i), (0, .ref bs), (1, .ref (mr ρ 1)), (2, .ref (mr ρ 25))] [] h2 (cs + 2000) (ss + 14000) Φ psN) : X ρ K_L 362 [(3, .int i), (0, .ref bs), (1, .ref (mr ρ 1)), (2, .ref (mr ρ 25))] [] h cs ss Φ psN := by
  refine x_aload_n 2 dL_law_362 rfl ?_
  refine x_aload_n 1 dL_law_363 rfl ?_
  refine x_iload_n 0 dL_law_364 rfl ?_
  refine x_iconst 1 dL_law_365 (by decide) ?_
  refine x_iadd dL_law_366 ?_
  refine x_scr hS dL_law_367 rfl b1 ?_
  refine x_aload_n 1 dL_law_368 rfl ?_
  refine x_iload_n 0 dL_law_369 rfl ?_
  refine x_iconst 2 dL_law_370 (by decide) ?_
  refine x_iadd dL_law_371 ?_
  refine x_scr hS dL_law_372 rfl b2 ?_
  refine x_aload_n 1 dL_law_373 rfl ?_
  refine x_iload_n 0 dL_law_374 rfl ?_
  refine x_iconst 3 dL_law_375 (by decide) ?_
  refine x_iadd dL_law_376 ?_
  refine x_scr hS dL_law_377 rfl b3 ?_
  refine x_callV (ci := 0) [.int (xs (Int32.toNatClampNeg (i + 1))), .int (xs (Int32.toNatClampNeg (i + 2))), .int (xs (Int32.toNatClampNeg (i + 3)))] 3 dL_law_378 (k_X0_chance G g hw) (GI.s g (t := (10, 0)) rfl (by decide)) rfl q1075 q1076 q1077 q104 q1078 (by decide) rfl rfl ⟨(Nat.le_of_ble_eq_true rfl), (Nat.le_of_ble_eq_true rfl)⟩ (Nat.le_of_ble_eq_true rfl) ⟨by show _ ≤ 1200128; show cs + 4 ≤ 1200128; omega, by show _ ≤ 5501098; show ss + 28 ≤ 5501098; omega⟩ (fun v9 h1 hv9 => ?_) (fun _ _ _ _ _ z _ _ => False.elim z)
  obtain ⟨r1, rfl, g1, e1, hw⟩ := hv9
  have hw := hw g1 e1
  show X ρ K_L 381 [(3, .int i), (0, .ref bs), (1, .ref (mr ρ 1)), (2, .ref (mr ρ 25))] [.long r1] h1 (cs + 4) (ss + 28) Φ psN
  refine x_aload_n 3 dL_law_381 rfl ?_
  refine x_aload_n 1 dL_law_382 rfl ?_
  refine x_iload_n 0 dL_law_383 rfl ?_
  refine x_iconst 1 dL_law_384 (by decide) ?_
  refine x_iadd dL_law_385 ?_
  refine x_scr hS dL_law_386 rfl b1 ?_
  refine x_aload_n 1 dL_law_387 rfl ?_
  refine x_iload_n 0 dL_law_388 rfl ?_
  refine x_iconst 2 dL_law_389 (by decide) ?_
  refine x_iadd dL_law_390 ?_
  refine x_scr hS dL_law_391 rfl b2 ?_
  refine x_aload_n 1 dL_law_392 rfl ?_
  refine x_iload_n 0 dL_law_393 rfl ?_
  refine x_iconst 3 dL_law_394 (by decide) ?_
  refine x_iadd dL_law_395 ?_
  refine x_scr hS dL_law_396 rfl b3 ?_
  refine x_callV (ci := 2) [.int (xs (Int32.toNatClampNeg (i + 1))), .int (xs (Int32.toNatClampNeg (i + 2))), .int (xs (Int32.toNatClampNeg (i + 3)))] 3 dL_law_397 (k_X2_chance G g1 hw) (GI.s g1 (t := (12, 0)) rfl (by decide)) rfl q1474 q1475 q1476 q106 q1477 (by decide) rfl rfl ⟨(Nat.le_of_ble_eq_true rfl), (Nat.le_of_ble_eq_true rfl)⟩ (Nat.le_of_ble_eq_true rfl) ⟨by show _ ≤ 1200128; show cs + 4 + 0 ≤ 1200128; omega, by show _ ≤ 5501098; show ss + 28 + 0 ≤ 5501098; omega⟩ (fun v9 h2 hv9 => ?_) (fun _ _ _ _ _ z _ _ => False.elim z)
  obtain ⟨r2, rfl, g2, e2, hw⟩ := hv9
  have hw := hw g2 e2
  show X ρ K_L 400 [(3, .int i), (0, .ref bs), (1, .ref (mr ρ 1)), (2, .ref (mr ρ 25))] [.long r2, .long r1] h2 (cs + 4 + 0) (ss + 28 + 0) Φ psN
  refine x_lcmp dL_law_400 ?_
  obtain ⟨hr, hw⟩ := hw
  refine x_if_eq 1182 dL_law_401 (by decide) (fun _ => ?_) (fun z => absurd (x_lcmp0 hr) z)
  exact X.widen (k := cs + 2000) (n := ss + 14000) (by omega) (by omega) (hk h2 g2 hw)
set_option maxHeartbeats 4000000 in
theorem t_L_7 {ρ : Rho} {bs L : Nat} {xs : Nat → Int32} {i : Int32} {h : Hp} {cs ss : Nat} {Q : Hp → Prop} {Φ : Option Value → Hp → Prop} (G : G0 ρ) (g : GI h) (hS : va_X bs L xs (rS ρ) (rS ρ).heap) (b1 : vp_in (i + 1) L) (b2 : vp_in (i + 2) L) (b3 : vp_in (i + 3) L) (hcs : cs + 2000 ≤ 1200128) (hss : ss + 14000 ≤ 5501098)
    (hw : wp_X0_guess (fun r1 h1 => GI h1 → Ext h h1 → wp_X2_guess (fun r2 h2 => GI h2 → Ext h1 h2 → (r1 = r2 ∧ Q h2)) h1 (xs (Int32.toNatClampNeg (i + 1))) (xs (Int32.toNatClampNeg (i + 2)))) h (xs (Int32.toNatClampNeg (i + 1))) (xs (Int32.toNatClampNeg (i + 2))))
    (hk : ∀ h2, GI h2 → Q h2 → X ρ K_L 1182 [(3, .int i), (0, .ref bs), (1, .ref (mr ρ 1)), (2, .ref (mr ρ 25))] [] h2 (cs + 2000) (ss + 14000) Φ psN) : X ρ K_L 406 [(3, .int i), (0, .ref bs), (1, .ref (mr ρ 1)), (2, .ref (mr ρ 25))] [] h cs ss Φ psN := by
  refine x_aload_n 2 dL_law_406 rfl ?_
  refine x_aload_n 1 dL_law_407 rfl ?_
  refine x_iload_n 0 dL_law_408 rfl ?_
  refine x_iconst 1 dL_law_409 (by decide) ?_
  refine x_iadd dL_law_410 ?_
  refine x_scr hS dL_law_411 rfl b1 ?_
  refine x_aload_n 1 dL_law_412 rfl ?_
  refine x_iload_n 0 dL_law_413 rfl ?_
  refine x_iconst 2 dL_law_414 (by decide) ?_
  refine x_iadd dL_law_415 ?_
  refine x_scr hS dL_law_416 rfl b2 ?_
  refine x_callV (ci := 0) [.int (xs (Int32.toNatClampNeg (i + 1))), .int (xs (Int32.toNatClampNeg (i + 2)))] 2 dL_law_417 (k_X0_guess G g hw) (GI.s g (t := (10, 0)) rfl (by decide)) rfl q1094 q1095 q1096 q104 q1097 (by decide) rfl rfl ⟨(Nat.le_of_ble_eq_true rfl), (Nat.le_of_ble_eq_true rfl)⟩ (Nat.le_of_ble_eq_true rfl) ⟨by show _ ≤ 1200128; show cs + 1868 ≤ 1200128; omega, by show _ ≤ 5501098; show ss + 13143 ≤ 5501098; omega⟩ (fun v9 h1 hv9 => ?_) (fun _ _ _ _ _ z _ _ => False.elim z)
  obtain ⟨r1, rfl, g1, e1, hw⟩ := hv9
  have hw := hw g1 e1
  show X ρ K_L 420 [(3, .int i), (0, .ref bs), (1, .ref (mr ρ 1)), (2, .ref (mr ρ 25))] [.int r1] h1 (cs + 1868) (ss + 13143) Φ psN
  refine x_aload_n 3 dL_law_420 rfl ?_
  refine x_aload_n 1 dL_law_421 rfl ?_
  refine x_iload_n 0 dL_law_422 rfl ?_
  refine x_iconst 1 dL_law_423 (by decide) ?_
  refine x_iadd dL_law_424 ?_
  refine x_scr hS dL_law_425 rfl b1 ?_
  refine x_aload_n 1 dL_law_426 rfl ?_
  refine x_iload_n 0 dL_law_427 rfl ?_
  refine x_iconst 2 dL_law_428 (by decide) ?_
  refine x_iadd dL_law_429 ?_
  refine x_scr hS dL_law_430 rfl b2 ?_
  refine x_callV (ci := 2) [.int (xs (Int32.toNatClampNeg (i + 1))), .int (xs (Int32.toNatClampNeg (i + 2)))] 2 dL_law_431 (k_X2_guess G g1 hw) (GI.s g1 (t := (12, 0)) rfl (by decide)) rfl q1501 q1502 q1503 q106 q1504 (by decide) rfl rfl ⟨(Nat.le_of_ble_eq_true rfl), (Nat.le_of_ble_eq_true rfl)⟩ (Nat.le_of_ble_eq_true rfl) ⟨by show _ ≤ 1200128; show cs + 1868 + 0 ≤ 1200128; omega, by show _ ≤ 5501098; show ss + 13143 + 0 ≤ 5501098; omega⟩ (fun v9 h2 hv9 => ?_) (fun _ _ _ _ _ z _ _ => False.elim z)
  obtain ⟨r2, rfl, g2, e2, hw⟩ := hv9
  have hw := hw g2 e2
  show X ρ K_L 434 [(3, .int i), (0, .ref bs), (1, .ref (mr ρ 1)), (2, .ref (mr ρ 25))] [.int r2, .int r1] h2 (cs + 1868 + 0) (ss + 13143 + 0) Φ psN
  obtain ⟨hr, hw⟩ := hw
  refine x_icmp_eq 1182 dL_law_434 (by decide) (fun _ => ?_) (fun z => absurd hr z)
  exact X.widen (k := cs + 2000) (n := ss + 14000) (by omega) (by omega) (hk h2 g2 hw)
set_option maxHeartbeats 4000000 in
theorem t_L_8 {ρ : Rho} {bs L : Nat} {xs : Nat → Int32} {i : Int32} {h : Hp} {cs ss : Nat} {Q : Hp → Prop} {Φ : Option Value → Hp → Prop} (G : G0 ρ) (g : GI h) (hS : va_X bs L xs (rS ρ) (rS ρ).heap) (b1 : vp_in (i + 1) L) (b2 : vp_in (i + 2) L) (b3 : vp_in (i + 3) L) (hcs : cs + 2000 ≤ 1200128) (hss : ss + 14000 ≤ 5501098)
    (hw : wp_X0_points (fun r1 h1 => GI h1 → Ext h h1 → wp_X2_points (fun r2 h2 => GI h2 → Ext h1 h2 → (r1 = r2 ∧ Q h2)) h1 (xs (Int32.toNatClampNeg (i + 1))) (xs (Int32.toNatClampNeg (i + 2)))) h (xs (Int32.toNatClampNeg (i + 1))) (xs (Int32.toNatClampNeg (i + 2))))
    (hk : ∀ h2, GI h2 → Q h2 → X ρ K_L 1182 [(3, .int i), (0, .ref bs), (1, .ref (mr ρ 1)), (2, .ref (mr ρ 25))] [] h2 (cs + 2000) (ss + 14000) Φ psN) : X ρ K_L 439 [(3, .int i), (0, .ref bs), (1, .ref (mr ρ 1)), (2, .ref (mr ρ 25))] [] h cs ss Φ psN := by
  refine x_aload_n 2 dL_law_439 rfl ?_
  refine x_aload_n 1 dL_law_440 rfl ?_
  refine x_iload_n 0 dL_law_441 rfl ?_
  refine x_iconst 1 dL_law_442 (by decide) ?_
  refine x_iadd dL_law_443 ?_
  refine x_scr hS dL_law_444 rfl b1 ?_
  refine x_aload_n 1 dL_law_445 rfl ?_
  refine x_iload_n 0 dL_law_446 rfl ?_
  refine x_iconst 2 dL_law_447 (by decide) ?_
  refine x_iadd dL_law_448 ?_
  refine x_scr hS dL_law_449 rfl b2 ?_
  refine x_callV (ci := 0) [.int (xs (Int32.toNatClampNeg (i + 1))), .int (xs (Int32.toNatClampNeg (i + 2)))] 2 dL_law_450 (k_X0_points G g hw) (GI.s g (t := (10, 0)) rfl (by decide)) rfl q1098 q1099 q1100 q104 q1101 (by decide) rfl rfl ⟨(Nat.le_of_ble_eq_true rfl), (Nat.le_of_ble_eq_true rfl)⟩ (Nat.le_of_ble_eq_true rfl) ⟨by show _ ≤ 1200128; show cs + 1868 ≤ 1200128; omega, by show _ ≤ 5501098; show ss + 13143 ≤ 5501098; omega⟩ (fun v9 h1 hv9 => ?_) (fun _ _ _ _ _ z _ _ => False.elim z)
  obtain ⟨r1, rfl, g1, e1, hw⟩ := hv9
  have hw := hw g1 e1
  show X ρ K_L 453 [(3, .int i), (0, .ref bs), (1, .ref (mr ρ 1)), (2, .ref (mr ρ 25))] [.int r1] h1 (cs + 1868) (ss + 13143) Φ psN
  refine x_aload_n 3 dL_law_453 rfl ?_
  refine x_aload_n 1 dL_law_454 rfl ?_
  refine x_iload_n 0 dL_law_455 rfl ?_
  refine x_iconst 1 dL_law_456 (by decide) ?_
  refine x_iadd dL_law_457 ?_
  refine x_scr hS dL_law_458 rfl b1 ?_
  refine x_aload_n 1 dL_law_459 rfl ?_
  refine x_iload_n 0 dL_law_460 rfl ?_
  refine x_iconst 2 dL_law_461 (by decide) ?_
  refine x_iadd dL_law_462 ?_
  refine x_scr hS dL_law_463 rfl b2 ?_
  refine x_callV (ci := 2) [.int (xs (Int32.toNatClampNeg (i + 1))), .int (xs (Int32.toNatClampNeg (i + 2)))] 2 dL_law_464 (k_X2_points G g1 hw) (GI.s g1 (t := (12, 0)) rfl (by decide)) rfl q1509 q1510 q1511 q106 q1512 (by decide) rfl rfl ⟨(Nat.le_of_ble_eq_true rfl), (Nat.le_of_ble_eq_true rfl)⟩ (Nat.le_of_ble_eq_true rfl) ⟨by show _ ≤ 1200128; show cs + 1868 + 0 ≤ 1200128; omega, by show _ ≤ 5501098; show ss + 13143 + 0 ≤ 5501098; omega⟩ (fun v9 h2 hv9 => ?_) (fun _ _ _ _ _ z _ _ => False.elim z)
  obtain ⟨r2, rfl, g2, e2, hw⟩ := hv9
  have hw := hw g2 e2
  show X ρ K_L 467 [(3, .int i), (0, .ref bs), (1, .ref (mr ρ 1)), (2, .ref (mr ρ 25))] [.int r2, .int r1] h2 (cs + 1868 + 0) (ss + 13143 + 0) Φ psN
  obtain ⟨hr, hw⟩ := hw
  refine x_icmp_eq 1182 dL_law_467 (by decide) (fun _ => ?_) (fun z => absurd hr z)
  exact X.widen (k := cs + 2000) (n := ss + 14000) (by omega) (by omega) (hk h2 g2 hw)
set_option maxHeartbeats 4000000 in
theorem t_L_9 {ρ : Rho} {bs L : Nat} {xs : Nat → Int32} {i : Int32} {h : Hp} {cs ss : Nat} {Q : Hp → Prop} {Φ : Option Value → Hp → Prop} (G : G0 ρ) (g : GI h) (hS : va_X bs L xs (rS ρ) (rS ρ).heap) (b1 : vp_in (i + 1) L) (b2 : vp_in (i + 2) L) (b3 : vp_in (i + 3) L) (hcs : cs + 2000 ≤ 1200128) (hss : ss + 14000 ≤ 5501098)
    (hw : wp_X0_setOf (fun r1 h1 => GI h1 → Ext h h1 → wp_X2_setOf (fun r2 h2 => GI h2 → Ext h1 h2 → (r1 = r2 ∧ Q h2)) h1 (xs (Int32.toNatClampNeg (i + 1))) (xs (Int32.toNatClampNeg (i + 2)))) h (xs (Int32.toNatClampNeg (i + 1))) (xs (Int32.toNatClampNeg (i + 2))))
    (hk : ∀ h2, GI h2 → Q h2 → X ρ K_L 1182 [(3, .int i), (0, .ref bs), (1, .ref (mr ρ 1)), (2, .ref (mr ρ 25))] [] h2 (cs + 2000) (ss + 14000) Φ psN) : X ρ K_L 472 [(3, .int i), (0, .ref bs), (1, .ref (mr ρ 1)), (2, .ref (mr ρ 25))] [] h cs ss Φ psN := by
  refine x_aload_n 2 dL_law_472 rfl ?_
  refine x_aload_n 1 dL_law_473 rfl ?_
  refine x_iload_n 0 dL_law_474 rfl ?_
  refine x_iconst 1 dL_law_475 (by decide) ?_
  refine x_iadd dL_law_476 ?_
  refine x_scr hS dL_law_477 rfl b1 ?_
  refine x_aload_n 1 dL_law_478 rfl ?_
  refine x_iload_n 0 dL_law_479 rfl ?_
  refine x_iconst 2 dL_law_480 (by decide) ?_
  refine x_iadd dL_law_481 ?_
  refine x_scr hS dL_law_482 rfl b2 ?_
  refine x_callV (ci := 0) [.int (xs (Int32.toNatClampNeg (i + 1))), .int (xs (Int32.toNatClampNeg (i + 2)))] 2 dL_law_483 (k_X0_setOf G g hw) (GI.s g (t := (10, 0)) rfl (by decide)) rfl q1102 q1103 q1104 q104 q1105 (by decide) rfl rfl ⟨(Nat.le_of_ble_eq_true rfl), (Nat.le_of_ble_eq_true rfl)⟩ (Nat.le_of_ble_eq_true rfl) ⟨by show _ ≤ 1200128; show cs + 1868 ≤ 1200128; omega, by show _ ≤ 5501098; show ss + 13143 ≤ 5501098; omega⟩ (fun v9 h1 hv9 => ?_) (fun _ _ _ _ _ z _ _ => False.elim z)
  obtain ⟨r1, rfl, g1, e1, hw⟩ := hv9
  have hw := hw g1 e1
  show X ρ K_L 486 [(3, .int i), (0, .ref bs), (1, .ref (mr ρ 1)), (2, .ref (mr ρ 25))] [.int r1] h1 (cs + 1868) (ss + 13143) Φ psN
  refine x_aload_n 3 dL_law_486 rfl ?_
  refine x_aload_n 1 dL_law_487 rfl ?_
  refine x_iload_n 0 dL_law_488 rfl ?_
  refine x_iconst 1 dL_law_489 (by decide) ?_
  refine x_iadd dL_law_490 ?_
  refine x_scr hS dL_law_491 rfl b1 ?_
  refine x_aload_n 1 dL_law_492 rfl ?_
  refine x_iload_n 0 dL_law_493 rfl ?_
  refine x_iconst 2 dL_law_494 (by decide) ?_
  refine x_iadd dL_law_495 ?_
  refine x_scr hS dL_law_496 rfl b2 ?_
  refine x_callV (ci := 2) [.int (xs (Int32.toNatClampNeg (i + 1))), .int (xs (Int32.toNatClampNeg (i + 2)))] 2 dL_law_497 (k_X2_setOf G g1 hw) (GI.s g1 (t := (12, 0)) rfl (by decide)) rfl q1513 q1514 q1515 q106 q1516 (by decide) rfl rfl ⟨(Nat.le_of_ble_eq_true rfl), (Nat.le_of_ble_eq_true rfl)⟩ (Nat.le_of_ble_eq_true rfl) ⟨by show _ ≤ 1200128; show cs + 1868 + 0 ≤ 1200128; omega, by show _ ≤ 5501098; show ss + 13143 + 0 ≤ 5501098; omega⟩ (fun v9 h2 hv9 => ?_) (fun _ _ _ _ _ z _ _ => False.elim z)
  obtain ⟨r2, rfl, g2, e2, hw⟩ := hv9
  have hw := hw g2 e2
  show X ρ K_L 500 [(3, .int i), (0, .ref bs), (1, .ref (mr ρ 1)), (2, .ref (mr ρ 25))] [.int r2, .int r1] h2 (cs + 1868 + 0) (ss + 13143 + 0) Φ psN
  obtain ⟨hr, hw⟩ := hw
  refine x_icmp_eq 1182 dL_law_500 (by decide) (fun _ => ?_) (fun z => absurd hr z)
  exact X.widen (k := cs + 2000) (n := ss + 14000) (by omega) (by omega) (hk h2 g2 hw)
set_option maxHeartbeats 4000000 in
theorem t_L_10 {ρ : Rho} {bs L : Nat} {xs : Nat → Int32} {i : Int32} {h : Hp} {cs ss : Nat} {Q : Hp → Prop} {Φ : Option Value → Hp → Prop} (G : G0 ρ) (g : GI h) (hS : va_X bs L xs (rS ρ) (rS ρ).heap) (b1 : vp_in (i + 1) L) (b2 : vp_in (i + 2) L) (b3 : vp_in (i + 3) L) (hcs : cs + 2000 ≤ 1200128) (hss : ss + 14000 ≤ 5501098)
    (hw : wp_X0_presses (fun r1 h1 => GI h1 → Ext h h1 → wp_X2_presses (fun r2 h2 => GI h2 → Ext h1 h2 → (r1 = r2 ∧ Q h2)) h1 (xs (Int32.toNatClampNeg (i + 1))) (xs (Int32.toNatClampNeg (i + 2)))) h (xs (Int32.toNatClampNeg (i + 1))) (xs (Int32.toNatClampNeg (i + 2))))
    (hk : ∀ h2, GI h2 → Q h2 → X ρ K_L 1182 [(3, .int i), (0, .ref bs), (1, .ref (mr ρ 1)), (2, .ref (mr ρ 25))] [] h2 (cs + 2000) (ss + 14000) Φ psN) : X ρ K_L 505 [(3, .int i), (0, .ref bs), (1, .ref (mr ρ 1)), (2, .ref (mr ρ 25))] [] h cs ss Φ psN := by
  refine x_aload_n 2 dL_law_505 rfl ?_
  refine x_aload_n 1 dL_law_506 rfl ?_
  refine x_iload_n 0 dL_law_507 rfl ?_
  refine x_iconst 1 dL_law_508 (by decide) ?_
  refine x_iadd dL_law_509 ?_
  refine x_scr hS dL_law_510 rfl b1 ?_
  refine x_aload_n 1 dL_law_511 rfl ?_
  refine x_iload_n 0 dL_law_512 rfl ?_
  refine x_iconst 2 dL_law_513 (by decide) ?_
  refine x_iadd dL_law_514 ?_
  refine x_scr hS dL_law_515 rfl b2 ?_
  refine x_callV (ci := 0) [.int (xs (Int32.toNatClampNeg (i + 1))), .int (xs (Int32.toNatClampNeg (i + 2)))] 2 dL_law_516 (k_X0_presses G g hw) (GI.s g (t := (10, 0)) rfl (by decide)) rfl q1106 q1107 q1108 q104 q1109 (by decide) rfl rfl ⟨(Nat.le_of_ble_eq_true rfl), (Nat.le_of_ble_eq_true rfl)⟩ (Nat.le_of_ble_eq_true rfl) ⟨by show _ ≤ 1200128; show cs + 1868 ≤ 1200128; omega, by show _ ≤ 5501098; show ss + 13143 ≤ 5501098; omega⟩ (fun v9 h1 hv9 => ?_) (fun _ _ _ _ _ z _ _ => False.elim z)
  obtain ⟨r1, rfl, g1, e1, hw⟩ := hv9
  have hw := hw g1 e1
  show X ρ K_L 519 [(3, .int i), (0, .ref bs), (1, .ref (mr ρ 1)), (2, .ref (mr ρ 25))] [.int r1] h1 (cs + 1868) (ss + 13143) Φ psN
  refine x_aload_n 3 dL_law_519 rfl ?_
  refine x_aload_n 1 dL_law_520 rfl ?_
  refine x_iload_n 0 dL_law_521 rfl ?_
  refine x_iconst 1 dL_law_522 (by decide) ?_
  refine x_iadd dL_law_523 ?_
  refine x_scr hS dL_law_524 rfl b1 ?_
  refine x_aload_n 1 dL_law_525 rfl ?_
  refine x_iload_n 0 dL_law_526 rfl ?_
  refine x_iconst 2 dL_law_527 (by decide) ?_
  refine x_iadd dL_law_528 ?_
  refine x_scr hS dL_law_529 rfl b2 ?_
  refine x_callV (ci := 2) [.int (xs (Int32.toNatClampNeg (i + 1))), .int (xs (Int32.toNatClampNeg (i + 2)))] 2 dL_law_530 (k_X2_presses G g1 hw) (GI.s g1 (t := (12, 0)) rfl (by decide)) rfl q1517 q1518 q1519 q106 q1520 (by decide) rfl rfl ⟨(Nat.le_of_ble_eq_true rfl), (Nat.le_of_ble_eq_true rfl)⟩ (Nat.le_of_ble_eq_true rfl) ⟨by show _ ≤ 1200128; show cs + 1868 + 0 ≤ 1200128; omega, by show _ ≤ 5501098; show ss + 13143 + 0 ≤ 5501098; omega⟩ (fun v9 h2 hv9 => ?_) (fun _ _ _ _ _ z _ _ => False.elim z)
  obtain ⟨r2, rfl, g2, e2, hw⟩ := hv9
  have hw := hw g2 e2
  show X ρ K_L 533 [(3, .int i), (0, .ref bs), (1, .ref (mr ρ 1)), (2, .ref (mr ρ 25))] [.int r2, .int r1] h2 (cs + 1868 + 0) (ss + 13143 + 0) Φ psN
  obtain ⟨hr, hw⟩ := hw
  refine x_icmp_eq 1182 dL_law_533 (by decide) (fun _ => ?_) (fun z => absurd hr z)
  exact X.widen (k := cs + 2000) (n := ss + 14000) (by omega) (by omega) (hk h2 g2 hw)
set_option maxHeartbeats 4000000 in
theorem t_L_11 {ρ : Rho} {bs L : Nat} {xs : Nat → Int32} {i : Int32} {h : Hp} {cs ss : Nat} {Q : Hp → Prop} {Φ : Option Value → Hp → Prop} (G : G0 ρ) (g : GI h) (hS : va_X bs L xs (rS ρ) (rS ρ).heap) (b1 : vp_in (i + 1) L) (b2 : vp_in (i + 2) L) (b3 : vp_in (i + 3) L) (hcs : cs + 2000 ≤ 1200128) (hss : ss + 14000 ≤ 5501098)
    (hw : wp_X0_run (fun r1 h1 => GI h1 → Ext h h1 → wp_X2_run (fun r2 h2 => GI h2 → Ext h1 h2 → (r1 = r2 ∧ Q h2)) h1 (xs (Int32.toNatClampNeg (i + 1))) (xs (Int32.toNatClampNeg (i + 2)))) h (xs (Int32.toNatClampNeg (i + 1))) (xs (Int32.toNatClampNeg (i + 2))))
    (hk : ∀ h2, GI h2 → Q h2 → X ρ K_L 1182 [(3, .int i), (0, .ref bs), (1, .ref (mr ρ 1)), (2, .ref (mr ρ 25))] [] h2 (cs + 2000) (ss + 14000) Φ psN) : X ρ K_L 538 [(3, .int i), (0, .ref bs), (1, .ref (mr ρ 1)), (2, .ref (mr ρ 25))] [] h cs ss Φ psN := by
  refine x_aload_n 2 dL_law_538 rfl ?_
  refine x_aload_n 1 dL_law_539 rfl ?_
  refine x_iload_n 0 dL_law_540 rfl ?_
  refine x_iconst 1 dL_law_541 (by decide) ?_
  refine x_iadd dL_law_542 ?_
  refine x_scr hS dL_law_543 rfl b1 ?_
  refine x_aload_n 1 dL_law_544 rfl ?_
  refine x_iload_n 0 dL_law_545 rfl ?_
  refine x_iconst 2 dL_law_546 (by decide) ?_
  refine x_iadd dL_law_547 ?_
  refine x_scr hS dL_law_548 rfl b2 ?_
  refine x_callV (ci := 0) [.int (xs (Int32.toNatClampNeg (i + 1))), .int (xs (Int32.toNatClampNeg (i + 2)))] 2 dL_law_549 (k_X0_run G g hw) (GI.s g (t := (10, 0)) rfl (by decide)) rfl q1110 q1111 q1112 q104 q1113 (by decide) rfl rfl ⟨(Nat.le_of_ble_eq_true rfl), (Nat.le_of_ble_eq_true rfl)⟩ (Nat.le_of_ble_eq_true rfl) ⟨by show _ ≤ 1200128; show cs + 1868 ≤ 1200128; omega, by show _ ≤ 5501098; show ss + 13143 ≤ 5501098; omega⟩ (fun v9 h1 hv9 => ?_) (fun _ _ _ _ _ z _ _ => False.elim z)
  obtain ⟨r1, rfl, g1, e1, hw⟩ := hv9
  have hw := hw g1 e1
  show X ρ K_L 552 [(3, .int i), (0, .ref bs), (1, .ref (mr ρ 1)), (2, .ref (mr ρ 25))] [.int r1] h1 (cs + 1868) (ss + 13143) Φ psN
  refine x_aload_n 3 dL_law_552 rfl ?_
  refine x_aload_n 1 dL_law_553 rfl ?_
  refine x_iload_n 0 dL_law_554 rfl ?_
  refine x_iconst 1 dL_law_555 (by decide) ?_
  refine x_iadd dL_law_556 ?_
  refine x_scr hS dL_law_557 rfl b1 ?_
  refine x_aload_n 1 dL_law_558 rfl ?_
  refine x_iload_n 0 dL_law_559 rfl ?_
  refine x_iconst 2 dL_law_560 (by decide) ?_
  refine x_iadd dL_law_561 ?_
  refine x_scr hS dL_law_562 rfl b2 ?_
  refine x_callV (ci := 2) [.int (xs (Int32.toNatClampNeg (i + 1))), .int (xs (Int32.toNatClampNeg (i + 2)))] 2 dL_law_563 (k_X2_run G g1 hw) (GI.s g1 (t := (12, 0)) rfl (by decide)) rfl q1554 q1555 q1556 q106 q1557 (by decide) rfl rfl ⟨(Nat.le_of_ble_eq_true rfl), (Nat.le_of_ble_eq_true rfl)⟩ (Nat.le_of_ble_eq_true rfl) ⟨by show _ ≤ 1200128; show cs + 1868 + 0 ≤ 1200128; omega, by show _ ≤ 5501098; show ss + 13143 + 0 ≤ 5501098; omega⟩ (fun v9 h2 hv9 => ?_) (fun _ _ _ _ _ z _ _ => False.elim z)
  obtain ⟨r2, rfl, g2, e2, hw⟩ := hv9
  have hw := hw g2 e2
  show X ρ K_L 566 [(3, .int i), (0, .ref bs), (1, .ref (mr ρ 1)), (2, .ref (mr ρ 25))] [.int r2, .int r1] h2 (cs + 1868 + 0) (ss + 13143 + 0) Φ psN
  obtain ⟨hr, hw⟩ := hw
  refine x_icmp_eq 1182 dL_law_566 (by decide) (fun _ => ?_) (fun z => absurd hr z)
  exact X.widen (k := cs + 2000) (n := ss + 14000) (by omega) (by omega) (hk h2 g2 hw)
set_option maxHeartbeats 4000000 in
theorem t_L_12 {ρ : Rho} {bs L : Nat} {xs : Nat → Int32} {i : Int32} {h : Hp} {cs ss : Nat} {Q : Hp → Prop} {Φ : Option Value → Hp → Prop} (G : G0 ρ) (g : GI h) (hS : va_X bs L xs (rS ρ) (rS ρ).heap) (b1 : vp_in (i + 1) L) (b2 : vp_in (i + 2) L) (b3 : vp_in (i + 3) L) (hcs : cs + 2000 ≤ 1200128) (hss : ss + 14000 ≤ 5501098)
    (hw : wp_X0_wins (fun r1 h1 => GI h1 → Ext h h1 → wp_X2_wins (fun r2 h2 => GI h2 → Ext h1 h2 → (r1 = r2 ∧ Q h2)) h1 (xs (Int32.toNatClampNeg (i + 1))) (xs (Int32.toNatClampNeg (i + 2)))) h (xs (Int32.toNatClampNeg (i + 1))) (xs (Int32.toNatClampNeg (i + 2))))
    (hk : ∀ h2, GI h2 → Q h2 → X ρ K_L 1182 [(3, .int i), (0, .ref bs), (1, .ref (mr ρ 1)), (2, .ref (mr ρ 25))] [] h2 (cs + 2000) (ss + 14000) Φ psN) : X ρ K_L 571 [(3, .int i), (0, .ref bs), (1, .ref (mr ρ 1)), (2, .ref (mr ρ 25))] [] h cs ss Φ psN := by
  refine x_aload_n 2 dL_law_571 rfl ?_
  refine x_aload_n 1 dL_law_572 rfl ?_
  refine x_iload_n 0 dL_law_573 rfl ?_
  refine x_iconst 1 dL_law_574 (by decide) ?_
  refine x_iadd dL_law_575 ?_
  refine x_scr hS dL_law_576 rfl b1 ?_
  refine x_aload_n 1 dL_law_577 rfl ?_
  refine x_iload_n 0 dL_law_578 rfl ?_
  refine x_iconst 2 dL_law_579 (by decide) ?_
  refine x_iadd dL_law_580 ?_
  refine x_scr hS dL_law_581 rfl b2 ?_
  refine x_callV (ci := 0) [.int (xs (Int32.toNatClampNeg (i + 1))), .int (xs (Int32.toNatClampNeg (i + 2)))] 2 dL_law_582 (k_X0_wins G g hw) (GI.s g (t := (10, 0)) rfl (by decide)) rfl q1114 q1115 q1116 q104 q1117 (by decide) rfl rfl ⟨(Nat.le_of_ble_eq_true rfl), (Nat.le_of_ble_eq_true rfl)⟩ (Nat.le_of_ble_eq_true rfl) ⟨by show _ ≤ 1200128; show cs + 3 ≤ 1200128; omega, by show _ ≤ 5501098; show ss + 21 ≤ 5501098; omega⟩ (fun v9 h1 hv9 => ?_) (fun _ _ _ _ _ z _ _ => False.elim z)
  obtain ⟨r1, rfl, g1, e1, hw⟩ := hv9
  have hw := hw g1 e1
  show X ρ K_L 585 [(3, .int i), (0, .ref bs), (1, .ref (mr ρ 1)), (2, .ref (mr ρ 25))] [.long r1] h1 (cs + 3) (ss + 21) Φ psN
  refine x_aload_n 3 dL_law_585 rfl ?_
  refine x_aload_n 1 dL_law_586 rfl ?_
  refine x_iload_n 0 dL_law_587 rfl ?_
  refine x_iconst 1 dL_law_588 (by decide) ?_
  refine x_iadd dL_law_589 ?_
  refine x_scr hS dL_law_590 rfl b1 ?_
  refine x_aload_n 1 dL_law_591 rfl ?_
  refine x_iload_n 0 dL_law_592 rfl ?_
  refine x_iconst 2 dL_law_593 (by decide) ?_
  refine x_iadd dL_law_594 ?_
  refine x_scr hS dL_law_595 rfl b2 ?_
  refine x_callV (ci := 2) [.int (xs (Int32.toNatClampNeg (i + 1))), .int (xs (Int32.toNatClampNeg (i + 2)))] 2 dL_law_596 (k_X2_wins G g1 hw) (GI.s g1 (t := (12, 0)) rfl (by decide)) rfl q1570 q1571 q1572 q106 q1573 (by decide) rfl rfl ⟨(Nat.le_of_ble_eq_true rfl), (Nat.le_of_ble_eq_true rfl)⟩ (Nat.le_of_ble_eq_true rfl) ⟨by show _ ≤ 1200128; show cs + 3 + 0 ≤ 1200128; omega, by show _ ≤ 5501098; show ss + 21 + 0 ≤ 5501098; omega⟩ (fun v9 h2 hv9 => ?_) (fun _ _ _ _ _ z _ _ => False.elim z)
  obtain ⟨r2, rfl, g2, e2, hw⟩ := hv9
  have hw := hw g2 e2
  show X ρ K_L 599 [(3, .int i), (0, .ref bs), (1, .ref (mr ρ 1)), (2, .ref (mr ρ 25))] [.long r2, .long r1] h2 (cs + 3 + 0) (ss + 21 + 0) Φ psN
  refine x_lcmp dL_law_599 ?_
  obtain ⟨hr, hw⟩ := hw
  refine x_if_eq 1182 dL_law_600 (by decide) (fun _ => ?_) (fun z => absurd (x_lcmp0 hr) z)
  exact X.widen (k := cs + 2000) (n := ss + 14000) (by omega) (by omega) (hk h2 g2 hw)
set_option maxHeartbeats 4000000 in
theorem t_L_13 {ρ : Rho} {bs L : Nat} {xs : Nat → Int32} {i : Int32} {h : Hp} {cs ss : Nat} {Q : Hp → Prop} {Φ : Option Value → Hp → Prop} (G : G0 ρ) (g : GI h) (hS : va_X bs L xs (rS ρ) (rS ρ).heap) (b1 : vp_in (i + 1) L) (b2 : vp_in (i + 2) L) (b3 : vp_in (i + 3) L) (hcs : cs + 2000 ≤ 1200128) (hss : ss + 14000 ≤ 5501098)
    (hw : wp_X0_worth (fun r1 h1 => GI h1 → Ext h h1 → wp_X2_worth (fun r2 h2 => GI h2 → Ext h1 h2 → (r1 = r2 ∧ Q h2)) h1 (xs (Int32.toNatClampNeg (i + 1))) (xs (Int32.toNatClampNeg (i + 2)))) h (xs (Int32.toNatClampNeg (i + 1))) (xs (Int32.toNatClampNeg (i + 2))))
    (hk : ∀ h2, GI h2 → Q h2 → X ρ K_L 1182 [(3, .int i), (0, .ref bs), (1, .ref (mr ρ 1)), (2, .ref (mr ρ 25))] [] h2 (cs + 2000) (ss + 14000) Φ psN) : X ρ K_L 605 [(3, .int i), (0, .ref bs), (1, .ref (mr ρ 1)), (2, .ref (mr ρ 25))] [] h cs ss Φ psN := by
  refine x_aload_n 2 dL_law_605 rfl ?_
  refine x_aload_n 1 dL_law_606 rfl ?_
  refine x_iload_n 0 dL_law_607 rfl ?_
  refine x_iconst 1 dL_law_608 (by decide) ?_
  refine x_iadd dL_law_609 ?_
  refine x_scr hS dL_law_610 rfl b1 ?_
  refine x_aload_n 1 dL_law_611 rfl ?_
  refine x_iload_n 0 dL_law_612 rfl ?_
  refine x_iconst 2 dL_law_613 (by decide) ?_
  refine x_iadd dL_law_614 ?_
  refine x_scr hS dL_law_615 rfl b2 ?_
  refine x_callV (ci := 0) [.int (xs (Int32.toNatClampNeg (i + 1))), .int (xs (Int32.toNatClampNeg (i + 2)))] 2 dL_law_616 (k_X0_worth G g hw) (GI.s g (t := (10, 0)) rfl (by decide)) rfl q1122 q1123 q1124 q104 q1125 (by decide) rfl rfl ⟨(Nat.le_of_ble_eq_true rfl), (Nat.le_of_ble_eq_true rfl)⟩ (Nat.le_of_ble_eq_true rfl) ⟨by show _ ≤ 1200128; show cs + 3 ≤ 1200128; omega, by show _ ≤ 5501098; show ss + 21 ≤ 5501098; omega⟩ (fun v9 h1 hv9 => ?_) (fun _ _ _ _ _ z _ _ => False.elim z)
  obtain ⟨r1, rfl, g1, e1, hw⟩ := hv9
  have hw := hw g1 e1
  show X ρ K_L 619 [(3, .int i), (0, .ref bs), (1, .ref (mr ρ 1)), (2, .ref (mr ρ 25))] [.long r1] h1 (cs + 3) (ss + 21) Φ psN
  refine x_aload_n 3 dL_law_619 rfl ?_
  refine x_aload_n 1 dL_law_620 rfl ?_
  refine x_iload_n 0 dL_law_621 rfl ?_
  refine x_iconst 1 dL_law_622 (by decide) ?_
  refine x_iadd dL_law_623 ?_
  refine x_scr hS dL_law_624 rfl b1 ?_
  refine x_aload_n 1 dL_law_625 rfl ?_
  refine x_iload_n 0 dL_law_626 rfl ?_
  refine x_iconst 2 dL_law_627 (by decide) ?_
  refine x_iadd dL_law_628 ?_
  refine x_scr hS dL_law_629 rfl b2 ?_
  refine x_callV (ci := 2) [.int (xs (Int32.toNatClampNeg (i + 1))), .int (xs (Int32.toNatClampNeg (i + 2)))] 2 dL_law_630 (k_X2_worth G g1 hw) (GI.s g1 (t := (12, 0)) rfl (by decide)) rfl q1582 q1583 q1584 q106 q1585 (by decide) rfl rfl ⟨(Nat.le_of_ble_eq_true rfl), (Nat.le_of_ble_eq_true rfl)⟩ (Nat.le_of_ble_eq_true rfl) ⟨by show _ ≤ 1200128; show cs + 3 + 0 ≤ 1200128; omega, by show _ ≤ 5501098; show ss + 21 + 0 ≤ 5501098; omega⟩ (fun v9 h2 hv9 => ?_) (fun _ _ _ _ _ z _ _ => False.elim z)
  obtain ⟨r2, rfl, g2, e2, hw⟩ := hv9
  have hw := hw g2 e2
  show X ρ K_L 633 [(3, .int i), (0, .ref bs), (1, .ref (mr ρ 1)), (2, .ref (mr ρ 25))] [.long r2, .long r1] h2 (cs + 3 + 0) (ss + 21 + 0) Φ psN
  refine x_lcmp dL_law_633 ?_
  obtain ⟨hr, hw⟩ := hw
  refine x_if_eq 1182 dL_law_634 (by decide) (fun _ => ?_) (fun z => absurd (x_lcmp0 hr) z)
  exact X.widen (k := cs + 2000) (n := ss + 14000) (by omega) (by omega) (hk h2 g2 hw)
set_option maxHeartbeats 4000000 in
theorem t_L_14 {ρ : Rho} {bs L : Nat} {xs : Nat → Int32} {i : Int32} {h : Hp} {cs ss : Nat} {Q : Hp → Prop} {Φ : Option Value → Hp → Prop} (G : G0 ρ) (g : GI h) (hS : va_X bs L xs (rS ρ) (rS ρ).heap) (b1 : vp_in (i + 1) L) (b2 : vp_in (i + 2) L) (b3 : vp_in (i + 3) L) (hcs : cs + 2000 ≤ 1200128) (hss : ss + 14000 ≤ 5501098)
    (hw : wp_X0_nobody (fun r1 h1 => GI h1 → Ext h h1 → wp_X2_nobody (fun r2 h2 => GI h2 → Ext h1 h2 → (r1 = r2 ∧ Q h2)) h1 (xs (Int32.toNatClampNeg (i + 1)))) h (xs (Int32.toNatClampNeg (i + 1))))
    (hk : ∀ h2, GI h2 → Q h2 → X ρ K_L 1182 [(3, .int i), (0, .ref bs), (1, .ref (mr ρ 1)), (2, .ref (mr ρ 25))] [] h2 (cs + 2000) (ss + 14000) Φ psN) : X ρ K_L 639 [(3, .int i), (0, .ref bs), (1, .ref (mr ρ 1)), (2, .ref (mr ρ 25))] [] h cs ss Φ psN := by
  refine x_aload_n 2 dL_law_639 rfl ?_
  refine x_aload_n 1 dL_law_640 rfl ?_
  refine x_iload_n 0 dL_law_641 rfl ?_
  refine x_iconst 1 dL_law_642 (by decide) ?_
  refine x_iadd dL_law_643 ?_
  refine x_scr hS dL_law_644 rfl b1 ?_
  refine x_callV (ci := 0) [.int (xs (Int32.toNatClampNeg (i + 1)))] 1 dL_law_645 (k_X0_nobody G g hw) (GI.s g (t := (10, 0)) rfl (by decide)) rfl q1126 q1127 q1128 q104 q1129 (by decide) rfl rfl ⟨(Nat.le_of_ble_eq_true rfl), (Nat.le_of_ble_eq_true rfl)⟩ (Nat.le_of_ble_eq_true rfl) ⟨by show _ ≤ 1200128; show cs + 3 ≤ 1200128; omega, by show _ ≤ 5501098; show ss + 21 ≤ 5501098; omega⟩ (fun v9 h1 hv9 => ?_) (fun _ _ _ _ _ z _ _ => False.elim z)
  obtain ⟨r1, rfl, g1, e1, hw⟩ := hv9
  have hw := hw g1 e1
  show X ρ K_L 648 [(3, .int i), (0, .ref bs), (1, .ref (mr ρ 1)), (2, .ref (mr ρ 25))] [.long r1] h1 (cs + 3) (ss + 21) Φ psN
  refine x_aload_n 3 dL_law_648 rfl ?_
  refine x_aload_n 1 dL_law_649 rfl ?_
  refine x_iload_n 0 dL_law_650 rfl ?_
  refine x_iconst 1 dL_law_651 (by decide) ?_
  refine x_iadd dL_law_652 ?_
  refine x_scr hS dL_law_653 rfl b1 ?_
  refine x_callV (ci := 2) [.int (xs (Int32.toNatClampNeg (i + 1)))] 1 dL_law_654 (k_X2_nobody G g1 hw) (GI.s g1 (t := (12, 0)) rfl (by decide)) rfl q1586 q1587 q1588 q106 q1589 (by decide) rfl rfl ⟨(Nat.le_of_ble_eq_true rfl), (Nat.le_of_ble_eq_true rfl)⟩ (Nat.le_of_ble_eq_true rfl) ⟨by show _ ≤ 1200128; show cs + 3 + 0 ≤ 1200128; omega, by show _ ≤ 5501098; show ss + 21 + 0 ≤ 5501098; omega⟩ (fun v9 h2 hv9 => ?_) (fun _ _ _ _ _ z _ _ => False.elim z)
  obtain ⟨r2, rfl, g2, e2, hw⟩ := hv9
  have hw := hw g2 e2
  show X ρ K_L 657 [(3, .int i), (0, .ref bs), (1, .ref (mr ρ 1)), (2, .ref (mr ρ 25))] [.long r2, .long r1] h2 (cs + 3 + 0) (ss + 21 + 0) Φ psN
  refine x_lcmp dL_law_657 ?_
  obtain ⟨hr, hw⟩ := hw
  refine x_if_eq 1182 dL_law_658 (by decide) (fun _ => ?_) (fun z => absurd (x_lcmp0 hr) z)
  exact X.widen (k := cs + 2000) (n := ss + 14000) (by omega) (by omega) (hk h2 g2 hw)
set_option maxHeartbeats 4000000 in
theorem t_L_15 {ρ : Rho} {bs L : Nat} {xs : Nat → Int32} {i : Int32} {h : Hp} {cs ss : Nat} {Q : Hp → Prop} {Φ : Option Value → Hp → Prop} (G : G0 ρ) (g : GI h) (hS : va_X bs L xs (rS ρ) (rS ρ).heap) (b1 : vp_in (i + 1) L) (b2 : vp_in (i + 2) L) (b3 : vp_in (i + 3) L) (hcs : cs + 2000 ≤ 1200128) (hss : ss + 14000 ≤ 5501098)
    (hw : wp_X0_dull (fun r1 h1 => GI h1 → Ext h h1 → wp_X2_dull (fun r2 h2 => GI h2 → Ext h1 h2 → (r1 = r2 ∧ Q h2)) h1 (xs (Int32.toNatClampNeg (i + 1)))) h (xs (Int32.toNatClampNeg (i + 1))))
    (hk : ∀ h2, GI h2 → Q h2 → X ρ K_L 1182 [(3, .int i), (0, .ref bs), (1, .ref (mr ρ 1)), (2, .ref (mr ρ 25))] [] h2 (cs + 2000) (ss + 14000) Φ psN) : X ρ K_L 663 [(3, .int i), (0, .ref bs), (1, .ref (mr ρ 1)), (2, .ref (mr ρ 25))] [] h cs ss Φ psN := by
  refine x_aload_n 2 dL_law_663 rfl ?_
  refine x_aload_n 1 dL_law_664 rfl ?_
  refine x_iload_n 0 dL_law_665 rfl ?_
  refine x_iconst 1 dL_law_666 (by decide) ?_
  refine x_iadd dL_law_667 ?_
  refine x_scr hS dL_law_668 rfl b1 ?_
  refine x_callV (ci := 0) [.int (xs (Int32.toNatClampNeg (i + 1)))] 1 dL_law_669 (k_X0_dull G g hw) (GI.s g (t := (10, 0)) rfl (by decide)) rfl q1130 q1131 q1132 q104 q1133 (by decide) rfl rfl ⟨(Nat.le_of_ble_eq_true rfl), (Nat.le_of_ble_eq_true rfl)⟩ (Nat.le_of_ble_eq_true rfl) ⟨by show _ ≤ 1200128; show cs + 3 ≤ 1200128; omega, by show _ ≤ 5501098; show ss + 21 ≤ 5501098; omega⟩ (fun v9 h1 hv9 => ?_) (fun _ _ _ _ _ z _ _ => False.elim z)
  obtain ⟨r1, rfl, g1, e1, hw⟩ := hv9
  have hw := hw g1 e1
  show X ρ K_L 672 [(3, .int i), (0, .ref bs), (1, .ref (mr ρ 1)), (2, .ref (mr ρ 25))] [.long r1] h1 (cs + 3) (ss + 21) Φ psN
  refine x_aload_n 3 dL_law_672 rfl ?_
  refine x_aload_n 1 dL_law_673 rfl ?_
  refine x_iload_n 0 dL_law_674 rfl ?_
  refine x_iconst 1 dL_law_675 (by decide) ?_
  refine x_iadd dL_law_676 ?_
  refine x_scr hS dL_law_677 rfl b1 ?_
  refine x_callV (ci := 2) [.int (xs (Int32.toNatClampNeg (i + 1)))] 1 dL_law_678 (k_X2_dull G g1 hw) (GI.s g1 (t := (12, 0)) rfl (by decide)) rfl q1590 q1591 q1592 q106 q1593 (by decide) rfl rfl ⟨(Nat.le_of_ble_eq_true rfl), (Nat.le_of_ble_eq_true rfl)⟩ (Nat.le_of_ble_eq_true rfl) ⟨by show _ ≤ 1200128; show cs + 3 + 0 ≤ 1200128; omega, by show _ ≤ 5501098; show ss + 21 + 0 ≤ 5501098; omega⟩ (fun v9 h2 hv9 => ?_) (fun _ _ _ _ _ z _ _ => False.elim z)
  obtain ⟨r2, rfl, g2, e2, hw⟩ := hv9
  have hw := hw g2 e2
  show X ρ K_L 681 [(3, .int i), (0, .ref bs), (1, .ref (mr ρ 1)), (2, .ref (mr ρ 25))] [.long r2, .long r1] h2 (cs + 3 + 0) (ss + 21 + 0) Φ psN
  refine x_lcmp dL_law_681 ?_
  obtain ⟨hr, hw⟩ := hw
  refine x_if_eq 1182 dL_law_682 (by decide) (fun _ => ?_) (fun z => absurd (x_lcmp0 hr) z)
  exact X.widen (k := cs + 2000) (n := ss + 14000) (by omega) (by omega) (hk h2 g2 hw)
set_option maxHeartbeats 4000000 in
theorem t_L_16 {ρ : Rho} {bs L : Nat} {xs : Nat → Int32} {i : Int32} {h : Hp} {cs ss : Nat} {Q : Hp → Prop} {Φ : Option Value → Hp → Prop} (G : G0 ρ) (g : GI h) (hS : va_X bs L xs (rS ρ) (rS ρ).heap) (b1 : vp_in (i + 1) L) (b2 : vp_in (i + 2) L) (b3 : vp_in (i + 3) L) (hcs : cs + 2000 ≤ 1200128) (hss : ss + 14000 ≤ 5501098)
    (hw : wp_X0_value (fun r1 h1 => GI h1 → Ext h h1 → wp_X2_value (fun r2 h2 => GI h2 → Ext h1 h2 → (r1 = r2 ∧ Q h2)) h1 (xs (Int32.toNatClampNeg (i + 1))) (xs (Int32.toNatClampNeg (i + 2))) (xs (Int32.toNatClampNeg (i + 3)))) h (xs (Int32.toNatClampNeg (i + 1))) (xs (Int32.toNatClampNeg (i + 2))) (xs (Int32.toNatClampNeg (i + 3))))
    (hk : ∀ h2, GI h2 → Q h2 → X ρ K_L 1182 [(3, .int i), (0, .ref bs), (1, .ref (mr ρ 1)), (2, .ref (mr ρ 25))] [] h2 (cs + 2000) (ss + 14000) Φ psN) : X ρ K_L 687 [(3, .int i), (0, .ref bs), (1, .ref (mr ρ 1)), (2, .ref (mr ρ 25))] [] h cs ss Φ psN := by
  refine x_aload_n 2 dL_law_687 rfl ?_
  refine x_aload_n 1 dL_law_688 rfl ?_
  refine x_iload_n 0 dL_law_689 rfl ?_
  refine x_iconst 1 dL_law_690 (by decide) ?_
  refine x_iadd dL_law_691 ?_
  refine x_scr hS dL_law_692 rfl b1 ?_
  refine x_aload_n 1 dL_law_693 rfl ?_
  refine x_iload_n 0 dL_law_694 rfl ?_
  refine x_iconst 2 dL_law_695 (by decide) ?_
  refine x_iadd dL_law_696 ?_
  refine x_scr hS dL_law_697 rfl b2 ?_
  refine x_aload_n 1 dL_law_698 rfl ?_
  refine x_iload_n 0 dL_law_699 rfl ?_
  refine x_iconst 3 dL_law_700 (by decide) ?_
  refine x_iadd dL_law_701 ?_
  refine x_scr hS dL_law_702 rfl b3 ?_
  refine x_callV (ci := 0) [.int (xs (Int32.toNatClampNeg (i + 1))), .int (xs (Int32.toNatClampNeg (i + 2))), .int (xs (Int32.toNatClampNeg (i + 3)))] 3 dL_law_703 (k_X0_value G g hw) (GI.s g (t := (10, 0)) rfl (by decide)) rfl q1134 q1135 q1136 q104 q1137 (by decide) rfl rfl ⟨(Nat.le_of_ble_eq_true rfl), (Nat.le_of_ble_eq_true rfl)⟩ (Nat.le_of_ble_eq_true rfl) ⟨by show _ ≤ 1200128; show cs + 4 ≤ 1200128; omega, by show _ ≤ 5501098; show ss + 28 ≤ 5501098; omega⟩ (fun v9 h1 hv9 => ?_) (fun _ _ _ _ _ z _ _ => False.elim z)
  obtain ⟨r1, rfl, g1, e1, hw⟩ := hv9
  have hw := hw g1 e1
  show X ρ K_L 706 [(3, .int i), (0, .ref bs), (1, .ref (mr ρ 1)), (2, .ref (mr ρ 25))] [.long r1] h1 (cs + 4) (ss + 28) Φ psN
  refine x_aload_n 3 dL_law_706 rfl ?_
  refine x_aload_n 1 dL_law_707 rfl ?_
  refine x_iload_n 0 dL_law_708 rfl ?_
  refine x_iconst 1 dL_law_709 (by decide) ?_
  refine x_iadd dL_law_710 ?_
  refine x_scr hS dL_law_711 rfl b1 ?_
  refine x_aload_n 1 dL_law_712 rfl ?_
  refine x_iload_n 0 dL_law_713 rfl ?_
  refine x_iconst 2 dL_law_714 (by decide) ?_
  refine x_iadd dL_law_715 ?_
  refine x_scr hS dL_law_716 rfl b2 ?_
  refine x_aload_n 1 dL_law_717 rfl ?_
  refine x_iload_n 0 dL_law_718 rfl ?_
  refine x_iconst 3 dL_law_719 (by decide) ?_
  refine x_iadd dL_law_720 ?_
  refine x_scr hS dL_law_721 rfl b3 ?_
  refine x_callV (ci := 2) [.int (xs (Int32.toNatClampNeg (i + 1))), .int (xs (Int32.toNatClampNeg (i + 2))), .int (xs (Int32.toNatClampNeg (i + 3)))] 3 dL_law_722 (k_X2_value G g1 hw) (GI.s g1 (t := (12, 0)) rfl (by decide)) rfl q1594 q1595 q1596 q106 q1597 (by decide) rfl rfl ⟨(Nat.le_of_ble_eq_true rfl), (Nat.le_of_ble_eq_true rfl)⟩ (Nat.le_of_ble_eq_true rfl) ⟨by show _ ≤ 1200128; show cs + 4 + 0 ≤ 1200128; omega, by show _ ≤ 5501098; show ss + 28 + 0 ≤ 5501098; omega⟩ (fun v9 h2 hv9 => ?_) (fun _ _ _ _ _ z _ _ => False.elim z)
  obtain ⟨r2, rfl, g2, e2, hw⟩ := hv9
  have hw := hw g2 e2
  show X ρ K_L 725 [(3, .int i), (0, .ref bs), (1, .ref (mr ρ 1)), (2, .ref (mr ρ 25))] [.long r2, .long r1] h2 (cs + 4 + 0) (ss + 28 + 0) Φ psN
  refine x_lcmp dL_law_725 ?_
  obtain ⟨hr, hw⟩ := hw
  refine x_if_eq 1182 dL_law_726 (by decide) (fun _ => ?_) (fun z => absurd (x_lcmp0 hr) z)
  exact X.widen (k := cs + 2000) (n := ss + 14000) (by omega) (by omega) (hk h2 g2 hw)
set_option maxHeartbeats 4000000 in
theorem t_L_17 {ρ : Rho} {bs L : Nat} {xs : Nat → Int32} {i : Int32} {h : Hp} {cs ss : Nat} {Q : Hp → Prop} {Φ : Option Value → Hp → Prop} (G : G0 ρ) (g : GI h) (hS : va_X bs L xs (rS ρ) (rS ρ).heap) (b1 : vp_in (i + 1) L) (b2 : vp_in (i + 2) L) (b3 : vp_in (i + 3) L) (hcs : cs + 2000 ≤ 1200128) (hss : ss + 14000 ≤ 5501098)
    (hw : wp_X0_alone (fun r1 h1 => GI h1 → Ext h h1 → wp_X2_alone (fun r2 h2 => GI h2 → Ext h1 h2 → (r1 = r2 ∧ Q h2)) h1 (xs (Int32.toNatClampNeg (i + 1)))) h (xs (Int32.toNatClampNeg (i + 1))))
    (hk : ∀ h2, GI h2 → Q h2 → X ρ K_L 1182 [(3, .int i), (0, .ref bs), (1, .ref (mr ρ 1)), (2, .ref (mr ρ 25))] [] h2 (cs + 2000) (ss + 14000) Φ psN) : X ρ K_L 731 [(3, .int i), (0, .ref bs), (1, .ref (mr ρ 1)), (2, .ref (mr ρ 25))] [] h cs ss Φ psN := by
  refine x_aload_n 2 dL_law_731 rfl ?_
  refine x_aload_n 1 dL_law_732 rfl ?_
  refine x_iload_n 0 dL_law_733 rfl ?_
  refine x_iconst 1 dL_law_734 (by decide) ?_
  refine x_iadd dL_law_735 ?_
  refine x_scr hS dL_law_736 rfl b1 ?_
  refine x_callV (ci := 0) [.int (xs (Int32.toNatClampNeg (i + 1)))] 1 dL_law_737 (k_X0_alone G g hw) (GI.s g (t := (10, 0)) rfl (by decide)) rfl q1142 q1143 q1144 q104 q1145 (by decide) rfl rfl ⟨(Nat.le_of_ble_eq_true rfl), (Nat.le_of_ble_eq_true rfl)⟩ (Nat.le_of_ble_eq_true rfl) ⟨by show _ ≤ 1200128; show cs + 1868 ≤ 1200128; omega, by show _ ≤ 5501098; show ss + 13143 ≤ 5501098; omega⟩ (fun v9 h1 hv9 => ?_) (fun _ _ _ _ _ z _ _ => False.elim z)
  obtain ⟨r1, rfl, g1, e1, hw⟩ := hv9
  have hw := hw g1 e1
  show X ρ K_L 740 [(3, .int i), (0, .ref bs), (1, .ref (mr ρ 1)), (2, .ref (mr ρ 25))] [.int r1] h1 (cs + 1868) (ss + 13143) Φ psN
  refine x_aload_n 3 dL_law_740 rfl ?_
  refine x_aload_n 1 dL_law_741 rfl ?_
  refine x_iload_n 0 dL_law_742 rfl ?_
  refine x_iconst 1 dL_law_743 (by decide) ?_
  refine x_iadd dL_law_744 ?_
  refine x_scr hS dL_law_745 rfl b1 ?_
  refine x_callV (ci := 2) [.int (xs (Int32.toNatClampNeg (i + 1)))] 1 dL_law_746 (k_X2_alone G g1 hw) (GI.s g1 (t := (12, 0)) rfl (by decide)) rfl q1598 q1599 q1600 q106 q1601 (by decide) rfl rfl ⟨(Nat.le_of_ble_eq_true rfl), (Nat.le_of_ble_eq_true rfl)⟩ (Nat.le_of_ble_eq_true rfl) ⟨by show _ ≤ 1200128; show cs + 1868 + 0 ≤ 1200128; omega, by show _ ≤ 5501098; show ss + 13143 + 0 ≤ 5501098; omega⟩ (fun v9 h2 hv9 => ?_) (fun _ _ _ _ _ z _ _ => False.elim z)
  obtain ⟨r2, rfl, g2, e2, hw⟩ := hv9
  have hw := hw g2 e2
  show X ρ K_L 749 [(3, .int i), (0, .ref bs), (1, .ref (mr ρ 1)), (2, .ref (mr ρ 25))] [.int r2, .int r1] h2 (cs + 1868 + 0) (ss + 13143 + 0) Φ psN
  obtain ⟨hr, hw⟩ := hw
  refine x_icmp_eq 1182 dL_law_749 (by decide) (fun _ => ?_) (fun z => absurd hr z)
  exact X.widen (k := cs + 2000) (n := ss + 14000) (by omega) (by omega) (hk h2 g2 hw)
set_option maxHeartbeats 4000000 in
theorem t_L_18 {ρ : Rho} {bs L : Nat} {xs : Nat → Int32} {i : Int32} {h : Hp} {cs ss : Nat} {Q : Hp → Prop} {Φ : Option Value → Hp → Prop} (G : G0 ρ) (g : GI h) (hS : va_X bs L xs (rS ρ) (rS ρ).heap) (b1 : vp_in (i + 1) L) (b2 : vp_in (i + 2) L) (b3 : vp_in (i + 3) L) (hcs : cs + 2000 ≤ 1200128) (hss : ss + 14000 ≤ 5501098)
    (hw : wp_X0_reply (fun r1 h1 => GI h1 → Ext h h1 → wp_X2_reply (fun r2 h2 => GI h2 → Ext h1 h2 → (r1 = r2 ∧ Q h2)) h1 (xs (Int32.toNatClampNeg (i + 1))) (xs (Int32.toNatClampNeg (i + 2)))) h (xs (Int32.toNatClampNeg (i + 1))) (xs (Int32.toNatClampNeg (i + 2))))
    (hk : ∀ h2, GI h2 → Q h2 → X ρ K_L 1182 [(3, .int i), (0, .ref bs), (1, .ref (mr ρ 1)), (2, .ref (mr ρ 25))] [] h2 (cs + 2000) (ss + 14000) Φ psN) : X ρ K_L 754 [(3, .int i), (0, .ref bs), (1, .ref (mr ρ 1)), (2, .ref (mr ρ 25))] [] h cs ss Φ psN := by
  refine x_aload_n 2 dL_law_754 rfl ?_
  refine x_aload_n 1 dL_law_755 rfl ?_
  refine x_iload_n 0 dL_law_756 rfl ?_
  refine x_iconst 1 dL_law_757 (by decide) ?_
  refine x_iadd dL_law_758 ?_
  refine x_scr hS dL_law_759 rfl b1 ?_
  refine x_aload_n 1 dL_law_760 rfl ?_
  refine x_iload_n 0 dL_law_761 rfl ?_
  refine x_iconst 2 dL_law_762 (by decide) ?_
  refine x_iadd dL_law_763 ?_
  refine x_scr hS dL_law_764 rfl b2 ?_
  refine x_callV (ci := 0) [.int (xs (Int32.toNatClampNeg (i + 1))), .int (xs (Int32.toNatClampNeg (i + 2)))] 2 dL_law_765 (k_X0_reply G g hw) (GI.s g (t := (10, 0)) rfl (by decide)) rfl q1146 q1147 q1148 q104 q1149 (by decide) rfl rfl ⟨(Nat.le_of_ble_eq_true rfl), (Nat.le_of_ble_eq_true rfl)⟩ (Nat.le_of_ble_eq_true rfl) ⟨by show _ ≤ 1200128; show cs + 1868 ≤ 1200128; omega, by show _ ≤ 5501098; show ss + 13143 ≤ 5501098; omega⟩ (fun v9 h1 hv9 => ?_) (fun _ _ _ _ _ z _ _ => False.elim z)
  obtain ⟨r1, rfl, g1, e1, hw⟩ := hv9
  have hw := hw g1 e1
  show X ρ K_L 768 [(3, .int i), (0, .ref bs), (1, .ref (mr ρ 1)), (2, .ref (mr ρ 25))] [.int r1] h1 (cs + 1868) (ss + 13143) Φ psN
  refine x_aload_n 3 dL_law_768 rfl ?_
  refine x_aload_n 1 dL_law_769 rfl ?_
  refine x_iload_n 0 dL_law_770 rfl ?_
  refine x_iconst 1 dL_law_771 (by decide) ?_
  refine x_iadd dL_law_772 ?_
  refine x_scr hS dL_law_773 rfl b1 ?_
  refine x_aload_n 1 dL_law_774 rfl ?_
  refine x_iload_n 0 dL_law_775 rfl ?_
  refine x_iconst 2 dL_law_776 (by decide) ?_
  refine x_iadd dL_law_777 ?_
  refine x_scr hS dL_law_778 rfl b2 ?_
  refine x_callV (ci := 2) [.int (xs (Int32.toNatClampNeg (i + 1))), .int (xs (Int32.toNatClampNeg (i + 2)))] 2 dL_law_779 (k_X2_reply G g1 hw) (GI.s g1 (t := (12, 0)) rfl (by decide)) rfl q1602 q1603 q1604 q106 q1605 (by decide) rfl rfl ⟨(Nat.le_of_ble_eq_true rfl), (Nat.le_of_ble_eq_true rfl)⟩ (Nat.le_of_ble_eq_true rfl) ⟨by show _ ≤ 1200128; show cs + 1868 + 0 ≤ 1200128; omega, by show _ ≤ 5501098; show ss + 13143 + 0 ≤ 5501098; omega⟩ (fun v9 h2 hv9 => ?_) (fun _ _ _ _ _ z _ _ => False.elim z)
  obtain ⟨r2, rfl, g2, e2, hw⟩ := hv9
  have hw := hw g2 e2
  show X ρ K_L 782 [(3, .int i), (0, .ref bs), (1, .ref (mr ρ 1)), (2, .ref (mr ρ 25))] [.int r2, .int r1] h2 (cs + 1868 + 0) (ss + 13143 + 0) Φ psN
  obtain ⟨hr, hw⟩ := hw
  refine x_icmp_eq 1182 dL_law_782 (by decide) (fun _ => ?_) (fun z => absurd hr z)
  exact X.widen (k := cs + 2000) (n := ss + 14000) (by omega) (by omega) (hk h2 g2 hw)
set_option maxHeartbeats 4000000 in
theorem t_L_19 {ρ : Rho} {bs L : Nat} {xs : Nat → Int32} {i : Int32} {h : Hp} {cs ss : Nat} {Q : Hp → Prop} {Φ : Option Value → Hp → Prop} (G : G0 ρ) (g : GI h) (hS : va_X bs L xs (rS ρ) (rS ρ).heap) (b1 : vp_in (i + 1) L) (b2 : vp_in (i + 2) L) (b3 : vp_in (i + 3) L) (hcs : cs + 2000 ≤ 1200128) (hss : ss + 14000 ≤ 5501098)
    (hw : wp_X0_rest (fun r1 h1 => GI h1 → Ext h h1 → wp_X2_rest (fun r2 h2 => GI h2 → Ext h1 h2 → (r1 = r2 ∧ Q h2)) h1 (xs (Int32.toNatClampNeg (i + 1))) (xs (Int32.toNatClampNeg (i + 2)))) h (xs (Int32.toNatClampNeg (i + 1))) (xs (Int32.toNatClampNeg (i + 2))))
    (hk : ∀ h2, GI h2 → Q h2 → X ρ K_L 1182 [(3, .int i), (0, .ref bs), (1, .ref (mr ρ 1)), (2, .ref (mr ρ 25))] [] h2 (cs + 2000) (ss + 14000) Φ psN) : X ρ K_L 787 [(3, .int i), (0, .ref bs), (1, .ref (mr ρ 1)), (2, .ref (mr ρ 25))] [] h cs ss Φ psN := by
  refine x_aload_n 2 dL_law_787 rfl ?_
  refine x_aload_n 1 dL_law_788 rfl ?_
  refine x_iload_n 0 dL_law_789 rfl ?_
  refine x_iconst 1 dL_law_790 (by decide) ?_
  refine x_iadd dL_law_791 ?_
  refine x_scr hS dL_law_792 rfl b1 ?_
  refine x_aload_n 1 dL_law_793 rfl ?_
  refine x_iload_n 0 dL_law_794 rfl ?_
  refine x_iconst 2 dL_law_795 (by decide) ?_
  refine x_iadd dL_law_796 ?_
  refine x_scr hS dL_law_797 rfl b2 ?_
  refine x_callV (ci := 0) [.int (xs (Int32.toNatClampNeg (i + 1))), .int (xs (Int32.toNatClampNeg (i + 2)))] 2 dL_law_798 (k_X0_rest G g hw) (GI.s g (t := (10, 0)) rfl (by decide)) rfl q1150 q1151 q1152 q104 q1153 (by decide) rfl rfl ⟨(Nat.le_of_ble_eq_true rfl), (Nat.le_of_ble_eq_true rfl)⟩ (Nat.le_of_ble_eq_true rfl) ⟨by show _ ≤ 1200128; show cs + 1868 ≤ 1200128; omega, by show _ ≤ 5501098; show ss + 13143 ≤ 5501098; omega⟩ (fun v9 h1 hv9 => ?_) (fun _ _ _ _ _ z _ _ => False.elim z)
  obtain ⟨r1, rfl, g1, e1, hw⟩ := hv9
  have hw := hw g1 e1
  show X ρ K_L 801 [(3, .int i), (0, .ref bs), (1, .ref (mr ρ 1)), (2, .ref (mr ρ 25))] [.int r1] h1 (cs + 1868) (ss + 13143) Φ psN
  refine x_aload_n 3 dL_law_801 rfl ?_
  refine x_aload_n 1 dL_law_802 rfl ?_
  refine x_iload_n 0 dL_law_803 rfl ?_
  refine x_iconst 1 dL_law_804 (by decide) ?_
  refine x_iadd dL_law_805 ?_
  refine x_scr hS dL_law_806 rfl b1 ?_
  refine x_aload_n 1 dL_law_807 rfl ?_
  refine x_iload_n 0 dL_law_808 rfl ?_
  refine x_iconst 2 dL_law_809 (by decide) ?_
  refine x_iadd dL_law_810 ?_
  refine x_scr hS dL_law_811 rfl b2 ?_
  refine x_callV (ci := 2) [.int (xs (Int32.toNatClampNeg (i + 1))), .int (xs (Int32.toNatClampNeg (i + 2)))] 2 dL_law_812 (k_X2_rest G g1 hw) (GI.s g1 (t := (12, 0)) rfl (by decide)) rfl q1614 q1615 q1616 q106 q1617 (by decide) rfl rfl ⟨(Nat.le_of_ble_eq_true rfl), (Nat.le_of_ble_eq_true rfl)⟩ (Nat.le_of_ble_eq_true rfl) ⟨by show _ ≤ 1200128; show cs + 1868 + 0 ≤ 1200128; omega, by show _ ≤ 5501098; show ss + 13143 + 0 ≤ 5501098; omega⟩ (fun v9 h2 hv9 => ?_) (fun _ _ _ _ _ z _ _ => False.elim z)
  obtain ⟨r2, rfl, g2, e2, hw⟩ := hv9
  have hw := hw g2 e2
  show X ρ K_L 815 [(3, .int i), (0, .ref bs), (1, .ref (mr ρ 1)), (2, .ref (mr ρ 25))] [.int r2, .int r1] h2 (cs + 1868 + 0) (ss + 13143 + 0) Φ psN
  obtain ⟨hr, hw⟩ := hw
  refine x_icmp_eq 1182 dL_law_815 (by decide) (fun _ => ?_) (fun z => absurd hr z)
  exact X.widen (k := cs + 2000) (n := ss + 14000) (by omega) (by omega) (hk h2 g2 hw)
set_option maxHeartbeats 4000000 in
theorem t_L_20 {ρ : Rho} {bs L : Nat} {xs : Nat → Int32} {i : Int32} {h : Hp} {cs ss : Nat} {Q : Hp → Prop} {Φ : Option Value → Hp → Prop} (G : G0 ρ) (g : GI h) (hS : va_X bs L xs (rS ρ) (rS ρ).heap) (b1 : vp_in (i + 1) L) (b2 : vp_in (i + 2) L) (b3 : vp_in (i + 3) L) (hcs : cs + 2000 ≤ 1200128) (hss : ss + 14000 ≤ 5501098)
    (hw : wp_X0_law (fun r1 h1 => GI h1 → Ext h h1 → wp_X2_law (fun r2 h2 => GI h2 → Ext h1 h2 → (r1 = r2 ∧ Q h2)) h1 (xs (Int32.toNatClampNeg (i + 1)))) h (xs (Int32.toNatClampNeg (i + 1))))
    (hk : ∀ h2, GI h2 → Q h2 → X ρ K_L 1182 [(3, .int i), (0, .ref bs), (1, .ref (mr ρ 1)), (2, .ref (mr ρ 25))] [] h2 (cs + 2000) (ss + 14000) Φ psN) : X ρ K_L 820 [(3, .int i), (0, .ref bs), (1, .ref (mr ρ 1)), (2, .ref (mr ρ 25))] [] h cs ss Φ psN := by
  refine x_aload_n 2 dL_law_820 rfl ?_
  refine x_aload_n 1 dL_law_821 rfl ?_
  refine x_iload_n 0 dL_law_822 rfl ?_
  refine x_iconst 1 dL_law_823 (by decide) ?_
  refine x_iadd dL_law_824 ?_
  refine x_scr hS dL_law_825 rfl b1 ?_
  refine x_callV (ci := 0) [.int (xs (Int32.toNatClampNeg (i + 1)))] 1 dL_law_826 (k_X0_law G g hw) (GI.s g (t := (10, 0)) rfl (by decide)) rfl q1154 q1155 q1156 q104 q1157 (by decide) rfl rfl ⟨(Nat.le_of_ble_eq_true rfl), (Nat.le_of_ble_eq_true rfl)⟩ (Nat.le_of_ble_eq_true rfl) ⟨by show _ ≤ 1200128; show cs + 1868 ≤ 1200128; omega, by show _ ≤ 5501098; show ss + 13143 ≤ 5501098; omega⟩ (fun v9 h1 hv9 => ?_) (fun _ _ _ _ _ z _ _ => False.elim z)
  obtain ⟨r1, rfl, g1, e1, hw⟩ := hv9
  have hw := hw g1 e1
  show X ρ K_L 829 [(3, .int i), (0, .ref bs), (1, .ref (mr ρ 1)), (2, .ref (mr ρ 25))] [.int r1] h1 (cs + 1868) (ss + 13143) Φ psN
  refine x_aload_n 3 dL_law_829 rfl ?_
  refine x_aload_n 1 dL_law_830 rfl ?_
  refine x_iload_n 0 dL_law_831 rfl ?_
  refine x_iconst 1 dL_law_832 (by decide) ?_
  refine x_iadd dL_law_833 ?_
  refine x_scr hS dL_law_834 rfl b1 ?_
  refine x_callV (ci := 2) [.int (xs (Int32.toNatClampNeg (i + 1)))] 1 dL_law_835 (k_X2_law G g1 hw) (GI.s g1 (t := (12, 0)) rfl (by decide)) rfl q1622 q1623 q1624 q106 q1625 (by decide) rfl rfl ⟨(Nat.le_of_ble_eq_true rfl), (Nat.le_of_ble_eq_true rfl)⟩ (Nat.le_of_ble_eq_true rfl) ⟨by show _ ≤ 1200128; show cs + 1868 + 0 ≤ 1200128; omega, by show _ ≤ 5501098; show ss + 13143 + 0 ≤ 5501098; omega⟩ (fun v9 h2 hv9 => ?_) (fun _ _ _ _ _ z _ _ => False.elim z)
  obtain ⟨r2, rfl, g2, e2, hw⟩ := hv9
  have hw := hw g2 e2
  show X ρ K_L 838 [(3, .int i), (0, .ref bs), (1, .ref (mr ρ 1)), (2, .ref (mr ρ 25))] [.int r2, .int r1] h2 (cs + 1868 + 0) (ss + 13143 + 0) Φ psN
  obtain ⟨hr, hw⟩ := hw
  refine x_icmp_eq 1182 dL_law_838 (by decide) (fun _ => ?_) (fun z => absurd hr z)
  exact X.widen (k := cs + 2000) (n := ss + 14000) (by omega) (by omega) (hk h2 g2 hw)
set_option maxHeartbeats 4000000 in
theorem t_L_21 {ρ : Rho} {bs L : Nat} {xs : Nat → Int32} {i : Int32} {h : Hp} {cs ss : Nat} {Q : Hp → Prop} {Φ : Option Value → Hp → Prop} (G : G0 ρ) (g : GI h) (hS : va_X bs L xs (rS ρ) (rS ρ).heap) (b1 : vp_in (i + 1) L) (b2 : vp_in (i + 2) L) (b3 : vp_in (i + 3) L) (hcs : cs + 2000 ≤ 1200128) (hss : ss + 14000 ≤ 5501098)
    (hw : wp_X0_mostEarly (fun r1 h1 => GI h1 → Ext h h1 → wp_X2_mostEarly (fun r2 h2 => GI h2 → Ext h1 h2 → (r1 = r2 ∧ Q h2)) h1 (xs (Int32.toNatClampNeg (i + 1)))) h (xs (Int32.toNatClampNeg (i + 1))))
    (hk : ∀ h2, GI h2 → Q h2 → X ρ K_L 1182 [(3, .int i), (0, .ref bs), (1, .ref (mr ρ 1)), (2, .ref (mr ρ 25))] [] h2 (cs + 2000) (ss + 14000) Φ psN) : X ρ K_L 843 [(3, .int i), (0, .ref bs), (1, .ref (mr ρ 1)), (2, .ref (mr ρ 25))] [] h cs ss Φ psN := by
  refine x_aload_n 2 dL_law_843 rfl ?_
  refine x_aload_n 1 dL_law_844 rfl ?_
  refine x_iload_n 0 dL_law_845 rfl ?_
  refine x_iconst 1 dL_law_846 (by decide) ?_
  refine x_iadd dL_law_847 ?_
  refine x_scr hS dL_law_848 rfl b1 ?_
  refine x_callV (ci := 0) [.int (xs (Int32.toNatClampNeg (i + 1)))] 1 dL_law_849 (k_X0_mostEarly G g hw) (GI.s g (t := (10, 0)) rfl (by decide)) rfl q1158 q1159 q1160 q104 q1161 (by decide) rfl rfl ⟨(Nat.le_of_ble_eq_true rfl), (Nat.le_of_ble_eq_true rfl)⟩ (Nat.le_of_ble_eq_true rfl) ⟨by show _ ≤ 1200128; show cs + 1868 ≤ 1200128; omega, by show _ ≤ 5501098; show ss + 13143 ≤ 5501098; omega⟩ (fun v9 h1 hv9 => ?_) (fun _ _ _ _ _ z _ _ => False.elim z)
  obtain ⟨r1, rfl, g1, e1, hw⟩ := hv9
  have hw := hw g1 e1
  show X ρ K_L 852 [(3, .int i), (0, .ref bs), (1, .ref (mr ρ 1)), (2, .ref (mr ρ 25))] [.int r1] h1 (cs + 1868) (ss + 13143) Φ psN
  refine x_aload_n 3 dL_law_852 rfl ?_
  refine x_aload_n 1 dL_law_853 rfl ?_
  refine x_iload_n 0 dL_law_854 rfl ?_
  refine x_iconst 1 dL_law_855 (by decide) ?_
  refine x_iadd dL_law_856 ?_
  refine x_scr hS dL_law_857 rfl b1 ?_
  refine x_callV (ci := 2) [.int (xs (Int32.toNatClampNeg (i + 1)))] 1 dL_law_858 (k_X2_mostEarly G g1 hw) (GI.s g1 (t := (12, 0)) rfl (by decide)) rfl q1626 q1627 q1628 q106 q1629 (by decide) rfl rfl ⟨(Nat.le_of_ble_eq_true rfl), (Nat.le_of_ble_eq_true rfl)⟩ (Nat.le_of_ble_eq_true rfl) ⟨by show _ ≤ 1200128; show cs + 1868 + 0 ≤ 1200128; omega, by show _ ≤ 5501098; show ss + 13143 + 0 ≤ 5501098; omega⟩ (fun v9 h2 hv9 => ?_) (fun _ _ _ _ _ z _ _ => False.elim z)
  obtain ⟨r2, rfl, g2, e2, hw⟩ := hv9
  have hw := hw g2 e2
  show X ρ K_L 861 [(3, .int i), (0, .ref bs), (1, .ref (mr ρ 1)), (2, .ref (mr ρ 25))] [.int r2, .int r1] h2 (cs + 1868 + 0) (ss + 13143 + 0) Φ psN
  obtain ⟨hr, hw⟩ := hw
  refine x_icmp_eq 1182 dL_law_861 (by decide) (fun _ => ?_) (fun z => absurd hr z)
  exact X.widen (k := cs + 2000) (n := ss + 14000) (by omega) (by omega) (hk h2 g2 hw)
set_option maxHeartbeats 4000000 in
theorem t_L_22 {ρ : Rho} {bs L : Nat} {xs : Nat → Int32} {i : Int32} {h : Hp} {cs ss : Nat} {Q : Hp → Prop} {Φ : Option Value → Hp → Prop} (G : G0 ρ) (g : GI h) (hS : va_X bs L xs (rS ρ) (rS ρ).heap) (b1 : vp_in (i + 1) L) (b2 : vp_in (i + 2) L) (b3 : vp_in (i + 3) L) (hcs : cs + 2000 ≤ 1200128) (hss : ss + 14000 ≤ 5501098)
    (hw : wp_X0_silent (fun r1 h1 => GI h1 → Ext h h1 → wp_X2_silent (fun r2 h2 => GI h2 → Ext h1 h2 → (r1 = r2 ∧ Q h2)) h1 (xs (Int32.toNatClampNeg (i + 1))) (xs (Int32.toNatClampNeg (i + 2)))) h (xs (Int32.toNatClampNeg (i + 1))) (xs (Int32.toNatClampNeg (i + 2))))
    (hk : ∀ h2, GI h2 → Q h2 → X ρ K_L 1182 [(3, .int i), (0, .ref bs), (1, .ref (mr ρ 1)), (2, .ref (mr ρ 25))] [] h2 (cs + 2000) (ss + 14000) Φ psN) : X ρ K_L 866 [(3, .int i), (0, .ref bs), (1, .ref (mr ρ 1)), (2, .ref (mr ρ 25))] [] h cs ss Φ psN := by
  refine x_aload_n 2 dL_law_866 rfl ?_
  refine x_aload_n 1 dL_law_867 rfl ?_
  refine x_iload_n 0 dL_law_868 rfl ?_
  refine x_iconst 1 dL_law_869 (by decide) ?_
  refine x_iadd dL_law_870 ?_
  refine x_scr hS dL_law_871 rfl b1 ?_
  refine x_aload_n 1 dL_law_872 rfl ?_
  refine x_iload_n 0 dL_law_873 rfl ?_
  refine x_iconst 2 dL_law_874 (by decide) ?_
  refine x_iadd dL_law_875 ?_
  refine x_scr hS dL_law_876 rfl b2 ?_
  refine x_callV (ci := 0) [.int (xs (Int32.toNatClampNeg (i + 1))), .int (xs (Int32.toNatClampNeg (i + 2)))] 2 dL_law_877 (k_X0_silent G g hw) (GI.s g (t := (10, 0)) rfl (by decide)) rfl q1162 q1163 q1164 q104 q1165 (by decide) rfl rfl ⟨(Nat.le_of_ble_eq_true rfl), (Nat.le_of_ble_eq_true rfl)⟩ (Nat.le_of_ble_eq_true rfl) ⟨by show _ ≤ 1200128; show cs + 1868 ≤ 1200128; omega, by show _ ≤ 5501098; show ss + 13143 ≤ 5501098; omega⟩ (fun v9 h1 hv9 => ?_) (fun _ _ _ _ _ z _ _ => False.elim z)
  obtain ⟨r1, rfl, g1, e1, hw⟩ := hv9
  have hw := hw g1 e1
  show X ρ K_L 880 [(3, .int i), (0, .ref bs), (1, .ref (mr ρ 1)), (2, .ref (mr ρ 25))] [.int r1] h1 (cs + 1868) (ss + 13143) Φ psN
  refine x_aload_n 3 dL_law_880 rfl ?_
  refine x_aload_n 1 dL_law_881 rfl ?_
  refine x_iload_n 0 dL_law_882 rfl ?_
  refine x_iconst 1 dL_law_883 (by decide) ?_
  refine x_iadd dL_law_884 ?_
  refine x_scr hS dL_law_885 rfl b1 ?_
  refine x_aload_n 1 dL_law_886 rfl ?_
  refine x_iload_n 0 dL_law_887 rfl ?_
  refine x_iconst 2 dL_law_888 (by decide) ?_
  refine x_iadd dL_law_889 ?_
  refine x_scr hS dL_law_890 rfl b2 ?_
  refine x_callV (ci := 2) [.int (xs (Int32.toNatClampNeg (i + 1))), .int (xs (Int32.toNatClampNeg (i + 2)))] 2 dL_law_891 (k_X2_silent G g1 hw) (GI.s g1 (t := (12, 0)) rfl (by decide)) rfl q1631 q1632 q1633 q106 q1634 (by decide) rfl rfl ⟨(Nat.le_of_ble_eq_true rfl), (Nat.le_of_ble_eq_true rfl)⟩ (Nat.le_of_ble_eq_true rfl) ⟨by show _ ≤ 1200128; show cs + 1868 + 0 ≤ 1200128; omega, by show _ ≤ 5501098; show ss + 13143 + 0 ≤ 5501098; omega⟩ (fun v9 h2 hv9 => ?_) (fun _ _ _ _ _ z _ _ => False.elim z)
  obtain ⟨r2, rfl, g2, e2, hw⟩ := hv9
  have hw := hw g2 e2
  show X ρ K_L 894 [(3, .int i), (0, .ref bs), (1, .ref (mr ρ 1)), (2, .ref (mr ρ 25))] [.int r2, .int r1] h2 (cs + 1868 + 0) (ss + 13143 + 0) Φ psN
  obtain ⟨hr, hw⟩ := hw
  refine x_icmp_eq 1182 dL_law_894 (by decide) (fun _ => ?_) (fun z => absurd hr z)
  exact X.widen (k := cs + 2000) (n := ss + 14000) (by omega) (by omega) (hk h2 g2 hw)
set_option maxHeartbeats 4000000 in
theorem t_L_23 {ρ : Rho} {bs L : Nat} {xs : Nat → Int32} {i : Int32} {h : Hp} {cs ss : Nat} {Q : Hp → Prop} {Φ : Option Value → Hp → Prop} (G : G0 ρ) (g : GI h) (hS : va_X bs L xs (rS ρ) (rS ρ).heap) (b1 : vp_in (i + 1) L) (b2 : vp_in (i + 2) L) (b3 : vp_in (i + 3) L) (hcs : cs + 2000 ≤ 1200128) (hss : ss + 14000 ≤ 5501098)
    (hw : wp_X0_partners (fun r1 h1 => GI h1 → Ext h h1 → wp_X2_partners (fun r2 h2 => GI h2 → Ext h1 h2 → (r1 = r2 ∧ Q h2)) h1 (xs (Int32.toNatClampNeg (i + 1))) (xs (Int32.toNatClampNeg (i + 2))) (xs (Int32.toNatClampNeg (i + 3)))) h (xs (Int32.toNatClampNeg (i + 1))) (xs (Int32.toNatClampNeg (i + 2))) (xs (Int32.toNatClampNeg (i + 3))))
    (hk : ∀ h2, GI h2 → Q h2 → X ρ K_L 1182 [(3, .int i), (0, .ref bs), (1, .ref (mr ρ 1)), (2, .ref (mr ρ 25))] [] h2 (cs + 2000) (ss + 14000) Φ psN) : X ρ K_L 899 [(3, .int i), (0, .ref bs), (1, .ref (mr ρ 1)), (2, .ref (mr ρ 25))] [] h cs ss Φ psN := by
  refine x_aload_n 2 dL_law_899 rfl ?_
  refine x_aload_n 1 dL_law_900 rfl ?_
  refine x_iload_n 0 dL_law_901 rfl ?_
  refine x_iconst 1 dL_law_902 (by decide) ?_
  refine x_iadd dL_law_903 ?_
  refine x_scr hS dL_law_904 rfl b1 ?_
  refine x_aload_n 1 dL_law_905 rfl ?_
  refine x_iload_n 0 dL_law_906 rfl ?_
  refine x_iconst 2 dL_law_907 (by decide) ?_
  refine x_iadd dL_law_908 ?_
  refine x_scr hS dL_law_909 rfl b2 ?_
  refine x_aload_n 1 dL_law_910 rfl ?_
  refine x_iload_n 0 dL_law_911 rfl ?_
  refine x_iconst 3 dL_law_912 (by decide) ?_
  refine x_iadd dL_law_913 ?_
  refine x_scr hS dL_law_914 rfl b3 ?_
  refine x_callV (ci := 0) [.int (xs (Int32.toNatClampNeg (i + 1))), .int (xs (Int32.toNatClampNeg (i + 2))), .int (xs (Int32.toNatClampNeg (i + 3)))] 3 dL_law_915 (k_X0_partners G g hw) (GI.s g (t := (10, 0)) rfl (by decide)) rfl q1166 q1167 q1168 q104 q1169 (by decide) rfl rfl ⟨(Nat.le_of_ble_eq_true rfl), (Nat.le_of_ble_eq_true rfl)⟩ (Nat.le_of_ble_eq_true rfl) ⟨by show _ ≤ 1200128; show cs + 1868 ≤ 1200128; omega, by show _ ≤ 5501098; show ss + 13143 ≤ 5501098; omega⟩ (fun v9 h1 hv9 => ?_) (fun _ _ _ _ _ z _ _ => False.elim z)
  obtain ⟨r1, rfl, g1, e1, hw⟩ := hv9
  have hw := hw g1 e1
  show X ρ K_L 918 [(3, .int i), (0, .ref bs), (1, .ref (mr ρ 1)), (2, .ref (mr ρ 25))] [.int r1] h1 (cs + 1868) (ss + 13143) Φ psN
  refine x_aload_n 3 dL_law_918 rfl ?_
  refine x_aload_n 1 dL_law_919 rfl ?_
  refine x_iload_n 0 dL_law_920 rfl ?_
  refine x_iconst 1 dL_law_921 (by decide) ?_
  refine x_iadd dL_law_922 ?_
  refine x_scr hS dL_law_923 rfl b1 ?_
  refine x_aload_n 1 dL_law_924 rfl ?_
  refine x_iload_n 0 dL_law_925 rfl ?_
  refine x_iconst 2 dL_law_926 (by decide) ?_
  refine x_iadd dL_law_927 ?_
  refine x_scr hS dL_law_928 rfl b2 ?_
  refine x_aload_n 1 dL_law_929 rfl ?_
  refine x_iload_n 0 dL_law_930 rfl ?_
  refine x_iconst 3 dL_law_931 (by decide) ?_
  refine x_iadd dL_law_932 ?_
  refine x_scr hS dL_law_933 rfl b3 ?_
  refine x_callV (ci := 2) [.int (xs (Int32.toNatClampNeg (i + 1))), .int (xs (Int32.toNatClampNeg (i + 2))), .int (xs (Int32.toNatClampNeg (i + 3)))] 3 dL_law_934 (k_X2_partners G g1 hw) (GI.s g1 (t := (12, 0)) rfl (by decide)) rfl q1635 q1636 q1637 q106 q1638 (by decide) rfl rfl ⟨(Nat.le_of_ble_eq_true rfl), (Nat.le_of_ble_eq_true rfl)⟩ (Nat.le_of_ble_eq_true rfl) ⟨by show _ ≤ 1200128; show cs + 1868 + 0 ≤ 1200128; omega, by show _ ≤ 5501098; show ss + 13143 + 0 ≤ 5501098; omega⟩ (fun v9 h2 hv9 => ?_) (fun _ _ _ _ _ z _ _ => False.elim z)
  obtain ⟨r2, rfl, g2, e2, hw⟩ := hv9
  have hw := hw g2 e2
  show X ρ K_L 937 [(3, .int i), (0, .ref bs), (1, .ref (mr ρ 1)), (2, .ref (mr ρ 25))] [.int r2, .int r1] h2 (cs + 1868 + 0) (ss + 13143 + 0) Φ psN
  obtain ⟨hr, hw⟩ := hw
  refine x_icmp_eq 1182 dL_law_937 (by decide) (fun _ => ?_) (fun z => absurd hr z)
  exact X.widen (k := cs + 2000) (n := ss + 14000) (by omega) (by omega) (hk h2 g2 hw)
set_option maxHeartbeats 4000000 in
theorem t_L_24 {ρ : Rho} {bs L : Nat} {xs : Nat → Int32} {i : Int32} {h : Hp} {cs ss : Nat} {Q : Hp → Prop} {Φ : Option Value → Hp → Prop} (G : G0 ρ) (g : GI h) (hS : va_X bs L xs (rS ρ) (rS ρ).heap) (b1 : vp_in (i + 1) L) (b2 : vp_in (i + 2) L) (b3 : vp_in (i + 3) L) (hcs : cs + 2000 ≤ 1200128) (hss : ss + 14000 ≤ 5501098)
    (hw : wp_X0_fact (fun r1 h1 => GI h1 → Ext h h1 → wp_X2_fact (fun r2 h2 => GI h2 → Ext h1 h2 → (r1 = r2 ∧ Q h2)) h1 (xs (Int32.toNatClampNeg (i + 1)))) h (xs (Int32.toNatClampNeg (i + 1))))
    (hk : ∀ h2, GI h2 → Q h2 → X ρ K_L 1182 [(3, .int i), (0, .ref bs), (1, .ref (mr ρ 1)), (2, .ref (mr ρ 25))] [] h2 (cs + 2000) (ss + 14000) Φ psN) : X ρ K_L 942 [(3, .int i), (0, .ref bs), (1, .ref (mr ρ 1)), (2, .ref (mr ρ 25))] [] h cs ss Φ psN := by
  refine x_aload_n 2 dL_law_942 rfl ?_
  refine x_aload_n 1 dL_law_943 rfl ?_
  refine x_iload_n 0 dL_law_944 rfl ?_
  refine x_iconst 1 dL_law_945 (by decide) ?_
  refine x_iadd dL_law_946 ?_
  refine x_scr hS dL_law_947 rfl b1 ?_
  refine x_callV (ci := 0) [.int (xs (Int32.toNatClampNeg (i + 1)))] 1 dL_law_948 (k_X0_fact G g hw) (GI.s g (t := (10, 0)) rfl (by decide)) rfl q1170 q1171 q1172 q104 q1173 (by decide) rfl rfl ⟨(Nat.le_of_ble_eq_true rfl), (Nat.le_of_ble_eq_true rfl)⟩ (Nat.le_of_ble_eq_true rfl) ⟨by show _ ≤ 1200128; show cs + 1868 ≤ 1200128; omega, by show _ ≤ 5501098; show ss + 13143 ≤ 5501098; omega⟩ (fun v9 h1 hv9 => ?_) (fun _ _ _ _ _ z _ _ => False.elim z)
  obtain ⟨r1, rfl, g1, e1, hw⟩ := hv9
  have hw := hw g1 e1
  show X ρ K_L 951 [(3, .int i), (0, .ref bs), (1, .ref (mr ρ 1)), (2, .ref (mr ρ 25))] [.int r1] h1 (cs + 1868) (ss + 13143) Φ psN
  refine x_aload_n 3 dL_law_951 rfl ?_
  refine x_aload_n 1 dL_law_952 rfl ?_
  refine x_iload_n 0 dL_law_953 rfl ?_
  refine x_iconst 1 dL_law_954 (by decide) ?_
  refine x_iadd dL_law_955 ?_
  refine x_scr hS dL_law_956 rfl b1 ?_
  refine x_callV (ci := 2) [.int (xs (Int32.toNatClampNeg (i + 1)))] 1 dL_law_957 (k_X2_fact G g1 hw) (GI.s g1 (t := (12, 0)) rfl (by decide)) rfl q1639 q1640 q1641 q106 q1642 (by decide) rfl rfl ⟨(Nat.le_of_ble_eq_true rfl), (Nat.le_of_ble_eq_true rfl)⟩ (Nat.le_of_ble_eq_true rfl) ⟨by show _ ≤ 1200128; show cs + 1868 + 0 ≤ 1200128; omega, by show _ ≤ 5501098; show ss + 13143 + 0 ≤ 5501098; omega⟩ (fun v9 h2 hv9 => ?_) (fun _ _ _ _ _ z _ _ => False.elim z)
  obtain ⟨r2, rfl, g2, e2, hw⟩ := hv9
  have hw := hw g2 e2
  show X ρ K_L 960 [(3, .int i), (0, .ref bs), (1, .ref (mr ρ 1)), (2, .ref (mr ρ 25))] [.int r2, .int r1] h2 (cs + 1868 + 0) (ss + 13143 + 0) Φ psN
  obtain ⟨hr, hw⟩ := hw
  refine x_icmp_eq 1182 dL_law_960 (by decide) (fun _ => ?_) (fun z => absurd hr z)
  exact X.widen (k := cs + 2000) (n := ss + 14000) (by omega) (by omega) (hk h2 g2 hw)
set_option maxHeartbeats 4000000 in
theorem t_L_25 {ρ : Rho} {bs L : Nat} {xs : Nat → Int32} {i : Int32} {h : Hp} {cs ss : Nat} {Q : Hp → Prop} {Φ : Option Value → Hp → Prop} (G : G0 ρ) (g : GI h) (hS : va_X bs L xs (rS ρ) (rS ρ).heap) (b1 : vp_in (i + 1) L) (b2 : vp_in (i + 2) L) (b3 : vp_in (i + 3) L) (hcs : cs + 2000 ≤ 1200128) (hss : ss + 14000 ≤ 5501098)
    (hw : wp_X0_had (fun r1 h1 => GI h1 → Ext h h1 → wp_X2_had (fun r2 h2 => GI h2 → Ext h1 h2 → (r1 = r2 ∧ Q h2)) h1 (xs (Int32.toNatClampNeg (i + 1))) (xs (Int32.toNatClampNeg (i + 2)))) h (xs (Int32.toNatClampNeg (i + 1))) (xs (Int32.toNatClampNeg (i + 2))))
    (hk : ∀ h2, GI h2 → Q h2 → X ρ K_L 1182 [(3, .int i), (0, .ref bs), (1, .ref (mr ρ 1)), (2, .ref (mr ρ 25))] [] h2 (cs + 2000) (ss + 14000) Φ psN) : X ρ K_L 965 [(3, .int i), (0, .ref bs), (1, .ref (mr ρ 1)), (2, .ref (mr ρ 25))] [] h cs ss Φ psN := by
  refine x_aload_n 2 dL_law_965 rfl ?_
  refine x_aload_n 1 dL_law_966 rfl ?_
  refine x_iload_n 0 dL_law_967 rfl ?_
  refine x_iconst 1 dL_law_968 (by decide) ?_
  refine x_iadd dL_law_969 ?_
  refine x_scr hS dL_law_970 rfl b1 ?_
  refine x_aload_n 1 dL_law_971 rfl ?_
  refine x_iload_n 0 dL_law_972 rfl ?_
  refine x_iconst 2 dL_law_973 (by decide) ?_
  refine x_iadd dL_law_974 ?_
  refine x_scr hS dL_law_975 rfl b2 ?_
  refine x_callV (ci := 0) [.int (xs (Int32.toNatClampNeg (i + 1))), .int (xs (Int32.toNatClampNeg (i + 2)))] 2 dL_law_976 (k_X0_had G g hw) (GI.s g (t := (10, 0)) rfl (by decide)) rfl q1174 q1175 q1176 q104 q1177 (by decide) rfl rfl ⟨(Nat.le_of_ble_eq_true rfl), (Nat.le_of_ble_eq_true rfl)⟩ (Nat.le_of_ble_eq_true rfl) ⟨by show _ ≤ 1200128; show cs + 1868 ≤ 1200128; omega, by show _ ≤ 5501098; show ss + 13143 ≤ 5501098; omega⟩ (fun v9 h1 hv9 => ?_) (fun _ _ _ _ _ z _ _ => False.elim z)
  obtain ⟨r1, rfl, g1, e1, hw⟩ := hv9
  have hw := hw g1 e1
  show X ρ K_L 979 [(3, .int i), (0, .ref bs), (1, .ref (mr ρ 1)), (2, .ref (mr ρ 25))] [.int r1] h1 (cs + 1868) (ss + 13143) Φ psN
  refine x_aload_n 3 dL_law_979 rfl ?_
  refine x_aload_n 1 dL_law_980 rfl ?_
  refine x_iload_n 0 dL_law_981 rfl ?_
  refine x_iconst 1 dL_law_982 (by decide) ?_
  refine x_iadd dL_law_983 ?_
  refine x_scr hS dL_law_984 rfl b1 ?_
  refine x_aload_n 1 dL_law_985 rfl ?_
  refine x_iload_n 0 dL_law_986 rfl ?_
  refine x_iconst 2 dL_law_987 (by decide) ?_
  refine x_iadd dL_law_988 ?_
  refine x_scr hS dL_law_989 rfl b2 ?_
  refine x_callV (ci := 2) [.int (xs (Int32.toNatClampNeg (i + 1))), .int (xs (Int32.toNatClampNeg (i + 2)))] 2 dL_law_990 (k_X2_had G g1 hw) (GI.s g1 (t := (12, 0)) rfl (by decide)) rfl q1643 q1644 q1645 q106 q1646 (by decide) rfl rfl ⟨(Nat.le_of_ble_eq_true rfl), (Nat.le_of_ble_eq_true rfl)⟩ (Nat.le_of_ble_eq_true rfl) ⟨by show _ ≤ 1200128; show cs + 1868 + 0 ≤ 1200128; omega, by show _ ≤ 5501098; show ss + 13143 + 0 ≤ 5501098; omega⟩ (fun v9 h2 hv9 => ?_) (fun _ _ _ _ _ z _ _ => False.elim z)
  obtain ⟨r2, rfl, g2, e2, hw⟩ := hv9
  have hw := hw g2 e2
  show X ρ K_L 993 [(3, .int i), (0, .ref bs), (1, .ref (mr ρ 1)), (2, .ref (mr ρ 25))] [.int r2, .int r1] h2 (cs + 1868 + 0) (ss + 13143 + 0) Φ psN
  obtain ⟨hr, hw⟩ := hw
  refine x_icmp_eq 1182 dL_law_993 (by decide) (fun _ => ?_) (fun z => absurd hr z)
  exact X.widen (k := cs + 2000) (n := ss + 14000) (by omega) (by omega) (hk h2 g2 hw)
set_option maxHeartbeats 4000000 in
theorem t_L_26 {ρ : Rho} {bs L : Nat} {xs : Nat → Int32} {i : Int32} {h : Hp} {cs ss : Nat} {Q : Hp → Prop} {Φ : Option Value → Hp → Prop} (G : G0 ρ) (g : GI h) (hS : va_X bs L xs (rS ρ) (rS ρ).heap) (b1 : vp_in (i + 1) L) (b2 : vp_in (i + 2) L) (b3 : vp_in (i + 3) L) (hcs : cs + 2000 ≤ 1200128) (hss : ss + 14000 ≤ 5501098)
    (hw : wp_X0_late (fun r1 h1 => GI h1 → Ext h h1 → wp_X2_late (fun r2 h2 => GI h2 → Ext h1 h2 → (r1 = r2 ∧ Q h2)) h1 (xs (Int32.toNatClampNeg (i + 1)))) h (xs (Int32.toNatClampNeg (i + 1))))
    (hk : ∀ h2, GI h2 → Q h2 → X ρ K_L 1182 [(3, .int i), (0, .ref bs), (1, .ref (mr ρ 1)), (2, .ref (mr ρ 25))] [] h2 (cs + 2000) (ss + 14000) Φ psN) : X ρ K_L 998 [(3, .int i), (0, .ref bs), (1, .ref (mr ρ 1)), (2, .ref (mr ρ 25))] [] h cs ss Φ psN := by
  refine x_aload_n 2 dL_law_998 rfl ?_
  refine x_aload_n 1 dL_law_999 rfl ?_
  refine x_iload_n 0 dL_law_1000 rfl ?_
  refine x_iconst 1 dL_law_1001 (by decide) ?_
  refine x_iadd dL_law_1002 ?_
  refine x_scr hS dL_law_1003 rfl b1 ?_
  refine x_callV (ci := 0) [.int (xs (Int32.toNatClampNeg (i + 1)))] 1 dL_law_1004 (k_X0_late G g hw) (GI.s g (t := (10, 0)) rfl (by decide)) rfl q1178 q1179 q1180 q104 q1181 (by decide) rfl rfl ⟨(Nat.le_of_ble_eq_true rfl), (Nat.le_of_ble_eq_true rfl)⟩ (Nat.le_of_ble_eq_true rfl) ⟨by show _ ≤ 1200128; show cs + 1868 ≤ 1200128; omega, by show _ ≤ 5501098; show ss + 13143 ≤ 5501098; omega⟩ (fun v9 h1 hv9 => ?_) (fun _ _ _ _ _ z _ _ => False.elim z)
  obtain ⟨r1, rfl, g1, e1, hw⟩ := hv9
  have hw := hw g1 e1
  show X ρ K_L 1007 [(3, .int i), (0, .ref bs), (1, .ref (mr ρ 1)), (2, .ref (mr ρ 25))] [.int r1] h1 (cs + 1868) (ss + 13143) Φ psN
  refine x_aload_n 3 dL_law_1007 rfl ?_
  refine x_aload_n 1 dL_law_1008 rfl ?_
  refine x_iload_n 0 dL_law_1009 rfl ?_
  refine x_iconst 1 dL_law_1010 (by decide) ?_
  refine x_iadd dL_law_1011 ?_
  refine x_scr hS dL_law_1012 rfl b1 ?_
  refine x_callV (ci := 2) [.int (xs (Int32.toNatClampNeg (i + 1)))] 1 dL_law_1013 (k_X2_late G g1 hw) (GI.s g1 (t := (12, 0)) rfl (by decide)) rfl q1654 q1655 q1656 q106 q1657 (by decide) rfl rfl ⟨(Nat.le_of_ble_eq_true rfl), (Nat.le_of_ble_eq_true rfl)⟩ (Nat.le_of_ble_eq_true rfl) ⟨by show _ ≤ 1200128; show cs + 1868 + 0 ≤ 1200128; omega, by show _ ≤ 5501098; show ss + 13143 + 0 ≤ 5501098; omega⟩ (fun v9 h2 hv9 => ?_) (fun _ _ _ _ _ z _ _ => False.elim z)
  obtain ⟨r2, rfl, g2, e2, hw⟩ := hv9
  have hw := hw g2 e2
  show X ρ K_L 1016 [(3, .int i), (0, .ref bs), (1, .ref (mr ρ 1)), (2, .ref (mr ρ 25))] [.int r2, .int r1] h2 (cs + 1868 + 0) (ss + 13143 + 0) Φ psN
  obtain ⟨hr, hw⟩ := hw
  refine x_icmp_eq 1182 dL_law_1016 (by decide) (fun _ => ?_) (fun z => absurd hr z)
  exact X.widen (k := cs + 2000) (n := ss + 14000) (by omega) (by omega) (hk h2 g2 hw)
set_option maxHeartbeats 4000000 in
theorem t_L_27 {ρ : Rho} {bs L : Nat} {xs : Nat → Int32} {i : Int32} {h : Hp} {cs ss : Nat} {Q : Hp → Prop} {Φ : Option Value → Hp → Prop} (G : G0 ρ) (g : GI h) (hS : va_X bs L xs (rS ρ) (rS ρ).heap) (b1 : vp_in (i + 1) L) (b2 : vp_in (i + 2) L) (b3 : vp_in (i + 3) L) (hcs : cs + 2000 ≤ 1200128) (hss : ss + 14000 ≤ 5501098)
    (hw : wp_X0_soon (fun r1 h1 => GI h1 → Ext h h1 → wp_X2_soon (fun r2 h2 => GI h2 → Ext h1 h2 → (r1 = r2 ∧ Q h2)) h1 (xs (Int32.toNatClampNeg (i + 1)))) h (xs (Int32.toNatClampNeg (i + 1))))
    (hk : ∀ h2, GI h2 → Q h2 → X ρ K_L 1182 [(3, .int i), (0, .ref bs), (1, .ref (mr ρ 1)), (2, .ref (mr ρ 25))] [] h2 (cs + 2000) (ss + 14000) Φ psN) : X ρ K_L 1021 [(3, .int i), (0, .ref bs), (1, .ref (mr ρ 1)), (2, .ref (mr ρ 25))] [] h cs ss Φ psN := by
  refine x_aload_n 2 dL_law_1021 rfl ?_
  refine x_aload_n 1 dL_law_1022 rfl ?_
  refine x_iload_n 0 dL_law_1023 rfl ?_
  refine x_iconst 1 dL_law_1024 (by decide) ?_
  refine x_iadd dL_law_1025 ?_
  refine x_scr hS dL_law_1026 rfl b1 ?_
  refine x_callV (ci := 0) [.int (xs (Int32.toNatClampNeg (i + 1)))] 1 dL_law_1027 (k_X0_soon G g hw) (GI.s g (t := (10, 0)) rfl (by decide)) rfl q1182 q1183 q1184 q104 q1185 (by decide) rfl rfl ⟨(Nat.le_of_ble_eq_true rfl), (Nat.le_of_ble_eq_true rfl)⟩ (Nat.le_of_ble_eq_true rfl) ⟨by show _ ≤ 1200128; show cs + 1868 ≤ 1200128; omega, by show _ ≤ 5501098; show ss + 13143 ≤ 5501098; omega⟩ (fun v9 h1 hv9 => ?_) (fun _ _ _ _ _ z _ _ => False.elim z)
  obtain ⟨r1, rfl, g1, e1, hw⟩ := hv9
  have hw := hw g1 e1
  show X ρ K_L 1030 [(3, .int i), (0, .ref bs), (1, .ref (mr ρ 1)), (2, .ref (mr ρ 25))] [.int r1] h1 (cs + 1868) (ss + 13143) Φ psN
  refine x_aload_n 3 dL_law_1030 rfl ?_
  refine x_aload_n 1 dL_law_1031 rfl ?_
  refine x_iload_n 0 dL_law_1032 rfl ?_
  refine x_iconst 1 dL_law_1033 (by decide) ?_
  refine x_iadd dL_law_1034 ?_
  refine x_scr hS dL_law_1035 rfl b1 ?_
  refine x_callV (ci := 2) [.int (xs (Int32.toNatClampNeg (i + 1)))] 1 dL_law_1036 (k_X2_soon G g1 hw) (GI.s g1 (t := (12, 0)) rfl (by decide)) rfl q1666 q1667 q1668 q106 q1669 (by decide) rfl rfl ⟨(Nat.le_of_ble_eq_true rfl), (Nat.le_of_ble_eq_true rfl)⟩ (Nat.le_of_ble_eq_true rfl) ⟨by show _ ≤ 1200128; show cs + 1868 + 0 ≤ 1200128; omega, by show _ ≤ 5501098; show ss + 13143 + 0 ≤ 5501098; omega⟩ (fun v9 h2 hv9 => ?_) (fun _ _ _ _ _ z _ _ => False.elim z)
  obtain ⟨r2, rfl, g2, e2, hw⟩ := hv9
  have hw := hw g2 e2
  show X ρ K_L 1039 [(3, .int i), (0, .ref bs), (1, .ref (mr ρ 1)), (2, .ref (mr ρ 25))] [.int r2, .int r1] h2 (cs + 1868 + 0) (ss + 13143 + 0) Φ psN
  obtain ⟨hr, hw⟩ := hw
  refine x_icmp_eq 1182 dL_law_1039 (by decide) (fun _ => ?_) (fun z => absurd hr z)
  exact X.widen (k := cs + 2000) (n := ss + 14000) (by omega) (by omega) (hk h2 g2 hw)
set_option maxHeartbeats 4000000 in
theorem t_L_28 {ρ : Rho} {bs L : Nat} {xs : Nat → Int32} {i : Int32} {h : Hp} {cs ss : Nat} {Q : Hp → Prop} {Φ : Option Value → Hp → Prop} (G : G0 ρ) (g : GI h) (hS : va_X bs L xs (rS ρ) (rS ρ).heap) (b1 : vp_in (i + 1) L) (b2 : vp_in (i + 2) L) (b3 : vp_in (i + 3) L) (hcs : cs + 2000 ≤ 1200128) (hss : ss + 14000 ≤ 5501098)
    (hw : wp_X0_evening (fun r1 h1 => GI h1 → Ext h h1 → wp_X2_evening (fun r2 h2 => GI h2 → Ext h1 h2 → (r1 = r2 ∧ Q h2)) h1 (xs (Int32.toNatClampNeg (i + 1))) (xs (Int32.toNatClampNeg (i + 2))) (xs (Int32.toNatClampNeg (i + 3)))) h (xs (Int32.toNatClampNeg (i + 1))) (xs (Int32.toNatClampNeg (i + 2))) (xs (Int32.toNatClampNeg (i + 3))))
    (hk : ∀ h2, GI h2 → Q h2 → X ρ K_L 1182 [(3, .int i), (0, .ref bs), (1, .ref (mr ρ 1)), (2, .ref (mr ρ 25))] [] h2 (cs + 2000) (ss + 14000) Φ psN) : X ρ K_L 1044 [(3, .int i), (0, .ref bs), (1, .ref (mr ρ 1)), (2, .ref (mr ρ 25))] [] h cs ss Φ psN := by
  refine x_aload_n 2 dL_law_1044 rfl ?_
  refine x_aload_n 1 dL_law_1045 rfl ?_
  refine x_iload_n 0 dL_law_1046 rfl ?_
  refine x_iconst 1 dL_law_1047 (by decide) ?_
  refine x_iadd dL_law_1048 ?_
  refine x_scr hS dL_law_1049 rfl b1 ?_
  refine x_aload_n 1 dL_law_1050 rfl ?_
  refine x_iload_n 0 dL_law_1051 rfl ?_
  refine x_iconst 2 dL_law_1052 (by decide) ?_
  refine x_iadd dL_law_1053 ?_
  refine x_scr hS dL_law_1054 rfl b2 ?_
  refine x_aload_n 1 dL_law_1055 rfl ?_
  refine x_iload_n 0 dL_law_1056 rfl ?_
  refine x_iconst 3 dL_law_1057 (by decide) ?_
  refine x_iadd dL_law_1058 ?_
  refine x_scr hS dL_law_1059 rfl b3 ?_
  refine x_callV (ci := 0) [.int (xs (Int32.toNatClampNeg (i + 1))), .int (xs (Int32.toNatClampNeg (i + 2))), .int (xs (Int32.toNatClampNeg (i + 3)))] 3 dL_law_1060 (k_X0_evening G g hw) (GI.s g (t := (10, 0)) rfl (by decide)) rfl q1186 q1187 q1188 q104 q1189 (by decide) rfl rfl ⟨(Nat.le_of_ble_eq_true rfl), (Nat.le_of_ble_eq_true rfl)⟩ (Nat.le_of_ble_eq_true rfl) ⟨by show _ ≤ 1200128; show cs + 1868 ≤ 1200128; omega, by show _ ≤ 5501098; show ss + 13143 ≤ 5501098; omega⟩ (fun v9 h1 hv9 => ?_) (fun _ _ _ _ _ z _ _ => False.elim z)
  obtain ⟨r1, rfl, g1, e1, hw⟩ := hv9
  have hw := hw g1 e1
  show X ρ K_L 1063 [(3, .int i), (0, .ref bs), (1, .ref (mr ρ 1)), (2, .ref (mr ρ 25))] [.int r1] h1 (cs + 1868) (ss + 13143) Φ psN
  refine x_aload_n 3 dL_law_1063 rfl ?_
  refine x_aload_n 1 dL_law_1064 rfl ?_
  refine x_iload_n 0 dL_law_1065 rfl ?_
  refine x_iconst 1 dL_law_1066 (by decide) ?_
  refine x_iadd dL_law_1067 ?_
  refine x_scr hS dL_law_1068 rfl b1 ?_
  refine x_aload_n 1 dL_law_1069 rfl ?_
  refine x_iload_n 0 dL_law_1070 rfl ?_
  refine x_iconst 2 dL_law_1071 (by decide) ?_
  refine x_iadd dL_law_1072 ?_
  refine x_scr hS dL_law_1073 rfl b2 ?_
  refine x_aload_n 1 dL_law_1074 rfl ?_
  refine x_iload_n 0 dL_law_1075 rfl ?_
  refine x_iconst 3 dL_law_1076 (by decide) ?_
  refine x_iadd dL_law_1077 ?_
  refine x_scr hS dL_law_1078 rfl b3 ?_
  refine x_callV (ci := 2) [.int (xs (Int32.toNatClampNeg (i + 1))), .int (xs (Int32.toNatClampNeg (i + 2))), .int (xs (Int32.toNatClampNeg (i + 3)))] 3 dL_law_1079 (k_X2_evening G g1 hw) (GI.s g1 (t := (12, 0)) rfl (by decide)) rfl q1670 q1671 q1672 q106 q1673 (by decide) rfl rfl ⟨(Nat.le_of_ble_eq_true rfl), (Nat.le_of_ble_eq_true rfl)⟩ (Nat.le_of_ble_eq_true rfl) ⟨by show _ ≤ 1200128; show cs + 1868 + 0 ≤ 1200128; omega, by show _ ≤ 5501098; show ss + 13143 + 0 ≤ 5501098; omega⟩ (fun v9 h2 hv9 => ?_) (fun _ _ _ _ _ z _ _ => False.elim z)
  obtain ⟨r2, rfl, g2, e2, hw⟩ := hv9
  have hw := hw g2 e2
  show X ρ K_L 1082 [(3, .int i), (0, .ref bs), (1, .ref (mr ρ 1)), (2, .ref (mr ρ 25))] [.int r2, .int r1] h2 (cs + 1868 + 0) (ss + 13143 + 0) Φ psN
  obtain ⟨hr, hw⟩ := hw
  refine x_icmp_eq 1182 dL_law_1082 (by decide) (fun _ => ?_) (fun z => absurd hr z)
  exact X.widen (k := cs + 2000) (n := ss + 14000) (by omega) (by omega) (hk h2 g2 hw)
set_option maxHeartbeats 4000000 in
theorem t_L_29 {ρ : Rho} {bs L : Nat} {xs : Nat → Int32} {i : Int32} {h : Hp} {cs ss : Nat} {Q : Hp → Prop} {Φ : Option Value → Hp → Prop} (G : G0 ρ) (g : GI h) (hS : va_X bs L xs (rS ρ) (rS ρ).heap) (b1 : vp_in (i + 1) L) (b2 : vp_in (i + 2) L) (b3 : vp_in (i + 3) L) (hcs : cs + 2000 ≤ 1200128) (hss : ss + 14000 ≤ 5501098)
    (hw : wp_X0_row (fun r1 h1 => GI h1 → Ext h h1 → wp_X2_row (fun r2 h2 => GI h2 → Ext h1 h2 → (r1 = r2 ∧ Q h2)) h1 (xs (Int32.toNatClampNeg (i + 1)))) h (xs (Int32.toNatClampNeg (i + 1))))
    (hk : ∀ h2, GI h2 → Q h2 → X ρ K_L 1182 [(3, .int i), (0, .ref bs), (1, .ref (mr ρ 1)), (2, .ref (mr ρ 25))] [] h2 (cs + 2000) (ss + 14000) Φ psN) : X ρ K_L 1087 [(3, .int i), (0, .ref bs), (1, .ref (mr ρ 1)), (2, .ref (mr ρ 25))] [] h cs ss Φ psN := by
  refine x_aload_n 2 dL_law_1087 rfl ?_
  refine x_aload_n 1 dL_law_1088 rfl ?_
  refine x_iload_n 0 dL_law_1089 rfl ?_
  refine x_iconst 1 dL_law_1090 (by decide) ?_
  refine x_iadd dL_law_1091 ?_
  refine x_scr hS dL_law_1092 rfl b1 ?_
  refine x_callV (ci := 0) [.int (xs (Int32.toNatClampNeg (i + 1)))] 1 dL_law_1093 (k_X0_row G g hw) (GI.s g (t := (10, 0)) rfl (by decide)) rfl q1195 q1196 q1197 q104 q1198 (by decide) rfl rfl ⟨(Nat.le_of_ble_eq_true rfl), (Nat.le_of_ble_eq_true rfl)⟩ (Nat.le_of_ble_eq_true rfl) ⟨by show _ ≤ 1200128; show cs + 1868 ≤ 1200128; omega, by show _ ≤ 5501098; show ss + 13143 ≤ 5501098; omega⟩ (fun v9 h1 hv9 => ?_) (fun _ _ _ _ _ z _ _ => False.elim z)
  obtain ⟨r1, rfl, g1, e1, hw⟩ := hv9
  have hw := hw g1 e1
  show X ρ K_L 1096 [(3, .int i), (0, .ref bs), (1, .ref (mr ρ 1)), (2, .ref (mr ρ 25))] [.int r1] h1 (cs + 1868) (ss + 13143) Φ psN
  refine x_aload_n 3 dL_law_1096 rfl ?_
  refine x_aload_n 1 dL_law_1097 rfl ?_
  refine x_iload_n 0 dL_law_1098 rfl ?_
  refine x_iconst 1 dL_law_1099 (by decide) ?_
  refine x_iadd dL_law_1100 ?_
  refine x_scr hS dL_law_1101 rfl b1 ?_
  refine x_callV (ci := 2) [.int (xs (Int32.toNatClampNeg (i + 1)))] 1 dL_law_1102 (k_X2_row G g1 hw) (GI.s g1 (t := (12, 0)) rfl (by decide)) rfl q1686 q1687 q1688 q106 q1689 (by decide) rfl rfl ⟨(Nat.le_of_ble_eq_true rfl), (Nat.le_of_ble_eq_true rfl)⟩ (Nat.le_of_ble_eq_true rfl) ⟨by show _ ≤ 1200128; show cs + 1868 + 0 ≤ 1200128; omega, by show _ ≤ 5501098; show ss + 13143 + 0 ≤ 5501098; omega⟩ (fun v9 h2 hv9 => ?_) (fun _ _ _ _ _ z _ _ => False.elim z)
  obtain ⟨r2, rfl, g2, e2, hw⟩ := hv9
  have hw := hw g2 e2
  show X ρ K_L 1105 [(3, .int i), (0, .ref bs), (1, .ref (mr ρ 1)), (2, .ref (mr ρ 25))] [.int r2, .int r1] h2 (cs + 1868 + 0) (ss + 13143 + 0) Φ psN
  obtain ⟨hr, hw⟩ := hw
  refine x_icmp_eq 1182 dL_law_1105 (by decide) (fun _ => ?_) (fun z => absurd hr z)
  exact X.widen (k := cs + 2000) (n := ss + 14000) (by omega) (by omega) (hk h2 g2 hw)
set_option maxHeartbeats 4000000 in
theorem t_L_30 {ρ : Rho} {bs L : Nat} {xs : Nat → Int32} {i : Int32} {h : Hp} {cs ss : Nat} {Q : Hp → Prop} {Φ : Option Value → Hp → Prop} (G : G0 ρ) (g : GI h) (hS : va_X bs L xs (rS ρ) (rS ρ).heap) (b1 : vp_in (i + 1) L) (b2 : vp_in (i + 2) L) (b3 : vp_in (i + 3) L) (hcs : cs + 2000 ≤ 1200128) (hss : ss + 14000 ≤ 5501098)
    (hw : wp_X0_judge (fun r1 h1 => GI h1 → Ext h h1 → wp_X2_judge (fun r2 h2 => GI h2 → Ext h1 h2 → (r1 = r2 ∧ Q h2)) h1 (xs (Int32.toNatClampNeg (i + 1)))) h (xs (Int32.toNatClampNeg (i + 1))))
    (hk : ∀ h2, GI h2 → Q h2 → X ρ K_L 1182 [(3, .int i), (0, .ref bs), (1, .ref (mr ρ 1)), (2, .ref (mr ρ 25))] [] h2 (cs + 2000) (ss + 14000) Φ psN) : X ρ K_L 1110 [(3, .int i), (0, .ref bs), (1, .ref (mr ρ 1)), (2, .ref (mr ρ 25))] [] h cs ss Φ psN := by
  refine x_aload_n 2 dL_law_1110 rfl ?_
  refine x_aload_n 1 dL_law_1111 rfl ?_
  refine x_iload_n 0 dL_law_1112 rfl ?_
  refine x_iconst 1 dL_law_1113 (by decide) ?_
  refine x_iadd dL_law_1114 ?_
  refine x_scr hS dL_law_1115 rfl b1 ?_
  refine x_callV (ci := 0) [.int (xs (Int32.toNatClampNeg (i + 1)))] 1 dL_law_1116 (k_X0_judge G g hw) (GI.s g (t := (10, 0)) rfl (by decide)) rfl q1199 q1200 q1201 q104 q1202 (by decide) rfl rfl ⟨(Nat.le_of_ble_eq_true rfl), (Nat.le_of_ble_eq_true rfl)⟩ (Nat.le_of_ble_eq_true rfl) ⟨by show _ ≤ 1200128; show cs + 1868 ≤ 1200128; omega, by show _ ≤ 5501098; show ss + 13143 ≤ 5501098; omega⟩ (fun v9 h1 hv9 => ?_) (fun _ _ _ _ _ z _ _ => False.elim z)
  obtain ⟨r1, rfl, g1, e1, hw⟩ := hv9
  have hw := hw g1 e1
  show X ρ K_L 1119 [(3, .int i), (0, .ref bs), (1, .ref (mr ρ 1)), (2, .ref (mr ρ 25))] [.int r1] h1 (cs + 1868) (ss + 13143) Φ psN
  refine x_aload_n 3 dL_law_1119 rfl ?_
  refine x_aload_n 1 dL_law_1120 rfl ?_
  refine x_iload_n 0 dL_law_1121 rfl ?_
  refine x_iconst 1 dL_law_1122 (by decide) ?_
  refine x_iadd dL_law_1123 ?_
  refine x_scr hS dL_law_1124 rfl b1 ?_
  refine x_callV (ci := 2) [.int (xs (Int32.toNatClampNeg (i + 1)))] 1 dL_law_1125 (k_X2_judge G g1 hw) (GI.s g1 (t := (12, 0)) rfl (by decide)) rfl q1690 q1691 q1692 q106 q1693 (by decide) rfl rfl ⟨(Nat.le_of_ble_eq_true rfl), (Nat.le_of_ble_eq_true rfl)⟩ (Nat.le_of_ble_eq_true rfl) ⟨by show _ ≤ 1200128; show cs + 1868 + 0 ≤ 1200128; omega, by show _ ≤ 5501098; show ss + 13143 + 0 ≤ 5501098; omega⟩ (fun v9 h2 hv9 => ?_) (fun _ _ _ _ _ z _ _ => False.elim z)
  obtain ⟨r2, rfl, g2, e2, hw⟩ := hv9
  have hw := hw g2 e2
  show X ρ K_L 1128 [(3, .int i), (0, .ref bs), (1, .ref (mr ρ 1)), (2, .ref (mr ρ 25))] [.int r2, .int r1] h2 (cs + 1868 + 0) (ss + 13143 + 0) Φ psN
  obtain ⟨hr, hw⟩ := hw
  refine x_icmp_eq 1182 dL_law_1128 (by decide) (fun _ => ?_) (fun z => absurd hr z)
  exact X.widen (k := cs + 2000) (n := ss + 14000) (by omega) (by omega) (hk h2 g2 hw)
set_option maxHeartbeats 4000000 in
theorem t_L_31 {ρ : Rho} {bs L : Nat} {xs : Nat → Int32} {i : Int32} {h : Hp} {cs ss : Nat} {Q : Hp → Prop} {Φ : Option Value → Hp → Prop} (G : G0 ρ) (g : GI h) (hS : va_X bs L xs (rS ρ) (rS ρ).heap) (b1 : vp_in (i + 1) L) (b2 : vp_in (i + 2) L) (b3 : vp_in (i + 3) L) (hcs : cs + 2000 ≤ 1200128) (hss : ss + 14000 ≤ 5501098)
    (hw : wp_X0_image (fun r1 h1 => GI h1 → Ext h h1 → wp_X2_image (fun r2 h2 => GI h2 → Ext h1 h2 → (r1 = r2 ∧ Q h2)) h1 ) h )
    (hk : ∀ h2, GI h2 → Q h2 → X ρ K_L 1182 [(3, .int i), (0, .ref bs), (1, .ref (mr ρ 1)), (2, .ref (mr ρ 25))] [] h2 (cs + 2000) (ss + 14000) Φ psN) : X ρ K_L 1133 [(3, .int i), (0, .ref bs), (1, .ref (mr ρ 1)), (2, .ref (mr ρ 25))] [] h cs ss Φ psN := by
  refine x_aload_n 2 dL_law_1133 rfl ?_
  refine x_callV (ci := 0) [] 0 dL_law_1134 (k_X0_image G g hw) (GI.s g (t := (10, 0)) rfl (by decide)) rfl q1203 q1204 q1205 q104 q1206 (by decide) rfl rfl ⟨(Nat.le_of_ble_eq_true rfl), (Nat.le_of_ble_eq_true rfl)⟩ (Nat.le_of_ble_eq_true rfl) ⟨by show _ ≤ 1200128; show cs + 1868 ≤ 1200128; omega, by show _ ≤ 5501098; show ss + 13143 ≤ 5501098; omega⟩ (fun v9 h1 hv9 => ?_) (fun _ _ _ _ _ z _ _ => False.elim z)
  obtain ⟨r1, rfl, g1, e1, hw⟩ := hv9
  have hw := hw g1 e1
  show X ρ K_L 1137 [(3, .int i), (0, .ref bs), (1, .ref (mr ρ 1)), (2, .ref (mr ρ 25))] [.int r1] h1 (cs + 1868) (ss + 13143) Φ psN
  refine x_aload_n 3 dL_law_1137 rfl ?_
  refine x_callV (ci := 2) [] 0 dL_law_1138 (k_X2_image G g1 hw) (GI.s g1 (t := (12, 0)) rfl (by decide)) rfl q1694 q1695 q1696 q106 q1697 (by decide) rfl rfl ⟨(Nat.le_of_ble_eq_true rfl), (Nat.le_of_ble_eq_true rfl)⟩ (Nat.le_of_ble_eq_true rfl) ⟨by show _ ≤ 1200128; show cs + 1868 + 0 ≤ 1200128; omega, by show _ ≤ 5501098; show ss + 13143 + 0 ≤ 5501098; omega⟩ (fun v9 h2 hv9 => ?_) (fun _ _ _ _ _ z _ _ => False.elim z)
  obtain ⟨r2, rfl, g2, e2, hw⟩ := hv9
  have hw := hw g2 e2
  show X ρ K_L 1141 [(3, .int i), (0, .ref bs), (1, .ref (mr ρ 1)), (2, .ref (mr ρ 25))] [.int r2, .int r1] h2 (cs + 1868 + 0) (ss + 13143 + 0) Φ psN
  obtain ⟨hr, hw⟩ := hw
  refine x_icmp_eq 1182 dL_law_1141 (by decide) (fun _ => ?_) (fun z => absurd hr z)
  exact X.widen (k := cs + 2000) (n := ss + 14000) (by omega) (by omega) (hk h2 g2 hw)
set_option maxHeartbeats 4000000 in
theorem t_L_32 {ρ : Rho} {bs L : Nat} {xs : Nat → Int32} {i : Int32} {h : Hp} {cs ss : Nat} {Q : Hp → Prop} {Φ : Option Value → Hp → Prop} (G : G0 ρ) (g : GI h) (hS : va_X bs L xs (rS ρ) (rS ρ).heap) (b1 : vp_in (i + 1) L) (b2 : vp_in (i + 2) L) (b3 : vp_in (i + 3) L) (hcs : cs + 2000 ≤ 1200128) (hss : ss + 14000 ≤ 5501098)
    (hw : wp_X0_on (fun r1 h1 => GI h1 → Ext h h1 → wp_X2_on (fun r2 h2 => GI h2 → Ext h1 h2 → (r1 = r2 ∧ Q h2)) h1 ) h )
    (hk : ∀ h2, GI h2 → Q h2 → X ρ K_L 1182 [(3, .int i), (0, .ref bs), (1, .ref (mr ρ 1)), (2, .ref (mr ρ 25))] [] h2 (cs + 2000) (ss + 14000) Φ psN) : X ρ K_L 1146 [(3, .int i), (0, .ref bs), (1, .ref (mr ρ 1)), (2, .ref (mr ρ 25))] [] h cs ss Φ psN := by
  refine x_aload_n 2 dL_law_1146 rfl ?_
  refine x_callV (ci := 0) [] 0 dL_law_1147 (k_X0_on G g hw) (GI.s g (t := (10, 0)) rfl (by decide)) rfl q1207 q1208 q1209 q104 q1210 (by decide) rfl rfl ⟨(Nat.le_of_ble_eq_true rfl), (Nat.le_of_ble_eq_true rfl)⟩ (Nat.le_of_ble_eq_true rfl) ⟨by show _ ≤ 1200128; show cs + 1868 ≤ 1200128; omega, by show _ ≤ 5501098; show ss + 13143 ≤ 5501098; omega⟩ (fun v9 h1 hv9 => ?_) (fun _ _ _ _ _ z _ _ => False.elim z)
  obtain ⟨r1, rfl, g1, e1, hw⟩ := hv9
  have hw := hw g1 e1
  show X ρ K_L 1150 [(3, .int i), (0, .ref bs), (1, .ref (mr ρ 1)), (2, .ref (mr ρ 25))] [.int r1] h1 (cs + 1868) (ss + 13143) Φ psN
  refine x_aload_n 3 dL_law_1150 rfl ?_
  refine x_callV (ci := 2) [] 0 dL_law_1151 (k_X2_on G g1 hw) (GI.s g1 (t := (12, 0)) rfl (by decide)) rfl q1710 q1711 q1712 q106 q1713 (by decide) rfl rfl ⟨(Nat.le_of_ble_eq_true rfl), (Nat.le_of_ble_eq_true rfl)⟩ (Nat.le_of_ble_eq_true rfl) ⟨by show _ ≤ 1200128; show cs + 1868 + 0 ≤ 1200128; omega, by show _ ≤ 5501098; show ss + 13143 + 0 ≤ 5501098; omega⟩ (fun v9 h2 hv9 => ?_) (fun _ _ _ _ _ z _ _ => False.elim z)
  obtain ⟨r2, rfl, g2, e2, hw⟩ := hv9
  have hw := hw g2 e2
  show X ρ K_L 1154 [(3, .int i), (0, .ref bs), (1, .ref (mr ρ 1)), (2, .ref (mr ρ 25))] [.int r2, .int r1] h2 (cs + 1868 + 0) (ss + 13143 + 0) Φ psN
  obtain ⟨hr, hw⟩ := hw
  refine x_icmp_eq 1182 dL_law_1154 (by decide) (fun _ => ?_) (fun z => absurd hr z)
  exact X.widen (k := cs + 2000) (n := ss + 14000) (by omega) (by omega) (hk h2 g2 hw)
set_option maxHeartbeats 4000000 in
theorem t_L_33 {ρ : Rho} {bs L : Nat} {xs : Nat → Int32} {i : Int32} {h : Hp} {cs ss : Nat} {Q : Hp → Prop} {Φ : Option Value → Hp → Prop} (G : G0 ρ) (g : GI h) (hS : va_X bs L xs (rS ρ) (rS ρ).heap) (b1 : vp_in (i + 1) L) (b2 : vp_in (i + 2) L) (b3 : vp_in (i + 3) L) (hcs : cs + 2000 ≤ 1200128) (hss : ss + 14000 ≤ 5501098)
    (hw : wp_X0_count (fun r1 h1 => GI h1 → Ext h h1 → wp_X2_count (fun r2 h2 => GI h2 → Ext h1 h2 → (r1 = r2 ∧ Q h2)) h1 (xs (Int32.toNatClampNeg (i + 1)))) h (xs (Int32.toNatClampNeg (i + 1))))
    (hk : ∀ h2, GI h2 → Q h2 → X ρ K_L 1182 [(3, .int i), (0, .ref bs), (1, .ref (mr ρ 1)), (2, .ref (mr ρ 25))] [] h2 (cs + 2000) (ss + 14000) Φ psN) : X ρ K_L 1159 [(3, .int i), (0, .ref bs), (1, .ref (mr ρ 1)), (2, .ref (mr ρ 25))] [] h cs ss Φ psN := by
  refine x_aload_n 2 dL_law_1159 rfl ?_
  refine x_aload_n 1 dL_law_1160 rfl ?_
  refine x_iload_n 0 dL_law_1161 rfl ?_
  refine x_iconst 1 dL_law_1162 (by decide) ?_
  refine x_iadd dL_law_1163 ?_
  refine x_scr hS dL_law_1164 rfl b1 ?_
  refine x_callV (ci := 0) [.int (xs (Int32.toNatClampNeg (i + 1)))] 1 dL_law_1165 (k_X0_count G g hw) (GI.s g (t := (10, 0)) rfl (by decide)) rfl q1211 q1212 q1213 q104 q1214 (by decide) rfl rfl ⟨(Nat.le_of_ble_eq_true rfl), (Nat.le_of_ble_eq_true rfl)⟩ (Nat.le_of_ble_eq_true rfl) ⟨by show _ ≤ 1200128; show cs + 0 ≤ 1200128; omega, by show _ ≤ 5501098; show ss + 0 ≤ 5501098; omega⟩ (fun v9 h1 hv9 => ?_) (fun _ _ _ _ _ z _ _ => False.elim z)
  obtain ⟨r1, rfl, g1, e1, hw⟩ := hv9
  have hw := hw g1 e1
  show X ρ K_L 1168 [(3, .int i), (0, .ref bs), (1, .ref (mr ρ 1)), (2, .ref (mr ρ 25))] [.int r1] h1 (cs + 0) (ss + 0) Φ psN
  refine x_aload_n 3 dL_law_1168 rfl ?_
  refine x_aload_n 1 dL_law_1169 rfl ?_
  refine x_iload_n 0 dL_law_1170 rfl ?_
  refine x_iconst 1 dL_law_1171 (by decide) ?_
  refine x_iadd dL_law_1172 ?_
  refine x_scr hS dL_law_1173 rfl b1 ?_
  refine x_callV (ci := 2) [.int (xs (Int32.toNatClampNeg (i + 1)))] 1 dL_law_1174 (k_X2_count G g1 hw) (GI.s g1 (t := (12, 0)) rfl (by decide)) rfl q1714 q1715 q1716 q106 q1717 (by decide) rfl rfl ⟨(Nat.le_of_ble_eq_true rfl), (Nat.le_of_ble_eq_true rfl)⟩ (Nat.le_of_ble_eq_true rfl) ⟨by show _ ≤ 1200128; show cs + 0 + 0 ≤ 1200128; omega, by show _ ≤ 5501098; show ss + 0 + 0 ≤ 5501098; omega⟩ (fun v9 h2 hv9 => ?_) (fun _ _ _ _ _ z _ _ => False.elim z)
  obtain ⟨r2, rfl, g2, e2, hw⟩ := hv9
  have hw := hw g2 e2
  show X ρ K_L 1177 [(3, .int i), (0, .ref bs), (1, .ref (mr ρ 1)), (2, .ref (mr ρ 25))] [.int r2, .int r1] h2 (cs + 0 + 0) (ss + 0 + 0) Φ psN
  obtain ⟨hr, hw⟩ := hw
  refine x_icmp_eq 1182 dL_law_1177 (by decide) (fun _ => ?_) (fun z => absurd hr z)
  exact X.widen (k := cs + 2000) (n := ss + 14000) (by omega) (by omega) (hk h2 g2 hw)
/-- one round of the script: the class, then the reference, and what holds behind them -/
def lawStep (t a b c : Int32) (Q : Hp → Prop) (h : Hp) : Prop := (t = 0 → wp_X0_feed (fun r1 h1 => GI h1 → Ext h h1 → wp_X2_feed (fun r2 h2 => GI h2 → Ext h1 h2 → (r1 = r2 ∧ Q h2)) h1 a (((Int32.toInt64 b) <<< (Int32.toInt64 32 &&& 63)) ||| ((Int32.toInt64 c) &&& 4294967295))) h a (((Int32.toInt64 b) <<< (Int32.toInt64 32 &&& 63)) ||| ((Int32.toInt64 c) &&& 4294967295))) ∧ (t = 1 → wp_X0_quiz (fun r1 h1 => GI h1 → Ext h h1 → wp_X2_quiz (fun r2 h2 => GI h2 → Ext h1 h2 → (r1 = r2 ∧ Q h2)) h1 ) h ) ∧ (t = 2 → wp_X0_word (fun r1 h1 => GI h1 → Ext h h1 → wp_X2_word (fun r2 h2 => GI h2 → Ext h1 h2 → (r1 = r2 ∧ Q h2)) h1 a b) h a b) ∧ (t = 3 → wp_X0_player (fun r1 h1 => GI h1 → Ext h h1 → wp_X2_player (fun r2 h2 => GI h2 → Ext h1 h2 → (r1 = r2 ∧ Q h2)) h1 a b) h a b) ∧ (t = 4 → wp_X0_whole (fun r1 h1 => GI h1 → Ext h h1 → wp_X2_whole (fun r2 h2 => GI h2 → Ext h1 h2 → (r1 = r2 ∧ Q h2)) h1 ) h ) ∧ (t = 5 → wp_X0_left (fun r1 h1 => GI h1 → Ext h h1 → wp_X2_left (fun r2 h2 => GI h2 → Ext h1 h2 → (r1 = r2 ∧ Q h2)) h1 a) h a) ∧ (t = 6 → wp_X0_chance (fun r1 h1 => GI h1 → Ext h h1 → wp_X2_chance (fun r2 h2 => GI h2 → Ext h1 h2 → (r1 = r2 ∧ Q h2)) h1 a b c) h a b c) ∧ (t = 7 → wp_X0_guess (fun r1 h1 => GI h1 → Ext h h1 → wp_X2_guess (fun r2 h2 => GI h2 → Ext h1 h2 → (r1 = r2 ∧ Q h2)) h1 a b) h a b) ∧ (t = 8 → wp_X0_points (fun r1 h1 => GI h1 → Ext h h1 → wp_X2_points (fun r2 h2 => GI h2 → Ext h1 h2 → (r1 = r2 ∧ Q h2)) h1 a b) h a b) ∧ (t = 9 → wp_X0_setOf (fun r1 h1 => GI h1 → Ext h h1 → wp_X2_setOf (fun r2 h2 => GI h2 → Ext h1 h2 → (r1 = r2 ∧ Q h2)) h1 a b) h a b) ∧ (t = 10 → wp_X0_presses (fun r1 h1 => GI h1 → Ext h h1 → wp_X2_presses (fun r2 h2 => GI h2 → Ext h1 h2 → (r1 = r2 ∧ Q h2)) h1 a b) h a b) ∧ (t = 11 → wp_X0_run (fun r1 h1 => GI h1 → Ext h h1 → wp_X2_run (fun r2 h2 => GI h2 → Ext h1 h2 → (r1 = r2 ∧ Q h2)) h1 a b) h a b) ∧ (t = 12 → wp_X0_wins (fun r1 h1 => GI h1 → Ext h h1 → wp_X2_wins (fun r2 h2 => GI h2 → Ext h1 h2 → (r1 = r2 ∧ Q h2)) h1 a b) h a b) ∧ (t = 13 → wp_X0_worth (fun r1 h1 => GI h1 → Ext h h1 → wp_X2_worth (fun r2 h2 => GI h2 → Ext h1 h2 → (r1 = r2 ∧ Q h2)) h1 a b) h a b) ∧ (t = 14 → wp_X0_nobody (fun r1 h1 => GI h1 → Ext h h1 → wp_X2_nobody (fun r2 h2 => GI h2 → Ext h1 h2 → (r1 = r2 ∧ Q h2)) h1 a) h a) ∧ (t = 15 → wp_X0_dull (fun r1 h1 => GI h1 → Ext h h1 → wp_X2_dull (fun r2 h2 => GI h2 → Ext h1 h2 → (r1 = r2 ∧ Q h2)) h1 a) h a) ∧ (t = 16 → wp_X0_value (fun r1 h1 => GI h1 → Ext h h1 → wp_X2_value (fun r2 h2 => GI h2 → Ext h1 h2 → (r1 = r2 ∧ Q h2)) h1 a b c) h a b c) ∧ (t = 17 → wp_X0_alone (fun r1 h1 => GI h1 → Ext h h1 → wp_X2_alone (fun r2 h2 => GI h2 → Ext h1 h2 → (r1 = r2 ∧ Q h2)) h1 a) h a) ∧ (t = 18 → wp_X0_reply (fun r1 h1 => GI h1 → Ext h h1 → wp_X2_reply (fun r2 h2 => GI h2 → Ext h1 h2 → (r1 = r2 ∧ Q h2)) h1 a b) h a b) ∧ (t = 19 → wp_X0_rest (fun r1 h1 => GI h1 → Ext h h1 → wp_X2_rest (fun r2 h2 => GI h2 → Ext h1 h2 → (r1 = r2 ∧ Q h2)) h1 a b) h a b) ∧ (t = 20 → wp_X0_law (fun r1 h1 => GI h1 → Ext h h1 → wp_X2_law (fun r2 h2 => GI h2 → Ext h1 h2 → (r1 = r2 ∧ Q h2)) h1 a) h a) ∧ (t = 21 → wp_X0_mostEarly (fun r1 h1 => GI h1 → Ext h h1 → wp_X2_mostEarly (fun r2 h2 => GI h2 → Ext h1 h2 → (r1 = r2 ∧ Q h2)) h1 a) h a) ∧ (t = 22 → wp_X0_silent (fun r1 h1 => GI h1 → Ext h h1 → wp_X2_silent (fun r2 h2 => GI h2 → Ext h1 h2 → (r1 = r2 ∧ Q h2)) h1 a b) h a b) ∧ (t = 23 → wp_X0_partners (fun r1 h1 => GI h1 → Ext h h1 → wp_X2_partners (fun r2 h2 => GI h2 → Ext h1 h2 → (r1 = r2 ∧ Q h2)) h1 a b c) h a b c) ∧ (t = 24 → wp_X0_fact (fun r1 h1 => GI h1 → Ext h h1 → wp_X2_fact (fun r2 h2 => GI h2 → Ext h1 h2 → (r1 = r2 ∧ Q h2)) h1 a) h a) ∧ (t = 25 → wp_X0_had (fun r1 h1 => GI h1 → Ext h h1 → wp_X2_had (fun r2 h2 => GI h2 → Ext h1 h2 → (r1 = r2 ∧ Q h2)) h1 a b) h a b) ∧ (t = 26 → wp_X0_late (fun r1 h1 => GI h1 → Ext h h1 → wp_X2_late (fun r2 h2 => GI h2 → Ext h1 h2 → (r1 = r2 ∧ Q h2)) h1 a) h a) ∧ (t = 27 → wp_X0_soon (fun r1 h1 => GI h1 → Ext h h1 → wp_X2_soon (fun r2 h2 => GI h2 → Ext h1 h2 → (r1 = r2 ∧ Q h2)) h1 a) h a) ∧ (t = 28 → wp_X0_evening (fun r1 h1 => GI h1 → Ext h h1 → wp_X2_evening (fun r2 h2 => GI h2 → Ext h1 h2 → (r1 = r2 ∧ Q h2)) h1 a b c) h a b c) ∧ (t = 29 → wp_X0_row (fun r1 h1 => GI h1 → Ext h h1 → wp_X2_row (fun r2 h2 => GI h2 → Ext h1 h2 → (r1 = r2 ∧ Q h2)) h1 a) h a) ∧ (t = 30 → wp_X0_judge (fun r1 h1 => GI h1 → Ext h h1 → wp_X2_judge (fun r2 h2 => GI h2 → Ext h1 h2 → (r1 = r2 ∧ Q h2)) h1 a) h a) ∧ (t = 31 → wp_X0_image (fun r1 h1 => GI h1 → Ext h h1 → wp_X2_image (fun r2 h2 => GI h2 → Ext h1 h2 → (r1 = r2 ∧ Q h2)) h1 ) h ) ∧ (t = 32 → wp_X0_on (fun r1 h1 => GI h1 → Ext h h1 → wp_X2_on (fun r2 h2 => GI h2 → Ext h1 h2 → (r1 = r2 ∧ Q h2)) h1 ) h ) ∧ (t = 33 → wp_X0_count (fun r1 h1 => GI h1 → Ext h h1 → wp_X2_count (fun r2 h2 => GI h2 → Ext h1 h2 → (r1 = r2 ∧ Q h2)) h1 a) h a) ∧ ((t.toInt < 0 ∨ 33 < t.toInt) → Q h)
set_option maxHeartbeats 4000000 in
theorem t_L_step {ρ : Rho} {bs L : Nat} {xs : Nat → Int32} {i : Int32} {h : Hp} {cs ss : Nat} {Q : Hp → Prop} {Φ : Option Value → Hp → Prop} (G : G0 ρ) (g : GI h) (hS : va_X bs L xs (rS ρ) (rS ρ).heap) (b0 : vp_in i L) (b1 : vp_in (i + 1) L) (b2 : vp_in (i + 2) L) (b3 : vp_in (i + 3) L) (hcs : cs + 2000 ≤ 1200128) (hss : ss + 14000 ≤ 5501098)
    (hw : lawStep ((xs (Int32.toNatClampNeg i)) &&& 63) (xs (Int32.toNatClampNeg (i + 1))) (xs (Int32.toNatClampNeg (i + 2))) (xs (Int32.toNatClampNeg (i + 3))) Q h)
    (hk : ∀ h2, GI h2 → Q h2 → X ρ K_L 1182 [(3, .int i), (0, .ref bs), (1, .ref (mr ρ 1)), (2, .ref (mr ρ 25))] [] h2 (cs + 2000) (ss + 14000) Φ psN) : X ρ K_L 26 [(3, .int i), (0, .ref bs), (1, .ref (mr ρ 1)), (2, .ref (mr ρ 25))] [] h cs ss Φ psN := by
  refine x_aload_n 1 dL_law_26 rfl ?_
  refine x_iload_n 0 dL_law_27 rfl ?_
  refine x_scr hS dL_law_28 rfl b0 ?_
  refine x_bipush 63 dL_law_29 (by decide) ?_
  refine x_iand dL_law_31 ?_
  generalize hT : (xs (Int32.toNatClampNeg i)) &&& 63 = t at hw ⊢
  obtain ⟨h0, h1, h2, h3, h4, h5, h6, h7, h8, h9, h10, h11, h12, h13, h14, h15, h16, h17, h18, h19, h20, h21, h22, h23, h24, h25, h26, h27, h28, h29, h30, h31, h32, h33, hd⟩ := hw
  rcases tab_or t 0 34 (by decide) with c | ⟨ci, cI, c⟩
  · have co : t.toInt < 0 ∨ 33 < t.toInt := by omega
    refine x_tableOut 1182 dL_law_32 co (by decide) ?_
    exact X.widen (k := cs + 2000) (n := ss + 14000) (by omega) (by omega) (hk h g (hd co))
  · match ci, cI, c with
    | 0, _, c =>
      have c : t = 0 := c
      refine x_tableIn (off := 152) 184 dL_law_32 (by rw [c]; decide) (by rw [c]; decide) (by rw [c]; rfl) (by decide) ?_
      exact t_L_0 G g hS b1 b2 b3 hcs hss (h0 c) hk
    | 1, _, c =>
      have c : t = 1 := c
      refine x_tableIn (off := 215) 247 dL_law_32 (by rw [c]; decide) (by rw [c]; decide) (by rw [c]; rfl) (by decide) ?_
      exact t_L_1 G g hS b1 b2 b3 hcs hss (h1 c) hk
    | 2, _, c =>
      have c : t = 2 := c
      refine x_tableIn (off := 228) 260 dL_law_32 (by rw [c]; decide) (by rw [c]; decide) (by rw [c]; rfl) (by decide) ?_
      exact t_L_2 G g hS b1 b2 b3 hcs hss (h2 c) hk
    | 3, _, c =>
      have c : t = 3 := c
      refine x_tableIn (off := 261) 293 dL_law_32 (by rw [c]; decide) (by rw [c]; decide) (by rw [c]; rfl) (by decide) ?_
      exact t_L_3 G g hS b1 b2 b3 hcs hss (h3 c) hk
    | 4, _, c =>
      have c : t = 4 := c
      refine x_tableIn (off := 294) 326 dL_law_32 (by rw [c]; decide) (by rw [c]; decide) (by rw [c]; rfl) (by decide) ?_
      exact t_L_4 G g hS b1 b2 b3 hcs hss (h4 c) hk
    | 5, _, c =>
      have c : t = 5 := c
      refine x_tableIn (off := 307) 339 dL_law_32 (by rw [c]; decide) (by rw [c]; decide) (by rw [c]; rfl) (by decide) ?_
      exact t_L_5 G g hS b1 b2 b3 hcs hss (h5 c) hk
    | 6, _, c =>
      have c : t = 6 := c
      refine x_tableIn (off := 330) 362 dL_law_32 (by rw [c]; decide) (by rw [c]; decide) (by rw [c]; rfl) (by decide) ?_
      exact t_L_6 G g hS b1 b2 b3 hcs hss (h6 c) hk
    | 7, _, c =>
      have c : t = 7 := c
      refine x_tableIn (off := 374) 406 dL_law_32 (by rw [c]; decide) (by rw [c]; decide) (by rw [c]; rfl) (by decide) ?_
      exact t_L_7 G g hS b1 b2 b3 hcs hss (h7 c) hk
    | 8, _, c =>
      have c : t = 8 := c
      refine x_tableIn (off := 407) 439 dL_law_32 (by rw [c]; decide) (by rw [c]; decide) (by rw [c]; rfl) (by decide) ?_
      exact t_L_8 G g hS b1 b2 b3 hcs hss (h8 c) hk
    | 9, _, c =>
      have c : t = 9 := c
      refine x_tableIn (off := 440) 472 dL_law_32 (by rw [c]; decide) (by rw [c]; decide) (by rw [c]; rfl) (by decide) ?_
      exact t_L_9 G g hS b1 b2 b3 hcs hss (h9 c) hk
    | 10, _, c =>
      have c : t = 10 := c
      refine x_tableIn (off := 473) 505 dL_law_32 (by rw [c]; decide) (by rw [c]; decide) (by rw [c]; rfl) (by decide) ?_
      exact t_L_10 G g hS b1 b2 b3 hcs hss (h10 c) hk
    | 11, _, c =>
      have c : t = 11 := c
      refine x_tableIn (off := 506) 538 dL_law_32 (by rw [c]; decide) (by rw [c]; decide) (by rw [c]; rfl) (by decide) ?_
      exact t_L_11 G g hS b1 b2 b3 hcs hss (h11 c) hk
    | 12, _, c =>
      have c : t = 12 := c
      refine x_tableIn (off := 539) 571 dL_law_32 (by rw [c]; decide) (by rw [c]; decide) (by rw [c]; rfl) (by decide) ?_
      exact t_L_12 G g hS b1 b2 b3 hcs hss (h12 c) hk
    | 13, _, c =>
      have c : t = 13 := c
      refine x_tableIn (off := 573) 605 dL_law_32 (by rw [c]; decide) (by rw [c]; decide) (by rw [c]; rfl) (by decide) ?_
      exact t_L_13 G g hS b1 b2 b3 hcs hss (h13 c) hk
    | 14, _, c =>
      have c : t = 14 := c
      refine x_tableIn (off := 607) 639 dL_law_32 (by rw [c]; decide) (by rw [c]; decide) (by rw [c]; rfl) (by decide) ?_
      exact t_L_14 G g hS b1 b2 b3 hcs hss (h14 c) hk
    | 15, _, c =>
      have c : t = 15 := c
      refine x_tableIn (off := 631) 663 dL_law_32 (by rw [c]; decide) (by rw [c]; decide) (by rw [c]; rfl) (by decide) ?_
      exact t_L_15 G g hS b1 b2 b3 hcs hss (h15 c) hk
    | 16, _, c =>
      have c : t = 16 := c
      refine x_tableIn (off := 655) 687 dL_law_32 (by rw [c]; decide) (by rw [c]; decide) (by rw [c]; rfl) (by decide) ?_
      exact t_L_16 G g hS b1 b2 b3 hcs hss (h16 c) hk
    | 17, _, c =>
      have c : t = 17 := c
      refine x_tableIn (off := 699) 731 dL_law_32 (by rw [c]; decide) (by rw [c]; decide) (by rw [c]; rfl) (by decide) ?_
      exact t_L_17 G g hS b1 b2 b3 hcs hss (h17 c) hk
    | 18, _, c =>
      have c : t = 18 := c
      refine x_tableIn (off := 722) 754 dL_law_32 (by rw [c]; decide) (by rw [c]; decide) (by rw [c]; rfl) (by decide) ?_
      exact t_L_18 G g hS b1 b2 b3 hcs hss (h18 c) hk
    | 19, _, c =>
      have c : t = 19 := c
      refine x_tableIn (off := 755) 787 dL_law_32 (by rw [c]; decide) (by rw [c]; decide) (by rw [c]; rfl) (by decide) ?_
      exact t_L_19 G g hS b1 b2 b3 hcs hss (h19 c) hk
    | 20, _, c =>
      have c : t = 20 := c
      refine x_tableIn (off := 788) 820 dL_law_32 (by rw [c]; decide) (by rw [c]; decide) (by rw [c]; rfl) (by decide) ?_
      exact t_L_20 G g hS b1 b2 b3 hcs hss (h20 c) hk
    | 21, _, c =>
      have c : t = 21 := c
      refine x_tableIn (off := 811) 843 dL_law_32 (by rw [c]; decide) (by rw [c]; decide) (by rw [c]; rfl) (by decide) ?_
      exact t_L_21 G g hS b1 b2 b3 hcs hss (h21 c) hk
    | 22, _, c =>
      have c : t = 22 := c
      refine x_tableIn (off := 834) 866 dL_law_32 (by rw [c]; decide) (by rw [c]; decide) (by rw [c]; rfl) (by decide) ?_
      exact t_L_22 G g hS b1 b2 b3 hcs hss (h22 c) hk
    | 23, _, c =>
      have c : t = 23 := c
      refine x_tableIn (off := 867) 899 dL_law_32 (by rw [c]; decide) (by rw [c]; decide) (by rw [c]; rfl) (by decide) ?_
      exact t_L_23 G g hS b1 b2 b3 hcs hss (h23 c) hk
    | 24, _, c =>
      have c : t = 24 := c
      refine x_tableIn (off := 910) 942 dL_law_32 (by rw [c]; decide) (by rw [c]; decide) (by rw [c]; rfl) (by decide) ?_
      exact t_L_24 G g hS b1 b2 b3 hcs hss (h24 c) hk
    | 25, _, c =>
      have c : t = 25 := c
      refine x_tableIn (off := 933) 965 dL_law_32 (by rw [c]; decide) (by rw [c]; decide) (by rw [c]; rfl) (by decide) ?_
      exact t_L_25 G g hS b1 b2 b3 hcs hss (h25 c) hk
    | 26, _, c =>
      have c : t = 26 := c
      refine x_tableIn (off := 966) 998 dL_law_32 (by rw [c]; decide) (by rw [c]; decide) (by rw [c]; rfl) (by decide) ?_
      exact t_L_26 G g hS b1 b2 b3 hcs hss (h26 c) hk
    | 27, _, c =>
      have c : t = 27 := c
      refine x_tableIn (off := 989) 1021 dL_law_32 (by rw [c]; decide) (by rw [c]; decide) (by rw [c]; rfl) (by decide) ?_
      exact t_L_27 G g hS b1 b2 b3 hcs hss (h27 c) hk
    | 28, _, c =>
      have c : t = 28 := c
      refine x_tableIn (off := 1012) 1044 dL_law_32 (by rw [c]; decide) (by rw [c]; decide) (by rw [c]; rfl) (by decide) ?_
      exact t_L_28 G g hS b1 b2 b3 hcs hss (h28 c) hk
    | 29, _, c =>
      have c : t = 29 := c
      refine x_tableIn (off := 1055) 1087 dL_law_32 (by rw [c]; decide) (by rw [c]; decide) (by rw [c]; rfl) (by decide) ?_
      exact t_L_29 G g hS b1 b2 b3 hcs hss (h29 c) hk
    | 30, _, c =>
      have c : t = 30 := c
      refine x_tableIn (off := 1078) 1110 dL_law_32 (by rw [c]; decide) (by rw [c]; decide) (by rw [c]; rfl) (by decide) ?_
      exact t_L_30 G g hS b1 b2 b3 hcs hss (h30 c) hk
    | 31, _, c =>
      have c : t = 31 := c
      refine x_tableIn (off := 1101) 1133 dL_law_32 (by rw [c]; decide) (by rw [c]; decide) (by rw [c]; rfl) (by decide) ?_
      exact t_L_31 G g hS b1 b2 b3 hcs hss (h31 c) hk
    | 32, _, c =>
      have c : t = 32 := c
      refine x_tableIn (off := 1114) 1146 dL_law_32 (by rw [c]; decide) (by rw [c]; decide) (by rw [c]; rfl) (by decide) ?_
      exact t_L_32 G g hS b1 b2 b3 hcs hss (h32 c) hk
    | 33, _, c =>
      have c : t = 33 := c
      refine x_tableIn (off := 1127) 1159 dL_law_32 (by rw [c]; decide) (by rw [c]; decide) (by rw [c]; rfl) (by decide) ?_
      exact t_L_33 G g hS b1 b2 b3 hcs hss (h33 c) hk
    | n + 34, cI, _ => exact absurd cI (by omega)
