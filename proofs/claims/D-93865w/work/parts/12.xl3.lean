section XL4
variable {p : Program} {l : Launch} {e : Env} {R : Room} {s : State} {m₀ : MethodId} {args : Array Value} {below : List Frame} {meth : Method} {c : Code} {W : State} {locs : List Loc} {cells slots : Nat}
/-- the words of a constructor of a nest mate above one's own exception -/
def vt_list (own : String) (sup : String) (names : List String) : List Cond :=
  Bundle.throwableAtoms ++ Bundle.chain0Atoms sup names ++
  [.instantiable own 7, .selects own Bundle.tFill0 Bundle.tFill0, .selects own Bundle.tFill Bundle.tFill,
   .lays own Bundle.tN "cause" "Ljava/lang/Throwable;", .lays own Bundle.tN "stackTrace" Bundle.steD, .lays own Bundle.tN "suppressedExceptions" Bundle.listD,
   .isRef (.static Bundle.tN "UNASSIGNED_STACK" Bundle.steD), .isRef (.static Bundle.tN "SUPPRESSED_SENTINEL" Bundle.listD),
   .fieldLink Bundle.tN 198 Bundle.tN "backtrace" "Ljava/lang/Object;", .lays Bundle.tN Bundle.tN "backtrace" "Ljava/lang/Object;", .lays own Bundle.tN "backtrace" "Ljava/lang/Object;"]
set_option maxHeartbeats 1000000 in
theorem vt_super (X : Stand p l e R s m₀ args below meth c W locs cells slots) (hexec : p.tables.exec = Jvm.exec) (htr : e.platform.stackTraces = false) {own sup host : String} {names : List String} {ic : Nat}
    (hown : s.vm.findClass own = some m₀.cls) (hsup : Bundle.fit sup = true) (hnames : ∀ n ∈ names, Bundle.fit n = true)
    (h : ∀ a ∈ vt_list own sup names, a.before args s = true) (hlink : (Cond.methodLinkNest own ic (Bundle.init0 sup) host).before args s = true)
    {a : Addr} {cell : Cell} {A : Nat → Prop} (hvL : vx_L Bundle.tN "UNASSIGNED_STACK" Bundle.steD A s s.heap) (hlA : ∀ x ∈ locs, A x.base)
    (hcell : W.heap[a]? = some cell) (hcc : cell.cls = m₀.cls) (hcv : cell.vm = .none) (hfree : cell.monitor.owner = none) (hcount : cell.monitor.count = 0) (hsz : cell.slots.size = 7)
    (hback : ∀ c' k' i' f', s.fieldFound? Bundle.tN "backtrace" "Ljava/lang/Object;" = some (c', k', i', f') → cell.slots[f'.slot]? = some .null)
    {g : JFrame} (hg : g.method = m₀) (hsize : g.locals.size = c.maxLocals) {rest : List Value} (hstack : g.stack = .ref a :: rest)
    (hd6 : decode c.code g.pc = .ok (.invokespecial ic, 3))
    (hRframes : names.length + 3 < R.frames) (hRlocals : 2 * g.monitorRoom + (rest.map fun v => v.category).sum + (13 * (names.length + 1) + 41) ≤ R.locals) :
    ∃ (V : State) (ce : Cell) (L : List Loc), Stand p l e R s m₀ args below meth c (V.setCell a ce) (locs ++ L) cells slots ∧ (∀ y ∈ L, y.base = a) ∧ V.heap = W.heap ∧ ce.cls = cell.cls ∧ ce.vm = .none ∧ ce.monitor = cell.monitor ∧ ce.slots.size = 7 ∧
      (∀ j, (∀ nm d c' k' i' f', (nm = "cause" ∧ d = "Ljava/lang/Throwable;" ∨ nm = "stackTrace" ∧ d = Bundle.steD ∨ nm = "suppressedExceptions" ∧ d = Bundle.listD) → s.fieldFound? Bundle.tN nm d = some (c', k', i', f') → f'.slot ≠ j) → ce.slots[j]? = cell.slots[j]?) ∧
      ∀ target, Steps p.tables e below ((V.setCell a ce).setTop { g with stack := rest, pc := g.pc + 3 }) target → Steps p.tables e below (W.setTop g) target := by
  have howns : e.platform.frameOwnsMonitors = true := by rw [X.admits.platform]
  have hfin : e.platform.finalization = false := by rw [X.admits.platform]
  have hpl : e.platform.magicAccessors = ({} : Platform).magicAccessors := by rw [X.admits.platform]
  have a' : ∀ x, x ∈ vt_list own sup names → x.holds args s none s [] = true := fun x hx => h x hx
  obtain ⟨T, Z, L, LZ, Y⟩ := ThrowableC.of_atoms (args := args) howns hfin hpl (fun x hx => h x (by simp [vt_list, hx]))
  obtain ⟨P1, Ps, hlen, L1, hL, hP1m, hlink1, hlink2⟩ := Bundle.chain0 (args := args) hpl Y.init0 names sup hsup hnames (fun x hx => h x (by simp [vt_list, hx]))
  obtain ⟨c1, kX, hc1, hk, hord, -, -, hn6⟩ := Cond.instantiable_spec (a' (.instantiable own 7) (by simp [vt_list]))
  cases Option.some.inj (hc1.symm.trans hown)
  have hsel0 : selectMethod e.platform s.vm cell.cls T.fill0 = .method T.fill0 := by
    obtain ⟨c2, r2, m2, q1, q2, q3, q4, -⟩ := Cond.selects_spec (a' (.selects own Bundle.tFill0 Bundle.tFill0) (by simp [vt_list]))
    cases Option.some.inj (q1.symm.trans hown)
    cases Option.some.inj (q2.symm.trans (State.methodFound?_of_named Y.fill0 (by decide)))
    cases Option.some.inj (q3.symm.trans Y.fill0)
    rw [hcc, Launch.admits_selectMethod X.admits]; exact q4
  have hselF : selectMethod e.platform s.vm cell.cls T.fill = .method T.fill := by
    obtain ⟨c2, r2, m2, q1, q2, q3, q4, -⟩ := Cond.selects_spec (a' (.selects own Bundle.tFill Bundle.tFill) (by simp [vt_list]))
    cases Option.some.inj (q1.symm.trans hown)
    cases Option.some.inj (q2.symm.trans (State.methodFound?_of_named Y.fill (by decide)))
    cases Option.some.inj (q3.symm.trans Y.fill)
    rw [hcc, Launch.admits_selectMethod X.admits]; exact q4
  obtain ⟨cellS0, hcS0, hiss⟩ := Y.statics
  obtain ⟨u0, hu0⟩ := Cond.staticRefV Y.unassigned L.unassignedStatic L.statics hcS0 hiss (a' (.isRef (.static Bundle.tN "UNASSIGNED_STACK" Bundle.steD)) (by simp [vt_list]))
  obtain ⟨sen, hsen⟩ := Cond.staticRefV Y.sentinel L.sentinelStatic L.statics hcS0 hiss (a' (.isRef (.static Bundle.tN "SUPPRESSED_SENTINEL" Bundle.listD)) (by simp [vt_list]))
  obtain ⟨ci198, i198, fB, hk198, hg198, ha198, hsB, -, hnB, htB, hffB⟩ := Cond.ownField (t := .object "java/lang/Object") Y.found L.cls (by decide +kernel) (a' (.fieldLink Bundle.tN 198 Bundle.tN "backtrace" "Ljava/lang/Object;") (by simp [vt_list])) (a' (.lays Bundle.tN Bundle.tN "backtrace" "Ljava/lang/Object;") (by simp [vt_list])) e.platform hpl
  obtain ⟨cellS, hcS', heS, -, hkeep⟩ := X.same.2.2.2.2.2 T.aS cellS0 hcS0
  have hcellS : W.heap[T.aS]? = some cellS := hcS'
  have hout' : ∀ i, (⟨T.aS, i⟩ : Loc) ∉ locs := fun i hmem => by
    obtain ⟨c9, k9, i9, f9, a9, cell9, -, g2, -, g4, -, -, -, -, -, g10⟩ := hvL
    have hk9 := g2.symm.trans Y.unassigned
    simp only [Option.some.injEq, Prod.mk.injEq] at hk9
    have ha9 : a9 = T.aS := Option.some.inj (by rw [← g4, hk9.2.1]; exact L.statics)
    exact g10 (by rw [ha9]; exact hlA _ hmem)
  have hknownS : cellS.vm ≠ .unknown := by
    rw [heS]; intro hu
    rw [show cellS0.vm = .unknown from hu] at hiss
    cases hiss
  have hneS : T.aS ≠ a := fun e9 => by
    rw [e9] at hcellS
    cases hcell.symm.trans hcellS
    have e8 : cell.vm = cellS0.vm := by rw [heS]
    rw [← e8, hcv] at hiss
    cases hiss
  obtain ⟨tyC, dC, hdC, hdnC⟩ := Cond.laysAt hown hk Y.cause (a' (.lays own Bundle.tN "cause" "Ljava/lang/Throwable;") (by simp [vt_list]))
  obtain ⟨tyS, dS, hdS, hdnS⟩ := Cond.laysAt hown hk Y.stack (a' (.lays own Bundle.tN "stackTrace" Bundle.steD) (by simp [vt_list]))
  obtain ⟨tyP, dP, hdP, hdnP⟩ := Cond.laysAt hown hk Y.supp (a' (.lays own Bundle.tN "suppressedExceptions" Bundle.listD) (by simp [vt_list]))
  obtain ⟨tyB, dB, hdB, hdnB⟩ := Cond.laysAt hown hk hffB (a' (.lays own Bundle.tN "backtrace" "Ljava/lang/Object;") (by simp [vt_list]))
  have bC := Cond.laysApart hdB hdC hdnB hdnC (by rw [hnB, Y.causeName]; decide)
  have bS := Cond.laysApart hdB hdS hdnB hdnS (by rw [hnB, Y.stackName]; decide)
  have bP := Cond.laysApart hdB hdP hdnB hdnP (by rw [hnB, Y.suppName]; decide)
  have hb0 : cell.slots[fB.slot]? = some .null := hback _ _ _ _ hffB
  have hskip : SkipFacts T e.platform s (fun u => u) u0 ((preparedCellV T.toThrowableT cell a u0 sen).withEntry W.cur) :=
    ⟨{ ci198 := ci198, i198 := i198, fBack := fB }, ⟨hk198, hg198, ha198, hsB⟩, by
      simpa [preparedCellV, Cell.setSlot, Cell.withEntry, Array.getElem?_setIfInBounds, bC, bS, bP, bC.symm, bS.symm, bP.symm] using hb0, fun _ _ => rfl⟩
  have hT : ∀ {f : Field} {v : Value}, kX.instanceTypes[f.slot]? = some f.type → fits f.type v = true → Takes s cell f v := fun {f v} hty hv => by
    have h0 := Takes.of_laid hk hord hty hv
    refine ⟨by rw [hsz, ← hn6]; exact (Array.getElem?_eq_some_iff.mp hty).1, by rw [hcc, hcv]; exact h0.2⟩
  obtain ⟨tm, methC, cdC, kC, vm₁, hnC, -, -, -, -, -, -, -, hW₁, st1⟩ := Steps.initColdArgsNest (tb := p.tables) (e := e) (below := below) (s := s) (U := W) X.here hexec X.warmed hpl hown (t := Bundle.init0 sup) rfl (Bundle.fit_spec hsup).2
    hlink (h (.instanceMethod (Bundle.init0 sup)) (by cases names <;> simp [vt_list, Bundle.chain0Atoms, Bundle.passAtoms])) (bytes := Bundle.five) (maxL := 1) (h (.code (Bundle.init0 sup) Bundle.five 1 none) (by cases names <;> simp [vt_list, Bundle.chain0Atoms, Bundle.passAtoms]))
    (f := g) hg (a := a) (argsL := []) (rest := rest) (fun sig hs => by
      have : parseMethodDescriptor (Bundle.init0 sup).desc = some ⟨[], none⟩ := by
        show parseMethodDescriptor "()V" = _
        decide
      rw [this] at hs; cases hs; rfl) (by rw [hstack]; rfl) hd6
  cases Option.some.inj (hnC.symm.trans hP1m)
  have X₁ := X.noted hW₁
  obtain ⟨vm₂, X₂, st2⟩ := X₁.ctorPlainOffV hexec (g := { g with stack := rest }) hg hsize T L Z LZ (P1 :: Ps)
    (fun P hP => by rcases List.mem_cons.mp hP with rfl | hP; exact L1; exact hL P hP) ⟨hlink1, hlink2⟩ (u0 := u0) (sen := sen) (self := a) (cell := cell) (cellS := cellS)
    hcell (fun _ => by rw [hcv]; simp) (by rw [hcv]; simp) hfree hcount hsel0 hselF hcellS hneS hknownS (by rw [hkeep _ (hout' _)]; exact hu0) (by rw [hkeep _ (hout' _)]; exact hsen)
    (hT tyC (by rw [Y.causeType]; rfl)) (hT tyS (by rw [Y.stackType]; exact fits_refV_array _ u0)) (hT tyP (by rw [Y.suppType]; exact fits_refV_object _ sen)) Y.objLocals hskip htr [] hd6
    (by simp only [List.length_cons, hlen]; omega) (by simp only [List.length_cons, hlen]; exact hRlocals)
  refine ⟨(W.setVm vm₁).setVm vm₂, _, _, X₂, fun y hy => ?_, rfl, rfl, hcv, rfl, ?_, fun j hj => ?_, fun target hwalk => st1 _ (fun acts => ?_)⟩
  · simp only [List.mem_cons, List.not_mem_nil, or_false] at hy
    rcases hy with rfl | rfl | rfl | rfl <;> rfl
  · simp [preparedCellV, Cell.setSlot, hsz]
  · have j1 := hj _ _ _ _ _ _ (Or.inl ⟨rfl, rfl⟩) Y.cause
    have j2 := hj _ _ _ _ _ _ (Or.inr (Or.inl ⟨rfl, rfl⟩)) Y.stack
    have j3 := hj _ _ _ _ _ _ (Or.inr (Or.inr ⟨rfl, rfl⟩)) Y.supp
    simp [preparedCellV, Cell.setSlot, Array.getElem?_setIfInBounds, j1, j2, j3]
  · rw [doInvoke_state]
    exact st2 _ hwalk
end XL4
/-! X LAYER, part 3: rows for this program's rarer steps -/
set_option maxRecDepth 100000
section XL3
variable {ρ : Rho} {K : Kx} {pc : Nat} {lv lv' : List (Nat × Value)} {st : List Value} {h : Hp} {cs ss : Nat} {Φ : Option Value → Hp → Prop} {Ψ : Nat → Hp → Prop}
theorem x_aastisPl {r n y : Nat} {i : Int32} {j : Nat} (d : decode (kC K) pc = .ok (.aastore, 1)) (hj : i.toNatClampNeg = j) (hs : sh h r = (5, n)) (hy : isPl h y) (hin : vp_in i n) (kk : X ρ K (pc + 1) lv st (sr h r j y) cs ss Φ Ψ) : X ρ K pc lv (.ref (mr ρ y) :: .int i :: .ref (mr ρ r) :: st) h cs ss Φ Ψ := by
  rcases hy with f | f | f | f | f | f
  · exact x_aast (ci := 8) d hj hs (by decide) (by decide) rfl f rfl rfl q1730 hin kk
  · exact x_aast (ci := 9) d hj hs (by decide) (by decide) rfl f rfl rfl q1731 hin kk
  · exact x_aast (ci := 10) d hj hs (by decide) (by decide) rfl f rfl rfl q1732 hin kk
  · exact x_aast (ci := 11) d hj hs (by decide) (by decide) rfl f rfl rfl q1733 hin kk
  · exact x_aast (ci := 12) d hj hs (by decide) (by decide) rfl f rfl rfl q1734 hin kk
  · exact x_aast (ci := 13) d hj hs (by decide) (by decide) rfl f rfl rfl q1735 hin kk
theorem x_aastisTo {r n y : Nat} {i : Int32} {j : Nat} (d : decode (kC K) pc = .ok (.aastore, 1)) (hj : i.toNatClampNeg = j) (hs : sh h r = (6, n)) (hy : isTo h y) (hin : vp_in i n) (kk : X ρ K (pc + 1) lv st (sr h r j y) cs ss Φ Ψ) : X ρ K pc lv (.ref (mr ρ y) :: .int i :: .ref (mr ρ r) :: st) h cs ss Φ Ψ := by
  rcases hy with f | f
  · exact x_aast (ci := 6) d hj hs (by decide) (by decide) rfl f rfl rfl q1736 hin kk
  · exact x_aast (ci := 7) d hj hs (by decide) (by decide) rfl f rfl rfl q1737 hin kk
/-- a told thing's place -/
theorem x_getTo {index r : Nat} (d : decode (kC K) pc = .ok (.getfield index, 3)) (hs : isTo h r) (hq : Cond.fieldLink (kO K) index "BeforeTheEnd$Told" "place" "I" ∈ lw_all) (kk : X ρ K (pc + 3) lv (.int (gi h r 0) :: st) h cs ss Φ Ψ) : X ρ K pc lv (.ref (mr ρ r) :: st) h cs ss Φ Ψ := by
  rcases hs with f | f
  · exact x_get (ci := 6) 0 d f rfl in_X8 (by decide) hq (Or.inl rfl) (fv_i rfl) kk
  · exact x_get (ci := 7) 0 d f rfl in_X9 (by decide) hq (Or.inl rfl) (fv_i rfl) kk
theorem x_lookupN {dflt : Int} {ps : Array (Int × Int)} {len : Nat} {x : Int32} (tgt : Nat) (d : decode (kC K) pc = .ok (.lookupswitch dflt ps, len)) (hp : (ps.toList.zip (ps.toList.drop 1)).all (fun (a, next) => a.1 < next.1) = true) (ho : Op.lookupswitch.offset ps.toList dflt x.toInt = dflt) (ht : (pc : Int) + dflt = (tgt : Int)) (k : X ρ K tgt lv st h cs ss Φ Ψ) : X ρ K pc lv (.int x :: st) h cs ss Φ Ψ :=
  x_lookup tgt d hp ho ht k
theorem lk_2 {x a b : Int32} {oa ob dflt : Int} (h1 : ¬ x = a) (h2 : ¬ x = b) : Op.lookupswitch.offset [(a.toInt, oa), (b.toInt, ob)] dflt x.toInt = dflt := by
  rw [Op.lookupswitch.offset_cons, if_neg (fun z => h1 (Int32.toInt_inj.mp z).symm), Op.lookupswitch.offset_cons, if_neg (fun z => h2 (Int32.toInt_inj.mp z).symm), Op.lookupswitch.offset_nil]
/-- Refusal's constructor, over a Refused, over a Fault -/
theorem vt_cons {P : Cond → Prop} {w : Cond} {l : List Cond} (h : P w) (t : ∀ x ∈ l, P x) : ∀ x ∈ w :: l, P x := by
  intro x hx
  rcases List.mem_cons.mp hx with e | e
  · rw [e]; exact h
  · exact t x e
theorem vt_nil {P : Cond → Prop} : ∀ x ∈ ([] : List Cond), P x := fun _ h => by cases h
/-- where a word is had -/
def vt_in (w : Cond) : Prop := vx_no w = true → w ∈ lw_all ∨ ∃ y, w = .declares y ∧ w ∈ lw_tbl
theorem vt_g {w : Cond} (h : w ∈ lw_all) : vt_in w := fun _ => Or.inl h
theorem vt_d {y : MethodName} (h : Cond.declares y ∈ lw_tbl) : vt_in (.declares y) := fun _ => Or.inr ⟨y, rfl, h⟩
theorem vt_n {w : Cond} (h : vx_no w = false) : vt_in w := fun z => by rw [h] at z; cases z
theorem vt_words {own : String} (hI : ∀ w ∈ vt_list own "BeforeTheEnd$Refusal" ["java/lang/RuntimeException", "java/lang/Exception"], vt_in w) {p : Program} {R : Room} {s : State} {m : MethodId} {args : Array Value} {meth : Method} {c : Code} (a : Amb ρ K p R s m args meth c) :
    (∀ w ∈ vt_list own "BeforeTheEnd$Refusal" ["java/lang/RuntimeException", "java/lang/Exception"], w.before args s = true) ∧ vx_L Bundle.tN "UNASSIGNED_STACK" Bundle.steD (rF ρ) s s.heap := by
  have hq : ∀ q : Nat, q < (rS ρ).heap.size → ¬ rF ρ q → s.heap[q]? = (rS ρ).heap[q]? := fun q h1 h2 => a.2.2.2.2.2.2.2.2.2.2.2.2.1 q (Nat.not_le.mp h2)
  obtain ⟨hU, hN⟩ := (amb_G a).2.2.2.2.2.1
  have hU' := (vx_Zq.moved (amb_wh a).alike hU).kept hq
  have hN' := (vx_Zq.moved (amb_wh a).alike hN).kept hq
  refine ⟨vx_own (fun w hw => ?_) (vx_isRefq hU'.1) (vx_isRefq hN'.1) hU'.2.word hN'.2.word, hU'.2⟩
  obtain ⟨h1, h2⟩ := List.mem_filter.mp hw
  rcases hI w h1 h2 with h | ⟨y, rfl, h⟩
  · exact amb_hts a _ h
  · exact va_Nw.use rfl (va_Nw.warmD (amb_wh a) (amb_w a h rfl))
theorem vt_in4 : ∀ w ∈ vt_list RX4 "BeforeTheEnd$Refusal" ["java/lang/RuntimeException", "java/lang/Exception"], vt_in w :=
  vt_cons (vt_g q107) <| vt_cons (vt_g q320) <| vt_cons (vt_g q329) <| vt_cons (vt_g q332) <| vt_cons (vt_g q335) <| vt_cons (vt_g q337) <| vt_cons (vt_g q321) <| vt_cons (vt_g q322) <| vt_cons (vt_g q137) <| vt_cons (vt_g q138) <|
  vt_cons (vt_g q323) <| vt_cons (vt_g q328) <| vt_cons (vt_g q333) <| vt_cons (vt_g q353) <| vt_cons (vt_g q310) <| vt_cons (vt_g q354) <| vt_cons (vt_g q312) <| vt_cons (vt_g q355) <| vt_cons (vt_g q314) <| vt_cons (vt_g q324) <| vt_cons (vt_n (by decide)) <| vt_cons (vt_g q326) <| vt_cons (vt_n (by decide)) <| vt_cons (vt_g q316) <|
  vt_cons (vt_g q342) <| vt_cons (vt_g q343) <| vt_cons (vt_g q344) <| vt_cons (vt_g q345) <| vt_cons (vt_d q301) <| vt_cons (vt_g q345) <| vt_cons (vt_g q346) <| vt_cons (vt_g q347) <| vt_cons (vt_g q348) <| vt_cons (vt_d q303) <| vt_cons (vt_g q348) <| vt_cons (vt_g q349) <| vt_cons (vt_g q350) <| vt_cons (vt_g q321) <| vt_cons (vt_d q305) <|
  vt_cons (vt_g q298) <| vt_cons (vt_g q307) <| vt_cons (vt_g q308) <| vt_cons (vt_g q309) <| vt_cons (vt_g q311) <| vt_cons (vt_g q313) <| vt_cons (vt_n (by decide)) <| vt_cons (vt_n (by decide)) <| vt_cons (vt_g q319) <| vt_cons (vt_g q318) <| vt_cons (vt_g q317) vt_nil
theorem vt_in6 : ∀ w ∈ vt_list RX6 "BeforeTheEnd$Refusal" ["java/lang/RuntimeException", "java/lang/Exception"], vt_in w :=
  vt_cons (vt_g q107) <| vt_cons (vt_g q320) <| vt_cons (vt_g q329) <| vt_cons (vt_g q332) <| vt_cons (vt_g q335) <| vt_cons (vt_g q337) <| vt_cons (vt_g q321) <| vt_cons (vt_g q322) <| vt_cons (vt_g q137) <| vt_cons (vt_g q138) <|
  vt_cons (vt_g q323) <| vt_cons (vt_g q328) <| vt_cons (vt_g q333) <| vt_cons (vt_g q353) <| vt_cons (vt_g q310) <| vt_cons (vt_g q354) <| vt_cons (vt_g q312) <| vt_cons (vt_g q355) <| vt_cons (vt_g q314) <| vt_cons (vt_g q324) <| vt_cons (vt_n (by decide)) <| vt_cons (vt_g q326) <| vt_cons (vt_n (by decide)) <| vt_cons (vt_g q316) <|
  vt_cons (vt_g q342) <| vt_cons (vt_g q343) <| vt_cons (vt_g q344) <| vt_cons (vt_g q345) <| vt_cons (vt_d q301) <| vt_cons (vt_g q345) <| vt_cons (vt_g q346) <| vt_cons (vt_g q347) <| vt_cons (vt_g q348) <| vt_cons (vt_d q303) <| vt_cons (vt_g q348) <| vt_cons (vt_g q349) <| vt_cons (vt_g q350) <| vt_cons (vt_g q321) <| vt_cons (vt_d q305) <|
  vt_cons (vt_g q432) <| vt_cons (vt_g q434) <| vt_cons (vt_g q331) <| vt_cons (vt_g q435) <| vt_cons (vt_g q436) <| vt_cons (vt_g q437) <| vt_cons (vt_n (by decide)) <| vt_cons (vt_n (by decide)) <| vt_cons (vt_g q319) <| vt_cons (vt_g q318) <| vt_cons (vt_g q439) vt_nil
theorem x_thrG {ci index r : Nat} {own : String} {T : u_T} (hc : kCl[ci]? = some (own, T, 2)) (hci : ci = 3 ∨ ci = 5) (hT1 : T 1 = ("java/lang/Throwable", "backtrace", "Ljava/lang/Object;", false)) (hin : ∀ w ∈ u_ws own T 2, w ∈ lw_all) (hty : ∀ k, k < 2 → parseFieldDescriptor (T k).2.2.1 = some (tyT3 k))
    (hn0 : (T 0).2.1 ≠ "cause" ∧ (T 0).2.1 ≠ "stackTrace" ∧ (T 0).2.1 ≠ "suppressedExceptions") (hl1 : Cond.lays own "java/lang/Throwable" "cause" "Ljava/lang/Throwable;" ∈ lw_all) (hl2 : Cond.lays own "java/lang/Throwable" "stackTrace" "[Ljava/lang/StackTraceElement;" ∈ lw_all) (hl3 : Cond.lays own "java/lang/Throwable" "suppressedExceptions" "Ljava/util/List;" ∈ lw_all)
    (hI : ∀ w ∈ vt_list own "BeforeTheEnd$Refusal" ["java/lang/RuntimeException", "java/lang/Exception"], vt_in w) (hlk : Cond.methodLinkNest own index (Bundle.init0 "BeforeTheEnd$Refusal") "BeforeTheEnd" ∈ lw_tbl) (ho : kO K = own)
    (d : decode (kC K) pc = .ok (.invokespecial index, 3)) (hs : sh h r = (10 + ci, 0)) (hf : 6 ≤ (kM K).frames) (hlo : (st.map fun v => v.category).sum + 90 ≤ (kM K).locals) (kk : X ρ K (pc + 3) lv st h cs ss Φ Ψ) : X ρ K pc lv (.ref (mr ρ r) :: st) h cs ss Φ Ψ := by
  intro p e R s m args below meth c H locs ls a r0 hl hlv
  intro W hW Z
  subst hW
  have hts := amb_hts a
  have hR : R = kM K := a.2.2.2.2.2.2.2.1
  obtain ⟨cell, q1, q2, q3, q4⟩ := r0.obj hs hc
  obtain ⟨cell', m1, m2, m3, m4⟩ := (r0.2.2.2 r).2.2 (by rw [hs]; rcases hci with e | e <;> subst e <;> simp)
  cases q1.symm.trans m1
  have hKn := (amb_K a).1 ci _ hc
  have hown : s.vm.findClass own = some m.cls := by rw [← ho]; exact amb_own a
  have hcls : (rD ρ).1 ci = m.cls := Option.some.inj (hKn.2.1.symm.trans hown)
  obtain ⟨hwords, hvL⟩ := vt_words hI a
  have htr : e.platform.stackTraces = false := (show e.platform.stackTraces = (rL ρ).stackTraces by rw [Z.admits.platform]).trans (amb_G a).1
  have S1 := hKn.1 1 (Nat.lt_succ_self 1)
  rw [show (own, T, 2).2.1 1 = T 1 from rfl, hT1] at S1
  have hfv1 : fv ρ h r (kTy ci 1) 1 = .null := by rcases hci with e | e <;> subst e <;> rfl
  obtain ⟨V, ce, L, Z2, hL, hV, k1, k2, k3, k4, k5, st2⟩ := vt_super Z a.1 htr (own := own) (sup := "BeforeTheEnd$Refusal") (host := "BeforeTheEnd") (names := ["java/lang/RuntimeException", "java/lang/Exception"]) (ic := index) hown (by decide) (by decide) hwords
    (va_Nw.use rfl (va_Nw.warmM (amb_wh a) (amb_w a hlk rfl))) (A := rF ρ) hvL hl q1 (by rw [q2]; exact hcls) q3 m2 m3 m4
    (fun c' k' i' f' hf' => by
      obtain ⟨cf, kf, fi, f, hi, hsl⟩ := S1
      cases hi.symm.trans hf'
      rw [hsl]
      exact (q4 1 (Nat.lt_succ_self 1)).trans (congrArg some hfv1))
    (g := F0 m pc ls (.ref (mr ρ r) :: st)) rfl (by rw [a.2.2.1]; exact hlv.1) (rest := st) rfl (by rw [a.2.1]; exact d) (by rw [hR]; exact hf) (by rw [hR]; show 2 * 0 + _ + (13 * 3 + 41) ≤ _; omega)
  have hlt : mr ρ r < W.heap.size := (Array.getElem?_eq_some_iff.mp q1).1
  have hh : (V.setCell (mr ρ r) ce).heap = W.heap.setIfInBounds (mr ρ r) ce := by rw [← hV]; rfl
  have hap : ∀ (k : Nat), k < 2 → ∀ nm d c' k' i' f', (nm = "cause" ∧ d = "Ljava/lang/Throwable;" ∨ nm = "stackTrace" ∧ d = Bundle.steD ∨ nm = "suppressedExceptions" ∧ d = Bundle.listD) → s.fieldFound? Bundle.tN nm d = some (c', k', i', f') → f'.slot ≠ (rD ρ).2 ci k := by
    intro k hk nm dd c' k' i' f' hor hff
    obtain ⟨cf, kf, fi, f, hi, hsl⟩ := hKn.1 k hk
    rw [← hsl]
    have hnk : (T k).2.1 ≠ nm := by
      rcases (show k = 0 ∨ k = 1 by omega) with e | e <;> subst e
      · rcases hor with ⟨e, -⟩ | ⟨e, -⟩ | ⟨e, -⟩ <;> rw [e]
        · exact hn0.1
        · exact hn0.2.1
        · exact hn0.2.2
      · rw [hT1]
        rcases hor with ⟨e, -⟩ | ⟨e, -⟩ | ⟨e, -⟩ <;> rw [e] <;> decide
    have hl9 : (Cond.lays own Bundle.tN nm dd).before args s = true := by
      rcases hor with ⟨e1, e2⟩ | ⟨e1, e2⟩ | ⟨e1, e2⟩ <;> rw [e1, e2]
      · exact hts _ hl1
      · exact hts _ hl2
      · exact hts _ hl3
    have hpd : ∃ ty, parseFieldDescriptor dd = some ty := by
      rcases hor with ⟨-, e2⟩ | ⟨-, e2⟩ | ⟨-, e2⟩ <;> rw [e2]
      · exact ⟨.object "java/lang/Throwable", by decide⟩
      · exact ⟨.array (.object "java/lang/StackTraceElement"), by decide⟩
      · exact ⟨.object "java/util/List", by decide⟩
    obtain ⟨ty, hty9⟩ := hpd
    refine u_apart (Or.inl hl9) (u_lays hts hin hk) hff hi ?_
    rw [(State.fieldFound?_type hff hty9).1, (State.fieldFound?_type hi (hty k hk)).1]
    exact fun z => hnk z.symm
  have hget : (V.setCell (mr ρ r) ce).heap[mr ρ r]? = some ce := by
    rw [hh]; simp [Array.getElem?_setIfInBounds, hlt]
  have r1 : Rep ρ h (V.setCell (mr ρ r) ce).heap := by
    refine r0.put (r0.live hs (by omega)).1 rfl rfl (fun _ _ _ _ => rfl) (by rw [hh]; simp) (fun q hq => by rw [hh]; simp [Array.getElem?_setIfInBounds, Ne.symm hq]) ⟨fun z => ?_, fun c2 q z hz => ?_, fun z => ⟨ce, hget, by rw [k3]; exact m2, by rw [k3]; exact m3, k4⟩⟩
    · rw [hs] at z
      have : 10 + ci ≤ 6 := z.2
      omega
    · rw [hs] at z
      have : 10 + ci = 10 + c2 := z
      have : c2 = ci := by omega
      subst this
      cases hc.symm.trans hz
      refine ⟨ce, hget, by rw [k1]; exact q2, k2, fun k hk => ?_⟩
      rw [k5 _ (hap k hk)]
      exact q4 k hk
  obtain ⟨t, a1, b1⟩ := kk p e R s m args below meth c _ (locs ++ L) ls a r1 (fun q hq => by
      rcases List.mem_append.mp hq with z | z
      · exact hl q z
      · rw [hL q z]; exact Nat.le_add_right _ _) hlv _ rfl Z2
  exact ⟨t, st2 t a1, b1⟩
theorem x_thr3 {index r : Nat} (d : decode (kC K) pc = .ok (.invokespecial index, 3)) (hs : sh h r = (13, 0)) (hf : 6 ≤ (kM K).frames) (hlo : (st.map fun v => v.category).sum + 90 ≤ (kM K).locals) (kk : X ρ K (pc + 3) lv st h cs ss Φ Ψ) (ho : kO K = RX4 := by rfl) (hix : index = 1 := by rfl) : X ρ K pc lv (.ref (mr ρ r) :: st) h cs ss Φ Ψ := by
  subst hix
  exact x_thrG (ci := 3) rfl (Or.inl rfl) rfl in_X4n tyT3_ok (by decide) q309 q311 q313 vt_in4 q341 ho d hs hf hlo kk
theorem x_thr5 {index r : Nat} (d : decode (kC K) pc = .ok (.invokespecial index, 3)) (hs : sh h r = (15, 0)) (hf : 6 ≤ (kM K).frames) (hlo : (st.map fun v => v.category).sum + 90 ≤ (kM K).locals) (kk : X ρ K (pc + 3) lv st h cs ss Φ Ψ) (ho : kO K = RX6 := by rfl) (hix : index = 1 := by rfl) : X ρ K pc lv (.ref (mr ρ r) :: st) h cs ss Φ Ψ := by
  subst hix
  exact x_thrG (ci := 5) rfl (Or.inr rfl) rfl in_X6n tyT5_ok (by decide) q435 q436 q437 vt_in6 q443 ho d hs hf hlo kk
/-- LETTERS -/
theorem x_ldcS {index : Nat} (d : decode (kC K) pc = .ok (.ldc index, 2)) (kk : X ρ K (pc + 2) lv (.ref (rO ρ 1) :: st) h cs ss Φ Ψ) (ho : kO K = "BeforeTheEnd$Reader" := by rfl) (hix : index = 72 := by rfl) : X ρ K pc lv st h cs ss Φ Ψ := by
  intro p e R s m args below meth c H locs ls a r0 hl hlv
  subst hix
  exact va_ldcS a.1 a.2.1 (tx := "esblta") (by rw [← ho]; exact amb_own a) (vk_R.warm (amb_wh a) (amb_G a).2.2.2.2.2.2.1) d (kk p e R s m args below meth c H locs ls a r0 hl hlv)
theorem x_compact {index : Nat} (d : decode (kC K) pc = .ok (.getstatic index, 3)) (hq : Cond.fieldLink (kO K) index "java/lang/String" "COMPACT_STRINGS" "Z" ∈ lw_all) (kk : X ρ K (pc + 3) lv (.int 1 :: st) h cs ss Φ Ψ) : X ρ K pc lv st h cs ss Φ Ψ := by
  intro p e R s m args below meth c H locs ls a r0 hl hlv
  obtain ⟨cf, kf, fi, f, ad, cell, h1, h2, h3, h4, h5, h6, h7, h8⟩ := va_Z.moved (amb_wh a).alike ((amb_G a).2.2.2.2.2.2.2.2)
  exact W.gets a.1 a.2.1 (amb_own a) (amb_hts a _ hq) h1 h2 h3 h4 (by rw [r0.2.1 ad (Array.getElem?_eq_some_iff.mp h5).1]; exact h5) (fun z => by rw [z] at h6; cases h6) h7 rfl d (kk p e R s m args below meth c H locs ls a r0 hl hlv)
theorem x_sget {index : Nat} {n d0 : String} {v : Value} (hF : G0 ρ → va_OF "java/lang/String" n d0 v (rO ρ 1) (rF ρ) (rS ρ) (rS ρ).heap) (d : decode (kC K) pc = .ok (.getfield index, 3)) (hq : Cond.fieldLink (kO K) index "java/lang/String" n d0 ∈ lw_all) (kk : X ρ K (pc + 3) lv (v :: st) h cs ss Φ Ψ) : X ρ K pc lv (.ref (rO ρ 1) :: st) h cs ss Φ Ψ := by
  intro p e R s m args below meth c H locs ls a r0 hl hlv
  obtain ⟨cf, k, fi, f, cell, h1, h2, h3, h4, h5, h6⟩ := va_OF.moved (amb_wh a).alike (hF (amb_G a))
  exact W.getf a.1 a.2.1 (amb_own a) (amb_hts a _ hq) h1 h2 (by rw [r0.2.1 _ (Array.getElem?_eq_some_iff.mp h3).1]; exact h3) h4 (v := v) h5 rfl rfl d (kk p e R s m args below meth c H locs ls a r0 hl hlv)
theorem g_coder (G : G0 ρ) : va_OF "java/lang/String" "coder" "B" (.int 0) (rO ρ 1) (rF ρ) (rS ρ) (rS ρ).heap := (G.2.2.2.2.2.2.2.1.1 0 (by decide)).2.1
theorem g_value (G : G0 ρ) : va_OF "java/lang/String" "value" "[B" (.ref (rO ρ 2)) (rO ρ 1) (rF ρ) (rS ρ) (rS ρ).heap := (G.2.2.2.2.2.2.2.1.1 0 (by decide)).2.2.1
def letF (j : Nat) : Int32 := ([101, 115, 98, 108, 116, 97] : List Int32).getD j 0
theorem x_letA {i : Int32} {j : Nat} (d : decode (kC K) pc = .ok (.baload, 1)) (hj : i.toNatClampNeg = j) (hin : vp_in i 6) (kk : X ρ K (pc + 1) lv (.int (letF j) :: st) h cs ss Φ Ψ) : X ρ K pc lv (.int i :: .ref (rO ρ 2) :: st) h cs ss Φ Ψ := by
  subst hj
  intro p e R s m args below meth c H locs ls a r0 hl hlv
  obtain ⟨cell, h1, h2, h3, h4, h5, h6, h7⟩ := ((amb_G a).2.2.2.2.2.2.2.1.1 0 (by decide)).2.2.2
  have hlt : i.toNatClampNeg < 6 := Nat.not_le.mp fun q => hin (Or.inr q)
  exact W.bald (v := .int (letF i.toNatClampNeg)) a.1 a.2.1 (cell := cell) (by rw [r0.2.1 _ (Array.getElem?_eq_some_iff.mp h1).1]; exact h1) (State.isArrayOf_alike (amb_wh a).alike h2) h3 (fun z => hin (z.imp id (fun z => Nat.le_trans h4 z))) (h6 _ hlt) rfl rfl d (kk p e R s m args below meth c H locs ls a r0 hl hlv)
theorem x_letL (d : decode (kC K) pc = .ok (.arraylength, 1)) (kk : X ρ K (pc + 1) lv (.int 6 :: st) h cs ss Φ Ψ) : X ρ K pc lv (.ref (rO ρ 2) :: st) h cs ss Φ Ψ := by
  intro p e R s m args below meth c H locs ls a r0 hl hlv
  obtain ⟨cell, h1, h2, h3, h4, h5, h6, h7⟩ := ((amb_G a).2.2.2.2.2.2.2.1.1 0 (by decide)).2.2.2
  have e6 : Int32.ofNat (([6] : List Nat).getD 0 0) = 6 := by decide
  have h9 : cell.slots.size.toInt32 = 6 := h5.trans e6
  have hx : H[rO ρ 2]? = some cell := by rw [r0.2.1 _ (Array.getElem?_eq_some_iff.mp h1).1]; exact h1
  exact W.alen a.1 a.2.1 (cell := cell) hx (ty := .byte) (State.isArrayOf_alike (amb_wh a).alike h2) (n := 6) h9 rfl rfl d (kk p e R s m args below meth c H locs ls a r0 hl hlv)
theorem x_callJ {Φ' : Option Value → Hp → Prop} {Ψ' : Nat → Hp → Prop} {index : Nat} {y : MethodName} {b : ByteArray} {L : Nat} {ret : Option FieldType} {rm : Room} {st0 : List Value} (As : List Value) (n : Nat) (d : decode (kC K) pc = .ok (.invokevirtual index, 3)) (hM : Con ρ y (ws_ y b L ret) rm (.ref (rO ρ 1) :: As) h Φ' Ψ') (h1 : Cond.methodLink (kO K) index y ∈ lw_all) (h2 : Cond.instanceMethod y ∈ lw_all) (h3 : Cond.selects "java/lang/String" y y ∈ lw_all) (h4 : Cond.initialized "java/lang/String" ∈ lw_all) (h5 : Cond.code y b L ret ∈ lw_all) (hd : y.cls = "java/lang/String" ∧ y.cls ≠ "java/lang/invoke/MethodHandle" ∧ y.cls ≠ "java/lang/invoke/VarHandle" ∧ (parseMethodDescriptor y.desc).map (fun d => d.parameters.length) = some n) (hlen : As.length = n) (hst0 : st0 = As.reverse ++ .ref (rO ρ 1) :: st) (hroom : rm.frames + 1 ≤ (kM K).frames ∧ 8 + (L + 11) + rm.locals ≤ (kM K).locals) (hst : (st.map fun v => v.category).sum ≤ 8) (hcells : cs + rm.cells ≤ (kM K).cells ∧ ss + rm.slots ≤ (kM K).slots) (kk : ∀ v h', Φ' v h' → X ρ K (pc + 3) lv (v.toList ++ st) h' (cs + rm.cells) (ss + rm.slots) Φ Ψ) (kx : ∀ q h' ci n x, Ψ' q h' → sh h' q = (10 + ci, n) → kCl[ci]? = some x → XT ρ K pc lv q h' (cs + rm.cells) (ss + rm.slots) Φ Ψ) : X ρ K pc lv st0 h cs ss Φ Ψ := by
  subst hst0
  intro p e R s m args below meth c H locs ls a r0 hl hlv
  have hR : R = kM K := a.2.2.2.2.2.2.2.1
  have hts := amb_hts a
  have hrc : ∃ cell : Cell, H[rO ρ 1]? = some cell ∧ cell.vm.isStatics = false ∧ s.vm.findClass "java/lang/String" = some cell.cls := by
    obtain ⟨cell, z1, z2, z3, z4⟩ := va_O.moved (amb_wh a).alike ((amb_G a).2.2.2.2.2.2.2.1.1 0 (by decide)).1
    exact ⟨cell, by rw [r0.2.1 _ (Array.getElem?_eq_some_iff.mp z1).1]; exact z1, z2, z3⟩
  exact x_of_run a hl hlv (vx_runV (As := As) (rest := st) ⟨a.1, a.2.1, a.2.2.1, amb_own a, hts⟩ hM (cwV n hts (lw_V h1 h2 h3 h4 h5) rfl rfl rfl hd (by rw [hR]; exact hroom)) ⟨con_blind, hrc, con_start a r0⟩ rfl hlen hlv.1 rfl (lv_room hst) d (by rw [hR]; exact hcells)) kk kx
theorem x_mmin {index : Nat} {x y : Int32} (d : decode (kC K) pc = .ok (.invokestatic index, 3)) (h1 : Cond.methodLink (kO K) index Lib.Math.min.name ∈ lw_all) (h2 : Cond.static Lib.Math.min.name ∈ lw_all) (h3 : Cond.initialized "java/lang/Math" ∈ lw_all) (h4 : Cond.code Lib.Math.min.name Lib.Math.min.code 2 (some .int) ∈ lw_all) (hf : 1 ≤ (kM K).frames) (hlo : (st.map fun v => v.category).sum + 13 ≤ (kM K).locals) (hc : cs ≤ (kM K).cells) (hs : ss ≤ (kM K).slots) (kk : X ρ K (pc + 3) lv (.int (if y < x then y else x) :: st) h cs ss Φ Ψ) : X ρ K pc lv (.int y :: .int x :: st) h cs ss Φ Ψ := by
  intro p e R s m args below meth c H locs ls a r0 hl hlv
  have hts := amb_hts a
  have hR : R = kM K := a.2.2.2.2.2.2.2.1
  subst hR
  exact va_mmin a.1 a.2.1 (by rw [hlv.1, a.2.2.1]) (amb_own a) (hts _ h1) (hts _ h2) (hts _ h3) (hts _ h4) hf hlo hc hs d (kk p e _ s m args below meth c H locs ls a r0 hl hlv)
/-- the answers of the members that write nothing -/
def phQ (v0 : Int32) (h0 : Hp) : Option Value → Hp → Prop := fun v h => v = some (.int v0) ∧ h = h0
abbrev kJl : String := "java/lang/String"
abbrev LEt {a b : Nat} (h : Nat.ble a b = true) : a ≤ b := Nat.le_of_ble_eq_true h
theorem x_cJ4_canEncode {x v : Int32} (hv : (if x < 0 then 0 else if 255 < x then 0 else 1) = v) : Con ρ yJ4_canEncode (ws_ yJ4_canEncode cJ4_canEncode 1 (some .boolean)) { frames := 1, cells := 0, slots := 0, locals := 20 } [.int x] h (phQ v h) psN := by
  refine con_of (own := "java/lang/StringLatin1") (isI := false) (l0 := [(0, .int x)]) (by decide) rfl (fun z => by cases z) (LEt rfl) rfl (fun _ => ?_)
  refine x_iload_n 0 dJ4_canEncode_0 rfl ?_
  have e0 : ∀ z : Int32, z = v → (z = 0 ∨ z = 1) → X ρ ("java/lang/StringLatin1", cJ4_canEncode, 1, some .boolean, { frames := 1, cells := 0, slots := 0, locals := 20 }, [], false) 16 [(0, .int x)] [.int z] h 0 0 (phQ v h) psN := by
    intro z hz h01
    subst hz
    exact x_zret dJ4_canEncode_16 rfl (isB.n h01) (LEt rfl) (LEt rfl) ⟨rfl, rfl⟩
  refine x_if_lt 15 dJ4_canEncode_1 (by decide) (fun c1 => ?_) (fun c1 => ?_)
  · refine x_iconst 0 dJ4_canEncode_15 (by decide) ?_
    exact e0 0 (by rw [← hv, if_pos c1]) (Or.inl rfl)
  · refine x_iload_n 0 dJ4_canEncode_4 rfl ?_
    refine x_sipush 255 dJ4_canEncode_5 (by decide) ?_
    refine x_icmp_gt 15 dJ4_canEncode_8 (by decide) (fun c2 => ?_) (fun c2 => ?_)
    · refine x_iconst 0 dJ4_canEncode_15 (by decide) ?_
      exact e0 0 (by rw [← hv, if_neg c1, if_pos c2]) (Or.inl rfl)
    · refine x_iconst 1 dJ4_canEncode_11 (by decide) ?_
      refine x_goto 16 dJ4_canEncode_12 (by decide) ?_
      exact e0 1 (by rw [← hv, if_neg c1, if_neg c2]) (Or.inr rfl)
theorem x_iretN {x : Int32} (d : decode (kC K) pc = .ok (.ireturn, 1)) (hr : kR K = some .byte) (hz : narrow .byte (.int x) = .int x) (h1 : cs ≤ (kM K).cells) (h2 : ss ≤ (kM K).slots) (hp : Φ (some (.int x)) h) : X ρ K pc lv [.int x] h cs ss Φ Ψ := by
  intro p e R s m args below meth c H locs ls a r0 hl hlv
  refine W.widen h1 h2 (vx_ret ?_)
  exact W.zret a.1 a.2.1 (a.2.2.2.2.2.1.trans hr) hz (fun t ht hW => ⟨_, h, rfl, hp, State.WarmedH.trans (amb_wh a) hW, by rw [ht]; exact r0⟩) hl d a.2.2.2.2.2.2.1
theorem x_cJ3_coder : Con ρ yJ3_coder (ws_ yJ3_coder cJ3_coder 1 (some .byte)) { frames := 1, cells := 0, slots := 0, locals := 20 } [.ref (rO ρ 1)] h (phQ 0 h) psN := by
  refine con_of (own := kJl) (isI := false) (l0 := [(0, .ref (rO ρ 1))]) (by decide) rfl (fun z => by cases z) (LEt rfl) rfl (fun G => ?_)
  refine x_compact dJ3_coder_0 q513 ?_
  refine x_if_eq 13 dJ3_coder_3 (by decide) (fun z => absurd z (by decide)) (fun _ => ?_)
  refine x_aload_n 0 dJ3_coder_6 rfl ?_
  refine x_sget g_coder dJ3_coder_7 q1738 ?_
  refine x_goto 14 dJ3_coder_10 (by decide) ?_
  exact x_iretN dJ3_coder_14 rfl (by rfl) (LEt rfl) (LEt rfl) ⟨rfl, rfl⟩
theorem x_cJ3_isLatin1 : Con ρ yJ3_isLatin1 (ws_ yJ3_isLatin1 cJ3_isLatin1 1 (some .boolean)) { frames := 1, cells := 0, slots := 0, locals := 20 } [.ref (rO ρ 1)] h (phQ 1 h) psN := by
  refine con_of (own := kJl) (isI := false) (l0 := [(0, .ref (rO ρ 1))]) (by decide) rfl (fun z => by cases z) (LEt rfl) rfl (fun G => ?_)
  refine x_compact dJ3_isLatin1_0 q513 ?_
  refine x_if_eq 17 dJ3_isLatin1_3 (by decide) (fun z => absurd z (by decide)) (fun _ => ?_)
  refine x_aload_n 0 dJ3_isLatin1_6 rfl ?_
  refine x_sget g_coder dJ3_isLatin1_7 q1738 ?_
  refine x_if_ne 17 dJ3_isLatin1_10 (by decide) (fun z => absurd rfl z) (fun _ => ?_)
  refine x_iconst 1 dJ3_isLatin1_13 (by decide) ?_
  refine x_goto 18 dJ3_isLatin1_14 (by decide) ?_
  exact x_zret dJ3_isLatin1_18 rfl (isB.n isB_1) (LEt rfl) (LEt rfl) ⟨rfl, rfl⟩
theorem x_cJ3_length : Con ρ yJ3_length (ws_ yJ3_length cJ3_length 1 (some .int)) { frames := 2, cells := 0, slots := 0, locals := 45 } [.ref (rO ρ 1)] h (phQ 6 h) psN := by
  refine con_of (own := kJl) (isI := false) (l0 := [(0, .ref (rO ρ 1))]) (by decide) rfl (fun z => by cases z) (LEt rfl) rfl (fun G => ?_)
  refine x_aload_n 0 dJ3_length_0 rfl ?_
  refine x_sget g_value dJ3_length_1 q1739 ?_
  refine x_letL dJ3_length_4 ?_
  refine x_aload_n 0 dJ3_length_5 rfl ?_
  refine x_callJ [] 0 dJ3_length_6 x_cJ3_coder q519 q520 q521 q116 q522 (by decide) rfl rfl ⟨LEt rfl, LEt rfl⟩ (LEt rfl) ⟨LEt rfl, LEt rfl⟩ (fun v h1 hv => ?_) (fun _ _ _ _ _ z _ _ => False.elim z)
  obtain ⟨rfl, rfl⟩ := hv
  refine x_ishr dJ3_length_9 ?_
  exact x_iret dJ3_length_10 rfl (LEt rfl) (LEt rfl) ⟨by decide, rfl⟩
/-- what indexOfChar finds from k on -/
def ixR (c : Int32) : Nat → Int32
  | 0 => -1
  | d + 1 => if letF (5 - d) = c then Int32.ofNat (5 - d) else ixR c d
theorem x_cJ4_indexOfChar {x : Int32} : Con ρ yJ4_indexOfChar (ws_ yJ4_indexOfChar cJ4_indexOfChar 6 (some .int)) { frames := 1, cells := 0, slots := 0, locals := 20 } [.ref (rO ρ 2), .int x, .int 0, .int 6] h (phQ (ixR x.toInt8.toInt32 6) h) psN := by
  refine con_of (own := "java/lang/StringLatin1") (isI := false) (l0 := [(0, .ref (rO ρ 2)), (1, .int x), (2, .int 0), (3, .int 6)]) (by decide) rfl (fun z => by cases z) (LEt rfl) rfl (fun G => ?_)
  refine x_iload_n 1 dJ4_indexOfChar_0 rfl ?_
  refine x_i2b dJ4_indexOfChar_1 ?_
  refine x_istore (lv' := [(4, .int x.toInt8.toInt32), (0, .ref (rO ρ 2)), (1, .int x), (2, .int 0), (3, .int 6)]) dJ4_indexOfChar_2 (LEt rfl) rfl ?_
  refine x_iload_n 3 dJ4_indexOfChar_4 rfl ?_
  refine x_istore (lv' := [(5, .int 0), (4, .int x.toInt8.toInt32), (0, .ref (rO ρ 2)), (1, .int x), (2, .int 0), (3, .int 6)]) dJ4_indexOfChar_5 (LEt rfl) rfl ?_
  have key : ∀ d : Nat, d ≤ 6 → ∀ Φ' : Option Value → Hp → Prop, Φ' (some (.int (ixR x.toInt8.toInt32 d))) h → X ρ ("java/lang/StringLatin1", cJ4_indexOfChar, 6, some .int, { frames := 1, cells := 0, slots := 0, locals := 20 }, [], false) 7 [(5, .int (Int32.ofNat (6 - d))), (4, .int x.toInt8.toInt32), (0, .ref (rO ρ 2)), (1, .int x), (2, .int 0), (3, .int 6)] [] h 0 0 Φ' psN := by
    intro d
    induction d with
    | zero =>
      intro _ Φ' hP
      refine x_iload 0 dJ4_indexOfChar_7 rfl ?_
      refine x_iload_n 5 dJ4_indexOfChar_9 rfl ?_
      refine x_icmp_ge 31 dJ4_indexOfChar_10 (by decide) (fun _ => ?_) (fun z => absurd (by decide) z)
      refine x_iconst (-1) dJ4_indexOfChar_31 (by decide) ?_
      exact x_iret dJ4_indexOfChar_32 rfl (LEt rfl) (LEt rfl) hP
    | succ d ih =>
      intro hd Φ' hP
      have e1 : 6 - (d + 1) = 5 - d := by omega
      rw [e1]
      have e2 : (Int32.ofNat (5 - d)).toNatClampNeg = 5 - d := by
        rcases (show d = 0 ∨ d = 1 ∨ d = 2 ∨ d = 3 ∨ d = 4 ∨ d = 5 by omega) with e | e | e | e | e | e <;> subst e <;> decide
      have e3 : ¬ (6 : Int32) ≤ Int32.ofNat (5 - d) := by
        rcases (show d = 0 ∨ d = 1 ∨ d = 2 ∨ d = 3 ∨ d = 4 ∨ d = 5 by omega) with e | e | e | e | e | e <;> subst e <;> decide
      have e4 : vp_in (Int32.ofNat (5 - d)) 6 := by
        unfold vp_in
        rcases (show d = 0 ∨ d = 1 ∨ d = 2 ∨ d = 3 ∨ d = 4 ∨ d = 5 by omega) with e | e | e | e | e | e <;> subst e <;> decide
      have e5 : Int32.ofNat (5 - d) + 1 = Int32.ofNat (6 - d) := by
        rcases (show d = 0 ∨ d = 1 ∨ d = 2 ∨ d = 3 ∨ d = 4 ∨ d = 5 by omega) with e | e | e | e | e | e <;> subst e <;> decide
      refine x_iload 0 dJ4_indexOfChar_7 rfl ?_
      refine x_iload_n 5 dJ4_indexOfChar_9 rfl ?_
      refine x_icmp_ge 31 dJ4_indexOfChar_10 (by decide) (fun z => absurd z e3) (fun _ => ?_)
      refine x_aload_n 2 dJ4_indexOfChar_13 rfl ?_
      refine x_iload 0 dJ4_indexOfChar_14 rfl ?_
      refine x_letA (j := 5 - d) dJ4_indexOfChar_16 e2 e4 ?_
      refine x_iload 1 dJ4_indexOfChar_17 rfl ?_
      refine x_icmp_ne 25 dJ4_indexOfChar_19 (by decide) (fun z => ?_) (fun z => ?_)
      · refine x_iinc (v := Int32.ofNat (6 - d)) (lv' := [(5, .int (Int32.ofNat (6 - d))), (4, .int x.toInt8.toInt32), (0, .ref (rO ρ 2)), (1, .int x), (2, .int 0), (3, .int 6)]) 0 dJ4_indexOfChar_25 rfl e5 (LEt rfl) rfl ?_
        refine x_goto 7 dJ4_indexOfChar_28 (by decide) ?_
        refine ih (by omega) Φ' ?_
        rw [ixR, if_neg z] at hP
        exact hP
      · refine x_iload 0 dJ4_indexOfChar_22 rfl ?_
        rw [ixR, if_pos (Classical.not_not.mp (by first | exact z | exact fun w => w z))] at hP
        exact x_iret dJ4_indexOfChar_24 rfl (LEt rfl) (LEt rfl) hP
  exact key 6 (Nat.le_refl _) _ ⟨rfl, rfl⟩
/-- "esblta".indexOf -/
def idxOf (x : Int32) : Int32 := if x = 101 then 0 else if x = 115 then 1 else if x = 98 then 2 else if x = 108 then 3 else if x = 116 then 4 else if x = 97 then 5 else -1
theorem idxOf_out {x : Int32} (hx : x < 0 ∨ 255 < x) : idxOf x = -1 := by
  unfold idxOf
  have h : ∀ n : Int32, 0 ≤ n ∧ n ≤ 255 → ¬ x = n := fun n hn z => by
    subst z
    rcases hx with q | q
    · exact absurd hn.1 (Int32.not_le.mpr q)
    · exact absurd hn.2 (Int32.not_le.mpr q)
  rw [if_neg (h _ (by decide)), if_neg (h _ (by decide)), if_neg (h _ (by decide)), if_neg (h _ (by decide)), if_neg (h _ (by decide)), if_neg (h _ (by decide))]
theorem idxOf_tab : ∀ n : Fin 256, ixR (Int32.ofNat n.val).toInt8.toInt32 6 = idxOf (Int32.ofNat n.val) := by decide +kernel
theorem idxOf_in {x : Int32} (h1 : ¬ x < 0) (h2 : ¬ 255 < x) : ixR x.toInt8.toInt32 6 = idxOf x := by
  have a1 : 0 ≤ x.toInt := by
    have := Int32.le_iff_toInt_le.mp (Int32.not_lt.mp h1)
    simpa using this
  have a2 : x.toInt ≤ 255 := by
    have := Int32.le_iff_toInt_le.mp (Int32.not_lt.mp h2)
    simpa using this
  have e : x = Int32.ofNat x.toInt.toNat := by
    apply Int32.toInt_inj.mp
    rw [Int32.toInt_ofNat_of_lt (by omega)]
    omega
  have := idxOf_tab ⟨x.toInt.toNat, by omega⟩
  rw [show (⟨x.toInt.toNat, by omega⟩ : Fin 256).val = x.toInt.toNat from rfl, ← e] at this
  exact this
theorem x_cJ4_indexOf {x : Int32} : Con ρ yJ4_indexOf (ws_ yJ4_indexOf cJ4_indexOf 4 (some .int)) { frames := 2, cells := 0, slots := 0, locals := 60 } [.ref (rO ρ 2), .int x, .int 0, .int 6] h (phQ (idxOf x) h) psN := by
  refine con_of (own := "java/lang/StringLatin1") (isI := false) (l0 := [(0, .ref (rO ρ 2)), (1, .int x), (2, .int 0), (3, .int 6)]) (by decide) rfl (fun z => by cases z) (LEt rfl) rfl (fun G => ?_)
  refine x_iload_n 1 dJ4_indexOf_0 rfl ?_
  refine x_callS [.int x] 1 dJ4_indexOf_1 (x_cJ4_canEncode rfl) q526 q527 q117 q528 (by decide) rfl rfl ⟨LEt rfl, LEt rfl⟩ (LEt rfl) ⟨LEt rfl, LEt rfl⟩ (fun v h1 hv => ?_) (fun _ _ _ _ _ z _ _ => False.elim z)
  obtain ⟨rfl, rfl⟩ := hv
  refine x_if_ne 9 dJ4_indexOf_4 (by decide) (fun z => ?_) (fun z => ?_)
  · have c1 : ¬ x < 0 := fun q => z (by rw [if_pos q])
    have c2 : ¬ 255 < x := fun q => z (by rw [if_neg c1, if_pos q])
    refine x_iload_n 2 dJ4_indexOf_9 rfl ?_
    refine x_iconst 0 dJ4_indexOf_10 (by decide) ?_
    refine x_mmax dJ4_indexOf_11 q529 q530 q118 q531 (LEt rfl) (LEt rfl) (LEt rfl) (LEt rfl) ?_
    refine x_istore_n (x := 0) (lv' := [(2, .int 0), (0, .ref (rO ρ 2)), (1, .int x), (3, .int 6)]) dJ4_indexOf_14 (LEt rfl) rfl ?_
    refine x_iload_n 3 dJ4_indexOf_15 rfl ?_
    refine x_aload_n 1 dJ4_indexOf_16 rfl ?_
    refine x_letL dJ4_indexOf_17 ?_
    refine x_mmin dJ4_indexOf_18 q532 q533 q118 q534 (LEt rfl) (LEt rfl) (LEt rfl) (LEt rfl) ?_
    refine x_istore_n (x := 6) (lv' := [(3, .int 6), (2, .int 0), (0, .ref (rO ρ 2)), (1, .int x)]) dJ4_indexOf_21 (LEt rfl) rfl ?_
    refine x_iload_n 1 dJ4_indexOf_22 rfl ?_
    refine x_iload_n 0 dJ4_indexOf_23 rfl ?_
    refine x_icmp_lt 29 dJ4_indexOf_24 (by decide) (fun _ => ?_) (fun z => absurd (by decide) z)
    refine x_aload_n 2 dJ4_indexOf_29 rfl ?_
    refine x_iload_n 3 dJ4_indexOf_30 rfl ?_
    refine x_iload_n 1 dJ4_indexOf_31 rfl ?_
    refine x_iload_n 0 dJ4_indexOf_32 rfl ?_
    refine x_callS [.ref (rO ρ 2), .int x, .int 0, .int 6] 4 dJ4_indexOf_33 x_cJ4_indexOfChar q535 q536 q117 q537 (by decide) rfl rfl ⟨LEt rfl, LEt rfl⟩ (LEt rfl) ⟨LEt rfl, LEt rfl⟩ (fun v h1 hv => ?_) (fun _ _ _ _ _ z _ _ => False.elim z)
    obtain ⟨rfl, rfl⟩ := hv
    exact x_iret dJ4_indexOf_36 rfl (LEt rfl) (LEt rfl) ⟨by rw [idxOf_in c1 c2], rfl⟩
  · have hx : x < 0 ∨ 255 < x := by
      by_cases c1 : x < 0
      · exact Or.inl c1
      · rw [if_neg c1] at z
        by_cases c2 : 255 < x
        · exact Or.inr c2
        · rw [if_neg c2] at z; exact absurd z (by decide)
    refine x_iconst (-1) dJ4_indexOf_7 (by decide) ?_
    exact x_iret dJ4_indexOf_8 rfl (LEt rfl) (LEt rfl) ⟨by rw [idxOf_out hx], rfl⟩
theorem x_cJ3_indexOf_2 {x : Int32} : Con ρ yJ3_indexOf_2 (ws_ yJ3_indexOf_2 cJ3_indexOf_2 3 (some .int)) { frames := 3, cells := 0, slots := 0, locals := 95 } [.ref (rO ρ 1), .int x, .int 0] h (phQ (idxOf x) h) psN := by
  refine con_of (own := kJl) (isI := false) (l0 := [(0, .ref (rO ρ 1)), (1, .int x), (2, .int 0)]) (by decide) rfl (fun z => by cases z) (LEt rfl) rfl (fun G => ?_)
  refine x_aload_n 0 dJ3_indexOf_2_0 rfl ?_
  refine x_callJ [] 0 dJ3_indexOf_2_1 x_cJ3_isLatin1 q509 q510 q511 q116 q512 (by decide) rfl rfl ⟨LEt rfl, LEt rfl⟩ (LEt rfl) ⟨LEt rfl, LEt rfl⟩ (fun v h1 hv => ?_) (fun _ _ _ _ _ z _ _ => False.elim z)
  obtain ⟨rfl, rfl⟩ := hv
  refine x_if_eq 23 dJ3_indexOf_2_4 (by decide) (fun z => absurd z (by decide)) (fun _ => ?_)
  refine x_aload_n 0 dJ3_indexOf_2_7 rfl ?_
  refine x_sget g_value dJ3_indexOf_2_8 q1739 ?_
  refine x_iload_n 1 dJ3_indexOf_2_11 rfl ?_
  refine x_iload_n 2 dJ3_indexOf_2_12 rfl ?_
  refine x_aload_n 0 dJ3_indexOf_2_13 rfl ?_
  refine x_callJ [] 0 dJ3_indexOf_2_14 x_cJ3_length q515 q516 q517 q116 q518 (by decide) rfl rfl ⟨LEt rfl, LEt rfl⟩ (LEt rfl) ⟨LEt rfl, LEt rfl⟩ (fun v h1 hv => ?_) (fun _ _ _ _ _ z _ _ => False.elim z)
  obtain ⟨rfl, rfl⟩ := hv
  refine x_callS [.ref (rO ρ 2), .int x, .int 0, .int 6] 4 dJ3_indexOf_2_17 x_cJ4_indexOf q523 q524 q117 q525 (by decide) rfl rfl ⟨LEt rfl, LEt rfl⟩ (LEt rfl) ⟨LEt rfl, LEt rfl⟩ (fun v h1 hv => ?_) (fun _ _ _ _ _ z _ _ => False.elim z)
  obtain ⟨rfl, rfl⟩ := hv
  refine x_goto 36 dJ3_indexOf_2_20 (by decide) ?_
  exact x_iret dJ3_indexOf_2_36 rfl (LEt rfl) (LEt rfl) ⟨rfl, rfl⟩
theorem x_cJ3_indexOf {x : Int32} : Con ρ yJ3_indexOf (ws_ yJ3_indexOf cJ3_indexOf 2 (some .int)) { frames := 4, cells := 0, slots := 0, locals := 120 } [.ref (rO ρ 1), .int x] h (phQ (idxOf x) h) psN := by
  refine con_of (own := kJl) (isI := false) (l0 := [(0, .ref (rO ρ 1)), (1, .int x)]) (by decide) rfl (fun z => by cases z) (LEt rfl) rfl (fun G => ?_)
  refine x_aload_n 0 dJ3_indexOf_0 rfl ?_
  refine x_iload_n 1 dJ3_indexOf_1 rfl ?_
  refine x_iconst 0 dJ3_indexOf_2 (by decide) ?_
  refine x_callJ [.int x, .int 0] 2 dJ3_indexOf_3 x_cJ3_indexOf_2 q505 q506 q507 q116 q508 (by decide) rfl rfl ⟨LEt rfl, LEt rfl⟩ (LEt rfl) ⟨LEt rfl, LEt rfl⟩ (fun v h1 hv => ?_) (fun _ _ _ _ _ z _ _ => False.elim z)
  obtain ⟨rfl, rfl⟩ := hv
  exact x_iret dJ3_indexOf_6 rfl (LEt rfl) (LEt rfl) ⟨rfl, rfl⟩
theorem x_indexOf {index : Nat} {x : Int32} (d : decode (kC K) pc = .ok (.invokevirtual index, 3)) (hq : Cond.methodLink (kO K) index yJ3_indexOf ∈ lw_all) (hf : 5 ≤ (kM K).frames) (hlo : 141 ≤ (kM K).locals) (hcs : cs ≤ (kM K).cells) (hss : ss ≤ (kM K).slots) (kk : X ρ K (pc + 3) lv (.int (idxOf x) :: st) h cs ss Φ Ψ) (hst : (st.map fun v => v.category).sum ≤ 8 := by exact LEt rfl) : X ρ K pc lv (.int x :: .ref (rO ρ 1) :: st) h cs ss Φ Ψ := by
  refine x_callJ [.int x] 1 d x_cJ3_indexOf hq q502 q503 q116 q504 (by decide) rfl rfl ⟨hf, hlo⟩ hst ⟨hcs, hss⟩ (fun v h1 hv => ?_) (fun _ _ _ _ _ z _ _ => False.elim z)
  obtain ⟨rfl, rfl⟩ := hv
  exact kk
end XL3
