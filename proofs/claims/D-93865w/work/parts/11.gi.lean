/-! X LAYER, part 2: what holds of the heap all through the run (GI), what stays across calls (Ext) -/
set_option maxRecDepth 100000
/-- the shapes of the objects made once: 1 the class, 10..24 its arrays, 25 the reference, 26..57 its arrays -/
def shT : Nat → Nat × Nat
  | 1 => (10, 0) | 10 => (5, 4) | 11 => (1, 4) | 12 => (1, 5) | 13 => (5, 4) | 14 => (1, 10) | 15 => (3, 20) | 16 => (3, 64) | 17 => (1, 7) | 18 => (1, 4) | 19 => (4, 4) | 20 => (2, 4) | 21 => (2, 4) | 22 => (2, 24) | 23 => (1, 5) | 24 => (1, 5)
  | 25 => (12, 0) | 26 => (1, 7) | 27 => (1, 24) | 28 => (1, 24) | 29 => (1, 24) | 30 => (1, 24) | 31 => (1, 4) | 32 => (1, 4) | 33 => (1, 4) | 34 => (1, 4) | 35 => (1, 4) | 36 => (1, 4) | 37 => (1, 4) | 38 => (1, 64) | 39 => (1, 32) | 40 => (1, 32) | 41 => (1, 32) | 42 => (1, 32) | 43 => (1, 32) | 44 => (1, 32) | 45 => (2, 24) | 46 => (2, 240) | 47 => (1, 96) | 48 => (1, 4) | 49 => (1, 4) | 50 => (2, 24) | 51 => (1, 24) | 52 => (1, 4) | 53 => (1, 5) | 54 => (1, 5) | 55 => (1, 5) | 56 => (1, 20) | 57 => (1, 140)
  | _ => (0, 0)
/-- the class's final fields -/
def grX : Nat → Nat
  | 2 => 10 | 4 => 11 | 5 => 12 | 8 => 13 | 10 => 14 | 11 => 15 | 13 => 16 | 15 => 17 | 20 => 18 | 21 => 19 | 22 => 20 | 23 => 21 | 26 => 22 | 27 => 23 | 28 => 24
  | _ => 0
/-- the reference's final fields -/
def grM : Nat → Nat
  | 0 => 26 | 1 => 27 | 2 => 28 | 3 => 29 | 4 => 30 | 5 => 31 | 6 => 32 | 7 => 33 | 8 => 34 | 9 => 35 | 10 => 36 | 11 => 37 | 14 => 38 | 15 => 39 | 16 => 40 | 17 => 41 | 18 => 42 | 19 => 43 | 20 => 44 | 24 => 45 | 25 => 46 | 26 => 47 | 27 => 48 | 28 => 49 | 30 => 50 | 32 => 51 | 33 => 52 | 41 => 53 | 42 => 54 | 43 => 55 | 46 => 56 | 48 => 57
  | _ => 0
def treeS : Nat → Nat × Nat
  | 6 => (2, 24) | 7 => (2, 240) | _ => (1, 24)
/-- t is a tree, its seven arrays behind it -/
def isTree (h : Hp) (t : Nat) : Prop := sh h t = (11, 0) ∧ ∀ k, 1 ≤ k → k ≤ 7 → gr h t k = t + k ∧ sh h (t + k) = treeS k
/-- r is a reader of the class's tape -/
def isRd (h : Hp) (r : Nat) : Prop := sh h r = (14, 0) ∧ gr h r 2 = 1
def Live (h : Hp) : Prop := ∀ r, (sh h r).1 ≠ 0 → 1 ≤ r ∧ r ≤ sz h
def GI (h : Hp) : Prop := (∀ r, (shT r).1 ≠ 0 → sh h r = shT r) ∧ (∀ k, grX k ≠ 0 → gr h 1 k = grX k) ∧ (∀ k, grM k ≠ 0 → gr h 25 k = grM k) ∧ isTree h (gr h 1 1) ∧ Live h
def Ext (h h' : Hp) : Prop := (∀ r, (sh h r).1 ≠ 0 → sh h' r = sh h r) ∧ (∀ t, isTree h t → isTree h' t) ∧ (∀ r, isRd h r → isRd h' r) ∧ sz h ≤ sz h'
/-- kinds of objects by their shapes -/
def isPlS (s : Nat × Nat) : Prop := s = (18, 0) ∨ s = (19, 0) ∨ s = (20, 0) ∨ s = (21, 0) ∨ s = (22, 0) ∨ s = (23, 0)
def isPl (h : Hp) (r : Nat) : Prop := isPlS (sh h r)
def isTP (h : Hp) (r : Nat) : Prop := sh h r = (22, 0) ∨ sh h r = (23, 0)
def isSu (h : Hp) (r : Nat) : Prop := sh h r = (19, 0) ∨ sh h r = (20, 0) ∨ sh h r = (21, 0)
def isTo (h : Hp) (r : Nat) : Prop := sh h r = (16, 0) ∨ sh h r = (17, 0)
def isEx (h : Hp) (r : Nat) : Prop := sh h r = (13, 0) ∨ sh h r = (15, 0)
def isB (x : Int32) : Prop := x = 0 ∨ x = 1
theorem isB.n {x : Int32} (h : isB x) : narrow .boolean (.int x) = .int x := by
  rcases h with rfl | rfl <;> rfl
theorem isB.f {x : Int32} (h : isB x) : fits .boolean (.int x) = true := by
  rcases h with rfl | rfl <;> rfl
theorem isB_0 : isB 0 := Or.inl rfl
theorem isB_1 : isB 1 := Or.inr rfl
theorem isB_ite {c : Prop} [Decidable c] {a b : Int32} (h1 : isB a) (h2 : isB b) : isB (if c then a else b) := by
  by_cases hc : c
  · rw [if_pos hc]; exact h1
  · rw [if_neg hc]; exact h2
theorem isTree.s {h : Hp} {t : Nat} (f : isTree h t) : sh h t = (11, 0) := f.1
theorem isTree.p {h : Hp} {t : Nat} (f : isTree h t) (k : Nat) (h1 : 1 ≤ k) (h2 : k ≤ 7) : gr h t k = t + k := (f.2 k h1 h2).1
theorem isTree.a {h : Hp} {t : Nat} (f : isTree h t) (k : Nat) (h1 : 1 ≤ k) (h2 : k ≤ 7) : sh h (t + k) = treeS k := (f.2 k h1 h2).2
theorem GI.s {h : Hp} (g : GI h) {r : Nat} {t : Nat × Nat} (hr : shT r = t) (ht : t.1 ≠ 0) : sh h r = t := by
  rw [← hr] at ht ⊢
  exact g.1 r ht
theorem GI.x {h : Hp} (g : GI h) {k n : Nat} (hk : grX k = n) (hn : n ≠ 0) : gr h 1 k = n := by
  rw [← hk] at hn ⊢
  exact g.2.1 k hn
theorem GI.m {h : Hp} (g : GI h) {k n : Nat} (hk : grM k = n) (hn : n ≠ 0) : gr h 25 k = n := by
  rw [← hk] at hn ⊢
  exact g.2.2.1 k hn
theorem GI.t {h : Hp} (g : GI h) : isTree h (gr h 1 1) := g.2.2.2.1
theorem GI.live {h : Hp} (g : GI h) : Live h := g.2.2.2.2
theorem Live.nz {h : Hp} (g : Live h) {r t n : Nat} (hs : sh h r = (t, n)) (ht : t ≠ 0) : r ≠ 0 := by
  have := g r (by rw [hs]; exact ht)
  omega
theorem isTree.nz {h : Hp} {t : Nat} (f : isTree h t) (g : Live h) : t ≠ 0 := g.nz f.1 (by decide)
theorem isPl.nz {h : Hp} {t : Nat} (f : isPl h t) (g : Live h) : t ≠ 0 := by
  rcases f with f | f | f | f | f | f <;> exact g.nz f (by decide)
theorem isTP.nz {h : Hp} {t : Nat} (f : isTP h t) (g : Live h) : t ≠ 0 := by
  rcases f with f | f <;> exact g.nz f (by decide)
theorem isSu.nz {h : Hp} {t : Nat} (f : isSu h t) (g : Live h) : t ≠ 0 := by
  rcases f with f | f | f <;> exact g.nz f (by decide)
theorem isTo.nz {h : Hp} {t : Nat} (f : isTo h t) (g : Live h) : t ≠ 0 := by
  rcases f with f | f <;> exact g.nz f (by decide)
theorem isEx.nz {h : Hp} {t : Nat} (f : isEx h t) (g : Live h) : t ≠ 0 := by
  rcases f with f | f <;> exact g.nz f (by decide)
theorem isTP.pl {h : Hp} {t : Nat} (f : isTP h t) : isPl h t := by
  rcases f with f | f
  · exact Or.inr (Or.inr (Or.inr (Or.inr (Or.inl f))))
  · exact Or.inr (Or.inr (Or.inr (Or.inr (Or.inr f))))
theorem isSu.pl {h : Hp} {t : Nat} (f : isSu h t) : isPl h t := by
  rcases f with f | f | f
  · exact Or.inr (Or.inl f)
  · exact Or.inr (Or.inr (Or.inl f))
  · exact Or.inr (Or.inr (Or.inr (Or.inl f)))
-- stores of numbers change nothing of it
theorem GI.i {h : Hp} {a k : Nat} {v : Int32} (g : GI h) : GI (si h a k v) := g
theorem GI.l {h : Hp} {a k : Nat} {v : Int64} (g : GI h) : GI (sl h a k v) := g
theorem GI.c {h : Hp} {a s b d n : Nat} (g : GI h) : GI (cpi h a s b d n) := g
theorem Live.i {h : Hp} {a k : Nat} {v : Int32} (g : Live h) : Live (si h a k v) := g
theorem Live.l {h : Hp} {a k : Nat} {v : Int64} (g : Live h) : Live (sl h a k v) := g
theorem Live.r {h : Hp} {a k : Nat} {v : Nat} (g : Live h) : Live (sr h a k v) := g
theorem Live.c {h : Hp} {a s b d n : Nat} (g : Live h) : Live (cpi h a s b d n) := g
theorem isTree.i {h : Hp} {t a k : Nat} {v : Int32} (g : isTree h t) : isTree (si h a k v) t := g
theorem isTree.l {h : Hp} {t a k : Nat} {v : Int64} (g : isTree h t) : isTree (sl h a k v) t := g
theorem isTree.c {h : Hp} {t a s b d n : Nat} (g : isTree h t) : isTree (cpi h a s b d n) t := g
theorem isRd.i {h : Hp} {t a k : Nat} {v : Int32} (g : isRd h t) : isRd (si h a k v) t := g
theorem isRd.l {h : Hp} {t a k : Nat} {v : Int64} (g : isRd h t) : isRd (sl h a k v) t := g
theorem isRd.c {h : Hp} {t a s b d n : Nat} (g : isRd h t) : isRd (cpi h a s b d n) t := g
theorem Ext.rf {h : Hp} : Ext h h := ⟨fun _ _ => rfl, fun _ z => z, fun _ z => z, Nat.le_refl _⟩
theorem Ext.tr {h1 h2 h3 : Hp} (a : Ext h1 h2) (b : Ext h2 h3) : Ext h1 h3 :=
  ⟨fun r z => by rw [b.1 r (by rw [a.1 r z]; exact z), a.1 r z], fun t z => b.2.1 t (a.2.1 t z), fun t z => b.2.2.1 t (a.2.2.1 t z), Nat.le_trans a.2.2.2 b.2.2.2⟩
theorem Ext.i {h0 h : Hp} {a k : Nat} {v : Int32} (e : Ext h0 h) : Ext h0 (si h a k v) := e
theorem Ext.l {h0 h : Hp} {a k : Nat} {v : Int64} (e : Ext h0 h) : Ext h0 (sl h a k v) := e
theorem Ext.c {h0 h : Hp} {a s b d n : Nat} (e : Ext h0 h) : Ext h0 (cpi h a s b d n) := e
theorem Ext.s {h h' : Hp} (e : Ext h h') {r t n : Nat} (f : sh h r = (t, n)) (ht : t ≠ 0) : sh h' r = (t, n) := by
  rw [e.1 r (by rw [f]; exact ht)]; exact f
theorem isTree.ext {h h' : Hp} {t : Nat} (f : isTree h t) (e : Ext h h') : isTree h' t := e.2.1 t f
theorem isRd.ext {h h' : Hp} {t : Nat} (f : isRd h t) (e : Ext h h') : isRd h' t := e.2.2.1 t f
theorem isPl.ext {h h' : Hp} {t : Nat} (f : isPl h t) (e : Ext h h') : isPl h' t := by
  unfold isPl
  rw [e.1 t (by rcases f with f | f | f | f | f | f <;> rw [f] <;> decide)]
  exact f
theorem isTP.ext {h h' : Hp} {t : Nat} (f : isTP h t) (e : Ext h h') : isTP h' t := f.imp (fun z => e.s z (by decide)) (fun z => e.s z (by decide))
theorem isSu.ext {h h' : Hp} {t : Nat} (f : isSu h t) (e : Ext h h') : isSu h' t := f.imp (fun z => e.s z (by decide)) (fun f => f.imp (fun z => e.s z (by decide)) (fun z => e.s z (by decide)))
theorem isTo.ext {h h' : Hp} {t : Nat} (f : isTo h t) (e : Ext h h') : isTo h' t := f.imp (fun z => e.s z (by decide)) (fun z => e.s z (by decide))
theorem isEx.ext {h h' : Hp} {t : Nat} (f : isEx h t) (e : Ext h h') : isEx h' t := f.imp (fun z => e.s z (by decide)) (fun z => e.s z (by decide))
-- a reference is stored, elsewhere than in a tree, a reader
theorem gr_ne {h : Hp} {a k b j v : Nat} (hb : ¬ (b = a ∧ j = k)) : gr (sr h a k v) b j = gr h b j := if_neg hb
theorem isTree.r {h : Hp} {t a k v c n : Nat} (f : isTree h t) (hs : sh h a = (c, n)) (hc : c ≠ 11) : isTree (sr h a k v) t := by
  have ha : t ≠ a := fun z => by
    have h1 := f.1
    rw [z, hs] at h1
    exact hc (congrArg Prod.fst h1)
  exact ⟨f.1, fun j h1 h2 => ⟨(gr_ne (fun z => ha z.1)).trans (f.2 j h1 h2).1, (f.2 j h1 h2).2⟩⟩
theorem isRd.r {h : Hp} {t a k v c n : Nat} (f : isRd h t) (hs : sh h a = (c, n)) (hc : c ≠ 14) : isRd (sr h a k v) t := by
  have ha : t ≠ a := fun z => by
    have h1 := f.1
    rw [z, hs] at h1
    exact hc (congrArg Prod.fst h1)
  exact ⟨f.1, (gr_ne (fun z => ha z.1)).trans f.2⟩
theorem Ext.r {h0 h : Hp} {a k v c n : Nat} (e : Ext h0 h) (hs : sh h a = (c, n)) (hc : c ≠ 11) (hc2 : c ≠ 14) : Ext h0 (sr h a k v) :=
  ⟨e.1, fun t z => (e.2.1 t z).r hs hc, fun t z => (e.2.2.1 t z).r hs hc2, e.2.2.2⟩
/-- a reader's class -/
theorem Ext.rR {h0 h : Hp} {a : Nat} (e : Ext h0 h) (hs : sh h a = (14, 0)) : Ext h0 (sr h a 2 1) :=
  ⟨e.1, fun t z => (e.2.1 t z).r hs (by decide), fun t z => ⟨(e.2.2.1 t z).1, by
    by_cases ht : t = a
    · subst ht; exact if_pos ⟨rfl, rfl⟩
    · exact (gr_ne (fun w => ht w.1)).trans (e.2.2.1 t z).2⟩, e.2.2.2⟩
/-- in an array, or an object of another class -/
theorem GI.r {h : Hp} {a k v c n : Nat} (g : GI h) (hs : sh h a = (c, n)) (hc : c ≠ 11) (h1 : c ≠ 10) (h2 : c ≠ 12) : GI (sr h a k v) := by
  have n1 : (1 : Nat) ≠ a := fun z => by
    have q : sh h 1 = (10, 0) := g.s rfl (by decide)
    rw [z, hs] at q; exact h1 (congrArg Prod.fst q)
  have n2 : (25 : Nat) ≠ a := fun z => by
    have q : sh h 25 = (12, 0) := g.s rfl (by decide)
    rw [z, hs] at q; exact h2 (congrArg Prod.fst q)
  refine ⟨g.1, fun j hj => ?_, fun j hj => ?_, ?_, g.live⟩
  · rw [gr_ne (fun z => n1 z.1)]; exact g.2.1 j hj
  · rw [gr_ne (fun z => n2 z.1)]; exact g.2.2.1 j hj
  · rw [gr_ne (fun z => n1 z.1)]; exact g.t.r hs hc
/-- the class's tree -/
theorem GI.rT {h : Hp} {v : Nat} (g : GI h) (f : isTree h v) : GI (sr h 1 1 v) := by
  have q : sh h 1 = (10, 0) := g.s rfl (by decide)
  refine ⟨g.1, fun j hj => ?_, fun j hj => ?_, ?_, g.live⟩
  · by_cases hj1 : j = 1
    · subst hj1; exact absurd rfl hj
    · rw [gr_ne (fun z => hj1 z.2)]; exact g.2.1 j hj
  · rw [gr_ne (fun z => absurd z.1 (by decide))]; exact g.2.2.1 j hj
  · have e1 : gr (sr h 1 1 v) 1 1 = v := by
      show (if (1 : Nat) = 1 ∧ (1 : Nat) = 1 then v else h.2.2.1 1 1) = v
      exact if_pos ⟨rfl, rfl⟩
    rw [e1]
    exact f.r q (by decide)
/-- the class's image of a tree -/
theorem GI.rI {h : Hp} {v : Nat} (g : GI h) : GI (sr h 1 7 v) := by
  have q : sh h 1 = (10, 0) := g.s rfl (by decide)
  refine ⟨g.1, fun j hj => ?_, fun j hj => ?_, ?_, g.live⟩
  · by_cases hj1 : j = 7
    · subst hj1; exact absurd rfl hj
    · rw [gr_ne (fun z => hj1 z.2)]; exact g.2.1 j hj
  · rw [gr_ne (fun z => absurd z.1 (by decide))]; exact g.2.2.1 j hj
  · rw [gr_ne (fun z => absurd z.2 (by decide))]; exact g.t.r q (by decide)
-- a new object
theorem sh_al {h : Hp} {x : Nat × Nat} {r t n : Nat} (L : Live h) (f : sh h r = (t, n)) (ht : t ≠ 0) : sh (al h x) r = (t, n) := by
  have := L r (by rw [f]; exact ht)
  show (if r = sz h + 1 then x else sh h r) = _
  rw [if_neg (by omega)]; exact f
theorem gr_al {h : Hp} {x : Nat × Nat} {r t n j : Nat} (L : Live h) (f : sh h r = (t, n)) (ht : t ≠ 0) : gr (al h x) r j = gr h r j := by
  have := L r (by rw [f]; exact ht)
  exact if_neg (by show r ≠ sz h + 1; omega)
theorem sh_new {h : Hp} {x : Nat × Nat} : sh (al h x) (sz h + 1) = x := if_pos rfl
theorem Live.w {h : Hp} {x : Nat × Nat} (L : Live h) : Live (al h x) := by
  intro r hr
  show 1 ≤ r ∧ r ≤ sz h + 1
  by_cases hq : r = sz h + 1
  · omega
  · have h1 : sh (al h x) r = sh h r := if_neg hq
    rw [h1] at hr
    have := L r hr
    omega
theorem isTree.w {h : Hp} {x : Nat × Nat} {t : Nat} (f : isTree h t) (L : Live h) : isTree (al h x) t := by
  refine ⟨sh_al L f.1 (by decide), fun k h1 h2 => ⟨(gr_al L f.1 (by decide)).trans (f.2 k h1 h2).1, ?_⟩⟩
  have h3 := (f.2 k h1 h2).2
  have : (treeS k).1 ≠ 0 := by
    unfold treeS; split <;> decide
  exact sh_al L h3 this
theorem isRd.w {h : Hp} {x : Nat × Nat} {t : Nat} (f : isRd h t) (L : Live h) : isRd (al h x) t := ⟨sh_al L f.1 (by decide), (gr_al L f.1 (by decide)).trans f.2⟩
theorem Ext.w {h0 h : Hp} {x : Nat × Nat} (e : Ext h0 h) (L : Live h) : Ext h0 (al h x) := by
  refine ⟨fun r hr => ?_, fun t z => (e.2.1 t z).w L, fun t z => (e.2.2.1 t z).w L, Nat.le_succ_of_le e.2.2.2⟩
  have h2 : (sh h r).1 ≠ 0 := by rw [e.1 r hr]; exact hr
  rw [← e.1 r hr]
  exact sh_al (t := (sh h r).1) (n := (sh h r).2) L rfl h2
theorem GI.w {h : Hp} {x : Nat × Nat} (g : GI h) : GI (al h x) := by
  have q1 : sh h 1 = (10, 0) := g.s rfl (by decide)
  have q2 : sh h 25 = (12, 0) := g.s rfl (by decide)
  refine ⟨fun r hr => ?_, fun j hj => ?_, fun j hj => ?_, ?_, g.live.w⟩
  · have e := g.1 r hr
    have h2 : (sh h r).1 ≠ 0 := by rw [e]; exact hr
    rw [← e]
    exact sh_al (t := (sh h r).1) (n := (sh h r).2) g.live rfl h2
  · rw [gr_al g.live q1 (by decide)]; exact g.2.1 j hj
  · rw [gr_al g.live q2 (by decide)]; exact g.2.2.1 j hj
  · rw [gr_al g.live q1 (by decide)]; exact g.t.w g.live
theorem isPl.w {h : Hp} {x : Nat × Nat} {t : Nat} (f : isPl h t) (L : Live h) : isPl (al h x) t := f.ext (Ext.rf.w L)
theorem isTP.w {h : Hp} {x : Nat × Nat} {t : Nat} (f : isTP h t) (L : Live h) : isTP (al h x) t := f.ext (Ext.rf.w L)
theorem isSu.w {h : Hp} {x : Nat × Nat} {t : Nat} (f : isSu h t) (L : Live h) : isSu (al h x) t := f.ext (Ext.rf.w L)
theorem isTo.w {h : Hp} {x : Nat × Nat} {t : Nat} (f : isTo h t) (L : Live h) : isTo (al h x) t := f.ext (Ext.rf.w L)
theorem isEx.w {h : Hp} {x : Nat × Nat} {t : Nat} (f : isEx h t) (L : Live h) : isEx (al h x) t := f.ext (Ext.rf.w L)
theorem isPl.r {h : Hp} {t a k v : Nat} (f : isPl h t) : isPl (sr h a k v) t := f
theorem isTP.r {h : Hp} {t a k v : Nat} (f : isTP h t) : isTP (sr h a k v) t := f
theorem isSu.r {h : Hp} {t a k v : Nat} (f : isSu h t) : isSu (sr h a k v) t := f
theorem isTo.r {h : Hp} {t a k v : Nat} (f : isTo h t) : isTo (sr h a k v) t := f
theorem isEx.r {h : Hp} {t a k v : Nat} (f : isEx h t) : isEx (sr h a k v) t := f
-- the posts
def phI (h0 : Hp) (post : Int32 → Hp → Prop) : Option Value → Hp → Prop := fun v h => ∃ x : Int32, v = some (.int x) ∧ GI h ∧ Ext h0 h ∧ post x h
def phB (h0 : Hp) (post : Int32 → Hp → Prop) : Option Value → Hp → Prop := fun v h => ∃ x : Int32, v = some (.int x) ∧ GI h ∧ Ext h0 h ∧ isB x ∧ post x h
def phL (h0 : Hp) (post : Int64 → Hp → Prop) : Option Value → Hp → Prop := fun v h => ∃ x : Int64, v = some (.long x) ∧ GI h ∧ Ext h0 h ∧ post x h
def phV (h0 : Hp) (post : Hp → Prop) : Option Value → Hp → Prop := fun v h => v = none ∧ GI h ∧ Ext h0 h ∧ post h
def phR (ρ : Rho) (h0 : Hp) (post : Nat → Hp → Prop) : Option Value → Hp → Prop := fun v h => ∃ x : Nat, v = some (.ref (mr ρ x)) ∧ GI h ∧ Ext h0 h ∧ post x h
def psX (h0 : Hp) (px : Nat → Hp → Prop) : Nat → Hp → Prop := fun q h => GI h ∧ Ext h0 h ∧ px q h
def psN : Nat → Hp → Prop := fun _ _ => False
/-- a constructor's end where nothing is said of GI -/
def phW (post : Hp → Prop) : Option Value → Hp → Prop := fun v h => v = none ∧ post h
section XL2
variable {ρ : Rho} {K : Kx} {pc : Nat} {lv lv' : List (Nat × Value)} {st : List Value} {h : Hp} {cs ss : Nat} {Φ : Option Value → Hp → Prop} {Ψ : Nat → Hp → Prop}
theorem x_nmi {x : Int32} (k : ∀ y : Int32, y = x → X ρ K pc lv (.int y :: st) h cs ss Φ Ψ) : X ρ K pc lv (.int x :: st) h cs ss Φ Ψ := k x rfl
theorem x_nml {x : Int64} (k : ∀ y : Int64, y = x → X ρ K pc lv (.long y :: st) h cs ss Φ Ψ) : X ρ K pc lv (.long x :: st) h cs ss Φ Ψ := k x rfl
theorem x_nmr {x : Nat} (k : ∀ y : Nat, y = x → X ρ K pc lv (.ref (mr ρ y) :: st) h cs ss Φ Ψ) : X ρ K pc lv (.ref (mr ρ x) :: st) h cs ss Φ Ψ := k x rfl
theorem x_nmh (k : ∀ y : Hp, y = h → X ρ K pc lv st y cs ss Φ Ψ) : X ρ K pc lv st h cs ss Φ Ψ := k h rfl
/-- lcmp and the jump behind it -/
theorem x_lif_ge {x y : Int64} {off : Int} (tgt : Nat) (d : decode (kC K) pc = .ok (.lcmp, 1)) (d2 : decode (kC K) (pc + 1) = .ok (.ifCond .ge off, 3)) (ht : ((pc + 1 : Nat) : Int) + off = (tgt : Int)) (kt : y ≤ x → X ρ K tgt lv st h cs ss Φ Ψ) (kf : ¬ y ≤ x → X ρ K (pc + 1 + 3) lv st h cs ss Φ Ψ) : X ρ K pc lv (.long y :: .long x :: st) h cs ss Φ Ψ :=
  x_lcmp d (x_if_ge tgt d2 ht (fun z => kt ((lg_cmp_ge x y).mp z)) (fun z => kf (fun w => z ((lg_cmp_ge x y).mpr w))))
theorem x_lif_le {x y : Int64} {off : Int} (tgt : Nat) (d : decode (kC K) pc = .ok (.lcmp, 1)) (d2 : decode (kC K) (pc + 1) = .ok (.ifCond .le off, 3)) (ht : ((pc + 1 : Nat) : Int) + off = (tgt : Int)) (kt : x ≤ y → X ρ K tgt lv st h cs ss Φ Ψ) (kf : ¬ x ≤ y → X ρ K (pc + 1 + 3) lv st h cs ss Φ Ψ) : X ρ K pc lv (.long y :: .long x :: st) h cs ss Φ Ψ :=
  x_lcmp d (x_if_le tgt d2 ht (fun z => kt ((lg_cmp_le x y).mp z)) (fun z => kf (fun w => z ((lg_cmp_le x y).mpr w))))
theorem x_lif_gt {x y : Int64} {off : Int} (tgt : Nat) (d : decode (kC K) pc = .ok (.lcmp, 1)) (d2 : decode (kC K) (pc + 1) = .ok (.ifCond .gt off, 3)) (ht : ((pc + 1 : Nat) : Int) + off = (tgt : Int)) (kt : y < x → X ρ K tgt lv st h cs ss Φ Ψ) (kf : ¬ y < x → X ρ K (pc + 1 + 3) lv st h cs ss Φ Ψ) : X ρ K pc lv (.long y :: .long x :: st) h cs ss Φ Ψ :=
  x_lcmp d (x_if_gt tgt d2 ht (fun z => kt ((lg_cmp_gt x y).mp z)) (fun z => kf (fun w => z ((lg_cmp_gt x y).mpr w))))
theorem x_lif_lt {x y : Int64} {off : Int} (tgt : Nat) (d : decode (kC K) pc = .ok (.lcmp, 1)) (d2 : decode (kC K) (pc + 1) = .ok (.ifCond .lt off, 3)) (ht : ((pc + 1 : Nat) : Int) + off = (tgt : Int)) (kt : x < y → X ρ K tgt lv st h cs ss Φ Ψ) (kf : ¬ x < y → X ρ K (pc + 1 + 3) lv st h cs ss Φ Ψ) : X ρ K pc lv (.long y :: .long x :: st) h cs ss Φ Ψ :=
  x_lcmp d (x_if_lt tgt d2 ht (fun z => kt ((lg_cmp_lt x y).mp z)) (fun z => kf (fun w => z ((lg_cmp_lt x y).mpr w))))
theorem x_lif_eq {x y : Int64} {off : Int} (tgt : Nat) (d : decode (kC K) pc = .ok (.lcmp, 1)) (d2 : decode (kC K) (pc + 1) = .ok (.ifCond .eq off, 3)) (ht : ((pc + 1 : Nat) : Int) + off = (tgt : Int)) (kt : x = y → X ρ K tgt lv st h cs ss Φ Ψ) (kf : ¬ x = y → X ρ K (pc + 1 + 3) lv st h cs ss Φ Ψ) : X ρ K pc lv (.long y :: .long x :: st) h cs ss Φ Ψ :=
  x_lcmp d (x_if_eq tgt d2 ht (fun z => kt ((lg_cmp_eq x y).mp z)) (fun z => kf (fun w => z ((lg_cmp_eq x y).mpr w))))
theorem x_lif_ne {x y : Int64} {off : Int} (tgt : Nat) (d : decode (kC K) pc = .ok (.lcmp, 1)) (d2 : decode (kC K) (pc + 1) = .ok (.ifCond .ne off, 3)) (ht : ((pc + 1 : Nat) : Int) + off = (tgt : Int)) (kt : ¬ x = y → X ρ K tgt lv st h cs ss Φ Ψ) (kf : x = y → X ρ K (pc + 1 + 3) lv st h cs ss Φ Ψ) : X ρ K pc lv (.long y :: .long x :: st) h cs ss Φ Ψ :=
  x_lcmp d (x_if_ne tgt d2 ht (fun z => kt (fun w => z ((lg_cmp_eq x y).mpr w))) (fun z => kf ((lg_cmp_eq x y).mp z)))
/-- a switch's value is one of n from lo on, or out of them -/
theorem tab_or (x : Int32) (lo n : Nat) (hn : lo + n < 2147483648) : (x.toInt < (lo : Int) ∨ ((lo : Int) + n - 1) < x.toInt) ∨ ∃ i, i < n ∧ x = Int32.ofNat (lo + i) := by
  by_cases h : x.toInt < (lo : Int) ∨ ((lo : Int) + n - 1) < x.toInt
  · exact Or.inl h
  · refine Or.inr ⟨x.toInt.toNat - lo, by omega, ?_⟩
    have e : lo + (x.toInt.toNat - lo) = x.toInt.toNat := by omega
    rw [e]
    apply Int32.toInt_inj.mp
    have h2 : ((x.toInt.toNat : Nat) : Int) = x.toInt := by omega
    have h3 := nI_toInt (n := x.toInt.toNat) (by omega)
    unfold nI at h3
    rw [h3, h2]
theorem x_mmax {index : Nat} {x y : Int32} (d : decode (kC K) pc = .ok (.invokestatic index, 3)) (h1 : Cond.methodLink (kO K) index Lib.Math.max.name ∈ lw_all) (h2 : Cond.static Lib.Math.max.name ∈ lw_all) (h3 : Cond.initialized "java/lang/Math" ∈ lw_all) (h4 : Cond.code Lib.Math.max.name Lib.Math.max.code 2 (some .int) ∈ lw_all) (hf : 1 ≤ (kM K).frames) (hlo : (st.map fun v => v.category).sum + 13 ≤ (kM K).locals) (hc : cs ≤ (kM K).cells) (hs : ss ≤ (kM K).slots) (kk : X ρ K (pc + 3) lv (.int (if x < y then y else x) :: st) h cs ss Φ Ψ) : X ρ K pc lv (.int y :: .int x :: st) h cs ss Φ Ψ := by
  intro p e R s m args below meth c H locs ls a r0 hl hlv
  have hts := amb_hts a
  have hR : R = kM K := a.2.2.2.2.2.2.2.1
  subst hR
  exact va_mmax a.1 a.2.1 (by rw [hlv.1, a.2.2.1]) (amb_own a) (hts _ h1) (hts _ h2) (hts _ h3) (hts _ h4) hf hlo hc hs d (kk p e _ s m args below meth c H locs ls a r0 hl hlv)
theorem x_mmaxl {index : Nat} {x y : Int64} (d : decode (kC K) pc = .ok (.invokestatic index, 3)) (h1 : Cond.methodLink (kO K) index Lib.MathLoose.max_long.x ∈ lw_all) (h2 : Cond.static Lib.MathLoose.max_long.x ∈ lw_all) (h3 : Cond.initialized "java/lang/Math" ∈ lw_all) (h4 : Cond.code Lib.MathLoose.max_long.x Lib.MathLoose.max_long.code 4 (some .long) ∈ lw_all) (hf : 1 ≤ (kM K).frames) (hlo : (st.map fun v => v.category).sum + 15 ≤ (kM K).locals) (hc : cs ≤ (kM K).cells) (hs : ss ≤ (kM K).slots) (kk : X ρ K (pc + 3) lv (.long (if y < x then x else y) :: st) h cs ss Φ Ψ) : X ρ K pc lv (.long y :: .long x :: st) h cs ss Φ Ψ := by
  intro p e R s m args below meth c H locs ls a r0 hl hlv
  have hts := amb_hts a
  have hR : R = kM K := a.2.2.2.2.2.2.2.1
  subst hR
  exact va_mmax_long a.1 a.2.1 (by rw [hlv.1, a.2.2.1]) (amb_own a) (hts _ h1) (hts _ h2) (hts _ h3) (hts _ h4) hf hlo hc hs d (kk p e _ s m args below meth c H locs ls a r0 hl hlv)
theorem x_mabsl {index : Nat} {x : Int64} (d : decode (kC K) pc = .ok (.invokestatic index, 3)) (h1 : Cond.methodLink (kO K) index Lib.MathLoose.abs_long.x ∈ lw_all) (h2 : Cond.static Lib.MathLoose.abs_long.x ∈ lw_all) (h3 : Cond.initialized "java/lang/Math" ∈ lw_all) (h4 : Cond.code Lib.MathLoose.abs_long.x Lib.MathLoose.abs_long.code 2 (some .long) ∈ lw_all) (hf : 1 ≤ (kM K).frames) (hlo : (st.map fun v => v.category).sum + 13 ≤ (kM K).locals) (hc : cs ≤ (kM K).cells) (hs : ss ≤ (kM K).slots) (kk : X ρ K (pc + 3) lv (.long (if 0 < x then x else -x) :: st) h cs ss Φ Ψ) : X ρ K pc lv (.long x :: st) h cs ss Φ Ψ := by
  intro p e R s m args below meth c H locs ls a r0 hl hlv
  have hts := amb_hts a
  have hR : R = kM K := a.2.2.2.2.2.2.2.1
  subst hR
  exact va_mabs_long a.1 a.2.1 (by rw [hlv.1, a.2.2.1]) (amb_own a) (hts _ h1) (hts _ h2) (hts _ h3) (hts _ h4) hf hlo hc hs d (kk p e _ s m args below meth c H locs ls a r0 hl hlv)
/-- arraycopy between int arrays -/
theorem x_copy {index : Nat} {r0 r1 n0 n1 : Nat} {sp dp n : Int32} (d : decode (kC K) pc = .ok (.invokestatic index, 3)) (hs0 : sh h r0 = (1, n0)) (hs1 : sh h r1 = (1, n1)) (q1 : Cond.methodLink (kO K) index arraycopyName ∈ lw_all) (q2 : Cond.native arraycopyName ∈ lw_all) (q3 : Cond.static arraycopyName ∈ lw_all) (q4 : Cond.initialized "java/lang/System" ∈ lw_all) (h1 : ¬ sp < 0) (h2 : ¬ dp < 0) (h3 : ¬ n < 0) (h4 : sp.toNatClampNeg + n.toNatClampNeg ≤ n0) (h5 : dp.toNatClampNeg + n.toNatClampNeg ≤ n1) (hf : 1 ≤ (kM K).frames) (hlo : (st.map fun v => v.category).sum + (nativeFrameWords "java/lang/System" "arraycopy" 5 + 11) ≤ (kM K).locals)
    (kk : X ρ K (pc + 3) lv st (cpi h r0 sp.toNatClampNeg r1 dp.toNatClampNeg n.toNatClampNeg) cs ss Φ Ψ) : X ρ K pc lv (.int n :: .int dp :: .ref (mr ρ r1) :: .int sp :: .ref (mr ρ r0) :: st) h cs ss Φ Ψ := by
  intro p e R s m args below meth c H locs ls a rp hl hlv
  have hts := amb_hts a
  have hR : R = kM K := a.2.2.2.2.2.2.2.1
  subst hR
  have nn : ∀ z : Int32, ¬ z < 0 → z.toInt = (z.toNatClampNeg : Int) := by
    intro z hz
    have hz0 : (0 : Int) ≤ z.toInt := by
      have := Int32.not_lt.mp hz
      simpa using Int32.le_iff_toInt_le.mp this
    show z.toInt = ((z.toInt.toNat : Nat) : Int)
    omega
  intro T hT Z
  have hc0 := rp.arr hs0 (by decide) (by decide)
  have hc1 := rp.arr hs1 (by decide) (by decide)
  obtain ⟨-, k0, hk0, cm0, hkk0⟩ := (amb_arr a (t := 1) (by decide) (by decide)) n0 (fv ρ h r0 (aTy 1))
  obtain ⟨-, k1, hk1, cm1, hkk1⟩ := (amb_arr a (t := 1) (by decide) (by decide)) n1 (fv ρ h r1 (aTy 1))
  obtain ⟨vm', Z', step⟩ := Z.arraycopy a.1 (amb_own a) (hts _ q1) (hts _ q2) (hts _ q3) (hts _ q4) (src := mr ρ r0) (dst := mr ρ r1) (cs := arrV (rA ρ 1) n0 (fv ρ h r0 (aTy 1))) (cd := arrV (rA ρ 1) n1 (fv ρ h r1 (aTy 1))) (srcPos := sp) (destPos := dp) (n := n) (by rw [hT]; exact hc0) (by rw [hT]; exact hc1)
    (fun _ h => by cases h) (fun _ h => by cases h) (fun h => by cases h) (fun h => by cases h) hk0 hk1 hkk0 hkk1 (by simp [aTy, refKind]) h1 h2 h3
    (by rw [nn sp h1, nn n h3, arrV_size]; omega)
    (by rw [nn dp h2, nn n h3, arrV_size]; omega)
    (fun vm₁ _ i hi => by
      have e : (arrV (rA ρ 1) n0 (fv ρ h r0 (aTy 1))).slots.getD (sp.toNatClampNeg + i) .null = .int (gi h r0 (sp.toNatClampNeg + i)) := by
        rw [Array.getD_eq_getD_getElem?, arrV_read _ _ (by omega)]
        rfl
      refine ⟨?_, ?_⟩
      · rw [e]; rfl
      · rw [e]; exact trivial)
    (g := F0 m pc ls (.int n :: .int dp :: .ref (mr ρ r1) :: .int sp :: .ref (mr ρ r0) :: st)) rfl (by rw [a.2.2.1]; exact hlv.1) (rest := st) rfl (by rw [a.2.1]; exact d) hf (by show 2 * 0 + _ + _ ≤ _; omega)
  have e1 : copied (arrV (rA ρ 1) n0 (fv ρ h r0 (aTy 1))) (arrV (rA ρ 1) n1 (fv ρ h r1 (aTy 1))) sp dp n = arrV (rA ρ 1) n1 (fv ρ (cpi h r0 sp.toNatClampNeg r1 dp.toNatClampNeg n.toNatClampNeg) r1 (aTy 1)) := by
    refine (va_copied (fun z => .int z) (rA ρ 1) (rA ρ 1) (gi h r0) (gi h r1) h4).trans ?_
    congr 1
    funext j
    show Value.int _ = Value.int (if r1 = r1 then _ else _)
    rw [if_pos rfl]
    rfl
  rw [e1] at Z' step
  have hlt : mr ρ r1 < H.size := (Array.getElem?_eq_some_iff.mp hc1).1
  have hheap : ((T.setVm vm').setCell (mr ρ r1) (arrV (rA ρ 1) n1 (fv ρ (cpi h r0 sp.toNatClampNeg r1 dp.toNatClampNeg n.toNatClampNeg) r1 (aTy 1)))).heap = H.setIfInBounds (mr ρ r1) (arrV (rA ρ 1) n1 (fv ρ (cpi h r0 sp.toNatClampNeg r1 dp.toNatClampNeg n.toNatClampNeg) r1 (aTy 1))) := by rw [← hT]; rfl
  have hrep : Rep ρ (cpi h r0 sp.toNatClampNeg r1 dp.toNatClampNeg n.toNatClampNeg) (H.setIfInBounds (mr ρ r1) (arrV (rA ρ 1) n1 (fv ρ (cpi h r0 sp.toNatClampNeg r1 dp.toNatClampNeg n.toNatClampNeg) r1 (aTy 1)))) := by
    refine rp.put (rp.live hs1 (by decide)).1 rfl rfl (fun q hq ty k => ?_) (by simp) (fun q hq => by simp [Array.getElem?_setIfInBounds, Ne.symm hq]) ⟨fun _ => ?_, fun ci q z => ?_, fun z => ?_⟩
    · have a2 : gi (cpi h r0 sp.toNatClampNeg r1 dp.toNatClampNeg n.toNatClampNeg) q k = gi h q k := if_neg hq
      have a1 : gl (cpi h r0 sp.toNatClampNeg r1 dp.toNatClampNeg n.toNatClampNeg) q k = gl h q k := rfl
      have a3 : gr (cpi h r0 sp.toNatClampNeg r1 dp.toNatClampNeg n.toNatClampNeg) q k = gr h q k := rfl
      unfold fv; rw [a1, a2, a3]
    · have hs1' : sh (cpi h r0 sp.toNatClampNeg r1 dp.toNatClampNeg n.toNatClampNeg) r1 = (1, n1) := hs1
      rw [hs1']
      simp [Array.getElem?_setIfInBounds, hlt]
    · have hs1' : sh (cpi h r0 sp.toNatClampNeg r1 dp.toNatClampNeg n.toNatClampNeg) r1 = (1, n1) := hs1
      rw [hs1'] at z
      have : 1 = 10 + ci := z
      omega
    · have hs1' : sh (cpi h r0 sp.toNatClampNeg r1 dp.toNatClampNeg n.toNatClampNeg) r1 = (1, n1) := hs1
      rw [hs1'] at z
      have : (1 : Nat) = 13 ∨ (1 : Nat) = 15 := z
      omega
  obtain ⟨t, a1, b1⟩ := kk p e _ s m args below meth c _ _ ls a hrep (fun q hq => by
      rcases List.mem_append.mp hq with z | z
      · exact hl q z
      · obtain ⟨w, -, hw⟩ := List.mem_map.mp z
        rw [← hw]
        exact Nat.le_add_right _ _) hlv _ hheap Z'
  exact ⟨t, step t a1, b1⟩
/-- a player's hand, sure, knows -/
theorem x_getP {index r : Nat} (k : Nat) {nm : String} (hk : (k = 0 ∧ nm = "hand") ∨ (k = 1 ∧ nm = "sure") ∨ (k = 2 ∧ nm = "knows")) (d : decode (kC K) pc = .ok (.getfield index, 3)) (hs : isPl h r) (hq : Cond.fieldLink (kO K) index "BeforeTheEnd$Player" nm "I" ∈ lw_all) (kk : X ρ K (pc + 3) lv (.int (gi h r k) :: st) h cs ss Φ Ψ) : X ρ K pc lv (.ref (mr ρ r) :: st) h cs ss Φ Ψ := by
  rcases hk with ⟨rfl, rfl⟩ | ⟨rfl, rfl⟩ | ⟨rfl, rfl⟩ <;> rcases hs with f | f | f | f | f | f
  all_goals first
    | exact x_get (ci := 8) _ d f rfl in_X11 (by decide) hq (Or.inl rfl) (fv_i rfl) kk
    | exact x_get (ci := 9) _ d f rfl in_X12 (by decide) hq (Or.inl rfl) (fv_i rfl) kk
    | exact x_get (ci := 10) _ d f rfl in_X13 (by decide) hq (Or.inl rfl) (fv_i rfl) kk
    | exact x_get (ci := 11) _ d f rfl in_X14 (by decide) hq (Or.inl rfl) (fv_i rfl) kk
    | exact x_get (ci := 12) _ d f rfl in_X15 (by decide) hq (Or.inl rfl) (fv_i rfl) kk
    | exact x_get (ci := 13) _ d f rfl in_X16 (by decide) hq (Or.inl rfl) (fv_i rfl) kk
/-- a told player's set, from a nest mate -/
theorem x_getTPN {index r : Nat} {host : String} (d : decode (kC K) pc = .ok (.getfield index, 3)) (hs : isTP h r) (hq : Cond.fieldLinkNest (kO K) index "BeforeTheEnd$ToldPlayer" "set" "I" host ∈ lw_tbl) (kk : X ρ K (pc + 3) lv (.int (gi h r 3) :: st) h cs ss Φ Ψ) : X ρ K pc lv (.ref (mr ρ r) :: st) h cs ss Φ Ψ := by
  rcases hs with f | f
  · exact x_getN (ci := 12) 3 d f rfl in_X15 (by decide) hq (Or.inl rfl) (fv_i rfl) kk
  · exact x_getN (ci := 13) 3 d f rfl in_X16 (by decide) hq (Or.inl rfl) (fv_i rfl) kk
theorem x_putTPN {index r : Nat} {host : String} {x : Int32} (d : decode (kC K) pc = .ok (.putfield index, 3)) (hs : isTP h r) (hq : Cond.fieldLinkNest (kO K) index "BeforeTheEnd$ToldPlayer" "set" "I" host ∈ lw_tbl) (kk : X ρ K (pc + 3) lv st (si h r 3 x) cs ss Φ Ψ) : X ρ K pc lv (.int x :: .ref (mr ρ r) :: st) h cs ss Φ Ψ := by
  rcases hs with f | f
  · exact x_putN (ci := 12) 3 d f rfl in_X15 tyX15 tyX15_ok nmX15 (by decide) hq (Or.inl rfl) rfl rfl rfl (isPut_i rfl) kk
  · exact x_putN (ci := 13) 3 d f rfl in_X16 tyX16 tyX16_ok nmX16 (by decide) hq (Or.inl rfl) rfl rfl rfl (isPut_i rfl) kk
/-- checkcast -/
theorem x_cast {index r ci n : Nat} {nm : String} {q : vw_C} (d : decode (kC K) pc = .ok (.checkcast index, 3)) (hs : sh h r = (10 + ci, n)) (hc : kCl[ci]? = some q) (hq : Cond.classLink (kO K) index nm ∈ lw_all) (hw : Cond.castable q.1 nm ∈ lw_tbl ∨ q.1 = nm) (kk : X ρ K (pc + 3) lv (.ref (mr ρ r) :: st) h cs ss Φ Ψ) : X ρ K pc lv (.ref (mr ρ r) :: st) h cs ss Φ Ψ := by
  intro p e R s m args below meth c H locs ls a r0 hl hlv
  have hk := kk p e R s m args below meth c H locs ls a r0 hl hlv
  rcases hw with hw | hw
  · exact va_castY a.1 a.2.1 (amb_own a) (amb_hts a _ hq) (va_Nw.warmC (amb_wh a) (amb_w a hw rfl)) (xrecv a r0 hs hc) d hk
  · subst hw
    exact va_castS a.1 a.2.1 (amb_own a) (amb_hts a _ hq) ((amb_K a).1 ci _ hc).2 (xrecv a r0 hs hc) d hk
/-- instanceof: yes -/
theorem x_instY {index r ci n : Nat} {nm : String} {q : vw_C} (d : decode (kC K) pc = .ok (.instanceof index, 3)) (hs : sh h r = (10 + ci, n)) (hc : kCl[ci]? = some q) (hq : Cond.classLink (kO K) index nm ∈ lw_all) (hw : q.1 = nm) (kk : X ρ K (pc + 3) lv (.int 1 :: st) h cs ss Φ Ψ) : X ρ K pc lv (.ref (mr ρ r) :: st) h cs ss Φ Ψ := by
  intro p e R s m args below meth c H locs ls a r0 hl hlv
  subst hw
  exact va_instS a.1 a.2.1 (amb_own a) (amb_hts a _ hq) ((amb_K a).1 ci _ hc).2 (xrecv a r0 hs hc) d (kk p e R s m args below meth c H locs ls a r0 hl hlv)
theorem x_castTP {index r : Nat} (d : decode (kC K) pc = .ok (.checkcast index, 3)) (hs : isTP h r) (hq : Cond.classLink (kO K) index "BeforeTheEnd$ToldPlayer" ∈ lw_all) (kk : X ρ K (pc + 3) lv (.ref (mr ρ r) :: st) h cs ss Φ Ψ) : X ρ K pc lv (.ref (mr ρ r) :: st) h cs ss Φ Ψ := by
  rcases hs with f | f
  · exact x_cast (ci := 12) d f rfl hq (Or.inr rfl) kk
  · exact x_cast (ci := 13) d f rfl hq (Or.inl q1727) kk
theorem x_castSu {index r : Nat} (d : decode (kC K) pc = .ok (.checkcast index, 3)) (hs : isSu h r) (hq : Cond.classLink (kO K) index "BeforeTheEnd$Sure" ∈ lw_all) (kk : X ρ K (pc + 3) lv (.ref (mr ρ r) :: st) h cs ss Φ Ψ) : X ρ K pc lv (.ref (mr ρ r) :: st) h cs ss Φ Ψ := by
  rcases hs with f | f | f
  · exact x_cast (ci := 9) d f rfl hq (Or.inr rfl) kk
  · exact x_cast (ci := 10) d f rfl hq (Or.inl q1728) kk
  · exact x_cast (ci := 11) d f rfl hq (Or.inl q1729) kk
/-- instanceof WordTold: a PlayerTold isn't -/
theorem x_instN {index r n : Nat} (d : decode (kC K) pc = .ok (.instanceof index, 3)) (hs : sh h r = (17, n)) (hq : Cond.classLink (kO K) index "BeforeTheEnd$WordTold" ∈ lw_all) (kk : X ρ K (pc + 3) lv (.int 0 :: st) h cs ss Φ Ψ) : X ρ K pc lv (.ref (mr ρ r) :: st) h cs ss Φ Ψ := by
  intro p e R s m args below meth c H locs ls a r0 hl hlv
  exact va_instNo a.1 a.2.1 (amb_own a) (amb_hts a _ hq) (va_Nc.moved (amb_wh a).alike (amb_G a).2.2.2.1) (xrecv (ci := 7) a r0 hs rfl) d (kk p e R s m args below meth c H locs ls a r0 hl hlv)
/-- BeforeTheEnd.MOST, and a place of it -/
theorem x_most {index : Nat} (d : decode (kC K) pc = .ok (.getstatic index, 3)) (hq : Cond.fieldLink (kO K) index "BeforeTheEnd" "MOST" "[I" ∈ lw_all) (kk : X ρ K (pc + 3) lv (.ref (rO ρ 0) :: st) h cs ss Φ Ψ) : X ρ K pc lv st h cs ss Φ Ψ := by
  intro p e R s m args below meth c H locs ls a r0 hl hlv
  obtain ⟨cf, kf, fi, f, ad, cell, h1, h2, h3, h4, h5, h6, h7, h8⟩ := va_Z.moved (amb_wh a).alike ((amb_G a).2.2.2.2.1.1)
  exact W.gets a.1 a.2.1 (amb_own a) (amb_hts a _ hq) h1 h2 h3 h4 (by rw [r0.2.1 ad (Array.getElem?_eq_some_iff.mp h5).1]; exact h5) (fun z => by rw [z] at h6; cases h6) h7 rfl d (kk p e R s m args below meth c H locs ls a r0 hl hlv)
theorem x_mostA {i : Int32} {j : Nat} (d : decode (kC K) pc = .ok (.iaload, 1)) (hj : i.toNatClampNeg = j) (hin : vp_in i 4) (kk : X ρ K (pc + 1) lv (.int (mostF j) :: st) h cs ss Φ Ψ) : X ρ K pc lv (.int i :: .ref (rO ρ 0) :: st) h cs ss Φ Ψ := by
  subst hj
  intro p e R s m args below meth c H locs ls a r0 hl hlv
  obtain ⟨cell, h1, h2, h3, h4, h5, h6, h7⟩ := (amb_G a).2.2.2.2.1.2
  have hlt : i.toNatClampNeg < 4 := Nat.not_le.mp fun q => hin (Or.inr q)
  refine W.iald (v := .int (mostF i.toNatClampNeg)) a.1 a.2.1 (cell := cell) (by rw [r0.2.1 _ (Array.getElem?_eq_some_iff.mp h1).1]; exact h1) (State.isArrayOf_alike (amb_wh a).alike h2) h3 (fun z => hin (z.imp id (fun z => Nat.le_trans h4 z))) (h6 _ hlt) rfl rfl d (kk p e R s m args below meth c H locs ls a r0 hl hlv)
end XL2
theorem in_X4n : ∀ w ∈ u_ws RX4 T3n 2, w ∈ lw_all := by
  intro w h
  have h1 : w = u_lay RX4 T3n 0 ∨ w = u_lay RX4 T3n 1 := by simpa [u_ws, List.range_succ] using h
  rcases h1 with h1 | h1 <;> rw [h1]
  · exact in_X4 _ (u_in_lay (C := RX4) (T := TX4) (N := 7) (k := 6) (by decide))
  · exact in_X4 _ (u_in_lay (C := RX4) (T := TX4) (N := 7) (k := 4) (by decide))
theorem in_X6n : ∀ w ∈ u_ws RX6 T5n 2, w ∈ lw_all := by
  intro w h
  have h1 : w = u_lay RX6 T5n 0 ∨ w = u_lay RX6 T5n 1 := by simpa [u_ws, List.range_succ] using h
  rcases h1 with h1 | h1 <;> rw [h1]
  · exact in_X6 _ (u_in_lay (C := RX6) (T := TX6) (N := 7) (k := 6) (by decide))
  · exact in_X6 _ (u_in_lay (C := RX6) (T := TX6) (N := 7) (k := 4) (by decide))
def tyT3 : Nat → FieldType := fun k => match k with
  | 0 => .int
  | _ => .object "java/lang/Object"
theorem nmT3 : ∀ a, a < 2 → ∀ b, b < 2 → a ≠ b → (T3n a).2.1 ≠ (T3n b).2.1 := by decide +kernel
theorem nmT5 : ∀ a, a < 2 → ∀ b, b < 2 → a ≠ b → (T5n a).2.1 ≠ (T5n b).2.1 := by decide +kernel
theorem tyT3_ok : ∀ k, k < 2 → parseFieldDescriptor (T3n k).2.2.1 = some (tyT3 k) := by decide +kernel
theorem tyT5_ok : ∀ k, k < 2 → parseFieldDescriptor (T5n k).2.2.1 = some (tyT3 k) := by decide +kernel
theorem df_of {ci N : Nat} (h : ∀ k, k < N → kTy ci k ≠ .float ∧ kTy ci k ≠ .double) : ∀ k, k < N → fv0 (kTy ci k) = defaultValue (kTy ci k) := by
  intro k hk
  have h9 := h k hk
  cases hT : kTy ci k <;> first | rfl | exact absurd hT h9.1 | exact absurd hT h9.2
theorem df_X0 : ∀ k, k < 31 → fv0 (kTy 0 k) = defaultValue (kTy 0 k) := df_of (by decide +kernel)
theorem df_X1 : ∀ k, k < 9 → fv0 (kTy 1 k) = defaultValue (kTy 1 k) := df_of (by decide +kernel)
theorem df_X2 : ∀ k, k < 52 → fv0 (kTy 2 k) = defaultValue (kTy 2 k) := df_of (by decide +kernel)
theorem df_X5 : ∀ k, k < 3 → fv0 (kTy 4 k) = defaultValue (kTy 4 k) := df_of (by decide +kernel)
theorem df_X8 : ∀ k, k < 4 → fv0 (kTy 6 k) = defaultValue (kTy 6 k) := df_of (by decide +kernel)
theorem df_X9 : ∀ k, k < 3 → fv0 (kTy 7 k) = defaultValue (kTy 7 k) := df_of (by decide +kernel)
theorem df_X11 : ∀ k, k < 3 → fv0 (kTy 8 k) = defaultValue (kTy 8 k) := df_of (by decide +kernel)
theorem df_X12 : ∀ k, k < 3 → fv0 (kTy 9 k) = defaultValue (kTy 9 k) := df_of (by decide +kernel)
theorem df_X13 : ∀ k, k < 3 → fv0 (kTy 10 k) = defaultValue (kTy 10 k) := df_of (by decide +kernel)
theorem df_X14 : ∀ k, k < 3 → fv0 (kTy 11 k) = defaultValue (kTy 11 k) := df_of (by decide +kernel)
theorem df_X15 : ∀ k, k < 4 → fv0 (kTy 12 k) = defaultValue (kTy 12 k) := df_of (by decide +kernel)
theorem df_X16 : ∀ k, k < 6 → fv0 (kTy 13 k) = defaultValue (kTy 13 k) := df_of (by decide +kernel)
theorem df_X4 : ∀ k, k < 2 → fv0 (kTy 3 k) = defaultValue (tyT3 k) := by
  intro k hk
  rcases (show k = 0 ∨ k = 1 by omega) with e | e <;> subst e <;> rfl
theorem df_X6 : ∀ k, k < 2 → fv0 (kTy 5 k) = defaultValue (tyT3 k) := by
  intro k hk
  rcases (show k = 0 ∨ k = 1 by omega) with e | e <;> subst e <;> rfl
