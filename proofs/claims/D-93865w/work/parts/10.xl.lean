/-! X LAYER, part 1: the abstract heap, the machine hidden behind it -/
set_option maxRecDepth 100000
/-- the abstract heap: ints, longs, references by object and place; shapes; how many objects. A reference is a Nat: 0 null, n the n-th object made since the law's entry -/
abbrev Hp : Type := (Nat → Nat → Int32) × (Nat → Nat → Int64) × (Nat → Nat → Nat) × (Nat → Nat × Nat) × Nat
def gi (h : Hp) : Nat → Nat → Int32 := h.1
def gl (h : Hp) : Nat → Nat → Int64 := h.2.1
def gr (h : Hp) : Nat → Nat → Nat := h.2.2.1
def sh (h : Hp) : Nat → Nat × Nat := h.2.2.2.1
def sz (h : Hp) : Nat := h.2.2.2.2
def si (h : Hp) (a k : Nat) (v : Int32) : Hp := (fun b j => if b = a ∧ j = k then v else h.1 b j, h.2)
def sl (h : Hp) (a k : Nat) (v : Int64) : Hp := (h.1, fun b j => if b = a ∧ j = k then v else h.2.1 b j, h.2.2)
def sr (h : Hp) (a k : Nat) (v : Nat) : Hp := (h.1, h.2.1, fun b j => if b = a ∧ j = k then v else h.2.2.1 b j, h.2.2.2)
/-- a new object of shape t -/
def al (h : Hp) (t : Nat × Nat) : Hp := (fun b j => if b = h.2.2.2.2 + 1 then 0 else h.1 b j, fun b j => if b = h.2.2.2.2 + 1 then 0 else h.2.1 b j, fun b j => if b = h.2.2.2.2 + 1 then 0 else h.2.2.1 b j, fun b => if b = h.2.2.2.2 + 1 then t else h.2.2.2.1 b, h.2.2.2.2 + 1)
/-- an int array's copy of n places -/
def cpi (h : Hp) (a sp b dp n : Nat) : Hp := (fun c j => if c = b then va_cpy (h.1 a) (h.1 b) sp dp n j else h.1 c j, h.2)
/-- what is fixed for the whole run: class numbers and field places, array classes, the state at the law's entry, the launch, old cells' addresses -/
abbrev Rho : Type := va_G × (Nat → ClassId) × State × Launch × (Nat → Nat)
abbrev rD (ρ : Rho) : va_G := ρ.1
abbrev rA (ρ : Rho) : Nat → ClassId := ρ.2.1
abbrev rS (ρ : Rho) : State := ρ.2.2.1
abbrev rL (ρ : Rho) : Launch := ρ.2.2.2.1
abbrev rO (ρ : Rho) : Nat → Nat := ρ.2.2.2.2
def rN (ρ : Rho) : Nat := (rS ρ).heap.size
/-- the machine's address of the object n -/
def mr (ρ : Rho) (n : Nat) : Nat := rN ρ + (n - 1)
def rv (ρ : Rho) (n : Nat) : Value := if n = 0 then .null else .ref (mr ρ n)
theorem rv_pos {ρ : Rho} {n : Nat} (hn : n ≠ 0) : rv ρ n = .ref (mr ρ n) := if_neg hn
theorem mr_ne {ρ : Rho} {a b : Nat} (ha : 1 ≤ a) (hb : 1 ≤ b) (h : a ≠ b) : mr ρ a ≠ mr ρ b := by unfold mr; omega
/-- the classes that are made, by their numbers here -/
def T3n : u_T := fun k => match k with
  | 0 => ("BeforeTheEnd$Refused", "number", "I", true)
  | _ => ("java/lang/Throwable", "backtrace", "Ljava/lang/Object;", false)
def T5n : u_T := fun k => match k with
  | 0 => ("BeforeTheEnd$Fault", "told", "I", true)
  | _ => ("java/lang/Throwable", "backtrace", "Ljava/lang/Object;", false)
/-- a thrown object's places here: its number; the backtrace, null all along (as .float stands for in kTy) -/
def tyE : Nat → FieldType := fun k => match k with
  | 0 => .int
  | _ => .float
def kCl : List vw_C := [(RX0, TX0, 31), (RX1, TX1, 9), (RX2, TX2, 52), (RX4, T3n, 2), (RX5, TX5, 3), (RX6, T5n, 2), (RX8, TX8, 4), (RX9, TX9, 3), (RX11, TX11, 3), (RX12, TX12, 3), (RX13, TX13, 3), (RX14, TX14, 3), (RX15, TX15, 4), (RX16, TX16, 6)]
def kTy (ci : Nat) : Nat → FieldType := match ci with
  | 0 => tyX0
  | 1 => tyX1
  | 2 => tyX2
  | 3 => tyE
  | 4 => tyX5
  | 5 => tyE
  | 6 => tyX8
  | 7 => tyX9
  | 8 => tyX11
  | 9 => tyX12
  | 10 => tyX13
  | 11 => tyX14
  | 12 => tyX15
  | _ => tyX16
def aTy (t : Nat) : FieldType := match t with
  | 1 => .int
  | 2 => .long
  | 3 => .byte
  | 4 => .boolean
  | 5 => .object "BeforeTheEnd$Player"
  | _ => .object "BeforeTheEnd$Told"
/-- a place's value by its type -/
def fv (ρ : Rho) (h : Hp) (r : Nat) (ty : FieldType) (k : Nat) : Value := match ty with
  | .long => .long (gl h r k)
  | .object _ => rv ρ (gr h r k)
  | .array _ => rv ρ (gr h r k)
  | .float => .null
  | _ => .int (gi h r k)
/-- the object r is in the heap as h has it: shape (1..6, n): an array of n places; (10 + ci, _): an object of the class ci of kCl -/
def mFree (H : Heap) (a : Nat) : Prop := ∃ cell : Cell, H[a]? = some cell ∧ cell.monitor.owner = none ∧ cell.monitor.count = 0 ∧ cell.slots.size = 7
theorem mFree.kept {H H' : Heap} {a : Nat} (m : mFree H a) (e : H'[a]? = H[a]?) : mFree H' a := by
  obtain ⟨c, h1, h2⟩ := m
  exact ⟨c, by rw [e]; exact h1, h2⟩
def cOK (ρ : Rho) (h : Hp) (r : Nat) (H : Heap) : Prop :=
  (1 ≤ (sh h r).1 ∧ (sh h r).1 ≤ 6 → H[mr ρ r]? = some (arrV (rA ρ (sh h r).1) (sh h r).2 (fv ρ h r (aTy (sh h r).1)))) ∧
  (∀ ci q, (sh h r).1 = 10 + ci → kCl[ci]? = some q → t_OB (mr ρ r) ((rD ρ).1 ci) q.2.2 ((rD ρ).2 ci) H (fun k => fv ρ h r (kTy ci k) k)) ∧ ((sh h r).1 = 13 ∨ (sh h r).1 = 15 → mFree H (mr ρ r))
def Rep (ρ : Rho) (h : Hp) (H : Heap) : Prop :=
  H.size = rN ρ + sz h ∧ (∀ q : Nat, q < rN ρ → H[q]? = (rS ρ).heap[q]?) ∧ (∀ r, (sh h r).1 ≠ 0 → 1 ≤ r ∧ r ≤ sz h) ∧ ∀ r, cOK ρ h r H
def St (ρ : Rho) (h : Hp) (U : State) : Prop := (rS ρ).WarmedH U.vm ∧ Rep ρ h U.heap
theorem Rep.live {ρ : Rho} {h : Hp} {H : Heap} (R : Rep ρ h H) {r t n : Nat} (hs : sh h r = (t, n)) (ht : t ≠ 0) : 1 ≤ r ∧ r ≤ sz h := R.2.2.1 r (by rw [hs]; exact ht)
theorem Rep.arr {ρ : Rho} {h : Hp} {H : Heap} (R : Rep ρ h H) {r t n : Nat} (hs : sh h r = (t, n)) (h1 : 1 ≤ t) (h2 : t ≤ 6) : H[mr ρ r]? = some (arrV (rA ρ t) n (fv ρ h r (aTy t))) := by
  have := (R.2.2.2 r).1
  rw [hs] at this
  exact this ⟨h1, h2⟩
theorem Rep.obj {ρ : Rho} {h : Hp} {H : Heap} (R : Rep ρ h H) {r ci n : Nat} {q : vw_C} (hs : sh h r = (10 + ci, n)) (hq : kCl[ci]? = some q) : t_OB (mr ρ r) ((rD ρ).1 ci) q.2.2 ((rD ρ).2 ci) H (fun k => fv ρ h r (kTy ci k) k) :=
  (R.2.2.2 r).2.1 ci q (by rw [hs]) hq
/-- one live object is written -/
theorem Rep.put {ρ : Rho} {h h' : Hp} {H H' : Heap} {r : Nat} (R : Rep ρ h H) (hr : 1 ≤ r) (hsh : sh h' = sh h) (hsz : sz h' = sz h) (ho : ∀ q, q ≠ r → ∀ ty k, fv ρ h' q ty k = fv ρ h q ty k) (e2 : H'.size = H.size) (e3 : ∀ q, q ≠ mr ρ r → H'[q]? = H[q]?) (hc : cOK ρ h' r H') : Rep ρ h' H' := by
  refine ⟨by rw [e2, R.1, hsz], fun q hq => ?_, fun q hq => ?_, fun q => ?_⟩
  · rw [e3 q (by unfold mr; omega)]; exact R.2.1 q hq
  · rw [hsh] at hq; rw [hsz]; exact R.2.2.1 q hq
  · by_cases hqr : q = r
    · subst hqr; exact hc
    · by_cases hl : (sh h q).1 = 0
      · refine ⟨fun z => ?_, fun ci x z _ => ?_, fun z => ?_⟩
        · rw [hsh] at z; omega
        · rw [hsh] at z; omega
        · rw [hsh] at z; omega
      · have hq1 := (R.2.2.1 q hl).1
        have e := e3 _ (mr_ne (ρ := ρ) hq1 hr hqr)
        have eq : ∀ ty, fv ρ h' q ty = fv ρ h q ty := fun ty => funext fun k => ho q hqr ty k
        refine ⟨fun z => ?_, fun ci x z hx => ?_, fun z => ((R.2.2.2 q).2.2 (by rw [hsh] at z; exact z)).kept e⟩
        · rw [hsh] at z ⊢
          rw [e, eq]
          exact (R.2.2.2 q).1 z
        · rw [hsh] at z
          exact (((R.2.2.2 q).2.1 ci x z hx).kept e).to (fun k _ => (ho q hqr _ k).symm)
theorem Rep.putArr {ρ : Rho} {h h' : Hp} {H H' : Heap} {r t n k : Nat} {v : Value} (R : Rep ρ h H) (hs : sh h r = (t, n)) (h1 : 1 ≤ t) (h2 : t ≤ 6) (hsh : sh h' = sh h) (hsz : sz h' = sz h) (ho : ∀ q, q ≠ r → ∀ ty k, fv ρ h' q ty k = fv ρ h q ty k) (hv : fv ρ h' r (aTy t) = updV (fv ρ h r (aTy t)) k v)
    (e1 : H'[mr ρ r]? = some ((arrV (rA ρ t) n (fv ρ h r (aTy t))).setSlot k v)) (e2 : H'.size = H.size) (e3 : ∀ q, q ≠ mr ρ r → H'[q]? = H[q]?) : Rep ρ h' H' := by
  refine R.put (R.live hs (by omega)).1 hsh hsz ho e2 e3 ⟨fun _ => ?_, fun ci q z => ?_, fun z => ?_⟩
  · rw [hsh, hs, e1, arrV_store]
    show _ = some (arrV (rA ρ t) n (fv ρ h' r (aTy t)))
    rw [hv]
  · rw [hsh, hs] at z
    have : t = 10 + ci := z
    omega
  · rw [hsh, hs] at z
    have : t = 13 ∨ t = 15 := z
    omega
theorem Rep.putObj {ρ : Rho} {h h' : Hp} {H H' : Heap} {r ci n : Nat} {q0 : vw_C} (R : Rep ρ h H) (hs : sh h r = (10 + ci, n)) (hq0 : kCl[ci]? = some q0) (hsh : sh h' = sh h) (hsz : sz h' = sz h) (ho : ∀ q, q ≠ r → ∀ ty k, fv ρ h' q ty k = fv ρ h q ty k)
    (e1 : t_OB (mr ρ r) ((rD ρ).1 ci) q0.2.2 ((rD ρ).2 ci) H' (fun k => fv ρ h' r (kTy ci k) k)) (e2 : H'.size = H.size) (e3 : ∀ q, q ≠ mr ρ r → H'[q]? = H[q]?) (hm : mFree H (mr ρ r) → mFree H' (mr ρ r)) : Rep ρ h' H' := by
  refine R.put (R.live hs (by omega)).1 hsh hsz ho e2 e3 ⟨fun z => ?_, fun c2 q z hz => ?_, fun z => hm ((R.2.2.2 r).2.2 (by rw [hsh] at z; exact z))⟩
  · rw [hsh, hs] at z
    have : 10 + ci ≤ 6 := z.2
    omega
  · rw [hsh, hs] at z
    have : 10 + ci = 10 + c2 := z
    have : c2 = ci := by omega
    subst this
    cases hq0.symm.trans hz
    exact e1
/-- a new object at the end -/
theorem Rep.new {ρ : Rho} {h : Hp} {H H' : Heap} {t : Nat × Nat} (R : Rep ρ h H) (e2 : H'.size = H.size + 1) (e3 : ∀ q, q < H.size → H'[q]? = H[q]?) (hc : cOK ρ (al h t) (sz h + 1) H') : Rep ρ (al h t) H' := by
  have hS : sz (al h t) = sz h + 1 := rfl
  have hN : ∀ q, q ≠ sz h + 1 → sh (al h t) q = sh h q := fun q hq => if_neg hq
  refine ⟨by rw [e2, R.1, hS]; omega, fun q hq => ?_, fun q hq => ?_, fun q => ?_⟩
  · rw [e3 q (by rw [R.1]; omega)]; exact R.2.1 q hq
  · by_cases hqr : q = sz h + 1
    · rw [hS]; omega
    · rw [hN q hqr] at hq; rw [hS]
      have := R.2.2.1 q hq
      omega
  · by_cases hqr : q = sz h + 1
    · rw [hqr]; exact hc
    · by_cases hl : (sh h q).1 = 0
      · refine ⟨fun z => ?_, fun ci x z _ => ?_, fun z => ?_⟩
        · rw [hN q hqr] at z; omega
        · rw [hN q hqr] at z; omega
        · rw [hN q hqr] at z; omega
      · have hq1 := R.2.2.1 q hl
        have e := e3 (mr ρ q) (by rw [R.1]; unfold mr; omega)
        have eq : ∀ ty, fv ρ (al h t) q ty = fv ρ h q ty := fun ty => funext fun k => by
          have a1 : gl (al h t) q k = gl h q k := if_neg hqr
          have a2 : gi (al h t) q k = gi h q k := if_neg hqr
          have a3 : gr (al h t) q k = gr h q k := if_neg hqr
          unfold fv
          rw [a1, a2, a3]
        refine ⟨fun z => ?_, fun ci x z hx => ?_, fun z => ((R.2.2.2 q).2.2 (by rw [hN q hqr] at z; exact z)).kept e⟩
        · rw [hN q hqr] at z ⊢
          rw [e, eq]
          exact (R.2.2.2 q).1 z
        · rw [hN q hqr] at z
          exact (((R.2.2.2 q).2.1 ci x z hx).kept e).to (fun k _ => (congrFun (eq _) k).symm)
theorem fv_si {ρ : Rho} {h : Hp} {a k : Nat} {v : Int32} {q : Nat} (hq : q ≠ a) (ty : FieldType) (j : Nat) : fv ρ (si h a k v) q ty j = fv ρ h q ty j := by
  have a2 : gi (si h a k v) q j = gi h q j := if_neg (fun z => hq z.1)
  have a1 : gl (si h a k v) q j = gl h q j := rfl
  have a3 : gr (si h a k v) q j = gr h q j := rfl
  unfold fv; rw [a1, a2, a3]
theorem fv_sl {ρ : Rho} {h : Hp} {a k : Nat} {v : Int64} {q : Nat} (hq : q ≠ a) (ty : FieldType) (j : Nat) : fv ρ (sl h a k v) q ty j = fv ρ h q ty j := by
  have a2 : gl (sl h a k v) q j = gl h q j := if_neg (fun z => hq z.1)
  have a1 : gi (sl h a k v) q j = gi h q j := rfl
  have a3 : gr (sl h a k v) q j = gr h q j := rfl
  unfold fv; rw [a1, a2, a3]
theorem fv_sr {ρ : Rho} {h : Hp} {a k : Nat} {v : Nat} {q : Nat} (hq : q ≠ a) (ty : FieldType) (j : Nat) : fv ρ (sr h a k v) q ty j = fv ρ h q ty j := by
  have a2 : gr (sr h a k v) q j = gr h q j := if_neg (fun z => hq z.1)
  have a1 : gi (sr h a k v) q j = gi h q j := rfl
  have a3 : gl (sr h a k v) q j = gl h q j := rfl
  unfold fv; rw [a1, a2, a3]
/-- kinds of types: 0 int-like, 1 long, 2 reference -/
def tk (ty : FieldType) : Nat := match ty with
  | .long => 1
  | .object _ => 2
  | .array _ => 2
  | .float => 3
  | _ => 0
/-- a new object's values -/
def fv0 (ty : FieldType) : Value := match ty with
  | .long => .long 0
  | .object _ => .null
  | .array _ => .null
  | .float => .null
  | _ => .int 0
theorem fv_zero {ρ : Rho} {h : Hp} {r k : Nat} {ty : FieldType} (a1 : gi h r k = 0) (a2 : gl h r k = 0) (a3 : gr h r k = 0) : fv ρ h r ty k = fv0 ty := by
  unfold fv
  rw [a1, a2, a3]
  cases ty <;> rfl
theorem fv_i {ρ : Rho} {h : Hp} {r k : Nat} {ty : FieldType} (ht : tk ty = 0) : fv ρ h r ty k = .int (gi h r k) := by
  cases ty <;> first | rfl | cases ht
theorem fv_l {ρ : Rho} {h : Hp} {r k : Nat} {ty : FieldType} (ht : tk ty = 1) : fv ρ h r ty k = .long (gl h r k) := by
  cases ty <;> first | rfl | cases ht
theorem fv_r {ρ : Rho} {h : Hp} {r k : Nat} {ty : FieldType} (ht : tk ty = 2) : fv ρ h r ty k = rv ρ (gr h r k) := by
  cases ty <;> first | rfl | cases ht
/-- a place is written: the value it has behind -/
theorem fv_si_at {ρ : Rho} {h : Hp} {r k j : Nat} {v : Int32} {ty : FieldType} : fv ρ (si h r k v) r ty j = if j = k ∧ tk ty = 0 then .int v else fv ρ h r ty j := by
  by_cases ht : tk ty = 0
  · rw [fv_i ht, fv_i ht]
    by_cases hj : j = k
    · rw [if_pos ⟨hj, ht⟩]; show Value.int (if r = r ∧ j = k then v else _) = _; rw [if_pos ⟨rfl, hj⟩]
    · rw [if_neg (fun z => hj z.1)]; show Value.int (if r = r ∧ j = k then v else _) = _; rw [if_neg (fun z => hj z.2)]; rfl
  · rw [if_neg (fun z => ht z.2)]
    cases ty <;> first | rfl | exact absurd rfl ht
theorem fv_sl_at {ρ : Rho} {h : Hp} {r k j : Nat} {v : Int64} {ty : FieldType} : fv ρ (sl h r k v) r ty j = if j = k ∧ tk ty = 1 then .long v else fv ρ h r ty j := by
  by_cases ht : tk ty = 1
  · rw [fv_l ht, fv_l ht]
    by_cases hj : j = k
    · rw [if_pos ⟨hj, ht⟩]; show Value.long (if r = r ∧ j = k then v else _) = _; rw [if_pos ⟨rfl, hj⟩]
    · rw [if_neg (fun z => hj z.1)]; show Value.long (if r = r ∧ j = k then v else _) = _; rw [if_neg (fun z => hj z.2)]; rfl
  · rw [if_neg (fun z => ht z.2)]
    cases ty <;> first | rfl | exact absurd rfl ht
theorem fv_sr_at {ρ : Rho} {h : Hp} {r k j : Nat} {v : Nat} {ty : FieldType} : fv ρ (sr h r k v) r ty j = if j = k ∧ tk ty = 2 then rv ρ v else fv ρ h r ty j := by
  by_cases ht : tk ty = 2
  · rw [fv_r ht, fv_r ht]
    by_cases hj : j = k
    · rw [if_pos ⟨hj, ht⟩]; show rv ρ (if r = r ∧ j = k then v else _) = _; rw [if_pos ⟨rfl, hj⟩]
    · rw [if_neg (fun z => hj z.1)]; show rv ρ (if r = r ∧ j = k then v else _) = _; rw [if_neg (fun z => hj z.2)]; rfl
  · rw [if_neg (fun z => ht z.2)]
    cases ty <;> first | rfl | exact absurd rfl ht
/-- a method's frame: its class, code, locals, answer, room, table of handlers, whether a constructor -/
abbrev Kx : Type := String × ByteArray × Nat × Option FieldType × Room × List (Nat × Nat × Nat × Nat) × Bool
abbrev kO (K : Kx) : String := K.1
abbrev kC (K : Kx) : ByteArray := K.2.1
abbrev kL (K : Kx) : Nat := K.2.2.1
abbrev kR (K : Kx) : Option FieldType := K.2.2.2.1
abbrev kM (K : Kx) : Room := K.2.2.2.2.1
abbrev kH (K : Kx) : List (Nat × Nat × Nat × Nat) := K.2.2.2.2.2.1
abbrev kI (K : Kx) : Bool := K.2.2.2.2.2.2
/-- the cells made since the law's entry -/
abbrev rF (ρ : Rho) : Addr → Prop := fun q => rN ρ ≤ q
def kTys (ρ : Rho) : List (ClassId × FieldType) := [(rA ρ 1, aTy 1), (rA ρ 2, aTy 2), (rA ρ 3, aTy 3), (rA ρ 4, aTy 4), (rA ρ 5, aTy 5), (rA ρ 6, aTy 6)]
/-- BeforeTheEnd.MOST -/
def mostF (j : Nat) : Int32 := match j with
  | 0 => 20
  | 1 => 20
  | 2 => 5
  | _ => 1
/-- what holds of the law's entry: no stack traces, the tables, the classes, a cast that fails, the statics and the text that are read -/
def G0 (ρ : Rho) : Prop :=
  (rL ρ).stackTraces = false ∧ (∀ w ∈ lw_tbl, ∃ A : Array Value, w.before A (rS ρ) = true) ∧ va_K (rD ρ) kCl (kTys ρ) (rS ρ) ∧ va_Nc "BeforeTheEnd$PlayerTold" "BeforeTheEnd$WordTold" (rS ρ) ∧
  (va_Z "BeforeTheEnd" "MOST" "[I" (.ref (rO ρ 0)) (rF ρ) (rS ρ) (rS ρ).heap ∧ va_T .int (rO ρ 0) 4 (fun j => .int (mostF j)) (rF ρ) (rS ρ) (rS ρ).heap) ∧
  (vx_Zq Bundle.tN "UNASSIGNED_STACK" Bundle.steD (rF ρ) (rS ρ) (rS ρ).heap ∧ vx_Zq Bundle.tN "SUPPRESSED_SENTINEL" Bundle.listD (rF ρ) (rS ρ) (rS ρ).heap) ∧
  (vk_R "BeforeTheEnd$Reader" 72 "esblta" (rO ρ 1) (rS ρ) ∧ vk_S 1 [6] [[101, 115, 98, 108, 116, 97]] (fun _ => rO ρ 1) (fun _ => rO ρ 2) (rF ρ) (rS ρ) (rS ρ).heap ∧ va_Z "java/lang/String" "COMPACT_STRINGS" "Z" (.int 1) (rF ρ) (rS ρ) (rS ρ).heap)
/-- the machine in a method's body, its start state s -/
def Amb (ρ : Rho) (K : Kx) (p : Program) (R : Room) (s : State) (m : MethodId) (args : Array Value) (meth : Method) (c : Code) : Prop :=
  p.tables.exec = Jvm.exec ∧ c.code = kC K ∧ c.maxLocals = kL K ∧ s.vm.findClass (kO K) = some m.cls ∧ (∀ w ∈ lw_all, w.before args s = true) ∧ meth.sig.returnType = kR K ∧ meth.locks = false ∧ R = kM K ∧ c.exceptionTable.toList = tableOf (kH K) ∧ (kI K = true → meth.name = "<init>") ∧ (rS ρ).WarmedH s.vm ∧ rN ρ ≤ s.heap.size ∧ (∀ q : Nat, q < rN ρ → s.heap[q]? = (rS ρ).heap[q]?) ∧ G0 ρ
def xQ (ρ : Rho) (Φ : Option Value → Hp → Prop) : Array Value → State → Outcome → State → Prop := fun _ _ o t => ∃ v h', o = .returned v ∧ Φ v h' ∧ St ρ h' t
def xE (ρ : Rho) (Ψ : Nat → Hp → Prop) : String → Addr → State → State → Prop := fun E a _ t => ∃ q h' ci n x, Ψ q h' ∧ a = mr ρ q ∧ sh h' q = (10 + ci, n) ∧ kCl[ci]? = some x ∧ E = x.1 ∧ St ρ h' t
/-- from here on the method comes to its end, with Φ (returned) or Ψ (thrown) -/
def X (ρ : Rho) (K : Kx) (pc : Nat) (lv : List (Nat × Value)) (st : List Value) (h : Hp) (cs ss : Nat) (Φ : Option Value → Hp → Prop) (Ψ : Nat → Hp → Prop) : Prop :=
  ∀ (p : Program) (e : Env) (R : Room) (s : State) (m : MethodId) (args : Array Value) (below : List Frame) (meth : Method) (c : Code) (H : Heap) (locs : List Loc) (ls : Array Slot),
    Amb ρ K p R s m args meth c → Rep ρ h H → (∀ q ∈ locs, rN ρ ≤ q.base) → lv_has ls (kL K) lv →
    W p (rL ρ) e R s m args below meth c H locs cs ss (vx_MQ below (xQ ρ Φ) (xE ρ Ψ) args s (kM K).cells (kM K).slots (rF ρ)) (F0 m pc ls st)
/-- q is thrown at pc -/
def XT (ρ : Rho) (K : Kx) (pc : Nat) (lv : List (Nat × Value)) (q : Nat) (h : Hp) (cs ss : Nat) (Φ : Option Value → Hp → Prop) (Ψ : Nat → Hp → Prop) : Prop :=
  ∀ (p : Program) (e : Env) (R : Room) (s : State) (m : MethodId) (args : Array Value) (below : List Frame) (meth : Method) (c : Code) (H : Heap) (locs : List Loc) (ls : Array Slot) (rest : List Value),
    Amb ρ K p R s m args meth c → Rep ρ h H → (∀ q ∈ locs, rN ρ ≤ q.base) → lv_has ls (kL K) lv →
    vx_W p (rL ρ) e R s m args below meth c H locs cs ss (vx_MQ below (xQ ρ Φ) (xE ρ Ψ) args s (kM K).cells (kM K).slots (rF ρ)) (F0 m pc ls rest) (mr ρ q)
/-- a contract: from the exact start h with the arguments av the method returns with Φ or throws with Ψ -/
def Con (ρ : Rho) (y : MethodName) (ws : List Cond) (rm : Room) (av : List Value) (h : Hp) (Φ : Option Value → Hp → Prop) (Ψ : Nat → Hp → Prop) : Prop :=
  vx_Met (rL ρ) y ws rm (va_Pc av (fun U => St ρ h U ∧ G0 ρ)) (xQ ρ Φ) (xE ρ Ψ) rm.cells rm.slots (rF ρ)
section XL
variable {ρ : Rho} {K : Kx} {pc : Nat} {lv lv' : List (Nat × Value)} {st : List Value} {h : Hp} {cs ss : Nat} {Φ : Option Value → Hp → Prop} {Ψ : Nat → Hp → Prop}
theorem amb_G {ρ : Rho} {K : Kx} {p : Program} {R : Room} {s : State} {m : MethodId} {args : Array Value} {meth : Method} {c : Code} (a : Amb ρ K p R s m args meth c) : G0 ρ := a.2.2.2.2.2.2.2.2.2.2.2.2.2
theorem amb_wh {ρ : Rho} {K : Kx} {p : Program} {R : Room} {s : State} {m : MethodId} {args : Array Value} {meth : Method} {c : Code} (a : Amb ρ K p R s m args meth c) : (rS ρ).WarmedH s.vm := a.2.2.2.2.2.2.2.2.2.2.1
theorem amb_K {ρ : Rho} {K : Kx} {p : Program} {R : Room} {s : State} {m : MethodId} {args : Array Value} {meth : Method} {c : Code} (a : Amb ρ K p R s m args meth c) : va_K (rD ρ) kCl (kTys ρ) s := ((amb_G a).2.2.1).moved (amb_wh a).alike
theorem amb_hts {ρ : Rho} {K : Kx} {p : Program} {R : Room} {s : State} {m : MethodId} {args : Array Value} {meth : Method} {c : Code} (a : Amb ρ K p R s m args meth c) : ∀ w ∈ lw_all, w.before args s = true := a.2.2.2.2.1
theorem amb_own {ρ : Rho} {K : Kx} {p : Program} {R : Room} {s : State} {m : MethodId} {args : Array Value} {meth : Method} {c : Code} (a : Amb ρ K p R s m args meth c) : s.vm.findClass (kO K) = some m.cls := a.2.2.2.1
theorem amb_arr {ρ : Rho} {K : Kx} {p : Program} {R : Room} {s : State} {m : MethodId} {args : Array Value} {meth : Method} {c : Code} (a : Amb ρ K p R s m args meth c) {t : Nat} (h1 : 1 ≤ t) (h2 : t ≤ 6) : ArrOfT s (rA ρ t) (aTy t) := by
  have hk := (amb_K a).2
  have key : ∀ t, 1 ≤ t → t ≤ 6 → (kTys ρ)[t - 1]? = some (rA ρ t, aTy t) := by
    intro t h1 h2
    match t, h1, h2 with
    | 1, _, _ => rfl
    | 2, _, _ => rfl
    | 3, _, _ => rfl
    | 4, _, _ => rfl
    | 5, _, _ => rfl
    | 6, _, _ => rfl
    | t + 7, _, h2 => omega
  exact (hk _ _ (key t h1 h2)).1
/-- a body is a contract -/
theorem con_of {y : MethodName} {cc : ByteArray} {nL : Nat} {ret : Option FieldType} {own : String} {isI : Bool} {rm : Room} {av : List Value} {l0 : List (Nat × Value)} (hy : plainName y.cls = true) (hown : y.cls = own) (hI : isI = true → y.name = "<init>") (hlen : (lg_sl av).length ≤ nL) (hl0 : lv_args 0 av = l0)
    (hX : G0 ρ → X ρ (own, cc, nL, ret, rm, [], isI) 0 l0 [] h 0 0 Φ Ψ) : Con ρ y (ws_ y cc nL ret) rm av h Φ Ψ := by
  refine vx_ofW (cc := cc) (maxL := nL) (ret := ret) hy rfl ?_
  intro p e s m args below meth c s₁ B hml htab hv
  obtain ⟨rfl, ⟨hal, hrep⟩, hg0⟩ := hv
  have hts := atoms_spec (ws := ws_ y cc nL ret) B.pre
  have hl := lv_entry av (n := nL) hlen
  rw [lg_entry_eq]
  generalize (lg_sl av ++ List.replicate (nL - (lg_sl av).length) Slot.unset).toArray = ls at hl ⊢
  rw [hl0] at hl
  refine hX hg0 p e rm s m av.toArray below meth c s.heap [] ls ⟨B.exec, B.bytes, hml, ?_, fun w hw => hts w (List.mem_cons_of_mem _ hw), B.returns, B.notSynchronized, rfl, ?_, fun hi => ?_, hal, ?_, hrep.2.1, hg0⟩ hrep (fun q hq => by cases hq) hl
  · rw [show kO (own, cc, nL, ret, rm, [], isI) = y.cls from hown.symm]; exact findClass_of_methodNamed B.named
  · have : c.exceptionTable.toList = [] := by
      cases hc : c.exceptionTable.toList with
      | nil => rfl
      | cons x xs => exact (htab x (by rw [hc]; exact List.mem_cons_self)).elim
    rw [this]; rfl
  · rw [(name_of_methodNamed B.named B.method).1]; exact hI hi
  · rw [hrep.1]; exact Nat.le_add_right _ _
theorem con_ofH {y : MethodName} {cc : ByteArray} {nL : Nat} {ret : Option FieldType} {own : String} {hh : List (Nat × Nat × Nat × Nat)} {rm : Room} {av : List Value} {l0 : List (Nat × Value)} (hy : plainName y.cls = true) (hown : y.cls = own) (hw : Cond.codeWith y cc nL ret hh ∈ lw_all) (hlen : (lg_sl av).length ≤ nL) (hl0 : lv_args 0 av = l0)
    (hX : G0 ρ → X ρ (own, cc, nL, ret, rm, hh, false) 0 l0 [] h 0 0 Φ Ψ) : Con ρ y (wsW_ y cc nL ret hh) rm av h Φ Ψ := by
  refine vx_ofWH (cc := cc) (maxL := nL) (ret := ret) (hh := hh) hy rfl ?_
  intro p e s m args below meth c s₁ B hml hv
  obtain ⟨rfl, ⟨hal, hrep⟩, hg0⟩ := hv
  have hts := atoms_spec (ws := wsW_ y cc nL ret hh) B.pre
  have hl := lv_entry av (n := nL) hlen
  rw [lg_entry_eq]
  generalize (lg_sl av ++ List.replicate (nL - (lg_sl av).length) Slot.unset).toArray = ls at hl ⊢
  rw [hl0] at hl
  refine hX hg0 p e rm s m av.toArray below meth c s.heap [] ls ⟨B.exec, B.bytes, hml, ?_, fun w hw => hts w (List.mem_cons_of_mem _ hw), B.returns, B.notSynchronized, rfl, ?_, (fun hi => by cases hi), hal, ?_, hrep.2.1, hg0⟩ hrep (fun q hq => by cases hq) hl
  · rw [show kO (own, cc, nL, ret, rm, hh, false) = y.cls from hown.symm]; exact findClass_of_methodNamed B.named
  · exact vx_table (x := y) B (hts _ (List.mem_cons_of_mem _ hw))
  · rw [hrep.1]; exact Nat.le_add_right _ _
/-- weaker posts -/
theorem X.mono {Φ' : Option Value → Hp → Prop} {Ψ' : Nat → Hp → Prop} (k : X ρ K pc lv st h cs ss Φ Ψ) (hΦ : ∀ v h', Φ v h' → Φ' v h') (hΨ : ∀ v h', Ψ v h' → Ψ' v h') : X ρ K pc lv st h cs ss Φ' Ψ' := by
  intro p e R s m args below meth c H locs ls a r hl hv T hT Z
  obtain ⟨t, t1, o, t2, t3, t4⟩ := k p e R s m args below meth c H locs ls a r hl hv T hT Z
  refine ⟨t, t1, o, t2, t3, ?_⟩
  rcases t4 with ⟨⟨v, h', z1, z2, z3⟩, z4⟩ | ⟨q, z1, E, ce, L, ⟨q', h', ci, n, x, y1, y2⟩, y3⟩
  · exact Or.inl ⟨⟨v, h', z1, hΦ _ _ z2, z3⟩, z4⟩
  · exact Or.inr ⟨q, z1, E, ce, L, ⟨q', h', ci, n, x, hΨ _ _ y1, y2⟩, y3⟩
theorem X.widen {k n : Nat} (h1 : cs ≤ k) (h2 : ss ≤ n) (kk : X ρ K pc lv st h k n Φ Ψ) : X ρ K pc lv st h cs ss Φ Ψ :=
  fun p e R s m args below meth c H locs ls a r hl hv => W.widen h1 h2 (kk p e R s m args below meth c H locs ls a r hl hv)
theorem X.sub (ks : List Nat) (hl' : lv_pick lv ks = lv') (k : X ρ K pc lv' st h cs ss Φ Ψ) : X ρ K pc lv st h cs ss Φ Ψ :=
  fun p e R s m args below meth c H locs ls a r hl hv => k p e R s m args below meth c H locs ls a r hl (lv_sub hv ks hl')
theorem x_iconst {n : Int} (v : Int32) (d : decode (kC K) pc = .ok (.iconst n, 1)) (he : Int32.ofInt n = v) (k : X ρ K (pc + 1) lv (.int v :: st) h cs ss Φ Ψ) : X ρ K pc lv (st) h cs ss Φ Ψ :=
  fun p e R s m args below meth c H locs ls a r hl hv => lv_iconst a.1 a.2.1 d he (k p e R s m args below meth c H locs ls a r hl hv)
theorem x_bipush {n : Int} (v : Int32) (d : decode (kC K) pc = .ok (.bipush n, 2)) (he : (Int8.ofInt n).toInt32 = v) (k : X ρ K (pc + 2) lv (.int v :: st) h cs ss Φ Ψ) : X ρ K pc lv (st) h cs ss Φ Ψ :=
  fun p e R s m args below meth c H locs ls a r hl hv => lv_bipush a.1 a.2.1 d he (k p e R s m args below meth c H locs ls a r hl hv)
theorem x_sipush {n : Int} (v : Int32) (d : decode (kC K) pc = .ok (.sipush n, 3)) (he : (Int16.ofInt n).toInt32 = v) (k : X ρ K (pc + 3) lv (.int v :: st) h cs ss Φ Ψ) : X ρ K pc lv (st) h cs ss Φ Ψ :=
  fun p e R s m args below meth c H locs ls a r hl hv => lv_sipush a.1 a.2.1 d he (k p e R s m args below meth c H locs ls a r hl hv)
theorem x_lconst {n : Fin 2} (v : Int64) (d : decode (kC K) pc = .ok (.lconst n, 1)) (he : Int64.ofNat (n : Nat) = v) (k : X ρ K (pc + 1) lv (.long v :: st) h cs ss Φ Ψ) : X ρ K pc lv (st) h cs ss Φ Ψ :=
  fun p e R s m args below meth c H locs ls a r hl hv => lv_lconst a.1 a.2.1 d he (k p e R s m args below meth c H locs ls a r hl hv)
theorem x_iload_n {k0 : Fin 4} {x : Int32} (j : Nat) (d : decode (kC K) pc = .ok (.iload_n k0, 1)) (hj : lv[j]? = some ((k0 : Nat), .int x)) (k : X ρ K (pc + 1) lv (.int x :: st) h cs ss Φ Ψ) : X ρ K pc lv (st) h cs ss Φ Ψ :=
  fun p e R s m args below meth c H locs ls a r hl hv => lv_iload_n a.1 a.2.1 d rfl (lv_at hv j hj) (k p e R s m args below meth c H locs ls a r hl hv)
theorem x_iload {i : Nat} {x : Int32} (j : Nat) (d : decode (kC K) pc = .ok (.iload i, 2)) (hj : lv[j]? = some (i, .int x)) (k : X ρ K (pc + 2) lv (.int x :: st) h cs ss Φ Ψ) : X ρ K pc lv (st) h cs ss Φ Ψ :=
  fun p e R s m args below meth c H locs ls a r hl hv => lv_iload a.1 a.2.1 d (lv_at hv j hj) (k p e R s m args below meth c H locs ls a r hl hv)
theorem x_lload_n {k0 : Fin 4} {x : Int64} (j : Nat) (d : decode (kC K) pc = .ok (.lload_n k0, 1)) (hj : lv[j]? = some ((k0 : Nat), .long x)) (k : X ρ K (pc + 1) lv (.long x :: st) h cs ss Φ Ψ) : X ρ K pc lv (st) h cs ss Φ Ψ :=
  fun p e R s m args below meth c H locs ls a r hl hv => lv_lload_n a.1 a.2.1 d rfl (lv_at hv j hj) (k p e R s m args below meth c H locs ls a r hl hv)
theorem x_lload {i : Nat} {x : Int64} (j : Nat) (d : decode (kC K) pc = .ok (.lload i, 2)) (hj : lv[j]? = some (i, .long x)) (k : X ρ K (pc + 2) lv (.long x :: st) h cs ss Φ Ψ) : X ρ K pc lv (st) h cs ss Φ Ψ :=
  fun p e R s m args below meth c H locs ls a r hl hv => lv_lload a.1 a.2.1 d (lv_at hv j hj) (k p e R s m args below meth c H locs ls a r hl hv)
theorem x_aload_n {k0 : Fin 4} {x : Nat} (j : Nat) (d : decode (kC K) pc = .ok (.aload_n k0, 1)) (hj : lv[j]? = some ((k0 : Nat), .ref x)) (k : X ρ K (pc + 1) lv (.ref x :: st) h cs ss Φ Ψ) : X ρ K pc lv (st) h cs ss Φ Ψ :=
  fun p e R s m args below meth c H locs ls a r hl hv => lv_aload_n a.1 a.2.1 d rfl (lv_at hv j hj) (k p e R s m args below meth c H locs ls a r hl hv)
theorem x_aload {i : Nat} {x : Nat} (j : Nat) (d : decode (kC K) pc = .ok (.aload i, 2)) (hj : lv[j]? = some (i, .ref x)) (k : X ρ K (pc + 2) lv (.ref x :: st) h cs ss Φ Ψ) : X ρ K pc lv (st) h cs ss Φ Ψ :=
  fun p e R s m args below meth c H locs ls a r hl hv => lv_aload a.1 a.2.1 d (lv_at hv j hj) (k p e R s m args below meth c H locs ls a r hl hv)
theorem x_istore_n {k0 : Fin 4} {x : Int32} (d : decode (kC K) pc = .ok (.istore_n k0, 1)) (hn : (k0 : Nat) < kL K) (hl' : ((k0 : Nat), Value.int x) :: lv.filter (fun q => !(q.1 == (k0 : Nat)) && !(q.1 + 1 == (k0 : Nat) && q.2.category == 2)) = lv') (k : X ρ K (pc + 1) lv' st h cs ss Φ Ψ) : X ρ K pc lv (.int x :: st) h cs ss Φ Ψ :=
  fun p e R s m args below meth c H locs ls a r hl hv => lv_istore_n a.1 a.2.1 d rfl hv hn hl' (fun ls' hv' => k p e R s m args below meth c H locs ls' a r hl hv')
theorem x_istore {i : Nat} {x : Int32} (d : decode (kC K) pc = .ok (.istore i, 2)) (hn : i < kL K) (hl' : (i, Value.int x) :: lv.filter (fun q => !(q.1 == i) && !(q.1 + 1 == i && q.2.category == 2)) = lv') (k : X ρ K (pc + 2) lv' st h cs ss Φ Ψ) : X ρ K pc lv (.int x :: st) h cs ss Φ Ψ :=
  fun p e R s m args below meth c H locs ls a r hl hv => lv_istore a.1 a.2.1 d hv hn hl' (fun ls' hv' => k p e R s m args below meth c H locs ls' a r hl hv')
theorem x_lstore_n {k0 : Fin 4} {x : Int64} (d : decode (kC K) pc = .ok (.lstore_n k0, 1)) (hn : (k0 : Nat) + 1 < kL K) (hl' : ((k0 : Nat), Value.long x) :: lv.filter (fun q => !(q.1 == (k0 : Nat)) && (!(q.1 == (k0 : Nat) + 1) && !(q.1 + 1 == (k0 : Nat) && q.2.category == 2))) = lv') (k : X ρ K (pc + 1) lv' st h cs ss Φ Ψ) : X ρ K pc lv (.long x :: st) h cs ss Φ Ψ :=
  fun p e R s m args below meth c H locs ls a r hl hv => lv_lstore_n a.1 a.2.1 d rfl hv hn hl' (fun ls' hv' => k p e R s m args below meth c H locs ls' a r hl hv')
theorem x_lstore {i : Nat} {x : Int64} (d : decode (kC K) pc = .ok (.lstore i, 2)) (hn : i + 1 < kL K) (hl' : (i, Value.long x) :: lv.filter (fun q => !(q.1 == i) && (!(q.1 == i + 1) && !(q.1 + 1 == i && q.2.category == 2))) = lv') (k : X ρ K (pc + 2) lv' st h cs ss Φ Ψ) : X ρ K pc lv (.long x :: st) h cs ss Φ Ψ :=
  fun p e R s m args below meth c H locs ls a r hl hv => lv_lstore a.1 a.2.1 d hv hn hl' (fun ls' hv' => k p e R s m args below meth c H locs ls' a r hl hv')
theorem x_astore_n {k0 : Fin 4} {x : Nat} (d : decode (kC K) pc = .ok (.astore_n k0, 1)) (hn : (k0 : Nat) < kL K) (hl' : ((k0 : Nat), Value.ref x) :: lv.filter (fun q => !(q.1 == (k0 : Nat)) && !(q.1 + 1 == (k0 : Nat) && q.2.category == 2)) = lv') (k : X ρ K (pc + 1) lv' st h cs ss Φ Ψ) : X ρ K pc lv (.ref x :: st) h cs ss Φ Ψ :=
  fun p e R s m args below meth c H locs ls a r hl hv => lv_astore_n a.1 a.2.1 d rfl hv hn hl' (fun ls' hv' => k p e R s m args below meth c H locs ls' a r hl hv')
theorem x_astore {i : Nat} {x : Nat} (d : decode (kC K) pc = .ok (.astore i, 2)) (hn : i < kL K) (hl' : (i, Value.ref x) :: lv.filter (fun q => !(q.1 == i) && !(q.1 + 1 == i && q.2.category == 2)) = lv') (k : X ρ K (pc + 2) lv' st h cs ss Φ Ψ) : X ρ K pc lv (.ref x :: st) h cs ss Φ Ψ :=
  fun p e R s m args below meth c H locs ls a r hl hv => lv_astore a.1 a.2.1 d hv hn hl' (fun ls' hv' => k p e R s m args below meth c H locs ls' a r hl hv')
theorem x_iinc {i : Nat} {n : Int} {x v : Int32} (j : Nat) (d : decode (kC K) pc = .ok (.iinc i n, 3)) (hj : lv[j]? = some (i, .int x)) (hw : x + Int32.ofInt n = v) (hn : i < kL K) (hl' : (i, Value.int v) :: lv.filter (fun q => !(q.1 == i) && !(q.1 + 1 == i && q.2.category == 2)) = lv') (k : X ρ K (pc + 3) lv' st h cs ss Φ Ψ) : X ρ K pc lv st h cs ss Φ Ψ :=
  fun p e R s m args below meth c H locs ls a r hl hv => lv_iinc a.1 a.2.1 d hv hj hw hn hl' (fun ls' hv' => k p e R s m args below meth c H locs ls' a r hl hv')
theorem x_iadd {x y : Int32} (d : decode (kC K) pc = .ok (.iadd, 1)) (k : X ρ K (pc + 1) lv (.int (x + y) :: st) h cs ss Φ Ψ) : X ρ K pc lv (.int y :: .int x :: st) h cs ss Φ Ψ :=
  fun p e R s m args below meth c H locs ls a r hl hv => lv_iadd a.1 a.2.1 d (k p e R s m args below meth c H locs ls a r hl hv)
theorem x_isub {x y : Int32} (d : decode (kC K) pc = .ok (.isub, 1)) (k : X ρ K (pc + 1) lv (.int (x - y) :: st) h cs ss Φ Ψ) : X ρ K pc lv (.int y :: .int x :: st) h cs ss Φ Ψ :=
  fun p e R s m args below meth c H locs ls a r hl hv => lv_isub a.1 a.2.1 d (k p e R s m args below meth c H locs ls a r hl hv)
theorem x_imul {x y : Int32} (d : decode (kC K) pc = .ok (.imul, 1)) (k : X ρ K (pc + 1) lv (.int (x * y) :: st) h cs ss Φ Ψ) : X ρ K pc lv (.int y :: .int x :: st) h cs ss Φ Ψ :=
  fun p e R s m args below meth c H locs ls a r hl hv => lv_imul a.1 a.2.1 d (k p e R s m args below meth c H locs ls a r hl hv)
theorem x_iand {x y : Int32} (d : decode (kC K) pc = .ok (.iand, 1)) (k : X ρ K (pc + 1) lv (.int (x &&& y) :: st) h cs ss Φ Ψ) : X ρ K pc lv (.int y :: .int x :: st) h cs ss Φ Ψ :=
  fun p e R s m args below meth c H locs ls a r hl hv => lv_iand a.1 a.2.1 d (k p e R s m args below meth c H locs ls a r hl hv)
theorem x_ior {x y : Int32} (d : decode (kC K) pc = .ok (.ior, 1)) (k : X ρ K (pc + 1) lv (.int (x ||| y) :: st) h cs ss Φ Ψ) : X ρ K pc lv (.int y :: .int x :: st) h cs ss Φ Ψ :=
  fun p e R s m args below meth c H locs ls a r hl hv => lv_ior a.1 a.2.1 d (k p e R s m args below meth c H locs ls a r hl hv)
theorem x_idiv {x y : Int32} (d : decode (kC K) pc = .ok (.idiv, 1)) (hne : ¬ y = 0) (k : X ρ K (pc + 1) lv (.int (x / y) :: st) h cs ss Φ Ψ) : X ρ K pc lv (.int y :: .int x :: st) h cs ss Φ Ψ :=
  fun p e R s m args below meth c H locs ls a r hl hv => lv_idiv a.1 a.2.1 d hne (k p e R s m args below meth c H locs ls a r hl hv)
theorem x_irem {x y : Int32} (d : decode (kC K) pc = .ok (.irem, 1)) (hne : ¬ y = 0) (k : X ρ K (pc + 1) lv (.int (x - x / y * y) :: st) h cs ss Φ Ψ) : X ρ K pc lv (.int y :: .int x :: st) h cs ss Φ Ψ :=
  fun p e R s m args below meth c H locs ls a r hl hv => lv_irem a.1 a.2.1 d hne (k p e R s m args below meth c H locs ls a r hl hv)
theorem x_ineg {x : Int32} (d : decode (kC K) pc = .ok (.ineg, 1)) (k : X ρ K (pc + 1) lv (.int (-x) :: st) h cs ss Φ Ψ) : X ρ K pc lv (.int x :: st) h cs ss Φ Ψ :=
  fun p e R s m args below meth c H locs ls a r hl hv => lv_ineg a.1 a.2.1 d (k p e R s m args below meth c H locs ls a r hl hv)
theorem x_ladd {x y : Int64} (d : decode (kC K) pc = .ok (.ladd, 1)) (k : X ρ K (pc + 1) lv (.long (x + y) :: st) h cs ss Φ Ψ) : X ρ K pc lv (.long y :: .long x :: st) h cs ss Φ Ψ :=
  fun p e R s m args below meth c H locs ls a r hl hv => lv_ladd a.1 a.2.1 d (k p e R s m args below meth c H locs ls a r hl hv)
theorem x_lsub {x y : Int64} (d : decode (kC K) pc = .ok (.lsub, 1)) (k : X ρ K (pc + 1) lv (.long (x - y) :: st) h cs ss Φ Ψ) : X ρ K pc lv (.long y :: .long x :: st) h cs ss Φ Ψ :=
  fun p e R s m args below meth c H locs ls a r hl hv => lv_lsub a.1 a.2.1 d (k p e R s m args below meth c H locs ls a r hl hv)
theorem x_lmul {x y : Int64} (d : decode (kC K) pc = .ok (.lmul, 1)) (k : X ρ K (pc + 1) lv (.long (x * y) :: st) h cs ss Φ Ψ) : X ρ K pc lv (.long y :: .long x :: st) h cs ss Φ Ψ :=
  fun p e R s m args below meth c H locs ls a r hl hv => lv_lmul a.1 a.2.1 d (k p e R s m args below meth c H locs ls a r hl hv)
theorem x_land {x y : Int64} (d : decode (kC K) pc = .ok (.land, 1)) (k : X ρ K (pc + 1) lv (.long (x &&& y) :: st) h cs ss Φ Ψ) : X ρ K pc lv (.long y :: .long x :: st) h cs ss Φ Ψ :=
  fun p e R s m args below meth c H locs ls a r hl hv => lv_land a.1 a.2.1 d (k p e R s m args below meth c H locs ls a r hl hv)
theorem x_lor {x y : Int64} (d : decode (kC K) pc = .ok (.lor, 1)) (k : X ρ K (pc + 1) lv (.long (x ||| y) :: st) h cs ss Φ Ψ) : X ρ K pc lv (.long y :: .long x :: st) h cs ss Φ Ψ :=
  fun p e R s m args below meth c H locs ls a r hl hv => lv_lor a.1 a.2.1 d (k p e R s m args below meth c H locs ls a r hl hv)
theorem x_ldiv {x y : Int64} (d : decode (kC K) pc = .ok (.ldiv, 1)) (hne : ¬ y = 0) (k : X ρ K (pc + 1) lv (.long (x / y) :: st) h cs ss Φ Ψ) : X ρ K pc lv (.long y :: .long x :: st) h cs ss Φ Ψ :=
  fun p e R s m args below meth c H locs ls a r hl hv => lv_ldiv a.1 a.2.1 d hne (k p e R s m args below meth c H locs ls a r hl hv)
theorem x_lrem {x y : Int64} (d : decode (kC K) pc = .ok (.lrem, 1)) (hne : ¬ y = 0) (k : X ρ K (pc + 1) lv (.long (x - x / y * y) :: st) h cs ss Φ Ψ) : X ρ K pc lv (.long y :: .long x :: st) h cs ss Φ Ψ :=
  fun p e R s m args below meth c H locs ls a r hl hv => lv_lrem a.1 a.2.1 d hne (k p e R s m args below meth c H locs ls a r hl hv)
theorem x_lneg {x : Int64} (d : decode (kC K) pc = .ok (.lneg, 1)) (k : X ρ K (pc + 1) lv (.long (-x) :: st) h cs ss Φ Ψ) : X ρ K pc lv (.long x :: st) h cs ss Φ Ψ :=
  fun p e R s m args below meth c H locs ls a r hl hv => lv_lneg a.1 a.2.1 d (k p e R s m args below meth c H locs ls a r hl hv)
theorem x_ishl {x y : Int32} (d : decode (kC K) pc = .ok (.ishl, 1)) (k : X ρ K (pc + 1) lv (.int (x <<< (y &&& 31)) :: st) h cs ss Φ Ψ) : X ρ K pc lv (.int y :: .int x :: st) h cs ss Φ Ψ :=
  fun p e R s m args below meth c H locs ls a r hl hv => lv_ishl a.1 a.2.1 d (k p e R s m args below meth c H locs ls a r hl hv)
theorem x_ishr {x y : Int32} (d : decode (kC K) pc = .ok (.ishr, 1)) (k : X ρ K (pc + 1) lv (.int (x >>> (y &&& 31)) :: st) h cs ss Φ Ψ) : X ρ K pc lv (.int y :: .int x :: st) h cs ss Φ Ψ :=
  fun p e R s m args below meth c H locs ls a r hl hv => lv_ishr a.1 a.2.1 d (k p e R s m args below meth c H locs ls a r hl hv)
theorem x_i2l {x : Int32} (d : decode (kC K) pc = .ok (.i2l, 1)) (k : X ρ K (pc + 1) lv (.long x.toInt64 :: st) h cs ss Φ Ψ) : X ρ K pc lv (.int x :: st) h cs ss Φ Ψ :=
  fun p e R s m args below meth c H locs ls a r hl hv => lv_i2l a.1 a.2.1 d rfl (k p e R s m args below meth c H locs ls a r hl hv)
theorem x_l2i {x : Int64} (d : decode (kC K) pc = .ok (.l2i, 1)) (k : X ρ K (pc + 1) lv (.int x.toInt32 :: st) h cs ss Φ Ψ) : X ρ K pc lv (.long x :: st) h cs ss Φ Ψ :=
  fun p e R s m args below meth c H locs ls a r hl hv => lv_l2i a.1 a.2.1 d rfl (k p e R s m args below meth c H locs ls a r hl hv)
theorem x_i2b {x : Int32} (d : decode (kC K) pc = .ok (.i2b, 1)) (k : X ρ K (pc + 1) lv (.int x.toInt8.toInt32 :: st) h cs ss Φ Ψ) : X ρ K pc lv (.int x :: st) h cs ss Φ Ψ :=
  fun p e R s m args below meth c H locs ls a r hl hv => lv_i2b a.1 a.2.1 d rfl (k p e R s m args below meth c H locs ls a r hl hv)
theorem x_lshl {x : Int64} {y : Int32} (d : decode (kC K) pc = .ok (.lshl, 1)) (k : X ρ K (pc + 1) lv (.long (x <<< (y.toInt64 &&& 63)) :: st) h cs ss Φ Ψ) : X ρ K pc lv (.int y :: .long x :: st) h cs ss Φ Ψ :=
  fun p e R s m args below meth c H locs ls a r hl hv => lv_lshl a.1 a.2.1 d rfl (k p e R s m args below meth c H locs ls a r hl hv)
theorem x_lshr {x : Int64} {y : Int32} (d : decode (kC K) pc = .ok (.lshr, 1)) (k : X ρ K (pc + 1) lv (.long (x >>> (y.toInt64 &&& 63)) :: st) h cs ss Φ Ψ) : X ρ K pc lv (.int y :: .long x :: st) h cs ss Φ Ψ :=
  fun p e R s m args below meth c H locs ls a r hl hv => lv_lshr a.1 a.2.1 d rfl (k p e R s m args below meth c H locs ls a r hl hv)
theorem x_dup {va : Value} (d : decode (kC K) pc = .ok (.dup, 1)) (hc : va.category = 1) (k : X ρ K (pc + 1) lv (va :: va :: st) h cs ss Φ Ψ) : X ρ K pc lv (va :: st) h cs ss Φ Ψ :=
  fun p e R s m args below meth c H locs ls a r hl hv => lv_dup a.1 a.2.1 d hc (k p e R s m args below meth c H locs ls a r hl hv)
theorem x_pop {va : Value} (d : decode (kC K) pc = .ok (.pop, 1)) (hc : va.category = 1) (k : X ρ K (pc + 1) lv (st) h cs ss Φ Ψ) : X ρ K pc lv (va :: st) h cs ss Φ Ψ :=
  fun p e R s m args below meth c H locs ls a r hl hv => lv_pop a.1 a.2.1 d hc (k p e R s m args below meth c H locs ls a r hl hv)
theorem x_dup2 {va vb : Value} (d : decode (kC K) pc = .ok (.dup2, 1)) (hc : va.category = 1) (hc2 : vb.category = 1) (k : X ρ K (pc + 1) lv (va :: vb :: va :: vb :: st) h cs ss Φ Ψ) : X ρ K pc lv (va :: vb :: st) h cs ss Φ Ψ :=
  fun p e R s m args below meth c H locs ls a r hl hv => lv_dup2_11 a.1 a.2.1 d hc hc2 (k p e R s m args below meth c H locs ls a r hl hv)
theorem x_if_eq {x : Int32} {off : Int} (tgt : Nat) (d : decode (kC K) pc = .ok (.ifCond .eq off, 3)) (ht : (pc : Int) + off = (tgt : Int)) (kt : x = 0 → X ρ K tgt lv st h cs ss Φ Ψ) (kf : ¬ x = 0 → X ρ K (pc + 3) lv st h cs ss Φ Ψ) : X ρ K pc lv (.int x :: st) h cs ss Φ Ψ :=
  fun p e R s m args below meth c H locs ls a r hl hv => lv_if_eq a.1 a.2.1 d ht (fun z => kt z p e R s m args below meth c H locs ls a r hl hv) (fun z => kf z p e R s m args below meth c H locs ls a r hl hv)
theorem x_icmp_eq {x y : Int32} {off : Int} (tgt : Nat) (d : decode (kC K) pc = .ok (.if_icmp .eq off, 3)) (ht : (pc : Int) + off = (tgt : Int)) (kt : x = y → X ρ K tgt lv st h cs ss Φ Ψ) (kf : ¬ x = y → X ρ K (pc + 3) lv st h cs ss Φ Ψ) : X ρ K pc lv (.int y :: .int x :: st) h cs ss Φ Ψ :=
  fun p e R s m args below meth c H locs ls a r hl hv => lv_icmp_eq a.1 a.2.1 d ht (fun z => kt z p e R s m args below meth c H locs ls a r hl hv) (fun z => kf z p e R s m args below meth c H locs ls a r hl hv)
theorem x_if_ne {x : Int32} {off : Int} (tgt : Nat) (d : decode (kC K) pc = .ok (.ifCond .ne off, 3)) (ht : (pc : Int) + off = (tgt : Int)) (kt : ¬ x = 0 → X ρ K tgt lv st h cs ss Φ Ψ) (kf : x = 0 → X ρ K (pc + 3) lv st h cs ss Φ Ψ) : X ρ K pc lv (.int x :: st) h cs ss Φ Ψ :=
  fun p e R s m args below meth c H locs ls a r hl hv => lv_if_ne a.1 a.2.1 d ht (fun z => kt z p e R s m args below meth c H locs ls a r hl hv) (fun z => kf z p e R s m args below meth c H locs ls a r hl hv)
theorem x_icmp_ne {x y : Int32} {off : Int} (tgt : Nat) (d : decode (kC K) pc = .ok (.if_icmp .ne off, 3)) (ht : (pc : Int) + off = (tgt : Int)) (kt : ¬ x = y → X ρ K tgt lv st h cs ss Φ Ψ) (kf : x = y → X ρ K (pc + 3) lv st h cs ss Φ Ψ) : X ρ K pc lv (.int y :: .int x :: st) h cs ss Φ Ψ :=
  fun p e R s m args below meth c H locs ls a r hl hv => lv_icmp_ne a.1 a.2.1 d ht (fun z => kt z p e R s m args below meth c H locs ls a r hl hv) (fun z => kf z p e R s m args below meth c H locs ls a r hl hv)
theorem x_if_lt {x : Int32} {off : Int} (tgt : Nat) (d : decode (kC K) pc = .ok (.ifCond .lt off, 3)) (ht : (pc : Int) + off = (tgt : Int)) (kt : x < 0 → X ρ K tgt lv st h cs ss Φ Ψ) (kf : ¬ x < 0 → X ρ K (pc + 3) lv st h cs ss Φ Ψ) : X ρ K pc lv (.int x :: st) h cs ss Φ Ψ :=
  fun p e R s m args below meth c H locs ls a r hl hv => lv_if_lt a.1 a.2.1 d ht (fun z => kt z p e R s m args below meth c H locs ls a r hl hv) (fun z => kf z p e R s m args below meth c H locs ls a r hl hv)
theorem x_icmp_lt {x y : Int32} {off : Int} (tgt : Nat) (d : decode (kC K) pc = .ok (.if_icmp .lt off, 3)) (ht : (pc : Int) + off = (tgt : Int)) (kt : x < y → X ρ K tgt lv st h cs ss Φ Ψ) (kf : ¬ x < y → X ρ K (pc + 3) lv st h cs ss Φ Ψ) : X ρ K pc lv (.int y :: .int x :: st) h cs ss Φ Ψ :=
  fun p e R s m args below meth c H locs ls a r hl hv => lv_icmp_lt a.1 a.2.1 d ht (fun z => kt z p e R s m args below meth c H locs ls a r hl hv) (fun z => kf z p e R s m args below meth c H locs ls a r hl hv)
theorem x_if_ge {x : Int32} {off : Int} (tgt : Nat) (d : decode (kC K) pc = .ok (.ifCond .ge off, 3)) (ht : (pc : Int) + off = (tgt : Int)) (kt : 0 ≤ x → X ρ K tgt lv st h cs ss Φ Ψ) (kf : ¬ 0 ≤ x → X ρ K (pc + 3) lv st h cs ss Φ Ψ) : X ρ K pc lv (.int x :: st) h cs ss Φ Ψ :=
  fun p e R s m args below meth c H locs ls a r hl hv => lv_if_ge a.1 a.2.1 d ht (fun z => kt z p e R s m args below meth c H locs ls a r hl hv) (fun z => kf z p e R s m args below meth c H locs ls a r hl hv)
theorem x_icmp_ge {x y : Int32} {off : Int} (tgt : Nat) (d : decode (kC K) pc = .ok (.if_icmp .ge off, 3)) (ht : (pc : Int) + off = (tgt : Int)) (kt : y ≤ x → X ρ K tgt lv st h cs ss Φ Ψ) (kf : ¬ y ≤ x → X ρ K (pc + 3) lv st h cs ss Φ Ψ) : X ρ K pc lv (.int y :: .int x :: st) h cs ss Φ Ψ :=
  fun p e R s m args below meth c H locs ls a r hl hv => lv_icmp_ge a.1 a.2.1 d ht (fun z => kt z p e R s m args below meth c H locs ls a r hl hv) (fun z => kf z p e R s m args below meth c H locs ls a r hl hv)
theorem x_if_gt {x : Int32} {off : Int} (tgt : Nat) (d : decode (kC K) pc = .ok (.ifCond .gt off, 3)) (ht : (pc : Int) + off = (tgt : Int)) (kt : 0 < x → X ρ K tgt lv st h cs ss Φ Ψ) (kf : ¬ 0 < x → X ρ K (pc + 3) lv st h cs ss Φ Ψ) : X ρ K pc lv (.int x :: st) h cs ss Φ Ψ :=
  fun p e R s m args below meth c H locs ls a r hl hv => lv_if_gt a.1 a.2.1 d ht (fun z => kt z p e R s m args below meth c H locs ls a r hl hv) (fun z => kf z p e R s m args below meth c H locs ls a r hl hv)
theorem x_icmp_gt {x y : Int32} {off : Int} (tgt : Nat) (d : decode (kC K) pc = .ok (.if_icmp .gt off, 3)) (ht : (pc : Int) + off = (tgt : Int)) (kt : y < x → X ρ K tgt lv st h cs ss Φ Ψ) (kf : ¬ y < x → X ρ K (pc + 3) lv st h cs ss Φ Ψ) : X ρ K pc lv (.int y :: .int x :: st) h cs ss Φ Ψ :=
  fun p e R s m args below meth c H locs ls a r hl hv => lv_icmp_gt a.1 a.2.1 d ht (fun z => kt z p e R s m args below meth c H locs ls a r hl hv) (fun z => kf z p e R s m args below meth c H locs ls a r hl hv)
theorem x_if_le {x : Int32} {off : Int} (tgt : Nat) (d : decode (kC K) pc = .ok (.ifCond .le off, 3)) (ht : (pc : Int) + off = (tgt : Int)) (kt : x ≤ 0 → X ρ K tgt lv st h cs ss Φ Ψ) (kf : ¬ x ≤ 0 → X ρ K (pc + 3) lv st h cs ss Φ Ψ) : X ρ K pc lv (.int x :: st) h cs ss Φ Ψ :=
  fun p e R s m args below meth c H locs ls a r hl hv => lv_if_le a.1 a.2.1 d ht (fun z => kt z p e R s m args below meth c H locs ls a r hl hv) (fun z => kf z p e R s m args below meth c H locs ls a r hl hv)
theorem x_icmp_le {x y : Int32} {off : Int} (tgt : Nat) (d : decode (kC K) pc = .ok (.if_icmp .le off, 3)) (ht : (pc : Int) + off = (tgt : Int)) (kt : x ≤ y → X ρ K tgt lv st h cs ss Φ Ψ) (kf : ¬ x ≤ y → X ρ K (pc + 3) lv st h cs ss Φ Ψ) : X ρ K pc lv (.int y :: .int x :: st) h cs ss Φ Ψ :=
  fun p e R s m args below meth c H locs ls a r hl hv => lv_icmp_le a.1 a.2.1 d ht (fun z => kt z p e R s m args below meth c H locs ls a r hl hv) (fun z => kf z p e R s m args below meth c H locs ls a r hl hv)
theorem x_goto {off : Int} (tgt : Nat) (d : decode (kC K) pc = .ok (.goto off, 3)) (ht : (pc : Int) + off = (tgt : Int)) (k : X ρ K tgt lv st h cs ss Φ Ψ) : X ρ K pc lv st h cs ss Φ Ψ :=
  fun p e R s m args below meth c H locs ls a r hl hv => lv_goto a.1 a.2.1 d ht (k p e R s m args below meth c H locs ls a r hl hv)
theorem x_lcmp {x y : Int64} (d : decode (kC K) pc = .ok (.lcmp, 1)) (k : X ρ K (pc + 1) lv (.int (lg_cmp x y) :: st) h cs ss Φ Ψ) : X ρ K pc lv (.long y :: .long x :: st) h cs ss Φ Ψ :=
  fun p e R s m args below meth c H locs ls a r hl hv => W.lcmp a.1 a.2.1 d (k p e R s m args below meth c H locs ls a r hl hv)
theorem x_ldc {i : Nat} {v : Int32} (d : decode (kC K) pc = .ok (.ldc i, 2)) (hq : Cond.constant (kO K) i v ∈ lw_all) (k : X ρ K (pc + 2) lv (.int v :: st) h cs ss Φ Ψ) : X ρ K pc lv st h cs ss Φ Ψ :=
  fun p e R s m args below meth c H locs ls a r hl hv => lv_ldc a.1 a.2.1 (amb_own a) (amb_hts a _ hq) d (k p e R s m args below meth c H locs ls a r hl hv)
theorem x_ldcw {i : Nat} {v : Int32} (d : decode (kC K) pc = .ok (.ldc_w i, 3)) (hq : Cond.constant (kO K) i v ∈ lw_all) (k : X ρ K (pc + 3) lv (.int v :: st) h cs ss Φ Ψ) : X ρ K pc lv st h cs ss Φ Ψ :=
  fun p e R s m args below meth c H locs ls a r hl hv => lv_ldcw a.1 a.2.1 (amb_own a) (amb_hts a _ hq) d (k p e R s m args below meth c H locs ls a r hl hv)
theorem x_ldc2 {i : Nat} {v : Int64} (d : decode (kC K) pc = .ok (.ldc2_w i, 3)) (hq : Cond.constantLong (kO K) i v ∈ lw_all) (k : X ρ K (pc + 3) lv (.long v :: st) h cs ss Φ Ψ) : X ρ K pc lv st h cs ss Φ Ψ :=
  fun p e R s m args below meth c H locs ls a r hl hv => lv_ldc2 a.1 a.2.1 (amb_own a) (amb_hts a _ hq) d (k p e R s m args below meth c H locs ls a r hl hv)
theorem x_tableOut {dflt lo hi : Int} {offs : Array Int} {len : Nat} {x : Int32} (tgt : Nat) (d : decode (kC K) pc = .ok (.tableswitch dflt lo hi offs, len)) (hz : x.toInt < lo ∨ hi < x.toInt) (ht : (pc : Int) + dflt = (tgt : Int)) (k : X ρ K tgt lv st h cs ss Φ Ψ) : X ρ K pc lv (.int x :: st) h cs ss Φ Ψ :=
  fun p e R s m args below meth c H locs ls a r hl hv => lv_tableOut a.1 a.2.1 d hz ht (k p e R s m args below meth c H locs ls a r hl hv)
theorem x_tableIn {dflt lo hi : Int} {offs : Array Int} {len : Nat} {x : Int32} {off : Int} (tgt : Nat) (d : decode (kC K) pc = .ok (.tableswitch dflt lo hi offs, len)) (h1 : ¬ x.toInt < lo) (h2 : ¬ hi < x.toInt) (ho : offs[(x.toInt - lo).toNat]? = some off) (ht : (pc : Int) + off = (tgt : Int)) (k : X ρ K tgt lv st h cs ss Φ Ψ) : X ρ K pc lv (.int x :: st) h cs ss Φ Ψ :=
  fun p e R s m args below meth c H locs ls a r hl hv => lv_tableIn a.1 a.2.1 d h1 h2 ho ht (k p e R s m args below meth c H locs ls a r hl hv)
theorem x_lookup {dflt : Int} {ps : Array (Int × Int)} {len : Nat} {x : Int32} {off : Int} (tgt : Nat) (d : decode (kC K) pc = .ok (.lookupswitch dflt ps, len)) (hp : (ps.toList.zip (ps.toList.drop 1)).all (fun (a, next) => a.1 < next.1) = true) (ho : Op.lookupswitch.offset ps.toList dflt x.toInt = off) (ht : (pc : Int) + off = (tgt : Int)) (k : X ρ K tgt lv st h cs ss Φ Ψ) : X ρ K pc lv (.int x :: st) h cs ss Φ Ψ :=
  fun p e R s m args below meth c H locs ls a r hl hv => lv_lookup a.1 a.2.1 d hp ho ht (k p e R s m args below meth c H locs ls a r hl hv)
theorem x_ifnull {x : Nat} {off : Int} (tgt : Nat) (d : decode (kC K) pc = .ok (.ifnull off, 3)) (ht : (pc : Int) + off = (tgt : Int)) (kt : x = 0 → X ρ K tgt lv st h cs ss Φ Ψ) (kf : ¬ x = 0 → X ρ K (pc + 3) lv st h cs ss Φ Ψ) : X ρ K pc lv (rv ρ x :: st) h cs ss Φ Ψ := by
  intro p e R s m args below meth c H locs ls a r hl hv
  by_cases hx : x = 0
  · have : rv ρ x = .null := if_pos hx
    rw [this]
    exact lv_ifnullN a.1 a.2.1 d ht (kt hx p e R s m args below meth c H locs ls a r hl hv)
  · rw [rv_pos hx]
    exact lv_ifnull a.1 a.2.1 d (kf hx p e R s m args below meth c H locs ls a r hl hv)
/-- a word of the tables of a kind that doesn't ride in the lists -/
theorem amb_w {ρ : Rho} {K : Kx} {p : Program} {R : Room} {s : State} {m : MethodId} {args : Array Value} {meth : Method} {c : Code} (a : Amb ρ K p R s m args meth c) {w : Cond} (hw : w ∈ lw_tbl) (ho : w.onTables = true) : va_Nw w (rS ρ) := by
  obtain ⟨A, hA⟩ := (amb_G a).2.1 w hw
  exact va_Nw.of ho hA
/-- getfield -/
theorem x_get {ci n index N : Nat} {C ref : String} {T : u_T} {r : Nat} {v : Value} (k : Nat) (d : decode (kC K) pc = .ok (.getfield index, 3)) (hs : sh h r = (10 + ci, n)) (hc : kCl[ci]? = some (C, T, N)) (hin : ∀ w ∈ u_ws C T N, w ∈ lw_all) (hk : k < N) (hq : Cond.fieldLink (kO K) index ref (T k).2.1 (T k).2.2.1 ∈ lw_all)
    (hsame : ref = (T k).1 ∨ Cond.sameField ref (T k).1 (T k).2.1 (T k).2.2.1 ∈ lw_all) (hv : fv ρ h r (kTy ci k) k = v) (kk : X ρ K (pc + 3) lv (v :: st) h cs ss Φ Ψ) : X ρ K pc lv (.ref (mr ρ r) :: st) h cs ss Φ Ψ := by
  intro p e R s m args below meth c H locs ls a r0 hl hlv
  have hts := amb_hts a
  obtain ⟨cell, q1, q2, q3, q4⟩ := r0.obj hs hc
  obtain ⟨hS, hfc, kC1, hkC, hkind⟩ := (amb_K a).1 ci _ hc
  obtain ⟨cf, kf, fi, f, hi, hsl⟩ := hS k hk
  have hi' : s.fieldFound? ref (T k).2.1 (T k).2.2.1 = some (cf, kf, fi, f) := by
    rcases hsame with e | e
    · rw [e]; exact hi
    · exact u_same (hts _ e) _ hi
  refine W.getf a.1 a.2.1 (amb_own a) (hts _ hq) hi' (u_facts hfc hkC (u_lays hts hin hk) hi).1 q1 (by rw [q3]; exact fun z => by cases z) (v := v) ?_ rfl rfl d (kk p e R s m args below meth c H locs ls a r0 hl hlv)
  rw [hsl, q4 k hk]; exact congrArg some hv
theorem x_getN {ci n index N : Nat} {C ref host : String} {T : u_T} {r : Nat} {v : Value} (k : Nat) (d : decode (kC K) pc = .ok (.getfield index, 3)) (hs : sh h r = (10 + ci, n)) (hc : kCl[ci]? = some (C, T, N)) (hin : ∀ w ∈ u_ws C T N, w ∈ lw_all) (hk : k < N) (hq : Cond.fieldLinkNest (kO K) index ref (T k).2.1 (T k).2.2.1 host ∈ lw_tbl)
    (hsame : ref = (T k).1 ∨ Cond.sameField ref (T k).1 (T k).2.1 (T k).2.2.1 ∈ lw_all) (hv : fv ρ h r (kTy ci k) k = v) (kk : X ρ K (pc + 3) lv (v :: st) h cs ss Φ Ψ) : X ρ K pc lv (.ref (mr ρ r) :: st) h cs ss Φ Ψ := by
  intro p e R s m args below meth c H locs ls a r0 hl hlv
  have hts := amb_hts a
  obtain ⟨cell, q1, q2, q3, q4⟩ := r0.obj hs hc
  obtain ⟨hS, hfc, kC1, hkC, hkind⟩ := (amb_K a).1 ci _ hc
  obtain ⟨cf, kf, fi, f, hi, hsl⟩ := hS k hk
  have hi' : s.fieldFound? ref (T k).2.1 (T k).2.2.1 = some (cf, kf, fi, f) := by
    rcases hsame with e | e
    · rw [e]; exact hi
    · exact u_same (hts _ e) _ hi
  refine va_Wgetf a.1 a.2.1 (amb_own a) (va_Nw.use rfl (va_Nw.warmF (amb_wh a) (amb_w a hq rfl))) hi' (u_facts hfc hkC (u_lays hts hin hk) hi).1 q1 (by rw [q3]; exact fun z => by cases z) (v := v) ?_ rfl rfl d (kk p e R s m args below meth c H locs ls a r0 hl hlv)
  rw [hsl, q4 k hk]; exact congrArg some hv
theorem fv_rc {ρ : Rho} {h : Hp} {r k n : Nat} {ty : FieldType} (ht : tk ty = 2) (hr : gr h r k = n) (hn : n ≠ 0) : fv ρ h r ty k = .ref (mr ρ n) := by
  rw [fv_r ht, hr, rv_pos hn]
/-- what a written field is behind -/
def isPut (ρ : Rho) (h h' : Hp) (r ci k N : Nat) (v : Value) : Prop :=
  sh h' = sh h ∧ sz h' = sz h ∧ (∀ q, q ≠ r → ∀ ty j, fv ρ h' q ty j = fv ρ h q ty j) ∧ ∀ j, j < N → fv ρ h' r (kTy ci j) j = if j = k then v else fv ρ h r (kTy ci j) j
theorem isPut_i {ρ : Rho} {h : Hp} {r ci k N : Nat} {v : Int32} (ht : tk (kTy ci k) = 0) : isPut ρ h (si h r k v) r ci k N (.int v) :=
  ⟨rfl, rfl, fun q hq ty j => fv_si hq ty j, fun j _ => by
    rw [fv_si_at]
    by_cases hj : j = k
    · subst hj; rw [if_pos ⟨rfl, ht⟩, if_pos rfl]
    · rw [if_neg (fun z => hj z.1), if_neg hj]⟩
theorem isPut_l {ρ : Rho} {h : Hp} {r ci k N : Nat} {v : Int64} (ht : tk (kTy ci k) = 1) : isPut ρ h (sl h r k v) r ci k N (.long v) :=
  ⟨rfl, rfl, fun q hq ty j => fv_sl hq ty j, fun j _ => by
    rw [fv_sl_at]
    by_cases hj : j = k
    · subst hj; rw [if_pos ⟨rfl, ht⟩, if_pos rfl]
    · rw [if_neg (fun z => hj z.1), if_neg hj]⟩
theorem isPut_r {ρ : Rho} {h : Hp} {r ci k N : Nat} {v : Nat} (ht : tk (kTy ci k) = 2) : isPut ρ h (sr h r k v) r ci k N (rv ρ v) :=
  ⟨rfl, rfl, fun q hq ty j => fv_sr hq ty j, fun j _ => by
    rw [fv_sr_at]
    by_cases hj : j = k
    · subst hj; rw [if_pos ⟨rfl, ht⟩, if_pos rfl]
    · rw [if_neg (fun z => hj z.1), if_neg hj]⟩
theorem isPut_rn {ρ : Rho} {h : Hp} {r ci k N : Nat} {v : Nat} (ht : tk (kTy ci k) = 2) (hn : v ≠ 0) : isPut ρ h (sr h r k v) r ci k N (.ref (mr ρ v)) := by
  rw [← rv_pos hn]; exact isPut_r ht
/-- the heap behind a putfield -/
theorem putObj_of {ρ : Rho} {h h' : Hp} {H H' : Heap} {r ci n k : Nat} {C : String} {T : u_T} {N : Nat} {cell : Cell} {v : Value} (r0 : Rep ρ h H) (hs : sh h r = (10 + ci, n)) (hc : kCl[ci]? = some (C, T, N)) (hk : k < N) (hp : isPut ρ h h' r ci k N v)
    (q2 : cell.cls = (rD ρ).1 ci) (q3 : cell.vm = .none) (q4 : ∀ j, j < N → cell.slots[(rD ρ).2 ci j]? = some (fv ρ h r (kTy ci j) j)) (hap : ∀ x y, x < N → y < N → x ≠ y → (rD ρ).2 ci x ≠ (rD ρ).2 ci y)
    (q1 : H[mr ρ r]? = some cell) (e1 : H'[mr ρ r]? = some (cell.setSlot ((rD ρ).2 ci k) v)) (e2 : H'.size = H.size) (e3 : ∀ q, q ≠ mr ρ r → H'[q]? = H[q]?) : Rep ρ h' H' := by
  obtain ⟨p1, p2, p3, p4⟩ := hp
  refine r0.putObj hs hc p1 p2 p3 ⟨_, e1, q2, q3, fun j hj => ?_⟩ e2 e3 (fun ⟨c, h1, h2⟩ => ⟨_, e1, by cases q1.symm.trans h1; exact ⟨h2.1, h2.2.1, by show (cell.slots.setIfInBounds _ _).size = 7; rw [Array.size_setIfInBounds]; exact h2.2.2⟩⟩)
  have h1 := t_set (V := fun j => fv ρ h r (kTy ci j) j) q4 hap hk v j hj
  rw [h1]; exact congrArg some (p4 j hj).symm
theorem locs_add {ρ : Rho} {locs : List Loc} {r i : Nat} (hl : ∀ q ∈ locs, rN ρ ≤ q.base) : ∀ q ∈ locs ++ [(⟨mr ρ r, i⟩ : Loc)], rN ρ ≤ q.base := by
  intro q hq
  rcases List.mem_append.mp hq with z | z
  · exact hl q z
  · rw [List.mem_singleton.mp z]
    exact Nat.le_add_right _ _
/-- putfield, of a field that isn't final -/
theorem x_put {ci n index N : Nat} {C ref : String} {T : u_T} {r : Nat} {v : Value} {h' : Hp} (k : Nat) (d : decode (kC K) pc = .ok (.putfield index, 3)) (hs : sh h r = (10 + ci, n)) (hc : kCl[ci]? = some (C, T, N)) (hin : ∀ w ∈ u_ws C T N, w ∈ lw_all) (ty0 : Nat → FieldType) (hty : ∀ k, k < N → parseFieldDescriptor (T k).2.2.1 = some (ty0 k)) (hnm : ∀ a, a < N → ∀ b, b < N → a ≠ b → (T a).2.1 ≠ (T b).2.1) (hk : k < N) (hq : Cond.fieldLink (kO K) index ref (T k).2.1 (T k).2.2.1 ∈ lw_all)
    (hsame : ref = (T k).1 ∨ Cond.sameField ref (T k).1 (T k).2.1 (T k).2.2.1 ∈ lw_all) (hfin : (T k).2.2.2 = false) (hn : narrow (ty0 k) v = v) (hfit : fits (ty0 k) v = true) (hp : isPut ρ h h' r ci k N v) (kk : X ρ K (pc + 3) lv st h' cs ss Φ Ψ) : X ρ K pc lv (v :: .ref (mr ρ r) :: st) h cs ss Φ Ψ := by
  intro p e R s m args below meth c H locs ls a r0 hl hlv
  have hts := amb_hts a
  have hK := amb_K a
  have hap := va_apart (own := C) hts hin ty0 hty hnm hK hc
  obtain ⟨cell, q1, q2, q3, q4⟩ := r0.obj hs hc
  obtain ⟨hS, hfc, kC1, hkC, hkind⟩ := hK.1 ci _ hc
  obtain ⟨cf, kf, fi, f, hi, hsl⟩ := hS k hk
  have hi' : s.fieldFound? ref (T k).2.1 (T k).2.2.1 = some (cf, kf, fi, f) := by
    rcases hsame with e | e
    · rw [e]; exact hi
    · exact u_same (hts _ e) _ hi
  have hlay := hts _ (hin _ (u_in_lay hk))
  unfold u_lay at hlay
  rw [if_neg (by rw [hfin]; decide)] at hlay
  have hst := (u_facts hfc hkC (u_lays hts hin hk) hi).1
  have h6 := u_store hfc hkC hkind hlay hi (hty k hk) hn hfit
  refine W.putK a.1 a.2.1 (f := f) ⟨amb_own a, hts _ hq, ⟨_, _, _, hi'⟩, hst⟩ (by rw [q2]; exact h6) q1 q3 (by rw [hsl]; exact k2_hasslot (q4 k hk)) rfl rfl d fun H' e1 e2 e3 => ?_
  rw [hsl] at e1 ⊢
  exact kk p e R s m args below meth c H' _ ls a (putObj_of r0 hs hc hk hp q2 q3 q4 hap q1 e1 e2 e3) (locs_add hl) hlv
theorem x_putN {ci n index N : Nat} {C ref host : String} {T : u_T} {r : Nat} {v : Value} {h' : Hp} (k : Nat) (d : decode (kC K) pc = .ok (.putfield index, 3)) (hs : sh h r = (10 + ci, n)) (hc : kCl[ci]? = some (C, T, N)) (hin : ∀ w ∈ u_ws C T N, w ∈ lw_all) (ty0 : Nat → FieldType) (hty : ∀ k, k < N → parseFieldDescriptor (T k).2.2.1 = some (ty0 k)) (hnm : ∀ a, a < N → ∀ b, b < N → a ≠ b → (T a).2.1 ≠ (T b).2.1) (hk : k < N) (hq : Cond.fieldLinkNest (kO K) index ref (T k).2.1 (T k).2.2.1 host ∈ lw_tbl)
    (hsame : ref = (T k).1 ∨ Cond.sameField ref (T k).1 (T k).2.1 (T k).2.2.1 ∈ lw_all) (hfin : (T k).2.2.2 = false) (hn : narrow (ty0 k) v = v) (hfit : fits (ty0 k) v = true) (hp : isPut ρ h h' r ci k N v) (kk : X ρ K (pc + 3) lv st h' cs ss Φ Ψ) : X ρ K pc lv (v :: .ref (mr ρ r) :: st) h cs ss Φ Ψ := by
  intro p e R s m args below meth c H locs ls a r0 hl hlv
  have hts := amb_hts a
  have hK := amb_K a
  have hap := va_apart (own := C) hts hin ty0 hty hnm hK hc
  obtain ⟨cell, q1, q2, q3, q4⟩ := r0.obj hs hc
  obtain ⟨hS, hfc, kC1, hkC, hkind⟩ := hK.1 ci _ hc
  obtain ⟨cf, kf, fi, f, hi, hsl⟩ := hS k hk
  have hi' : s.fieldFound? ref (T k).2.1 (T k).2.2.1 = some (cf, kf, fi, f) := by
    rcases hsame with e | e
    · rw [e]; exact hi
    · exact u_same (hts _ e) _ hi
  have hlay := hts _ (hin _ (u_in_lay hk))
  unfold u_lay at hlay
  rw [if_neg (by rw [hfin]; decide)] at hlay
  have hst := (u_facts hfc hkC (u_lays hts hin hk) hi).1
  have h6 := u_store hfc hkC hkind hlay hi (hty k hk) hn hfit
  refine va_WputK a.1 a.2.1 (f := f) (amb_own a) (va_Nw.use rfl (va_Nw.warmF (amb_wh a) (amb_w a hq rfl))) hi' hst (by rw [q2]; exact h6) q1 q3 (by rw [hsl]; exact k2_hasslot (q4 k hk)) rfl rfl d fun H' e1 e2 e3 => ?_
  rw [hsl] at e1 ⊢
  exact kk p e R s m args below meth c H' _ ls a (putObj_of r0 hs hc hk hp q2 q3 q4 hap q1 e1 e2 e3) (locs_add hl) hlv
/-- putfield of a final field, in its class's constructor -/
theorem x_putF {ci n index N : Nat} {C ref : String} {T : u_T} {r : Nat} {v : Value} {h' : Hp} (k : Nat) (d : decode (kC K) pc = .ok (.putfield index, 3)) (hs : sh h r = (10 + ci, n)) (hc : kCl[ci]? = some (C, T, N)) (hin : ∀ w ∈ u_ws C T N, w ∈ lw_all) (ty0 : Nat → FieldType) (hty : ∀ k, k < N → parseFieldDescriptor (T k).2.2.1 = some (ty0 k)) (hnm : ∀ a, a < N → ∀ b, b < N → a ≠ b → (T a).2.1 ≠ (T b).2.1) (hk : k < N) (hq : Cond.fieldLink (kO K) index ref (T k).2.1 (T k).2.2.1 ∈ lw_all)
    (hsame : ref = (T k).1) (hfin : (T k).2.2.2 = true) (hI : kI K = true) (hdecl : (T k).1 = kO K) (hn : narrow (ty0 k) v = v) (hfit : fits (ty0 k) v = true) (hp : isPut ρ h h' r ci k N v) (kk : X ρ K (pc + 3) lv st h' cs ss Φ Ψ) : X ρ K pc lv (v :: .ref (mr ρ r) :: st) h cs ss Φ Ψ := by
  intro p e R s m args below meth c H locs ls a r0 hl hlv
  have hts := amb_hts a
  have hK := amb_K a
  have hap := va_apart (own := C) hts hin ty0 hty hnm hK hc
  obtain ⟨cell, q1, q2, q3, q4⟩ := r0.obj hs hc
  obtain ⟨hS, hfc, kC1, hkC, hkind⟩ := hK.1 ci _ hc
  obtain ⟨cf, kf, fi, f, hi, hsl⟩ := hS k hk
  have hi' : s.fieldFound? ref (T k).2.1 (T k).2.2.1 = some (cf, kf, fi, f) := by rw [hsame]; exact hi
  have hlay := hts _ (hin _ (u_in_lay hk))
  unfold u_lay at hlay
  rw [if_pos hfin] at hlay
  have hst := (u_facts hfc hkC (u_lays hts hin hk) hi).1
  have hcf : m.cls = cf := by
    obtain ⟨_, _, c', _, _, _, -, -, hf', -, -, -, hown2, -⟩ := Cond.laysFinal_spec hlay
    have e1 : c' = cf := by have := hi.symm.trans hf'; simp at this; exact this.1.symm
    rw [hdecl] at hown2
    rw [← e1]; exact Option.some.inj ((amb_own a).symm.trans hown2)
  have h6 := u_fits hfc hkC hkind (Or.inr hlay) hi (hty k hk) hn hfit
  refine W.putFinK a.1 a.2.1 (amb_own a) (hts _ hq) hi' hst hcf (a.2.2.2.2.2.2.2.2.2.1 hI) (by rw [q2]; exact h6) q1 q3 (by rw [hsl]; exact k2_hasslot (q4 k hk)) rfl rfl d fun H' e1 e2 e3 => ?_
  rw [hsl] at e1 ⊢
  exact kk p e R s m args below meth c H' _ ls a (putObj_of r0 hs hc hk hp q2 q3 q4 hap q1 e1 e2 e3) (locs_add hl) hlv
theorem x_iald {r n : Nat} {i : Int32} {j : Nat} (d : decode (kC K) pc = .ok (.iaload, 1)) (hj : i.toNatClampNeg = j) (hs : sh h r = (1, n)) (hin : vp_in i n) (kk : X ρ K (pc + 1) lv (.int (gi h r j) :: st) h cs ss Φ Ψ) : X ρ K pc lv (.int i :: .ref (mr ρ r) :: st) h cs ss Φ Ψ := by
  subst hj
  intro p e R s m args below meth c H locs ls a r0 hl hlv
  have hlt : i.toNatClampNeg < n := Nat.not_le.mp fun q => hin (Or.inr q)
  exact W.iald (v := .int (gi h r i.toNatClampNeg)) a.1 a.2.1 (r0.arr hs (by decide) (by decide)) (amb_arr a (t := 1) (by decide) (by decide) n _) (fun q => by cases q) (by rw [arrV_size]; exact hin) (arrV_read _ _ hlt) rfl rfl d (kk p e R s m args below meth c H locs ls a r0 hl hlv)
theorem x_lald {r n : Nat} {i : Int32} {j : Nat} (d : decode (kC K) pc = .ok (.laload, 1)) (hj : i.toNatClampNeg = j) (hs : sh h r = (2, n)) (hin : vp_in i n) (kk : X ρ K (pc + 1) lv (.long (gl h r j) :: st) h cs ss Φ Ψ) : X ρ K pc lv (.int i :: .ref (mr ρ r) :: st) h cs ss Φ Ψ := by
  subst hj
  intro p e R s m args below meth c H locs ls a r0 hl hlv
  have hlt : i.toNatClampNeg < n := Nat.not_le.mp fun q => hin (Or.inr q)
  exact W.lald (v := .long (gl h r i.toNatClampNeg)) a.1 a.2.1 (r0.arr hs (by decide) (by decide)) (amb_arr a (t := 2) (by decide) (by decide) n _) (fun q => by cases q) (by rw [arrV_size]; exact hin) (arrV_read _ _ hlt) rfl rfl d (kk p e R s m args below meth c H locs ls a r0 hl hlv)
theorem x_bald {r n : Nat} {i : Int32} {j : Nat} (d : decode (kC K) pc = .ok (.baload, 1)) (hj : i.toNatClampNeg = j) (hs : sh h r = (3, n)) (hin : vp_in i n) (kk : X ρ K (pc + 1) lv (.int (gi h r j) :: st) h cs ss Φ Ψ) : X ρ K pc lv (.int i :: .ref (mr ρ r) :: st) h cs ss Φ Ψ := by
  subst hj
  intro p e R s m args below meth c H locs ls a r0 hl hlv
  have hlt : i.toNatClampNeg < n := Nat.not_le.mp fun q => hin (Or.inr q)
  exact W.bald (v := .int (gi h r i.toNatClampNeg)) a.1 a.2.1 (r0.arr hs (by decide) (by decide)) (amb_arr a (t := 3) (by decide) (by decide) n _) (fun q => by cases q) (by rw [arrV_size]; exact hin) (arrV_read _ _ hlt) rfl rfl d (kk p e R s m args below meth c H locs ls a r0 hl hlv)
theorem x_zald {r n : Nat} {i : Int32} {j : Nat} (d : decode (kC K) pc = .ok (.baload, 1)) (hj : i.toNatClampNeg = j) (hs : sh h r = (4, n)) (hin : vp_in i n) (kk : X ρ K (pc + 1) lv (.int (gi h r j) :: st) h cs ss Φ Ψ) : X ρ K pc lv (.int i :: .ref (mr ρ r) :: st) h cs ss Φ Ψ := by
  subst hj
  intro p e R s m args below meth c H locs ls a r0 hl hlv
  have hlt : i.toNatClampNeg < n := Nat.not_le.mp fun q => hin (Or.inr q)
  exact W.zald (v := .int (gi h r i.toNatClampNeg)) a.1 a.2.1 (r0.arr hs (by decide) (by decide)) (amb_arr a (t := 4) (by decide) (by decide) n _) (fun q => by cases q) (by rw [arrV_size]; exact hin) (arrV_read _ _ hlt) rfl rfl d (kk p e R s m args below meth c H locs ls a r0 hl hlv)
theorem x_aald5 {r n : Nat} {i : Int32} {j : Nat} (d : decode (kC K) pc = .ok (.aaload, 1)) (hj : i.toNatClampNeg = j) (hs : sh h r = (5, n)) (hin : vp_in i n) (kk : X ρ K (pc + 1) lv (rv ρ (gr h r j) :: st) h cs ss Φ Ψ) : X ρ K pc lv (.int i :: .ref (mr ρ r) :: st) h cs ss Φ Ψ := by
  subst hj
  intro p e R s m args below meth c H locs ls a r0 hl hlv
  have hlt : i.toNatClampNeg < n := Nat.not_le.mp fun q => hin (Or.inr q)
  exact W.aald (v := rv ρ (gr h r i.toNatClampNeg)) (ty := aTy 5) a.1 a.2.1 (r0.arr hs (by decide) (by decide)) (amb_arr a (t := 5) (by decide) (by decide) n _) rfl (fun q => by cases q) (by rw [arrV_size]; exact hin) (arrV_read _ _ hlt) rfl rfl d (kk p e R s m args below meth c H locs ls a r0 hl hlv)
theorem x_aald6 {r n : Nat} {i : Int32} {j : Nat} (d : decode (kC K) pc = .ok (.aaload, 1)) (hj : i.toNatClampNeg = j) (hs : sh h r = (6, n)) (hin : vp_in i n) (kk : X ρ K (pc + 1) lv (rv ρ (gr h r j) :: st) h cs ss Φ Ψ) : X ρ K pc lv (.int i :: .ref (mr ρ r) :: st) h cs ss Φ Ψ := by
  subst hj
  intro p e R s m args below meth c H locs ls a r0 hl hlv
  have hlt : i.toNatClampNeg < n := Nat.not_le.mp fun q => hin (Or.inr q)
  exact W.aald (v := rv ρ (gr h r i.toNatClampNeg)) (ty := aTy 6) a.1 a.2.1 (r0.arr hs (by decide) (by decide)) (amb_arr a (t := 6) (by decide) (by decide) n _) rfl (fun q => by cases q) (by rw [arrV_size]; exact hin) (arrV_read _ _ hlt) rfl rfl d (kk p e R s m args below meth c H locs ls a r0 hl hlv)
theorem updV_i {ρ : Rho} {h : Hp} {r k : Nat} {v : Int32} {ty : FieldType} (ht : tk ty = 0) : fv ρ (si h r k v) r ty = updV (fv ρ h r ty) k (.int v) := by
  funext j
  rw [fv_si_at]
  by_cases hj : j = k
  · rw [if_pos ⟨hj, ht⟩]; show _ = if j = k then _ else _; rw [if_pos hj]
  · rw [if_neg (fun z => hj z.1)]; show _ = if j = k then _ else _; rw [if_neg hj]
theorem updV_l {ρ : Rho} {h : Hp} {r k : Nat} {v : Int64} {ty : FieldType} (ht : tk ty = 1) : fv ρ (sl h r k v) r ty = updV (fv ρ h r ty) k (.long v) := by
  funext j
  rw [fv_sl_at]
  by_cases hj : j = k
  · rw [if_pos ⟨hj, ht⟩]; show _ = if j = k then _ else _; rw [if_pos hj]
  · rw [if_neg (fun z => hj z.1)]; show _ = if j = k then _ else _; rw [if_neg hj]
theorem updV_r {ρ : Rho} {h : Hp} {r k : Nat} {v : Nat} {ty : FieldType} (ht : tk ty = 2) : fv ρ (sr h r k v) r ty = updV (fv ρ h r ty) k (rv ρ v) := by
  funext j
  rw [fv_sr_at]
  by_cases hj : j = k
  · rw [if_pos ⟨hj, ht⟩]; show _ = if j = k then _ else _; rw [if_pos hj]
  · rw [if_neg (fun z => hj z.1)]; show _ = if j = k then _ else _; rw [if_neg hj]
theorem x_iast {r n : Nat} {i : Int32} {x : Int32} {j : Nat} (d : decode (kC K) pc = .ok (.iastore, 1)) (hj : i.toNatClampNeg = j) (hs : sh h r = (1, n)) (hin : vp_in i n) (kk : X ρ K (pc + 1) lv st (si h r j x) cs ss Φ Ψ) : X ρ K pc lv (.int x :: .int i :: .ref (mr ρ r) :: st) h cs ss Φ Ψ := by
  subst hj
  intro p e R s m args below meth c H locs ls a r0 hl hlv
  refine W.iast a.1 a.2.1 (r0.arr hs (by decide) (by decide)) (amb_arr a (t := 1) (by decide) (by decide) n _) (fun q => by cases q) (by rw [arrV_size]; exact hin) rfl rfl d fun H' e1 e2 e3 => ?_
  exact kk p e R s m args below meth c H' _ ls a (r0.putArr hs (by decide) (by decide) rfl rfl (fun q hq ty j => fv_si hq ty j) (updV_i rfl) e1 e2 e3) (locs_add hl) hlv
theorem x_last {r n : Nat} {i : Int32} {x : Int64} {j : Nat} (d : decode (kC K) pc = .ok (.lastore, 1)) (hj : i.toNatClampNeg = j) (hs : sh h r = (2, n)) (hin : vp_in i n) (kk : X ρ K (pc + 1) lv st (sl h r j x) cs ss Φ Ψ) : X ρ K pc lv (.long x :: .int i :: .ref (mr ρ r) :: st) h cs ss Φ Ψ := by
  subst hj
  intro p e R s m args below meth c H locs ls a r0 hl hlv
  refine W.last a.1 a.2.1 (r0.arr hs (by decide) (by decide)) (amb_arr a (t := 2) (by decide) (by decide) n _) (fun q => by cases q) (by rw [arrV_size]; exact hin) rfl rfl d fun H' e1 e2 e3 => ?_
  exact kk p e R s m args below meth c H' _ ls a (r0.putArr hs (by decide) (by decide) rfl rfl (fun q hq ty j => fv_sl hq ty j) (updV_l rfl) e1 e2 e3) (locs_add hl) hlv
theorem x_bast {r n : Nat} {i : Int32} {x : Int32} {j : Nat} (d : decode (kC K) pc = .ok (.bastore, 1)) (hj : i.toNatClampNeg = j) (hs : sh h r = (3, n)) (hin : vp_in i n) (kk : X ρ K (pc + 1) lv st (si h r j (x.toInt8.toInt32)) cs ss Φ Ψ) : X ρ K pc lv (.int x :: .int i :: .ref (mr ρ r) :: st) h cs ss Φ Ψ := by
  subst hj
  intro p e R s m args below meth c H locs ls a r0 hl hlv
  refine W.bast a.1 a.2.1 (r0.arr hs (by decide) (by decide)) (amb_arr a (t := 3) (by decide) (by decide) n _) (fun q => by cases q) (by rw [arrV_size]; exact hin) rfl rfl d fun H' e1 e2 e3 => ?_
  exact kk p e R s m args below meth c H' _ ls a (r0.putArr hs (by decide) (by decide) rfl rfl (fun q hq ty j => fv_si hq ty j) (updV_i rfl) e1 e2 e3) (locs_add hl) hlv
theorem x_zast {r n : Nat} {i : Int32} {x : Int32} {j : Nat} (d : decode (kC K) pc = .ok (.bastore, 1)) (hj : i.toNatClampNeg = j) (hs : sh h r = (4, n)) (hin : vp_in i n) (hz : narrow .boolean (.int x) = .int x) (kk : X ρ K (pc + 1) lv st (si h r j x) cs ss Φ Ψ) : X ρ K pc lv (.int x :: .int i :: .ref (mr ρ r) :: st) h cs ss Φ Ψ := by
  subst hj
  intro p e R s m args below meth c H locs ls a r0 hl hlv
  refine W.zast a.1 a.2.1 (r0.arr hs (by decide) (by decide)) (amb_arr a (t := 4) (by decide) (by decide) n _) (fun q => by cases q) (by rw [arrV_size]; exact hin) rfl rfl d fun H' e1 e2 e3 => ?_
  rw [hz] at e1
  exact kk p e R s m args below meth c H' _ ls a (r0.putArr hs (by decide) (by decide) rfl rfl (fun q hq ty j => fv_si hq ty j) (updV_i rfl) e1 e2 e3) (locs_add hl) hlv
theorem x_alen {r t n : Nat} {v : Int32} (d : decode (kC K) pc = .ok (.arraylength, 1)) (hs : sh h r = (t, n)) (h1 : 1 ≤ t) (h2 : t ≤ 6) (hn : n.toInt32 = v) (kk : X ρ K (pc + 1) lv (.int v :: st) h cs ss Φ Ψ) : X ρ K pc lv (.ref (mr ρ r) :: st) h cs ss Φ Ψ := by
  intro p e R s m args below meth c H locs ls a r0 hl hlv
  exact W.alen a.1 a.2.1 (r0.arr hs h1 h2) (amb_arr a h1 h2 n _) (by rw [arrV_size]; exact hn) rfl rfl d (kk p e R s m args below meth c H locs ls a r0 hl hlv)
/-- a reference is stored: its class goes into the array's -/
theorem x_aast {r n t y ci m0 : Nat} {i : Int32} {j : Nat} {C E : String} {q : vw_C} (d : decode (kC K) pc = .ok (.aastore, 1)) (hj : i.toNatClampNeg = j) (hs : sh h r = (t, n)) (h1 : 5 ≤ t) (h2 : t ≤ 6) (hE : aTy t = .object E) (hy : sh h y = (10 + ci, m0)) (hc : kCl[ci]? = some q) (hq : q.1 = C) (hw : Cond.castable C E ∈ lw_tbl) (hin : vp_in i n) (kk : X ρ K (pc + 1) lv st (sr h r j y) cs ss Φ Ψ) : X ρ K pc lv (.ref (mr ρ y) :: .int i :: .ref (mr ρ r) :: st) h cs ss Φ Ψ := by
  subst hj
  intro p e R s m args below meth c H locs ls a r0 hl hlv
  have hlt : i.toNatClampNeg < n := Nat.not_le.mp fun q => hin (Or.inr q)
  have h0 : ¬ i < 0 := fun q => hin (Or.inl q)
  have hK := amb_K a
  obtain ⟨cellV, g1, g2, g3, -⟩ := r0.obj hy hc
  have hcls := (hK.1 ci _ hc).2
  have hkt : (kTys ρ)[t - 1]? = some (rA ρ t, aTy t) := by
    rcases (show t = 5 ∨ t = 6 by omega) with e | e <;> subst e <;> rfl
  have hRA := (hK.2 _ _ hkt).2
  rw [hE] at hRA
  obtain ⟨kA, comp, k1, k2, k3, -⟩ := hRA
  obtain ⟨kE, hkE, -⟩ := Vm.findClass_spec k3
  obtain ⟨c1, c2, f1, f2, hasg⟩ := Cond.castable_spec (va_Nw.use (A := args) rfl (va_Nw.warmC (amb_wh a) (amb_w a hw rfl)))
  rw [← hq] at f1
  cases Option.some.inj (f1.symm.trans hcls.1)
  cases Option.some.inj (f2.symm.trans k3)
  obtain ⟨kC1, hkC1, -⟩ := hcls.2
  refine W.aast a.1 a.2.1 (r0.arr hs (by omega) h2) (fun q z => by cases z) (fun z => by cases z) k1 k2 rfl hkE ⟨h0, by rw [arrV_size]; exact hlt⟩ g1 (fun q z => by rw [g3] at z; cases z) (by rw [g2]; exact hkC1) (by rw [g2]; exact hasg) rfl rfl d fun H' e1 e2 e3 => ?_
  rw [show (Value.ref (mr ρ y)) = rv ρ y from (rv_pos (by have := (r0.live hy (by omega)).1; omega)).symm] at e1
  exact kk p e R s m args below meth c H' _ ls a (r0.putArr hs (by omega) h2 rfl rfl (fun q hq ty j => fv_sr hq ty j) (updV_r (by rw [hE]; rfl)) e1 e2 e3) (locs_add hl) hlv
/-- new arrays -/
theorem cOK_newArr {ρ : Rho} {h : Hp} {H' : Heap} {t n : Nat} (h1 : 1 ≤ t) (h2 : t ≤ 6) (e : H'[mr ρ (sz h + 1)]? = some (arrV (rA ρ t) n (fun _ => defaultValue (aTy t)))) : cOK ρ (al h (t, n)) (sz h + 1) H' := by
  have hs : sh (al h (t, n)) (sz h + 1) = (t, n) := if_pos rfl
  refine ⟨fun _ => ?_, fun ci q z => ?_, fun z => by rw [hs] at z; have : t = 13 ∨ t = 15 := z; omega⟩
  · rw [hs, e]
    show _ = some (arrV (rA ρ t) n (fv ρ (al h (t, n)) (sz h + 1) (aTy t)))
    congr 2
    funext k
    have a1 : gi (al h (t, n)) (sz h + 1) k = 0 := if_pos rfl
    have a2 : gl (al h (t, n)) (sz h + 1) k = 0 := if_pos rfl
    have a3 : gr (al h (t, n)) (sz h + 1) k = 0 := if_pos rfl
    unfold fv
    rw [a1, a2, a3]
    match t, h1, h2 with
    | 1, _, _ => rfl
    | 2, _, _ => rfl
    | 3, _, _ => rfl
    | 4, _, _ => rfl
    | 5, _, _ => rfl
    | 6, _, _ => rfl
    | t + 7, _, h2 => omega
  · rw [hs] at z
    have : t = 10 + ci := z
    omega
theorem mr_new {ρ : Rho} {h : Hp} {H : Heap} (r0 : Rep ρ h H) : H.size = mr ρ (sz h + 1) := by
  rw [r0.1]; unfold mr; omega
theorem x_newa {atype : ArrayType} {n : Int32} (t N : Nat) (d : decode (kC K) pc = .ok (.newarray atype, 2)) (ht : newarray.typeOf atype = aTy t) (h1 : 1 ≤ t) (h2 : t ≤ 4) (hq : Cond.arrayClass (newarray.typeOf atype) ∈ lw_all) (hn : ¬ n < 0) (hN : n.toNatClampNeg = N) (hb : N ≤ 1000) (hcs : cs + 1 ≤ (kM K).cells) (hss : ss + N ≤ (kM K).slots) (kk : X ρ K (pc + 2) lv (.ref (mr ρ (sz h + 1)) :: st) (al h (t, N)) (cs + 1) (ss + N) Φ Ψ) : X ρ K pc lv (.int n :: st) h cs ss Φ Ψ := by
  intro p e R s m args below meth c H locs ls a r0 hl hlv
  have hcb : N * componentBytes (newarray.typeOf atype) ≤ 536870912 := by
    have : componentBytes (newarray.typeOf atype) ≤ 8 := by cases atype <;> decide
    calc N * componentBytes (newarray.typeOf atype) ≤ 1000 * 8 := Nat.mul_le_mul hb this
      _ ≤ 536870912 := by decide
  have hR : R = kM K := a.2.2.2.2.2.2.2.1
  refine va_newaK a.1 a.2.1 (amb_hts a _ hq) rfl d rfl hn hN hcb (by rw [hR]; exact hcs) (by rw [hR]; exact hss) (mr_new r0) fun H' cA e1 e2 e3 hAr hNm => ?_
  have hkt : (kTys ρ)[t - 1]? = some (rA ρ t, aTy t) := by
    rcases (show t = 1 ∨ t = 2 ∨ t = 3 ∨ t = 4 by omega) with e | e | e | e <;> subst e <;> rfl
  have hcA : cA = rA ρ t := by
    have hRA := ((amb_K a).2 _ _ hkt).2
    rw [ht] at hNm
    rcases (show t = 1 ∨ t = 2 ∨ t = 3 ∨ t = 4 by omega) with e | e | e | e <;> subst e <;> exact Option.some.inj (hNm.symm.trans hRA)
  subst hcA
  rw [ht] at e1
  exact kk p e R s m args below meth c H' locs ls a (r0.new (by rw [e2, mr_new r0]) (fun q hq => e3 q (by rw [← mr_new r0]; exact hq)) (cOK_newArr h1 (by omega) e1)) hl hlv
theorem x_anew {index : Nat} {n : Int32} {E : String} (t N : Nat) (d : decode (kC K) pc = .ok (.anewarray index, 3)) (hE : aTy t = .object E) (h1 : 5 ≤ t) (h2 : t ≤ 6) (hq : Cond.classLink (kO K) index E ∈ lw_all) (hq2 : Cond.arrayOver (.object E) ∈ lw_tbl) (hn : ¬ n < 0) (hN : n.toNatClampNeg = N) (hb : N ≤ 1000) (hcs : cs + 1 ≤ (kM K).cells) (hss : ss + N ≤ (kM K).slots) (kk : X ρ K (pc + 3) lv (.ref (mr ρ (sz h + 1)) :: st) (al h (t, N)) (cs + 1) (ss + N) Φ Ψ) : X ρ K pc lv (.int n :: st) h cs ss Φ Ψ := by
  intro p e R s m args below meth c H locs ls a r0 hl hlv
  have hR : R = kM K := a.2.2.2.2.2.2.2.1
  subst hN
  have hAO : (Cond.arrayOver (.object E)).before args s = true := va_AO.use (va_AO.moved (amb_wh a).alike (show va_AO E (rS ρ) from (amb_G a).2.1 _ hq2 |>.elim fun A hA => va_AO.of hA))
  refine W.anew a.1 a.2.1 (amb_own a) (amb_hts a _ hq) hAO rfl d rfl hn (by omega) (by rw [hR]; exact hcs) (by rw [hR]; exact hss) fun cA kA comp g1 g2 g3 g4 => ?_
  have hkt : (kTys ρ)[t - 1]? = some (rA ρ t, aTy t) := by
    rcases (show t = 5 ∨ t = 6 by omega) with e | e <;> subst e <;> rfl
  have hRA := ((amb_K a).2 _ _ hkt).2
  rw [hE] at hRA
  obtain ⟨kA2, comp2, k1, k2, k3, k4⟩ := hRA
  have hcA : cA = rA ρ t := Option.some.inj (g1.symm.trans k4)
  subst hcA
  rw [mr_new r0]
  have hd : Value.null = defaultValue (aTy t) := by rw [hE]; rfl
  refine kk p e R s m args below meth c _ locs ls a (r0.new (by simp) (fun q hq => by rw [Array.getElem?_push, if_neg (Nat.ne_of_lt hq)]) (cOK_newArr (by omega) h2 ?_)) hl hlv
  rw [← arrV_new, ← hd, ← mr_new r0]
  simp
/-- a new object -/
theorem x_new {index n N ci : Nat} {C : String} {T : u_T} {ty0 : Nat → FieldType} (d : decode (kC K) pc = .ok (.new index, 3)) (hc : kCl[ci]? = some (C, T, N)) (hin : ∀ w ∈ u_ws C T N, w ∈ lw_all) (hty : ∀ k, k < N → parseFieldDescriptor (T k).2.2.1 = some (ty0 k)) (hdf : ∀ k, k < N → fv0 (kTy ci k) = defaultValue (ty0 k)) (hq : Cond.classLink (kO K) index C ∈ lw_all) (hq2 : Cond.instantiable C n ∈ lw_all) (hq3 : Cond.initialized C ∈ lw_all) (hcs : cs + 1 ≤ (kM K).cells) (hss : ss + n ≤ (kM K).slots) (kk : X ρ K (pc + 3) lv (.ref (mr ρ (sz h + 1)) :: st) (al h (10 + ci, 0)) (cs + 1) (ss + n) Φ Ψ) : X ρ K pc lv st h cs ss Φ Ψ := by
  intro p e R s m args below meth c H locs ls a r0 hl hlv
  have hts := amb_hts a
  have hR : R = kM K := a.2.2.2.2.2.2.2.1
  have hKn := (amb_K a).1 ci _ hc
  refine W.newcK a.1 a.2.1 (amb_own a) (hts _ hq) (hts _ hq2) (hts _ hq3) rfl d (by rw [hR]; exact hcs) (by rw [hR]; exact hss) hKn.2.1 (mr_new r0) fun H' kC1 hkC e1 e2 e3 => ?_
  have hb := u_born ty0 hts hin hKn hkC e1 hty
  refine kk p e R s m args below meth c H' locs ls a (r0.new (by rw [e2, mr_new r0]) (fun q hq => e3 q (by rw [← mr_new r0]; exact hq)) ?_) hl hlv
  have hs : sh (al h (10 + ci, 0)) (sz h + 1) = (10 + ci, 0) := if_pos rfl
  refine ⟨fun z => ?_, fun c2 q z hq => ?_, fun z => ⟨_, e1, rfl, rfl, ?_⟩⟩
  · rw [hs] at z
    have : 10 + ci ≤ 6 := z.2
    omega
  · rw [hs] at z
    have : 10 + ci = 10 + c2 := z
    have : c2 = ci := by omega
    subst this
    cases hc.symm.trans hq
    refine hb.to fun k hk => ?_
    have a1 : gi (al h (10 + c2, 0)) (sz h + 1) k = 0 := if_pos rfl
    have a2 : gl (al h (10 + c2, 0)) (sz h + 1) k = 0 := if_pos rfl
    have a3 : gr (al h (10 + c2, 0)) (sz h + 1) k = 0 := if_pos rfl
    show defaultValue (ty0 k) = fv ρ _ _ (kTy c2 k) k
    rw [← hdf k hk]
    exact (fv_zero a1 a2 a3).symm
  · rw [hs] at z
    obtain ⟨c1, k1, i1, i2, -, -, -, i3⟩ := Cond.instantiable_spec (hts _ hq2)
    have h7 : (Cond.instantiable C 7) ∈ lw_all := by
      rcases (show ci = 3 ∨ ci = 5 by have : 10 + ci = 13 ∨ 10 + ci = 15 := z; omega) with e | e
      · subst e; cases hc; exact q298
      · subst e; cases hc; exact q432
    obtain ⟨c2, k2, j1, j2, -, -, -, j3⟩ := Cond.instantiable_spec (hts _ h7)
    cases hKn.2.1.symm.trans j1
    cases hkC.symm.trans j2
    show (kC1.instanceTypes.map defaultValue).size = 7
    rw [Array.size_map]; exact j3
theorem x_objInit {idx r : Nat} (d : decode (kC K) pc = .ok (.invokespecial idx, 3)) (hq : Cond.methodLink (kO K) idx objectInit ∈ lw_all) (hq2 : Cond.instanceMethod objectInit ∈ lw_all) (hq3 : Cond.code objectInit ⟨#[0xb1]⟩ 1 none ∈ lw_all) (hf : 1 ≤ (kM K).frames) (hlo : (st.map fun v => v.category).sum + 12 ≤ (kM K).locals) (kk : X ρ K (pc + 3) lv st h cs ss Φ Ψ) : X ρ K pc lv (.ref (mr ρ r) :: st) h cs ss Φ Ψ := by
  intro p e R s m args below meth c H locs ls a r0 hl hlv
  have hts := amb_hts a
  have hR : R = kM K := a.2.2.2.2.2.2.2.1
  refine W.objInit a.1 a.2.1 (amb_own a) (hts _ hq) (hts _ hq2) (hts _ hq3) rfl (by rw [hlv.1, a.2.2.1]) rfl d (by rw [hR]; exact hf) (by rw [hR]; show 2 * 0 + _ + 12 ≤ _; omega) (kk p e R s m args below meth c H locs ls a r0 hl hlv)
theorem x_iret {x : Int32} (d : decode (kC K) pc = .ok (.ireturn, 1)) (hr : kR K = some .int) (h1 : cs ≤ (kM K).cells) (h2 : ss ≤ (kM K).slots) (hp : Φ (some (.int x)) h) : X ρ K pc lv [.int x] h cs ss Φ Ψ := by
  intro p e R s m args below meth c H locs ls a r0 hl hlv
  refine W.widen h1 h2 (vx_ret ?_)
  exact W.iret a.1 a.2.1 (a.2.2.2.2.2.1.trans hr) (fun t ht hW => ⟨_, h, rfl, hp, State.WarmedH.trans (amb_wh a) hW, by rw [ht]; exact r0⟩) hl d a.2.2.2.2.2.2.1
theorem x_lret {x : Int64} (d : decode (kC K) pc = .ok (.lreturn, 1)) (hr : kR K = some .long) (h1 : cs ≤ (kM K).cells) (h2 : ss ≤ (kM K).slots) (hp : Φ (some (.long x)) h) : X ρ K pc lv [.long x] h cs ss Φ Ψ := by
  intro p e R s m args below meth c H locs ls a r0 hl hlv
  refine W.widen h1 h2 (vx_ret ?_)
  exact W.lret a.1 a.2.1 (a.2.2.2.2.2.1.trans hr) (fun t ht hW => ⟨_, h, rfl, hp, State.WarmedH.trans (amb_wh a) hW, by rw [ht]; exact r0⟩) hl d a.2.2.2.2.2.2.1
theorem x_zret {x : Int32} (d : decode (kC K) pc = .ok (.ireturn, 1)) (hr : kR K = some .boolean) (hz : narrow .boolean (.int x) = .int x) (h1 : cs ≤ (kM K).cells) (h2 : ss ≤ (kM K).slots) (hp : Φ (some (.int x)) h) : X ρ K pc lv [.int x] h cs ss Φ Ψ := by
  intro p e R s m args below meth c H locs ls a r0 hl hlv
  refine W.widen h1 h2 (vx_ret ?_)
  exact W.zret a.1 a.2.1 (a.2.2.2.2.2.1.trans hr) hz (fun t ht hW => ⟨_, h, rfl, hp, State.WarmedH.trans (amb_wh a) hW, by rw [ht]; exact r0⟩) hl d a.2.2.2.2.2.2.1
theorem x_vret (d : decode (kC K) pc = .ok (.return_, 1)) (hr : kR K = none) (h1 : cs ≤ (kM K).cells) (h2 : ss ≤ (kM K).slots) (hp : Φ none h) : X ρ K pc lv [] h cs ss Φ Ψ := by
  intro p e R s m args below meth c H locs ls a r0 hl hlv
  refine W.widen h1 h2 (vx_ret ?_)
  exact W.vret a.1 a.2.1 (a.2.2.2.2.2.1.trans hr) (fun t ht hW => ⟨_, h, rfl, hp, State.WarmedH.trans (amb_wh a) hW, by rw [ht]; exact r0⟩) hl d a.2.2.2.2.2.2.1
theorem x_aret {x : Nat} {C : String} (d : decode (kC K) pc = .ok (.areturn, 1)) (hr : kR K = some (.object C)) (h1 : cs ≤ (kM K).cells) (h2 : ss ≤ (kM K).slots) (hp : Φ (some (.ref (mr ρ x))) h) : X ρ K pc lv [.ref (mr ρ x)] h cs ss Φ Ψ := by
  intro p e R s m args below meth c H locs ls a r0 hl hlv
  refine W.widen h1 h2 (vx_ret ?_)
  exact W.aret a.1 a.2.1 (a.2.2.2.2.2.1.trans hr) (Or.inl ⟨C, rfl⟩) (Or.inr ⟨_, rfl⟩) (fun t ht hW => ⟨_, h, rfl, hp, State.WarmedH.trans (amb_wh a) hW, by rw [ht]; exact r0⟩) hl d a.2.2.2.2.2.2.1
/-- a reference that isn't null -/
theorem x_nn {x : Nat} (hx : x ≠ 0) (k : X ρ K pc lv (.ref (mr ρ x) :: st) h cs ss Φ Ψ) : X ρ K pc lv (rv ρ x :: st) h cs ss Φ Ψ := by
  rw [rv_pos hx]; exact k
theorem XT.widen {q : Nat} {k n : Nat} (h1 : cs ≤ k) (h2 : ss ≤ n) (kk : XT ρ K pc lv q h k n Φ Ψ) : XT ρ K pc lv q h cs ss Φ Ψ :=
  fun p e R s m args below meth c H locs ls rest a r hl hv => vx_widen h1 h2 (kk p e R s m args below meth c H locs ls rest a r hl hv)
/-- thrown, not caught here -/
theorem xt_out {q ci n : Nat} {x : vw_C} (hs : sh h q = (10 + ci, n)) (hc : kCl[ci]? = some x) (hH : ∀ z ∈ tableOf (kH K), covers z pc = false) (h1 : cs ≤ (kM K).cells) (h2 : ss ≤ (kM K).slots) (hp : Ψ q h) : XT ρ K pc lv q h cs ss Φ Ψ := by
  intro p e R s m args below meth c H locs ls rest a r0 hl hlv
  obtain ⟨cell, q1, q2, q3, q4⟩ := r0.obj hs hc
  refine vx_out (E := x.1) (ce := cell) (by rw [a.2.2.2.2.2.2.2.2.1]; exact hH) a.2.2.2.2.2.2.1 q1 q3 (by rw [q2]; exact ((amb_K a).1 ci _ hc).2.1) (fun t ht hW => ⟨q, h, ci, n, x, hp, rfl, hs, hc, rfl, State.WarmedH.trans (amb_wh a) hW, by rw [ht]; exact r0⟩) hl h1 h2
/-- thrown, caught by the first row of the table -/
theorem xt_catch {q ci n : Nat} {x : vw_C} {name : String} (f t hd ty : Nat) (hs : sh h q = (10 + ci, n)) (hc : kCl[ci]? = some x) (hH : kH K = [(f, t, hd, ty)]) (hcov : covers (⟨f, t, hd, ty⟩ : ExceptionTableEntry) pc = true) (h0 : ty ≠ 0) (hq : Cond.classLink (kO K) ty name ∈ lw_all) (hq2 : Cond.castable x.1 name ∈ lw_tbl) (k : X ρ K hd lv [.ref (mr ρ q)] h cs ss Φ Ψ) : XT ρ K pc lv q h cs ss Φ Ψ := by
  intro p e R s m args below meth c H locs ls rest a r0 hl hlv
  obtain ⟨cell, q1, q2, q3, q4⟩ := r0.obj hs hc
  refine vx_catch (E := x.1) (ce := cell) (name := name) (amb_own a) [] (⟨f, t, hd, ty⟩ : ExceptionTableEntry) [] (by rw [a.2.2.2.2.2.2.2.2.1, hH]; rfl) (fun z hz => by cases hz) hcov h0 (amb_hts a _ hq) (va_Nw.use rfl (va_Nw.warmC (amb_wh a) (amb_w a hq2 rfl))) q1 q3 (by rw [q2]; exact ((amb_K a).1 ci _ hc).2.1) (k p e R s m args below meth c H locs ls a r0 hl hlv)
theorem x_athrow {q : Nat} (d : decode (kC K) pc = .ok (.athrow, 1)) (k : XT ρ K pc lv q h cs ss Φ Ψ) : X ρ K pc lv (.ref (mr ρ q) :: st) h cs ss Φ Ψ :=
  fun p e R s m args below meth c H locs ls a r hl hv => vx_athrow a.1 a.2.1 d (k p e R s m args below meth c H locs ls st a r hl hv)
/-- the Pc of a contract is blind to frames -/
theorem con_blind {ρ : Rho} {av : List Value} {h : Hp} : FrameBlind (va_Pc av (fun U => St ρ h U ∧ G0 ρ)) := fun _ _ _ _ z => ⟨z.1, z.2⟩
theorem con_start {ρ : Rho} {K : Kx} {h : Hp} {H : Heap} {p : Program} {R : Room} {s : State} {m : MethodId} {args : Array Value} {meth : Method} {c : Code} {av : List Value} (a : Amb ρ K p R s m args meth c) (r0 : Rep ρ h H) : ∀ U : State, U.heap = H → s.WarmedH U.vm → va_Pc av (fun U => St ρ h U ∧ G0 ρ) av.toArray U :=
  fun U hU hW => ⟨rfl, ⟨State.WarmedH.trans (amb_wh a) hW, by rw [hU]; exact r0⟩, amb_G a⟩
/-- behind a call -/
theorem x_of_run {K : Kx} {Φ' : Option Value → Hp → Prop} {Ψ' : Nat → Hp → Prop} {mc ms : Nat} {av : Array Value} {st0 rest : List Value} {p : Program} {e : Env} {R : Room} {s : State} {m : MethodId} {args : Array Value} {below : List Frame} {meth : Method} {c : Code} {H : Heap} {locs : List Loc} {ls : Array Slot} (a : Amb ρ K p R s m args meth c) (hl : ∀ q ∈ locs, rN ρ ≤ q.base) (hlv : lv_has ls (kL K) lv)
    (hr : vx_Run p (rL ρ) e R s m args below meth c H locs cs ss mc ms (F0 m pc ls st0) rest (xQ ρ Φ' av) (xE ρ Ψ') (rF ρ)) (kk : ∀ v h', Φ' v h' → X ρ K (pc + 3) lv (v.toList ++ rest) h' (cs + mc) (ss + ms) Φ Ψ) (kx : ∀ q h' ci n x, Ψ' q h' → sh h' q = (10 + ci, n) → kCl[ci]? = some x → XT ρ K pc lv q h' (cs + mc) (ss + ms) Φ Ψ) :
    W p (rL ρ) e R s m args below meth c H locs cs ss (vx_MQ below (xQ ρ Φ) (xE ρ Ψ) args s (kM K).cells (kM K).slots (rF ρ)) (F0 m pc ls st0) := by
  intro T hT Z
  rcases hr T hT Z with ⟨v, st₀, t, T', L, h0, Z', hL, e1, e2, ⟨v', h', hv, hp, hst⟩, st⟩ | ⟨q, st₀, t, T', L, E, ce, h0, Z', hL, e1, e2, ⟨q', h', ci, n, x, hp, hq, hs, hc, hE, hst⟩, hce, hcv, hcl, st⟩
  · cases hv
    obtain ⟨t2, a1, b1⟩ := kk v h' hp p e R s m args below meth c T'.heap (locs ++ L) ls a (by rw [e1]; exact hst.2) (fun z hz => (List.mem_append.mp hz).elim (hl z) (hL z)) hlv T' rfl Z'
    exact ⟨t2, st t2 a1, b1⟩
  · subst hq
    obtain ⟨t2, a1, b1⟩ := kx q' h' ci n x hp hs hc p e R s m args below meth c T'.heap (locs ++ L) ls rest a (by rw [e1]; exact hst.2) (fun z hz => (List.mem_append.mp hz).elim (hl z) (hL z)) hlv T' rfl Z'
    exact ⟨t2, st.trans a1, b1⟩
theorem xrecv {ρ : Rho} {K : Kx} {h : Hp} {H : Heap} {p : Program} {R : Room} {s : State} {m : MethodId} {args : Array Value} {meth : Method} {c : Code} {r ci n : Nat} {q : vw_C} (a : Amb ρ K p R s m args meth c) (r0 : Rep ρ h H) (hs : sh h r = (10 + ci, n)) (hc : kCl[ci]? = some q) : ∃ cell : Cell, H[mr ρ r]? = some cell ∧ cell.vm.isStatics = false ∧ s.vm.findClass q.1 = some cell.cls := by
  obtain ⟨cell, q1, q2, q3, q4⟩ := r0.obj hs hc
  exact ⟨cell, q1, by rw [q3]; rfl, by rw [q2]; exact ((amb_K a).1 ci _ hc).2.1⟩
theorem x_callV  {r ci n0 : Nat} {q : vw_C} {Φ' : Option Value → Hp → Prop} {Ψ' : Nat → Hp → Prop} {index : Nat} {y : MethodName} {b : ByteArray} {L : Nat} {ret : Option FieldType} {rm : Room} {st0 : List Value} (As : List Value) (n : Nat) (d : decode (kC K) pc = .ok (.invokevirtual index, 3)) (hM : Con ρ y (ws_ y b L ret) rm (.ref (mr ρ r) :: As) h Φ' Ψ') (hs : sh h r = (10 + ci, n0)) (hc : kCl[ci]? = some q) (h1 : Cond.methodLink (kO K) index y ∈ lw_all) (h2 : Cond.instanceMethod y ∈ lw_all) (h3 : Cond.selects q.1 y y ∈ lw_all) (h4 : Cond.initialized q.1 ∈ lw_all) (h5 : Cond.code y b L ret ∈ lw_all) (hd : y.cls = q.1 ∧ y.cls ≠ "java/lang/invoke/MethodHandle" ∧ y.cls ≠ "java/lang/invoke/VarHandle" ∧ (parseMethodDescriptor y.desc).map (fun d => d.parameters.length) = some n) (hlen : As.length = n) (hst0 : st0 = As.reverse ++ .ref (mr ρ r) :: st) (hroom : rm.frames + 1 ≤ (kM K).frames ∧ 8 + (L + 11) + rm.locals ≤ (kM K).locals) (hst : (st.map fun v => v.category).sum ≤ 8) (hcells : cs + rm.cells ≤ (kM K).cells ∧ ss + rm.slots ≤ (kM K).slots) (kk : ∀ v h', Φ' v h' → X ρ K (pc + 3) lv (v.toList ++ st) h' (cs + rm.cells) (ss + rm.slots) Φ Ψ) (kx : ∀ q h' ci n x, Ψ' q h' → sh h' q = (10 + ci, n) → kCl[ci]? = some x → XT ρ K pc lv q h' (cs + rm.cells) (ss + rm.slots) Φ Ψ) : X ρ K pc lv st0 h cs ss Φ Ψ := by
  subst hst0
  intro p e R s m args below meth c H locs ls a r0 hl hlv
  have hR : R = kM K := a.2.2.2.2.2.2.2.1
  have hts := amb_hts a
  exact x_of_run a hl hlv (vx_runV (As := As) (rest := st) ⟨a.1, a.2.1, a.2.2.1, amb_own a, hts⟩ hM (cwV n hts (lw_V h1 h2 h3 h4 h5) rfl rfl rfl hd (by rw [hR]; exact hroom)) ⟨con_blind, xrecv a r0 hs hc, con_start a r0⟩ rfl hlen hlv.1 rfl (lv_room hst) d (by rw [hR]; exact hcells)) kk kx
theorem x_callH {hh : List (Nat × Nat × Nat × Nat)} {r ci n0 : Nat} {q : vw_C} {Φ' : Option Value → Hp → Prop} {Ψ' : Nat → Hp → Prop} {index : Nat} {y : MethodName} {b : ByteArray} {L : Nat} {ret : Option FieldType} {rm : Room} {st0 : List Value} (As : List Value) (n : Nat) (d : decode (kC K) pc = .ok (.invokevirtual index, 3)) (hM : Con ρ y (wsW_ y b L ret hh) rm (.ref (mr ρ r) :: As) h Φ' Ψ') (hs : sh h r = (10 + ci, n0)) (hc : kCl[ci]? = some q) (h1 : Cond.methodLink (kO K) index y ∈ lw_all) (h2 : Cond.instanceMethod y ∈ lw_all) (h3 : Cond.selects q.1 y y ∈ lw_all) (h4 : Cond.initialized q.1 ∈ lw_all) (h5 : Cond.codeWith y b L ret hh ∈ lw_all) (hd : y.cls = q.1 ∧ y.cls ≠ "java/lang/invoke/MethodHandle" ∧ y.cls ≠ "java/lang/invoke/VarHandle" ∧ (parseMethodDescriptor y.desc).map (fun d => d.parameters.length) = some n) (hlen : As.length = n) (hst0 : st0 = As.reverse ++ .ref (mr ρ r) :: st) (hroom : rm.frames + 1 ≤ (kM K).frames ∧ 8 + (L + 11) + rm.locals ≤ (kM K).locals) (hst : (st.map fun v => v.category).sum ≤ 8) (hcells : cs + rm.cells ≤ (kM K).cells ∧ ss + rm.slots ≤ (kM K).slots) (kk : ∀ v h', Φ' v h' → X ρ K (pc + 3) lv (v.toList ++ st) h' (cs + rm.cells) (ss + rm.slots) Φ Ψ) (kx : ∀ q h' ci n x, Ψ' q h' → sh h' q = (10 + ci, n) → kCl[ci]? = some x → XT ρ K pc lv q h' (cs + rm.cells) (ss + rm.slots) Φ Ψ) : X ρ K pc lv st0 h cs ss Φ Ψ := by
  subst hst0
  intro p e R s m args below meth c H locs ls a r0 hl hlv
  have hR : R = kM K := a.2.2.2.2.2.2.2.1
  have hts := amb_hts a
  exact x_of_run a hl hlv (vx_runVX (As := As) (rest := st) ⟨a.1, a.2.1, a.2.2.1, amb_own a, hts⟩ hM (vx_cwVW n hts (lw_VW h1 h2 h3 h4 h5) rfl rfl rfl hd (by rw [hR]; exact hroom)) ⟨con_blind, xrecv a r0 hs hc, con_start a r0⟩ rfl hlen hlv.1 rfl (lv_room hst) d (by rw [hR]; exact hcells)) kk kx
theorem x_callN {host : String} {r ci n0 : Nat} {q : vw_C} {Φ' : Option Value → Hp → Prop} {Ψ' : Nat → Hp → Prop} {index : Nat} {y : MethodName} {b : ByteArray} {L : Nat} {ret : Option FieldType} {rm : Room} {st0 : List Value} (As : List Value) (n : Nat) (d : decode (kC K) pc = .ok (.invokevirtual index, 3)) (hM : Con ρ y (ws_ y b L ret) rm (.ref (mr ρ r) :: As) h Φ' Ψ') (hs : sh h r = (10 + ci, n0)) (hc : kCl[ci]? = some q) (h1 : Cond.methodLinkNest (kO K) index y host ∈ lw_tbl) (h2 : Cond.instanceMethod y ∈ lw_all) (h3 : Cond.selects q.1 y y ∈ lw_all) (h4 : Cond.initialized y.cls ∈ lw_all) (h5 : Cond.code y b L ret ∈ lw_all) (hd : y.cls ≠ "java/lang/invoke/MethodHandle" ∧ y.cls ≠ "java/lang/invoke/VarHandle" ∧ (parseMethodDescriptor y.desc).map (fun d => d.parameters.length) = some n) (hlen : As.length = n) (hst0 : st0 = As.reverse ++ .ref (mr ρ r) :: st) (hroom : rm.frames + 1 ≤ (kM K).frames ∧ 8 + (L + 11) + rm.locals ≤ (kM K).locals) (hst : (st.map fun v => v.category).sum ≤ 8) (hcells : cs + rm.cells ≤ (kM K).cells ∧ ss + rm.slots ≤ (kM K).slots) (kk : ∀ v h', Φ' v h' → X ρ K (pc + 3) lv (v.toList ++ st) h' (cs + rm.cells) (ss + rm.slots) Φ Ψ) (kx : ∀ q h' ci n x, Ψ' q h' → sh h' q = (10 + ci, n) → kCl[ci]? = some x → XT ρ K pc lv q h' (cs + rm.cells) (ss + rm.slots) Φ Ψ) : X ρ K pc lv st0 h cs ss Φ Ψ := by
  subst hst0
  intro p e R s m args below meth c H locs ls a r0 hl hlv
  have hR : R = kM K := a.2.2.2.2.2.2.2.1
  have hts := amb_hts a
  exact x_of_run a hl hlv (vx_runVN (As := As) (rest := st) ⟨a.1, a.2.1, a.2.2.1, amb_own a, hts⟩ hM ⟨va_cnB n hts (lw_meth h5) rfl rfl rfl (va_Nw.warmM (amb_wh a) (amb_w a h1 rfl)) (hts _ h4) hd (by rw [hR]; exact hroom), hts _ h2, hts _ h3⟩ ⟨con_blind, xrecv a r0 hs hc, con_start a r0⟩ rfl hlen hlv.1 rfl (lv_room hst) d (by rw [hR]; exact hcells)) kk kx
theorem lw_U {own C owner : String} {idx : Nat} {x y : MethodName} {b : ByteArray} {L : Nat} {r : Option FieldType} (h1 : Cond.methodLink own idx x ∈ lw_all) (h2 : Cond.sameMethod x.cls owner x.name x.desc ∈ lw_all) (h3 : Cond.selects C x y ∈ lw_all) (h4 : Cond.instanceMethod y ∈ lw_all) (h5 : Cond.initialized y.cls ∈ lw_all) (h6 : Cond.code y b L r ∈ lw_all) : GoodIn lw_all (va_wsU own idx C owner x y (ws_ y b L r)) := by
  refine lw_app ?_ (lw_meth h6)
  intro w hw
  simp only [List.mem_cons, List.not_mem_nil, or_false] at hw
  rcases hw with e | e | e | e | e
  · rw [e]; exact h1
  · rw [e]; exact h2
  · rw [e]; exact h3
  · rw [e]; exact h4
  · rw [e]; exact h5
theorem lw_O {own C owner : String} {idx : Nat} {x y : MethodName} {b : ByteArray} {L : Nat} {r : Option FieldType} (h1 : Cond.methodLink own idx x ∈ lw_all) (h2 : Cond.sameMethod x.cls owner x.name x.desc ∈ lw_all) (h3 : Cond.instanceMethod ⟨owner, x.name, x.desc⟩ ∈ lw_all) (h4 : Cond.selects C x y ∈ lw_all) (h5 : Cond.instanceMethod y ∈ lw_all) (h6 : Cond.initialized y.cls ∈ lw_all) (h7 : Cond.code y b L r ∈ lw_all) : GoodIn lw_all (va_wsO own idx C owner x y (ws_ y b L r)) := by
  refine lw_app ?_ (lw_meth h7)
  intro w hw
  simp only [List.mem_cons, List.not_mem_nil, or_false] at hw
  rcases hw with e | e | e | e | e | e
  · rw [e]; exact h1
  · rw [e]; exact h2
  · rw [e]; exact h3
  · rw [e]; exact h4
  · rw [e]; exact h5
  · rw [e]; exact h6
theorem lw_SU {own : String} {idx : Nat} {y : MethodName} {b : ByteArray} {L : Nat} {r : Option FieldType} (h1 : Cond.methodLink own idx y ∈ lw_all) (h2 : Cond.sameMethod y.cls y.cls y.name y.desc ∈ lw_all) (h3 : Cond.superclass own y.cls ∈ lw_all) (h4 : Cond.instanceMethod y ∈ lw_all) (h5 : Cond.initialized y.cls ∈ lw_all) (h6 : Cond.code y b L r ∈ lw_all) : GoodIn lw_all (va_wsSU own idx y (ws_ y b L r)) := by
  refine lw_app ?_ (lw_meth h6)
  intro w hw
  simp only [List.mem_cons, List.not_mem_nil, or_false] at hw
  rcases hw with e | e | e | e | e
  · rw [e]; exact h1
  · rw [e]; exact h2
  · rw [e]; exact h3
  · rw [e]; exact h4
  · rw [e]; exact h5
theorem x_callU {x0 : MethodName} {owner : String} {r ci n0 : Nat} {q : vw_C} {Φ' : Option Value → Hp → Prop} {Ψ' : Nat → Hp → Prop} {index : Nat} {y : MethodName} {b : ByteArray} {L : Nat} {ret : Option FieldType} {rm : Room} {st0 : List Value} (As : List Value) (n : Nat) (d : decode (kC K) pc = .ok (.invokevirtual index, 3)) (hM : Con ρ y (ws_ y b L ret) rm (.ref (mr ρ r) :: As) h Φ' Ψ') (hs : sh h r = (10 + ci, n0)) (hc : kCl[ci]? = some q) (hG : GoodIn lw_all (va_wsU (kO K) index q.1 owner x0 y (ws_ y b L ret))) (hyx : y = ⟨owner, x0.name, x0.desc⟩) (hd : owner ≠ "java/lang/invoke/MethodHandle" ∧ owner ≠ "java/lang/invoke/VarHandle" ∧ (parseMethodDescriptor x0.desc).map (fun d => d.parameters.length) = some n) (hlen : As.length = n) (hst0 : st0 = As.reverse ++ .ref (mr ρ r) :: st) (hroom : rm.frames + 1 ≤ (kM K).frames ∧ 8 + (L + 11) + rm.locals ≤ (kM K).locals) (hst : (st.map fun v => v.category).sum ≤ 8) (hcells : cs + rm.cells ≤ (kM K).cells ∧ ss + rm.slots ≤ (kM K).slots) (kk : ∀ v h', Φ' v h' → X ρ K (pc + 3) lv (v.toList ++ st) h' (cs + rm.cells) (ss + rm.slots) Φ Ψ) (kx : ∀ q h' ci n x, Ψ' q h' → sh h' q = (10 + ci, n) → kCl[ci]? = some x → XT ρ K pc lv q h' (cs + rm.cells) (ss + rm.slots) Φ Ψ) : X ρ K pc lv st0 h cs ss Φ Ψ := by
  subst hst0
  intro p e R s m args below meth c H locs ls a r0 hl hlv
  have hR : R = kM K := a.2.2.2.2.2.2.2.1
  have hts := amb_hts a
  exact x_of_run a hl hlv (vx_runU (As := As) (rest := st) ⟨a.1, a.2.1, a.2.2.1, amb_own a, hts⟩ hM (va_cwU n hts hG rfl rfl rfl hyx hd (by rw [hR]; exact hroom)) ⟨con_blind, xrecv a r0 hs hc, con_start a r0⟩ rfl hlen hlv.1 rfl (lv_room hst) d (by rw [hR]; exact hcells)) kk kx
theorem x_callA {x0 : MethodName} {owner : String} {r ci n0 : Nat} {q : vw_C} {Φ' : Option Value → Hp → Prop} {Ψ' : Nat → Hp → Prop} {index : Nat} {y : MethodName} {b : ByteArray} {L : Nat} {ret : Option FieldType} {rm : Room} {st0 : List Value} (As : List Value) (n : Nat) (d : decode (kC K) pc = .ok (.invokevirtual index, 3)) (hM : Con ρ y (ws_ y b L ret) rm (.ref (mr ρ r) :: As) h Φ' Ψ') (hs : sh h r = (10 + ci, n0)) (hc : kCl[ci]? = some q) (hG : GoodIn lw_all (va_wsU (kO K) index q.1 owner x0 y (ws_ y b L ret))) (hz : Cond.declares ⟨owner, x0.name, x0.desc⟩ ∈ lw_tbl) (hd : owner ≠ "java/lang/invoke/MethodHandle" ∧ owner ≠ "java/lang/invoke/VarHandle" ∧ (parseMethodDescriptor x0.desc).map (fun d => d.parameters.length) = some n) (hlen : As.length = n) (hst0 : st0 = As.reverse ++ .ref (mr ρ r) :: st) (hroom : rm.frames + 1 ≤ (kM K).frames ∧ 8 + (L + 11) + rm.locals ≤ (kM K).locals) (hst : (st.map fun v => v.category).sum ≤ 8) (hcells : cs + rm.cells ≤ (kM K).cells ∧ ss + rm.slots ≤ (kM K).slots) (kk : ∀ v h', Φ' v h' → X ρ K (pc + 3) lv (v.toList ++ st) h' (cs + rm.cells) (ss + rm.slots) Φ Ψ) (kx : ∀ q h' ci n x, Ψ' q h' → sh h' q = (10 + ci, n) → kCl[ci]? = some x → XT ρ K pc lv q h' (cs + rm.cells) (ss + rm.slots) Φ Ψ) : X ρ K pc lv st0 h cs ss Φ Ψ := by
  subst hst0
  intro p e R s m args below meth c H locs ls a r0 hl hlv
  have hR : R = kM K := a.2.2.2.2.2.2.2.1
  have hts := amb_hts a
  exact x_of_run a hl hlv (vx_runU (As := As) (rest := st) ⟨a.1, a.2.1, a.2.2.1, amb_own a, hts⟩ hM (va_cwA n hts hG rfl rfl rfl (va_Nw.warmD (amb_wh a) (amb_w a hz rfl)) hd (by rw [hR]; exact hroom)) ⟨con_blind, xrecv a r0 hs hc, con_start a r0⟩ rfl hlen hlv.1 rfl (lv_room hst) d (by rw [hR]; exact hcells)) kk kx
theorem x_callO {x0 : MethodName} {owner : String} {b0 : ByteArray} {m0 : Nat} {r0' : Option FieldType} {r ci n0 : Nat} {q : vw_C} {Φ' : Option Value → Hp → Prop} {Ψ' : Nat → Hp → Prop} {index : Nat} {y : MethodName} {b : ByteArray} {L : Nat} {ret : Option FieldType} {rm : Room} {st0 : List Value} (As : List Value) (n : Nat) (d : decode (kC K) pc = .ok (.invokevirtual index, 3)) (hM : Con ρ y (ws_ y b L ret) rm (.ref (mr ρ r) :: As) h Φ' Ψ') (hs : sh h r = (10 + ci, n0)) (hc : kCl[ci]? = some q) (hG : GoodIn lw_all (va_wsO (kO K) index q.1 owner x0 y (ws_ y b L ret))) (h0 : Cond.code ⟨owner, x0.name, x0.desc⟩ b0 m0 r0' ∈ lw_all) (hd : owner ≠ "java/lang/invoke/MethodHandle" ∧ owner ≠ "java/lang/invoke/VarHandle" ∧ (parseMethodDescriptor x0.desc).map (fun d => d.parameters.length) = some n) (hlen : As.length = n) (hst0 : st0 = As.reverse ++ .ref (mr ρ r) :: st) (hroom : rm.frames + 1 ≤ (kM K).frames ∧ 8 + (L + 11) + rm.locals ≤ (kM K).locals) (hst : (st.map fun v => v.category).sum ≤ 8) (hcells : cs + rm.cells ≤ (kM K).cells ∧ ss + rm.slots ≤ (kM K).slots) (kk : ∀ v h', Φ' v h' → X ρ K (pc + 3) lv (v.toList ++ st) h' (cs + rm.cells) (ss + rm.slots) Φ Ψ) (kx : ∀ q h' ci n x, Ψ' q h' → sh h' q = (10 + ci, n) → kCl[ci]? = some x → XT ρ K pc lv q h' (cs + rm.cells) (ss + rm.slots) Φ Ψ) : X ρ K pc lv st0 h cs ss Φ Ψ := by
  subst hst0
  intro p e R s m args below meth c H locs ls a r0 hl hlv
  have hR : R = kM K := a.2.2.2.2.2.2.2.1
  have hts := amb_hts a
  exact x_of_run a hl hlv (vx_runU (As := As) (rest := st) ⟨a.1, a.2.1, a.2.2.1, amb_own a, hts⟩ hM (va_cwO n hts hG rfl rfl rfl h0 hd (by rw [hR]; exact hroom)) ⟨con_blind, xrecv a r0 hs hc, con_start a r0⟩ rfl hlen hlv.1 rfl (lv_room hst) d (by rw [hR]; exact hcells)) kk kx
theorem x_callSU  {r ci n0 : Nat} {q : vw_C} {Φ' : Option Value → Hp → Prop} {Ψ' : Nat → Hp → Prop} {index : Nat} {y : MethodName} {b : ByteArray} {L : Nat} {ret : Option FieldType} {rm : Room} {st0 : List Value} (As : List Value) (n : Nat) (d : decode (kC K) pc = .ok (.invokespecial index, 3)) (hM : Con ρ y (ws_ y b L ret) rm (.ref (mr ρ r) :: As) h Φ' Ψ') (hs : sh h r = (10 + ci, n0)) (hc : kCl[ci]? = some q) (hG : GoodIn lw_all (va_wsSU (kO K) index y (ws_ y b L ret))) (hd : y.name ≠ "<init>" ∧ (parseMethodDescriptor y.desc).map (fun d => d.parameters.length) = some n) (hlen : As.length = n) (hst0 : st0 = As.reverse ++ .ref (mr ρ r) :: st) (hroom : rm.frames + 1 ≤ (kM K).frames ∧ 8 + (L + 11) + rm.locals ≤ (kM K).locals) (hst : (st.map fun v => v.category).sum ≤ 8) (hcells : cs + rm.cells ≤ (kM K).cells ∧ ss + rm.slots ≤ (kM K).slots) (kk : ∀ v h', Φ' v h' → X ρ K (pc + 3) lv (v.toList ++ st) h' (cs + rm.cells) (ss + rm.slots) Φ Ψ) (kx : ∀ q h' ci n x, Ψ' q h' → sh h' q = (10 + ci, n) → kCl[ci]? = some x → XT ρ K pc lv q h' (cs + rm.cells) (ss + rm.slots) Φ Ψ) : X ρ K pc lv st0 h cs ss Φ Ψ := by
  subst hst0
  intro p e R s m args below meth c H locs ls a r0 hl hlv
  have hR : R = kM K := a.2.2.2.2.2.2.2.1
  have hts := amb_hts a
  exact x_of_run a hl hlv (vx_runSU ((amb_K a).1 ci _ hc).2 (As := As) (rest := st) ⟨a.1, a.2.1, a.2.2.1, amb_own a, hts⟩ hM (va_cwSU n hts hG rfl rfl rfl hd (by rw [hR]; exact hroom)) ⟨con_blind, xrecv a r0 hs hc, con_start a r0⟩ rfl hlen hlv.1 rfl (lv_room hst) d (by rw [hR]; exact hcells)) kk kx
theorem x_callS  {Φ' : Option Value → Hp → Prop} {Ψ' : Nat → Hp → Prop} {index : Nat} {y : MethodName} {b : ByteArray} {L : Nat} {ret : Option FieldType} {rm : Room} {st0 : List Value} (As : List Value) (n : Nat) (d : decode (kC K) pc = .ok (.invokestatic index, 3)) (hM : Con ρ y (ws_ y b L ret) rm As h Φ' Ψ') (h1 : Cond.methodLink (kO K) index y ∈ lw_all) (h2 : Cond.static y ∈ lw_all) (h3 : Cond.initialized y.cls ∈ lw_all) (h4 : Cond.code y b L ret ∈ lw_all) (hd : y.cls ≠ "java/lang/invoke/MethodHandle" ∧ y.cls ≠ "java/lang/invoke/VarHandle" ∧ (parseMethodDescriptor y.desc).map (fun d => d.parameters.length) = some n) (hlen : As.length = n) (hst0 : st0 = As.reverse ++ st) (hroom : rm.frames + 1 ≤ (kM K).frames ∧ 8 + (L + 11) + rm.locals ≤ (kM K).locals) (hst : (st.map fun v => v.category).sum ≤ 8) (hcells : cs + rm.cells ≤ (kM K).cells ∧ ss + rm.slots ≤ (kM K).slots) (kk : ∀ v h', Φ' v h' → X ρ K (pc + 3) lv (v.toList ++ st) h' (cs + rm.cells) (ss + rm.slots) Φ Ψ) (kx : ∀ q h' ci n x, Ψ' q h' → sh h' q = (10 + ci, n) → kCl[ci]? = some x → XT ρ K pc lv q h' (cs + rm.cells) (ss + rm.slots) Φ Ψ) : X ρ K pc lv st0 h cs ss Φ Ψ := by
  subst hst0
  intro p e R s m args below meth c H locs ls a r0 hl hlv
  have hR : R = kM K := a.2.2.2.2.2.2.2.1
  have hts := amb_hts a
  exact x_of_run a hl hlv (vx_runS (As := As) (rest := st) ⟨a.1, a.2.1, a.2.2.1, amb_own a, hts⟩ hM (va_cwS n hts (lw_S h1 h2 h3 h4) rfl rfl rfl hd (by rw [hR]; exact hroom)) ⟨con_blind, con_start a r0⟩ rfl hlen hlv.1 rfl (lv_room hst) d (by rw [hR]; exact hcells)) kk kx
theorem x_callSN {host : String} {Φ' : Option Value → Hp → Prop} {Ψ' : Nat → Hp → Prop} {index : Nat} {y : MethodName} {b : ByteArray} {L : Nat} {ret : Option FieldType} {rm : Room} {st0 : List Value} (As : List Value) (n : Nat) (d : decode (kC K) pc = .ok (.invokestatic index, 3)) (hM : Con ρ y (ws_ y b L ret) rm As h Φ' Ψ') (h1 : Cond.methodLinkNest (kO K) index y host ∈ lw_tbl) (h2 : Cond.static y ∈ lw_all) (h3 : Cond.initialized y.cls ∈ lw_all) (h4 : Cond.code y b L ret ∈ lw_all) (hd : y.cls ≠ "java/lang/invoke/MethodHandle" ∧ y.cls ≠ "java/lang/invoke/VarHandle" ∧ (parseMethodDescriptor y.desc).map (fun d => d.parameters.length) = some n) (hlen : As.length = n) (hst0 : st0 = As.reverse ++ st) (hroom : rm.frames + 1 ≤ (kM K).frames ∧ 8 + (L + 11) + rm.locals ≤ (kM K).locals) (hst : (st.map fun v => v.category).sum ≤ 8) (hcells : cs + rm.cells ≤ (kM K).cells ∧ ss + rm.slots ≤ (kM K).slots) (kk : ∀ v h', Φ' v h' → X ρ K (pc + 3) lv (v.toList ++ st) h' (cs + rm.cells) (ss + rm.slots) Φ Ψ) (kx : ∀ q h' ci n x, Ψ' q h' → sh h' q = (10 + ci, n) → kCl[ci]? = some x → XT ρ K pc lv q h' (cs + rm.cells) (ss + rm.slots) Φ Ψ) : X ρ K pc lv st0 h cs ss Φ Ψ := by
  subst hst0
  intro p e R s m args below meth c H locs ls a r0 hl hlv
  have hR : R = kM K := a.2.2.2.2.2.2.2.1
  have hts := amb_hts a
  exact x_of_run a hl hlv (vx_runSN (As := As) (rest := st) ⟨a.1, a.2.1, a.2.2.1, amb_own a, hts⟩ hM ⟨va_cnB n hts (lw_meth h4) rfl rfl rfl (va_Nw.warmM (amb_wh a) (amb_w a h1 rfl)) (hts _ h3) hd (by rw [hR]; exact hroom), hts _ h2, trivial⟩ ⟨con_blind, con_start a r0⟩ rfl hlen hlv.1 rfl (lv_room hst) d (by rw [hR]; exact hcells)) kk kx
theorem x_callI  {r : Nat} {Φ' : Option Value → Hp → Prop} {Ψ' : Nat → Hp → Prop} {index : Nat} {y : MethodName} {b : ByteArray} {L : Nat} {rm : Room} {st0 : List Value} (As : List Value) (n : Nat) (d : decode (kC K) pc = .ok (.invokespecial index, 3)) (hM : Con ρ y (ws_ y b L none) rm (.ref (mr ρ r) :: As) h Φ' Ψ') (h1 : Cond.methodLink (kO K) index y ∈ lw_all) (h2 : Cond.instanceMethod y ∈ lw_all) (h3 : Cond.initialized y.cls ∈ lw_all) (h4 : Cond.code y b L none ∈ lw_all) (hin : y.name = "<init>") (hd : y.cls ≠ "java/lang/invoke/MethodHandle" ∧ y.cls ≠ "java/lang/invoke/VarHandle" ∧ (parseMethodDescriptor y.desc).map (fun d => d.parameters.length) = some n) (hlen : As.length = n) (hst0 : st0 = As.reverse ++ .ref (mr ρ r) :: st) (hroom : rm.frames + 1 ≤ (kM K).frames ∧ 8 + (L + 11) + rm.locals ≤ (kM K).locals) (hst : (st.map fun v => v.category).sum ≤ 8) (hcells : cs + rm.cells ≤ (kM K).cells ∧ ss + rm.slots ≤ (kM K).slots) (kk : ∀ v h', Φ' v h' → X ρ K (pc + 3) lv (v.toList ++ st) h' (cs + rm.cells) (ss + rm.slots) Φ Ψ) (kx : ∀ q h' ci n x, Ψ' q h' → sh h' q = (10 + ci, n) → kCl[ci]? = some x → XT ρ K pc lv q h' (cs + rm.cells) (ss + rm.slots) Φ Ψ) : X ρ K pc lv st0 h cs ss Φ Ψ := by
  subst hst0
  intro p e R s m args below meth c H locs ls a r0 hl hlv
  have hR : R = kM K := a.2.2.2.2.2.2.2.1
  have hts := amb_hts a
  exact x_of_run a hl hlv (vx_runI (As := As) (rest := st) ⟨a.1, a.2.1, a.2.2.1, amb_own a, hts⟩ hM (cwI n hts (lw_meth h4) rfl rfl rfl (hts _ h3) (hts _ h1) (hts _ h2) hin hd (by rw [hR]; exact hroom)) ⟨con_blind, con_start a r0⟩ rfl hlen hlv.1 rfl (lv_room hst) d (by rw [hR]; exact hcells)) kk kx
theorem x_callIN {host : String} {r : Nat} {Φ' : Option Value → Hp → Prop} {Ψ' : Nat → Hp → Prop} {index : Nat} {y : MethodName} {b : ByteArray} {L : Nat} {rm : Room} {st0 : List Value} (As : List Value) (n : Nat) (d : decode (kC K) pc = .ok (.invokespecial index, 3)) (hM : Con ρ y (ws_ y b L none) rm (.ref (mr ρ r) :: As) h Φ' Ψ') (h1 : Cond.methodLinkNest (kO K) index y host ∈ lw_tbl) (h2 : Cond.instanceMethod y ∈ lw_all) (h3 : Cond.initialized y.cls ∈ lw_all) (h4 : Cond.code y b L none ∈ lw_all) (hin : y.name = "<init>") (hd : y.cls ≠ "java/lang/invoke/MethodHandle" ∧ y.cls ≠ "java/lang/invoke/VarHandle" ∧ (parseMethodDescriptor y.desc).map (fun d => d.parameters.length) = some n) (hlen : As.length = n) (hst0 : st0 = As.reverse ++ .ref (mr ρ r) :: st) (hroom : rm.frames + 1 ≤ (kM K).frames ∧ 8 + (L + 11) + rm.locals ≤ (kM K).locals) (hst : (st.map fun v => v.category).sum ≤ 8) (hcells : cs + rm.cells ≤ (kM K).cells ∧ ss + rm.slots ≤ (kM K).slots) (kk : ∀ v h', Φ' v h' → X ρ K (pc + 3) lv (v.toList ++ st) h' (cs + rm.cells) (ss + rm.slots) Φ Ψ) (kx : ∀ q h' ci n x, Ψ' q h' → sh h' q = (10 + ci, n) → kCl[ci]? = some x → XT ρ K pc lv q h' (cs + rm.cells) (ss + rm.slots) Φ Ψ) : X ρ K pc lv st0 h cs ss Φ Ψ := by
  subst hst0
  intro p e R s m args below meth c H locs ls a r0 hl hlv
  have hR : R = kM K := a.2.2.2.2.2.2.2.1
  have hts := amb_hts a
  exact x_of_run a hl hlv (vx_runIN (As := As) (rest := st) ⟨a.1, a.2.1, a.2.2.1, amb_own a, hts⟩ hM ⟨va_cnB n hts (lw_meth h4) rfl rfl rfl (va_Nw.warmM (amb_wh a) (amb_w a h1 rfl)) (hts _ h3) hd (by rw [hR]; exact hroom), hin, hts _ h2⟩ ⟨con_blind, con_start a r0⟩ rfl hlen hlv.1 rfl (lv_room hst) d (by rw [hR]; exact hcells)) kk kx
end XL
