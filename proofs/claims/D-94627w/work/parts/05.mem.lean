set_option maxRecDepth 100000
/-! THE MEMORY: what the heap holds, as plain functions. zI ints, zL longs, zP references (address, place), zK kind (0: not known; 1..10: an array; 20 + c: an object of class c), zN length, zZ how many cells -/
abbrev zM : Type := (Nat → Nat → Int32) × (Nat → Nat → Int64) × (Nat → Nat → Option Nat) × (Nat → Nat) × (Nat → Nat) × Nat
def zI (M : zM) (a k : Nat) : Int32 := M.1 a k
def zL (M : zM) (a k : Nat) : Int64 := M.2.1 a k
def zP (M : zM) (a k : Nat) : Option Nat := M.2.2.1 a k
def zK (M : zM) (a : Nat) : Nat := M.2.2.2.1 a
def zN (M : zM) (a : Nat) : Nat := M.2.2.2.2.1 a
def zZ (M : zM) : Nat := M.2.2.2.2.2
def zup {α : Type} (f : Nat → Nat → α) (a k : Nat) (v : α) : Nat → Nat → α := fun b j => if b = a then (if j = k then v else f b j) else f b j
def zsI (M : zM) (a k : Nat) (v : Int32) : zM := (zup M.1 a k v, M.2)
def zsL (M : zM) (a k : Nat) (v : Int64) : zM := (M.1, zup M.2.1 a k v, M.2.2)
def zsP (M : zM) (a k : Nat) (v : Option Nat) : zM := (M.1, M.2.1, zup M.2.2.1 a k v, M.2.2.2)
/-- a new cell: all zero -/
def zal (M : zM) (kd n : Nat) : zM := (fun b j => if b = zZ M then 0 else M.1 b j, fun b j => if b = zZ M then 0 else M.2.1 b j, fun b j => if b = zZ M then none else M.2.2.1 b j, fun b => if b = zZ M then kd else M.2.2.2.1 b, fun b => if b = zZ M then n else M.2.2.2.2.1 b, zZ M + 1)
/-- what the arrays of a kind hold -/
def zaty (k : Nat) : FieldType := match k with
  | 1 => .int
  | 2 => .long
  | 3 => .byte
  | 4 => .boolean
  | 5 => .object "java/lang/Object"
  | 6 => .array .int
  | 7 => .object "TouchShelf$State"
  | 8 => .object "java/lang/Integer"
  | 9 => .object "TouchShelf$Doing"
  | _ => .object "java/lang/String"
def zv (ty : FieldType) (M : zM) (a k : Nat) : Value := match ty with
  | .long => .long (zL M a k)
  | .object _ => va_rf (zP M a k)
  | .array _ => va_rf (zP M a k)
  | _ => .int (zI M a k)
/-- the classes, by number -/
def zcl : List vw_C := [(RX0, TX0, 4), (RX1, TX1, 7), (RX2, TX2, 3), (RX3, TX3, 62), (RX5, TX5, 9), (RX7, TX7, 9), (RX11, TX11, 9), (RX6, TX6, 4), (RX8, TX8, 8), (RX9, TX9, 4), (RX10, TX10, 2), (RX12, TX12, 3), (RX13, TX13, 5), (RX14, TX14, 9), (RX15, TX15, 1), (RJ2, TJ2, 3), (RJ5, TJ5, 4), (RJ6, TJ6, 4), (RJ17, TJ17, 1)]
def zty (c : Nat) : Nat → FieldType := match c with
  | 0 => tyX0
  | 1 => tyX1
  | 2 => tyX2
  | 3 => tyX3
  | 4 => tyX5
  | 5 => tyX7
  | 6 => tyX11
  | 7 => tyX6
  | 8 => tyX8
  | 9 => tyX9
  | 10 => tyX10
  | 11 => tyX12
  | 12 => tyX13
  | 13 => tyX14
  | 14 => tyX15
  | 15 => tyJ2
  | 16 => tyJ5
  | 17 => tyJ6
  | _ => tyJ17
/-- which fields are known of objects that were there before the law began (of Strings: value, coder) -/
def zkf (c k : Nat) : Bool := !(c == 17) || decide (k < 2)
/-! WHAT IS FIXED ALL THROUGH A RUN: the launch, the classes' numbers, slots, the arrays' classes, the law's start and its arguments, what is known of the old cells, some old addresses -/
abbrev zE : Type := Launch × (Nat → ClassId) × (Nat → Nat → Nat) × (Nat → ClassId) × State × Array Value × zM × (Nat → Nat)
def eL (E : zE) : Launch := E.1
def eC (E : zE) : Nat → ClassId := E.2.1
def eI (E : zE) : Nat → Nat → Nat := E.2.2.1
def eA (E : zE) : Nat → ClassId := E.2.2.2.1
def eS (E : zE) : State := E.2.2.2.2.1
def eV (E : zE) : Array Value := E.2.2.2.2.2.1
def eM (E : zE) : zM := E.2.2.2.2.2.2.1
def eD (E : zE) : Nat → Nat := E.2.2.2.2.2.2.2
def eb (E : zE) : Nat := (eS E).heap.size
/-- an old cell is as eM says -/
def zX (E : zE) (a : Nat) : Prop :=
  (∀ k, 1 ≤ k → k < 20 → zK (eM E) a = k → va_T (zaty k) a (zN (eM E) a) (fun j => zv (zaty k) (eM E) a j) (fun q => eb E ≤ q) (eS E) (eS E).heap) ∧
  (∀ c, zK (eM E) a = 20 + c → ∃ q : vw_C, zcl[c]? = some q ∧ ∃ cell : Cell, (eS E).heap[a]? = some cell ∧ cell.cls = eC E c ∧ cell.vm.isStatics = false ∧ cell.vm ≠ .unknown ∧ ∀ k, k < q.2.2 → zkf c k = true → cell.slots[eI E c k]? = some (zv (zty c k) (eM E) a k))
def EF (E : zE) : Prop :=
  (∀ (c : Nat) (q : vw_C), zcl[c]? = some q → u_Kn (eS E) q.1 q.2.1 q.2.2 (eC E c) (eI E c)) ∧
  (∀ k, 1 ≤ k → k < 8 → ArrOfT (eS E) (eA E k) (zaty k) ∧ va_RA (eS E) (eA E k) (zaty k)) ∧
  (∀ w ∈ lw_tbl, w.before (eV E) (eS E) = true) ∧
  (∀ a, a < eb E → zX E a) ∧
  (Jvm.Cond.and given_1 narrow_1).before (eV E) (eS E) = true
def KN (E : zE) (S : State) : Prop := (eS E).WarmedH S.vm
/-- a new cell is as M says -/
def zO (E : zE) (M : zM) (H : Heap) (a : Nat) : Prop :=
  (∀ k, 1 ≤ k → k < 20 → zK M a = k → k < 8 ∧ H[a]? = some (arrV (eA E k) (zN M a) (fun j => zv (zaty k) M a j))) ∧
  (∀ c, zK M a = 20 + c → ∃ q : vw_C, zcl[c]? = some q ∧ t_OB a (eC E c) q.2.2 (eI E c) H (fun j => zv (zty c j) M a j))
def zsame (M M' : zM) (a : Nat) : Prop := zK M a = zK M' a ∧ zN M a = zN M' a ∧ zI M a = zI M' a ∧ zL M a = zL M' a ∧ zP M a = zP M' a
/-- the heap is as M says -/
def HP (E : zE) (M : zM) (H : Heap) : Prop :=
  H.size = zZ M ∧ eb E ≤ zZ M ∧ (∀ q : Nat, q < eb E → H[q]? = (eS E).heap[q]?) ∧ (∀ a, a < eb E → zsame M (eM E) a) ∧ (∀ a, eb E ≤ a → zO E M H a)
theorem kn_cl {E : zE} {S : State} (hE : EF E) (hW : KN E S) {c : Nat} {q : vw_C} (hc : zcl[c]? = some q) : u_Kn S q.1 q.2.1 q.2.2 (eC E c) (eI E c) := u_Kn_moved (State.WarmedH.alike hW) (hE.1 c q hc)
theorem kn_ar {E : zE} {S : State} (hE : EF E) (hW : KN E S) {k : Nat} (h1 : 1 ≤ k) (h2 : k < 8) : ArrOfT S (eA E k) (zaty k) ∧ va_RA S (eA E k) (zaty k) := ⟨arrOfT_moved (State.WarmedH.alike hW) (hE.2.1 k h1 h2).1, (hE.2.1 k h1 h2).2.moved (State.WarmedH.alike hW)⟩
theorem zv_same {M M' : zM} {a : Nat} (h : zsame M M' a) (ty : FieldType) (k : Nat) : zv ty M a k = zv ty M' a k := by
  obtain ⟨-, -, h1, h2, h3⟩ := h
  unfold zv
  split <;> simp only [h1, h2, h3]
/-- an array's cell, old or new -/
theorem hp_arr {E : zE} {S : State} {M : zM} {H : Heap} (hE : EF E) (hW : KN E S) (hP : HP E M H) {a k : Nat} (h1 : 1 ≤ k) (h2 : k < 20) (hk : zK M a = k) :
    ∃ cell : Cell, H[a]? = some cell ∧ S.isArrayOf cell (zaty k) ∧ cell.vm ≠ .unknown ∧ zN M a ≤ cell.slots.size ∧ cell.slots.size.toInt32 = Int32.ofNat (zN M a) ∧ (∀ j : Nat, j < zN M a → cell.slots[j]? = some (zv (zaty k) M a j)) := by
  by_cases hb : a < eb E
  · have hs := hP.2.2.2.1 a hb
    obtain ⟨cell, e1, e2, e3, e4, e5, e6, -⟩ := (hE.2.2.2.1 a hb).1 k h1 h2 (by rw [← hs.1]; exact hk)
    refine ⟨cell, by rw [hP.2.2.1 a hb]; exact e1, State.isArrayOf_alike (State.WarmedH.alike hW) e2, e3, by rw [hs.2.1]; exact e4, by rw [hs.2.1]; exact e5, fun j hj => ?_⟩
    rw [zv_same hs]
    exact e6 j (by rw [← hs.2.1]; exact hj)
  · obtain ⟨h3, h4⟩ := (hP.2.2.2.2 a (Nat.le_of_not_lt hb)).1 k h1 h2 hk
    refine ⟨_, h4, (kn_ar hE hW h1 h3).1 _ _, (fun q => by cases q), (by rw [arrV_size]; exact Nat.le_refl _), (by rw [arrV_size]), fun j hj => arrV_read _ _ hj⟩
/-- an object's cell, old or new -/
theorem hp_obj {E : zE} {M : zM} {H : Heap} (hE : EF E) (hP : HP E M H) {a c : Nat} (hk : zK M a = 20 + c) :
    ∃ q : vw_C, zcl[c]? = some q ∧ ∃ cell : Cell, H[a]? = some cell ∧ cell.cls = eC E c ∧ cell.vm.isStatics = false ∧ cell.vm ≠ .unknown ∧ (eb E ≤ a → cell.vm = .none) ∧ ∀ k, k < q.2.2 → (zkf c k = true ∨ eb E ≤ a) → cell.slots[eI E c k]? = some (zv (zty c k) M a k) := by
  by_cases hb : a < eb E
  · have hs := hP.2.2.2.1 a hb
    obtain ⟨q, hq, cell, e1, e2, e3, e4, e5⟩ := (hE.2.2.2.1 a hb).2 c (by rw [← hs.1]; exact hk)
    refine ⟨q, hq, cell, by rw [hP.2.2.1 a hb]; exact e1, e2, e3, e4, fun h => absurd h (Nat.not_le.mpr hb), fun k h1 h2 => ?_⟩
    rw [zv_same hs]
    rcases h2 with h2 | h2
    · exact e5 k h1 h2
    · exact absurd h2 (Nat.not_le.mpr hb)
  · obtain ⟨q, hq, cell, e1, e2, e3, e4⟩ := (hP.2.2.2.2 a (Nat.le_of_not_lt hb)).2 c hk
    exact ⟨q, hq, cell, e1, e2, (by rw [e3]; rfl), (by rw [e3]; exact (fun h => by cases h)), fun _ => e3, fun k h1 _ => e4 k h1⟩
theorem hp_recv {E : zE} {S : State} {M : zM} {H : Heap} (hE : EF E) (hW : KN E S) (hP : HP E M H) {a c : Nat} (hk : zK M a = 20 + c) {C : String} {T : u_T} {N : Nat} (hc : zcl[c]? = some (C, T, N)) : ∃ cell : Cell, H[a]? = some cell ∧ cell.vm.isStatics = false ∧ S.vm.findClass C = some cell.cls := by
  obtain ⟨q, hq, cell, e1, e2, e3, -⟩ := hp_obj hE hP hk
  refine ⟨cell, e1, e3, ?_⟩
  have := (kn_cl hE hW hc).2.1
  rw [e2]
  exact this
/-! locals by their places -/
def lc1 (x : Option Value) : Bool := match x with
  | some v => v.category == 1
  | none => true
def lvh (ls : Array Slot) (nL : Nat) (lv : List (Option Value)) : Prop := ls.size = nL ∧ lv_wf ls ∧ lv.length ≤ nL ∧ ∀ (i : Nat) (v : Value), lv[i]? = some (some v) → ls[i]? = some (.val v)
def lvl : Nat → List (Option Value) → List (Nat × Value)
  | _, [] => []
  | n, none :: r => lvl (n + 1) r
  | n, some v :: r => (n, v) :: lvl (n + 1) r
theorem lvl_mem : ∀ (lv : List (Option Value)) (n : Nat) (q : Nat × Value), q ∈ lvl n lv ↔ ∃ i : Nat, q.1 = n + i ∧ lv[i]? = some (some q.2)
  | [], n, q => by simp [lvl]
  | none :: r, n, q => by
    rw [lvl, lvl_mem r (n + 1) q]
    constructor
    · rintro ⟨i, h1, h2⟩
      exact ⟨i + 1, by omega, by simpa using h2⟩
    · rintro ⟨i, h1, h2⟩
      cases i with
      | zero => simp at h2
      | succ i => exact ⟨i, by omega, by simpa using h2⟩
  | some v :: r, n, q => by
    rw [lvl, List.mem_cons, lvl_mem r (n + 1) q]
    constructor
    · rintro (rfl | ⟨i, h1, h2⟩)
      · exact ⟨0, rfl, rfl⟩
      · exact ⟨i + 1, by omega, by simpa using h2⟩
    · rintro ⟨i, h1, h2⟩
      cases i with
      | zero =>
        left
        obtain ⟨a, b⟩ := q
        simp at h1 h2
        rw [h1, h2]
      | succ i => exact Or.inr ⟨i, by omega, by simpa using h2⟩
theorem lvh_has {ls : Array Slot} {nL : Nat} {lv : List (Option Value)} (h : lvh ls nL lv) : lv_has ls nL (lvl 0 lv) := by
  refine ⟨h.1, h.2.1, fun q hq => ?_⟩
  obtain ⟨i, h1, h2⟩ := (lvl_mem lv 0 q).mp hq
  rw [h1, Nat.zero_add]
  exact h.2.2.2 i q.2 h2
theorem lvh_st1 {ls : Array Slot} {nL : Nat} {lv : List (Option Value)} {i : Nat} {v : Value} (hl : lv.length ≤ nL) (hi : i < lv.length) (hp : i = 0 ∨ ∀ x, lv[i - 1]? = some x → lc1 x = true)
    (h : lv_has ls nL ((i, v) :: (lvl 0 lv).filter (fun q => !(q.1 == i) && !(q.1 + 1 == i && q.2.category == 2)))) : lvh ls nL (lv.set i (some v)) := by
  refine ⟨h.1, h.2.1, by rw [List.length_set]; exact hl, fun j w hj => ?_⟩
  by_cases hji : j = i
  · subst hji
    rw [List.getElem?_set_self hi] at hj
    cases hj
    exact h.2.2 (j, v) List.mem_cons_self
  · rw [List.getElem?_set_ne (Ne.symm hji)] at hj
    refine h.2.2 (j, w) (List.mem_cons_of_mem _ (List.mem_filter.mpr ⟨(lvl_mem lv 0 (j, w)).mpr ⟨j, (Nat.zero_add j).symm, hj⟩, ?_⟩))
    have hc : ¬ (j + 1 = i ∧ w.category = 2) := by
      rintro ⟨e1, e2⟩
      rcases hp with hp | hp
      · omega
      · have := hp (some w) (by rw [← e1]; exact hj)
        simp [lc1, e2] at this
    simp only [Bool.and_eq_true, Bool.not_eq_true', beq_eq_false_iff_ne, Bool.and_eq_false_iff]
    refine ⟨hji, ?_⟩
    by_cases e1 : j + 1 = i
    · exact Or.inr (fun e2 => hc ⟨e1, e2⟩)
    · exact Or.inl e1
theorem lvh_st2 {ls : Array Slot} {nL : Nat} {lv : List (Option Value)} {i : Nat} {v : Value} (hl : lv.length ≤ nL) (hi : i < lv.length) (hp : i = 0 ∨ ∀ x, lv[i - 1]? = some x → lc1 x = true)
    (h : lv_has ls nL ((i, v) :: (lvl 0 lv).filter (fun q => !(q.1 == i) && (!(q.1 == i + 1) && !(q.1 + 1 == i && q.2.category == 2))))) : lvh ls nL ((lv.set i (some v)).set (i + 1) none) := by
  refine ⟨h.1, h.2.1, by rw [List.length_set, List.length_set]; exact hl, fun j w hj => ?_⟩
  by_cases hji1 : j = i + 1
  · subst hji1
    by_cases hlt : i + 1 < (lv.set i (some v)).length
    · rw [List.getElem?_set_self hlt] at hj
      cases hj
    · rw [List.getElem?_eq_none (by rw [List.length_set]; omega)] at hj
      cases hj
  rw [List.getElem?_set_ne (Ne.symm hji1)] at hj
  by_cases hji : j = i
  · subst hji
    rw [List.getElem?_set_self hi] at hj
    cases hj
    exact h.2.2 (j, v) List.mem_cons_self
  · rw [List.getElem?_set_ne (Ne.symm hji)] at hj
    refine h.2.2 (j, w) (List.mem_cons_of_mem _ (List.mem_filter.mpr ⟨(lvl_mem lv 0 (j, w)).mpr ⟨j, (Nat.zero_add j).symm, hj⟩, ?_⟩))
    have hc : ¬ (j + 1 = i ∧ w.category = 2) := by
      rintro ⟨e1, e2⟩
      rcases hp with hp | hp
      · omega
      · have := hp (some w) (by rw [← e1]; exact hj)
        simp [lc1, e2] at this
    simp only [Bool.and_eq_true, Bool.not_eq_true', beq_eq_false_iff_ne, Bool.and_eq_false_iff]
    refine ⟨hji, hji1, ?_⟩
    by_cases e1 : j + 1 = i
    · exact Or.inr (fun e2 => hc ⟨e1, e2⟩)
    · exact Or.inl e1
/-! THE JUDGEMENT: from pc, with these locals, this stack, this memory (c cells of s slots made so far) the method comes to its end -/
abbrev zF : Type := MethodName × Nat × Option FieldType × Room × (List Frame → Array Value → State → State → Prop)
def Fx (E : zE) (cc : ByteArray) (F : zF) (p : Program) (S : State) (m : MethodId) (args : Array Value) (meth : Method) (cd : Code) : Prop :=
  EF E ∧ KN E S ∧ p.tables.exec = Jvm.exec ∧ cd.code = cc ∧ meth.sig.returnType = F.2.2.1 ∧ meth.locks = false ∧ cd.maxLocals = F.2.1 ∧ S.vm.findClass F.1.cls = some m.cls ∧ (∀ w ∈ lw_all, w.before args S = true) ∧ meth.name = F.1.name
def Go (E : zE) (cc : ByteArray) (F : zF) (pc : Nat) (lv : List (Option Value)) (st : List Value) (M : zM) (c s : Nat) : Prop :=
  ∀ (p : Program) (e : Env) (S : State) (m : MethodId) (args : Array Value) (below : List Frame) (meth : Method) (cd : Code) (H : Heap) (locs : List Loc) (ls : Array Slot),
    Fx E cc F p S m args meth cd → HP E M H → (∀ q ∈ locs, eb E ≤ q.base) → lvh ls F.2.1 lv →
    W p (eL E) e F.2.2.2.1 S m args below meth cd H locs c s (F.2.2.2.2 below args S) (F0 m pc ls st)
def QP (E : zE) (Post : Option Value → zM → Prop) : Array Value → State → Outcome → State → Prop := fun _ _ o t => ∃ (v : Option Value) (M : zM), o = .returned v ∧ Post v M ∧ HP E M t.heap
def qR (E : zE) (mc ms : Nat) (Post : Option Value → zM → Prop) : List Frame → Array Value → State → State → Prop := fun below args S => MQ below (QP E Post) args S mc ms (fun q => eb E ≤ q)
def rmm (d mc ms : Nat) : Room := { frames := d, cells := mc, slots := ms, locals := 64 * d }
/-- A CONTRACT: from these arguments and this memory the method returns, and Post holds of its answer and the memory -/
def Con (E : zE) (y : MethodName) (cc : ByteArray) (nL : Nat) (ret : Option FieldType) (d mc ms : Nat) (as : List Value) (M : zM) (Post : Option Value → zM → Prop) : Prop :=
  Met (eL E) y (ws_ y cc nL ret) (rmm d mc ms) (va_Pc as (fun U => EF E ∧ KN E U ∧ HP E M U.heap)) (QP E Post) mc ms (fun q => eb E ≤ q)
abbrev GoR (E : zE) (y : MethodName) (cc : ByteArray) (nL : Nat) (ret : Option FieldType) (d mc ms : Nat) (Post : Option Value → zM → Prop) : Nat → List (Option Value) → List Value → zM → Nat → Nat → Prop := Go E cc (y, nL, ret, rmm d mc ms, qR E mc ms Post)
def pI (post : Int32 → zM → Prop) : Option Value → zM → Prop := fun v M => ∃ r : Int32, v = some (.int r) ∧ post r M
def pL (post : Int64 → zM → Prop) : Option Value → zM → Prop := fun v M => ∃ r : Int64, v = some (.long r) ∧ post r M
def pV (post : zM → Prop) : Option Value → zM → Prop := fun v M => v = none ∧ post M
def pR (post : Nat → zM → Prop) : Option Value → zM → Prop := fun v M => ∃ r : Nat, v = some (.ref r) ∧ post r M
def pQ (post : Option Nat → zM → Prop) : Option Value → zM → Prop := fun v M => ∃ r : Option Nat, v = some (va_rf r) ∧ post r M
/-- the locals at a method's entry -/
def lva : List Value → List (Option Value)
  | [] => []
  | .long x :: r => some (.long x) :: none :: lva r
  | v :: r => some v :: lva r
/-! how the memory's words move -/
theorem zsame.rf {M : zM} {a : Nat} : zsame M M a := ⟨rfl, rfl, rfl, rfl, rfl⟩
theorem zsame.tr {M M' M2 : zM} {a : Nat} (h : zsame M M' a) (g : zsame M' M2 a) : zsame M M2 a := ⟨h.1.trans g.1, h.2.1.trans g.2.1, h.2.2.1.trans g.2.2.1, h.2.2.2.1.trans g.2.2.2.1, h.2.2.2.2.trans g.2.2.2.2⟩
theorem zO_same {E : zE} {M M' : zM} {H H' : Heap} {b : Nat} (h : zO E M H b) (hs : zsame M' M b) (hq : H'[b]? = H[b]?) : zO E M' H' b := by
  refine ⟨fun k h1 h2 hk => ?_, fun c hk => ?_⟩
  · obtain ⟨g1, g2⟩ := h.1 k h1 h2 (by rw [← hs.1]; exact hk)
    refine ⟨g1, ?_⟩
    rw [hq, g2, hs.2.1]
    congr 2
    funext j
    exact (zv_same hs _ _).symm
  · obtain ⟨q, g1, g2⟩ := h.2 c (by rw [← hs.1]; exact hk)
    exact ⟨q, g1, (g2.kept hq).to (fun j _ => (zv_same hs _ _).symm)⟩
theorem hp_upd {E : zE} {M M' : zM} {H H' : Heap} {a : Nat} (hP : HP E M H) (ha : eb E ≤ a) (hz : zZ M' = zZ M) (hs : ∀ b, b ≠ a → zsame M' M b) (z : H'.size = H.size) (oq : ∀ q, q ≠ a → H'[q]? = H[q]?) (hO : zO E M' H' a) : HP E M' H' := by
  refine ⟨by rw [z, hz]; exact hP.1, by rw [hz]; exact hP.2.1, fun q hq => ?_, fun b hb => ?_, fun b hb => ?_⟩
  · rw [oq q (fun e => by omega)]
    exact hP.2.2.1 q hq
  · exact (hs b (fun e => by omega)).tr (hP.2.2.2.1 b hb)
  · by_cases e : b = a
    · subst e; exact hO
    · exact zO_same (hP.2.2.2.2 b hb) (hs b e) (oq b e)
theorem zal_same {M : zM} {kd n b : Nat} (h : b ≠ zZ M) : zsame (zal M kd n) M b := by
  refine ⟨?_, ?_, ?_, ?_, ?_⟩
  · simp [zal, zK, h]
  · simp [zal, zN, h]
  · funext j; simp [zal, zI, h]
  · funext j; simp [zal, zL, h]
  · funext j; simp [zal, zP, h]
theorem hp_new {E : zE} {M : zM} {H H' : Heap} {kd n : Nat} (hP : HP E M H) (z : H'.size = H.size + 1) (oq : ∀ q, q < H.size → H'[q]? = H[q]?) (hO : zO E (zal M kd n) H' (zZ M)) : HP E (zal M kd n) H' := by
  have hz : zZ (zal M kd n) = zZ M + 1 := rfl
  refine ⟨by rw [z, hz, hP.1], by rw [hz]; exact Nat.le_succ_of_le hP.2.1, fun q hq => ?_, fun b hb => ?_, fun b hb => ?_⟩
  · rw [oq q (by rw [hP.1]; exact Nat.lt_of_lt_of_le hq hP.2.1)]
    exact hP.2.2.1 q hq
  · exact (zal_same (Nat.ne_of_lt (Nat.lt_of_lt_of_le hb hP.2.1))).tr (hP.2.2.2.1 b hb)
  · by_cases e : b = zZ M
    · subst e; exact hO
    · by_cases hlt : b < H.size
      · exact zO_same (hP.2.2.2.2 b hb) (zal_same e) (oq b hlt)
      · have hge : H'.size ≤ b := by rw [z]; rw [hP.1] at hlt ⊢; omega
        have hno : H[b]? = none := Array.getElem?_eq_none (by omega)
        have hno' : H'[b]? = none := Array.getElem?_eq_none hge
        exact zO_same (hP.2.2.2.2 b hb) (zal_same e) (by rw [hno, hno'])
theorem zsI_same {M : zM} {a k b : Nat} {v : Int32} (h : b ≠ a) : zsame (zsI M a k v) M b := ⟨rfl, rfl, by funext j; simp [zsI, zI, zup, h], rfl, rfl⟩
theorem zsL_same {M : zM} {a k b : Nat} {v : Int64} (h : b ≠ a) : zsame (zsL M a k v) M b := ⟨rfl, rfl, rfl, by funext j; simp [zsL, zL, zup, h], rfl⟩
theorem zsP_same {M : zM} {a k b : Nat} {v : Option Nat} (h : b ≠ a) : zsame (zsP M a k v) M b := ⟨rfl, rfl, rfl, rfl, by funext j; simp [zsP, zP, zup, h]⟩
/-- a class's own rows -/
def CS (c : Nat) (C : String) (T : u_T) (N : Nat) : Prop := zcl[c]? = some (C, T, N) ∧ (∀ w ∈ u_ws C T N, w ∈ lw_all) ∧ (∀ j, j < N → parseFieldDescriptor (T j).2.2.1 = some (zty c j)) ∧ (∀ a, a < N → ∀ b, b < N → a ≠ b → (T a).2.1 ≠ (T b).2.1)
/-- a field's place in the pool of a class -/
def FS (own : String) (ix c k : Nat) (fin : Bool) : Prop := ∃ (C : String) (T : u_T) (N : Nat) (ref : String), CS c C T N ∧ k < N ∧ Cond.fieldLink own ix ref (T k).2.1 (T k).2.2.1 ∈ lw_all ∧ (ref = (T k).1 ∨ Cond.sameField ref (T k).1 (T k).2.1 (T k).2.2.1 ∈ lw_all) ∧ (T k).2.2.2 = fin ∧ (fin = true → (T k).1 = own)
/-- likewise, of a nest mate's private field -/
def FN (own : String) (ix c k : Nat) (fin : Bool) : Prop := ∃ (C : String) (T : u_T) (N : Nat) (host : String), CS c C T N ∧ k < N ∧ Cond.fieldLinkNest own ix (T k).1 (T k).2.1 (T k).2.2.1 host ∈ lw_tbl ∧ (T k).2.2.2 = fin
theorem cs_0 : CS 0 RX0 TX0 4 := ⟨rfl, in_X0, tyX0_ok, nmX0⟩
theorem cs_1 : CS 1 RX1 TX1 7 := ⟨rfl, in_X1, tyX1_ok, nmX1⟩
theorem cs_2 : CS 2 RX2 TX2 3 := ⟨rfl, in_X2, tyX2_ok, nmX2⟩
theorem cs_3 : CS 3 RX3 TX3 62 := ⟨rfl, in_X3, tyX3_ok, nmX3⟩
theorem cs_4 : CS 4 RX5 TX5 9 := ⟨rfl, in_X5, tyX5_ok, nmX5⟩
theorem cs_5 : CS 5 RX7 TX7 9 := ⟨rfl, in_X7, tyX7_ok, nmX7⟩
theorem cs_6 : CS 6 RX11 TX11 9 := ⟨rfl, in_X11, tyX11_ok, nmX11⟩
theorem cs_7 : CS 7 RX6 TX6 4 := ⟨rfl, in_X6, tyX6_ok, nmX6⟩
theorem cs_8 : CS 8 RX8 TX8 8 := ⟨rfl, in_X8, tyX8_ok, nmX8⟩
theorem cs_9 : CS 9 RX9 TX9 4 := ⟨rfl, in_X9, tyX9_ok, nmX9⟩
theorem cs_10 : CS 10 RX10 TX10 2 := ⟨rfl, in_X10, tyX10_ok, nmX10⟩
theorem cs_11 : CS 11 RX12 TX12 3 := ⟨rfl, in_X12, tyX12_ok, nmX12⟩
theorem cs_12 : CS 12 RX13 TX13 5 := ⟨rfl, in_X13, tyX13_ok, nmX13⟩
theorem cs_13 : CS 13 RX14 TX14 9 := ⟨rfl, in_X14, tyX14_ok, nmX14⟩
theorem cs_14 : CS 14 RX15 TX15 1 := ⟨rfl, in_X15, tyX15_ok, nmX15⟩
theorem cs_15 : CS 15 RJ2 TJ2 3 := ⟨rfl, in_J2, tyJ2_ok, nmJ2⟩
theorem cs_16 : CS 16 RJ5 TJ5 4 := ⟨rfl, in_J5, tyJ5_ok, nmJ5⟩
theorem cs_17 : CS 17 RJ6 TJ6 4 := ⟨rfl, in_J6, tyJ6_ok, nmJ6⟩
theorem cs_18 : CS 18 RJ17 TJ17 1 := ⟨rfl, in_J17, tyJ17_ok, nmJ17⟩
