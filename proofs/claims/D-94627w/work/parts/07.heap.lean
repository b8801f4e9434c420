set_option maxRecDepth 100000
section Heap
variable {E : zE} {cc : ByteArray} {F : zF} {pc q : Nat} {lv : List (Option Value)} {r : List Value} {M : zM} {c s : Nat}
/-- another look at the frame -/
theorem Go.weak {lv' : List (Option Value)} (h : lv'.length = lv.length ∧ ∀ (i : Nat) (v : Value), lv'[i]? = some (some v) → lv[i]? = some (some v)) (kk : Go E cc F pc lv' r M c s) : Go E cc F pc lv r M c s := by
  intro p e S m args below meth cd H locs ls fx hp hl hv
  exact kk p e S m args below meth cd H locs ls fx hp hl ⟨hv.1, hv.2.1, by rw [h.1]; exact hv.2.2.1, fun i v hi => hv.2.2.2 i v (h.2 i v hi)⟩
theorem Go.wide {c' s' : Nat} (h1 : c ≤ c') (h2 : s ≤ s') (kk : Go E cc F pc lv r M c' s') : Go E cc F pc lv r M c s := by
  intro p e S m args below meth cd H locs ls fx hp hl hv
  exact W.widen h1 h2 (kk p e S m args below meth cd H locs ls fx hp hl hv)
theorem g_top {x y : Int32} (h : x = y) (kk : Go E cc F pc lv (.int y :: r) M c s) : Go E cc F pc lv (.int x :: r) M c s := by
  subst h; exact kk
theorem g_topL {x y : Int64} (h : x = y) (kk : Go E cc F pc lv (.long y :: r) M c s) : Go E cc F pc lv (.long x :: r) M c s := by
  subst h; exact kk
theorem g_mem {M' : zM} (h : M = M') (kk : Go E cc F pc lv r M' c s) : Go E cc F pc lv r M c s := by
  subst h; exact kk
/-- a method's entry -/
theorem Go.enter {y : MethodName} {nL : Nat} {ret : Option FieldType} {d mc ms : Nat} {as : List Value} {Post : Option Value → zM → Prop} (lv : List (Option Value)) (hy : plainName y.cls = true) (hn : (lg_sl as).length ≤ nL) (hlv : lvl 0 lv = lv_args 0 as) (hlen : lv.length ≤ nL)
    (kk : Go E cc (y, nL, ret, rmm d mc ms, qR E mc ms Post) 0 lv [] M 0 0) : Con E y cc nL ret d mc ms as M Post := by
  refine Met.ofW (cc := cc) (maxL := nL) (ret := ret) hy rfl ?_
  intro p e S m args below meth cd s₁ B hml hv
  obtain ⟨rfl, hE, hW, hP⟩ := hv
  have hts := atoms_spec (ws := ws_ y cc nL ret) B.pre
  have hts : ∀ w ∈ lw_all, w.before _ S = true := fun w h => hts w (List.mem_cons_of_mem _ h)
  have hl := lv_entry as (n := nL) hn
  rw [lg_entry_eq]
  refine kk p e S m _ below meth cd S.heap [] _ ⟨hE, hW, B.exec, B.bytes, B.returns, B.notSynchronized, hml, findClass_of_methodNamed B.named, hts, (name_of_methodNamed B.named B.method).1⟩ hP (fun _ h => by cases h) ⟨hl.1, hl.2.1, hlen, fun i v hi => ?_⟩
  refine hl.2.2 (i, v) ?_
  rw [← hlv]
  exact (lvl_mem lv 0 (i, v)).mpr ⟨i, (Nat.zero_add i).symm, hi⟩
/-- the ends -/
theorem g_iret {y : MethodName} {nL : Nat} {R : Room} {mc ms : Nat} {Post : Option Value → zM → Prop} {v : Int32} (hd : decode cc pc = .ok (.ireturn, 1)) (hc : c ≤ mc) (hs : s ≤ ms) (hpost : Post (some (.int v)) M) : Go E cc (y, nL, some .int, R, qR E mc ms Post) pc lv [.int v] M c s := by
  intro p e S m args below meth cd H locs ls fx hp hl hv
  refine W.widen hc hs ?_
  exact W.iret fx.2.2.1 fx.2.2.2.1 fx.2.2.2.2.1 (fun t ht _ => ⟨_, M, rfl, hpost, by rw [ht]; exact hp⟩) hl hd fx.2.2.2.2.2.1
theorem g_zret {y : MethodName} {nL : Nat} {R : Room} {mc ms : Nat} {Post : Option Value → zM → Prop} {ty : FieldType} {v : Int32} (hd : decode cc pc = .ok (.ireturn, 1)) (hn : narrow ty (.int v) = .int v) (hc : c ≤ mc) (hs : s ≤ ms) (hpost : Post (some (.int v)) M) : Go E cc (y, nL, some ty, R, qR E mc ms Post) pc lv [.int v] M c s := by
  intro p e S m args below meth cd H locs ls fx hp hl hv
  refine W.widen hc hs ?_
  exact W.zret fx.2.2.1 fx.2.2.2.1 fx.2.2.2.2.1 hn (fun t ht _ => ⟨_, M, rfl, hpost, by rw [ht]; exact hp⟩) hl hd fx.2.2.2.2.2.1
theorem g_lret {y : MethodName} {nL : Nat} {R : Room} {mc ms : Nat} {Post : Option Value → zM → Prop} {v : Int64} (hd : decode cc pc = .ok (.lreturn, 1)) (hc : c ≤ mc) (hs : s ≤ ms) (hpost : Post (some (.long v)) M) : Go E cc (y, nL, some .long, R, qR E mc ms Post) pc lv [.long v] M c s := by
  intro p e S m args below meth cd H locs ls fx hp hl hv
  refine W.widen hc hs ?_
  exact W.lret fx.2.2.1 fx.2.2.2.1 fx.2.2.2.2.1 (fun t ht _ => ⟨_, M, rfl, hpost, by rw [ht]; exact hp⟩) hl hd fx.2.2.2.2.2.1
theorem g_vret {y : MethodName} {nL : Nat} {R : Room} {mc ms : Nat} {Post : Option Value → zM → Prop} (hd : decode cc pc = .ok (.return_, 1)) (hc : c ≤ mc) (hs : s ≤ ms) (hpost : Post none M) : Go E cc (y, nL, none, R, qR E mc ms Post) pc lv [] M c s := by
  intro p e S m args below meth cd H locs ls fx hp hl hv
  refine W.widen hc hs ?_
  exact W.vret fx.2.2.1 fx.2.2.2.1 fx.2.2.2.2.1 (fun t ht _ => ⟨_, M, rfl, hpost, by rw [ht]; exact hp⟩) hl hd fx.2.2.2.2.2.1
/-- fields -/
theorem g_get {a c' k ix : Nat} {fin : Bool} (hf : FS F.1.cls ix c' k fin) (hd : decode cc pc = .ok (.getfield ix, 3)) (hq : pc + 3 = q) (hk : zK M a = 20 + c') (hkf : zkf c' k = true ∨ eb E ≤ a) (kk : Go E cc F q lv (zv (zty c' k) M a k :: r) M c s) : Go E cc F pc lv (.ref a :: r) M c s := by
  subst hq
  intro p e S m args below meth cd H locs ls fx hp hl hv
  have hts := fx.2.2.2.2.2.2.2.2.1
  obtain ⟨C, T, N, ref, ⟨hc, hin, hty, hnm⟩, hkN, hlink, hsame, -, -⟩ := hf
  obtain ⟨q', hq', cell, q1, q2, -, q3, -, q4⟩ := hp_obj fx.1 hp hk
  have hr : q' = (C, T, N) := Option.some.inj (hq'.symm.trans hc)
  subst hr
  obtain ⟨hS, hfc, kC, hkC, hkind⟩ := kn_cl fx.1 fx.2.1 hc
  obtain ⟨cf, kf, fi, f, hi, hsl⟩ := hS k hkN
  have hi2 : S.fieldFound? ref (T k).2.1 (T k).2.2.1 = some (cf, kf, fi, f) := by
    rcases hsame with e | e
    · rw [e]; exact hi
    · exact u_same (hts _ e) _ hi
  refine W.getf fx.2.2.1 fx.2.2.2.1 fx.2.2.2.2.2.2.2.1 (hts _ hlink) hi2 (u_facts hfc hkC (u_lays hts hin hkN) hi).1 q1 q3 (v := zv (zty c' k) M a k) ?_ rfl rfl hd (kk p e S m args below meth cd H locs ls fx hp hl hv)
  rw [hsl]
  exact q4 k hkN hkf
theorem g_getN {a c' k ix : Nat} {fin : Bool} (hf : FN F.1.cls ix c' k fin) (hd : decode cc pc = .ok (.getfield ix, 3)) (hq : pc + 3 = q) (hk : zK M a = 20 + c') (hkf : zkf c' k = true ∨ eb E ≤ a) (kk : Go E cc F q lv (zv (zty c' k) M a k :: r) M c s) : Go E cc F pc lv (.ref a :: r) M c s := by
  subst hq
  intro p e S m args below meth cd H locs ls fx hp hl hv
  have hts := fx.2.2.2.2.2.2.2.2.1
  obtain ⟨C, T, N, host, ⟨hc, hin, hty, hnm⟩, hkN, hlink, -⟩ := hf
  obtain ⟨q', hq', cell, q1, q2, -, q3, -, q4⟩ := hp_obj fx.1 hp hk
  have hr : q' = (C, T, N) := Option.some.inj (hq'.symm.trans hc)
  subst hr
  obtain ⟨hS, hfc, kC, hkC, hkind⟩ := kn_cl fx.1 fx.2.1 hc
  obtain ⟨cf, kf, fi, f, hi, hsl⟩ := hS k hkN
  have hw : va_Nw (.fieldLinkNest F.1.cls ix (T k).1 (T k).2.1 (T k).2.2.1 host) S := va_Nw.warmF fx.2.1 (va_Nw.of rfl (fx.1.2.2.1 _ hlink))
  refine va_Wgetf fx.2.2.1 fx.2.2.2.1 fx.2.2.2.2.2.2.2.1 (va_Nw.use rfl hw) hi (u_facts hfc hkC (u_lays hts hin hkN) hi).1 q1 q3 (v := zv (zty c' k) M a k) ?_ rfl rfl hd (kk p e S m args below meth cd H locs ls fx hp hl hv)
  rw [hsl]
  exact q4 k hkN hkf
theorem hp_apart {S : State} {args : Array Value} (hE : EF E) (hW : KN E S) (hts : ∀ w ∈ lw_all, w.before args S = true) {c' : Nat} {C : String} {T : u_T} {N : Nat} (hC : CS c' C T N) : ∀ x y, x < N → y < N → x ≠ y → (eI E c') x ≠ (eI E c') y := by
  intro x y hx hy hne
  obtain ⟨hc, hin, hty, hnm⟩ := hC
  obtain ⟨hS, -⟩ := kn_cl hE hW hc
  obtain ⟨_, _, _, fa, hia, ea⟩ := hS x hx
  obtain ⟨_, _, _, fb, hib, eb'⟩ := hS y hy
  rw [← ea, ← eb']
  refine u_apart (u_lays hts hin hx) (u_lays hts hin hy) hia hib ?_
  rw [(State.fieldFound?_type hia (hty x hx)).1, (State.fieldFound?_type hib (hty y hy)).1]
  exact hnm x hx y hy hne
/-- what a store into a field makes of the memory: M2 is M but for that field -/
theorem g_putX {a c' k ix : Nat} {v : Value} {M2 : zM} (hf : FS F.1.cls ix c' k false) (hd : decode cc pc = .ok (.putfield ix, 3)) (hq : pc + 3 = q) (hk : zK M a = 20 + c') (hb : eb E ≤ a) (hn : narrow (zty c' k) v = v) (hfit : fits (zty c' k) v = true)
    (hz : zZ M2 = zZ M) (hK2 : ∀ b, zK M2 b = zK M b) (hs : ∀ b, b ≠ a → zsame M2 M b) (hv2 : ∀ j, updV (fun j => zv (zty c' j) M a j) k v j = zv (zty c' j) M2 a j) (kk : Go E cc F q lv r M2 c s) : Go E cc F pc lv (v :: .ref a :: r) M c s := by
  subst hq
  intro p e S m args below meth cd H locs ls fx hp hl hv
  have hts := fx.2.2.2.2.2.2.2.2.1
  obtain ⟨C, T, N, ref, hC, hkN, hlink, hsame, hfin, -⟩ := hf
  have hap := hp_apart fx.1 fx.2.1 hts hC
  obtain ⟨hc, hin, hty, hnm⟩ := hC
  obtain ⟨q', hq', cell, q1, q2, q3, q4⟩ := (hp.2.2.2.2 a hb).2 c' hk
  have hr : q' = (C, T, N) := Option.some.inj (hq'.symm.trans hc)
  subst hr
  obtain ⟨hS, hfc, kC, hkC, hkind⟩ := kn_cl fx.1 fx.2.1 hc
  obtain ⟨cf, kf, fi, f, hi, hsl⟩ := hS k hkN
  have hi2 : S.fieldFound? ref (T k).2.1 (T k).2.2.1 = some (cf, kf, fi, f) := by
    rcases hsame with e | e
    · rw [e]; exact hi
    · exact u_same (hts _ e) _ hi
  have hlay := hts _ (hin _ (u_in_lay hkN))
  unfold u_lay at hlay
  rw [if_neg (by rw [hfin]; decide)] at hlay
  have hst := (u_facts hfc hkC (u_lays hts hin hkN) hi).1
  have h6 := u_store hfc hkC hkind hlay hi (hty k hkN) hn hfit
  refine W.putK fx.2.2.1 fx.2.2.2.1 (f := f) ⟨fx.2.2.2.2.2.2.2.1, hts _ hlink, ⟨_, _, _, hi2⟩, hst⟩ (by rw [q2]; exact h6) q1 q3 (by rw [hsl]; exact k2_hasslot (q4 k hkN)) rfl rfl hd fun H' e1 e2 e3 => ?_
  rw [hsl] at e1 ⊢
  refine kk p e S m args below meth cd H' _ ls fx (hp_upd hp hb hz hs e2 e3 ⟨fun k' h1 h2 hk' => ?_, fun c2 hc2 => ?_⟩) (fun l hl2 => ?_) hv
  · rw [hK2, hk] at hk'; omega
  · rw [hK2, hk] at hc2
    obtain rfl : c' = c2 := by omega
    exact ⟨_, hc, t_OB.to (V := updV (fun j => zv (zty c' j) M a j) k v) ⟨_, e1, q2, q3, t_set q4 hap hkN v⟩ (fun j _ => hv2 j)⟩
  · rcases List.mem_append.mp hl2 with h | h
    · exact hl l h
    · rw [List.mem_singleton.mp h]; exact hb
theorem g_putI {a c' k ix : Nat} {v : Int32} (hf : FS F.1.cls ix c' k false) (hd : decode cc pc = .ok (.putfield ix, 3)) (hq : pc + 3 = q) (hk : zK M a = 20 + c') (hb : eb E ≤ a) (ht : zty c' k = .int) (kk : Go E cc F q lv r (zsI M a k v) c s) : Go E cc F pc lv (.int v :: .ref a :: r) M c s := by
  refine g_putX (M2 := zsI M a k v) hf hd hq hk hb (by rw [ht]; rfl) (by rw [ht]; rfl) rfl (fun b => rfl) (fun b h => zsI_same h) (fun j => ?_) kk
  by_cases e : j = k
  · subst e; simp [updV, zv, ht, zI, zsI, zup]
  · have : zI (zsI M a k v) a j = zI M a j := by simp [zI, zsI, zup, e]
    simp only [updV, e, if_false, zv, this]
    rfl
theorem g_putL {a c' k ix : Nat} {v : Int64} (hf : FS F.1.cls ix c' k false) (hd : decode cc pc = .ok (.putfield ix, 3)) (hq : pc + 3 = q) (hk : zK M a = 20 + c') (hb : eb E ≤ a) (ht : zty c' k = .long) (kk : Go E cc F q lv r (zsL M a k v) c s) : Go E cc F pc lv (.long v :: .ref a :: r) M c s := by
  refine g_putX (M2 := zsL M a k v) hf hd hq hk hb (by rw [ht]; rfl) (by rw [ht]; rfl) rfl (fun b => rfl) (fun b h => zsL_same h) (fun j => ?_) kk
  by_cases e : j = k
  · subst e; simp [updV, zv, ht, zL, zsL, zup]
  · have : zL (zsL M a k v) a j = zL M a j := by simp [zL, zsL, zup, e]
    simp only [updV, e, if_false, zv, this]
    rfl
/-- arrays: i is the index, as a number j -/
theorem ix_in {i : Int32} {j n m : Nat} (hi : i = nI j) (h31 : j < 2 ^ 31) (hj : j < n) (hm : n ≤ m) : ¬ (i < 0 ∨ m ≤ i.toNatClampNeg) ∧ i.toNatClampNeg = j := by
  subst hi
  have h := nI_clamp h31
  refine ⟨?_, h⟩
  rintro (h1 | h1)
  · exact nI_pos h31 h1
  · omega
theorem g_iald {a j : Nat} {i : Int32} (hd : decode cc pc = .ok (.iaload, 1)) (hq : pc + 1 = q) (hk : zK M a = 1) (hi : i = nI j) (h31 : j < 2 ^ 31) (hj : j < zN M a) (kk : Go E cc F q lv (.int (zI M a j) :: r) M c s) : Go E cc F pc lv (.int i :: .ref a :: r) M c s := by
  subst hq
  intro p e S m args below meth cd H locs ls fx hp hl hv
  obtain ⟨cell, e1, e2, e3, e4, e5, e6⟩ := hp_arr fx.1 fx.2.1 hp (k := 1) (by omega) (by omega) hk
  obtain ⟨g1, g2⟩ := ix_in hi h31 hj e4
  exact W.iald (v := .int (zI M a j)) fx.2.2.1 fx.2.2.2.1 e1 e2 e3 g1 (by rw [g2]; exact e6 j hj) rfl rfl hd (kk p e S m args below meth cd H locs ls fx hp hl hv)
theorem g_bald {a j : Nat} {i : Int32} (hd : decode cc pc = .ok (.baload, 1)) (hq : pc + 1 = q) (hk : zK M a = 3) (hi : i = nI j) (h31 : j < 2 ^ 31) (hj : j < zN M a) (kk : Go E cc F q lv (.int (zI M a j) :: r) M c s) : Go E cc F pc lv (.int i :: .ref a :: r) M c s := by
  subst hq
  intro p e S m args below meth cd H locs ls fx hp hl hv
  obtain ⟨cell, e1, e2, e3, e4, e5, e6⟩ := hp_arr fx.1 fx.2.1 hp (k := 3) (by omega) (by omega) hk
  obtain ⟨g1, g2⟩ := ix_in hi h31 hj e4
  exact W.bald (v := .int (zI M a j)) fx.2.2.1 fx.2.2.2.1 e1 e2 e3 g1 (by rw [g2]; exact e6 j hj) rfl rfl hd (kk p e S m args below meth cd H locs ls fx hp hl hv)
theorem g_zald {a j : Nat} {i : Int32} (hd : decode cc pc = .ok (.baload, 1)) (hq : pc + 1 = q) (hk : zK M a = 4) (hi : i = nI j) (h31 : j < 2 ^ 31) (hj : j < zN M a) (kk : Go E cc F q lv (.int (zI M a j) :: r) M c s) : Go E cc F pc lv (.int i :: .ref a :: r) M c s := by
  subst hq
  intro p e S m args below meth cd H locs ls fx hp hl hv
  obtain ⟨cell, e1, e2, e3, e4, e5, e6⟩ := hp_arr fx.1 fx.2.1 hp (k := 4) (by omega) (by omega) hk
  obtain ⟨g1, g2⟩ := ix_in hi h31 hj e4
  exact W.zald (v := .int (zI M a j)) fx.2.2.1 fx.2.2.2.1 e1 e2 e3 g1 (by rw [g2]; exact e6 j hj) rfl rfl hd (kk p e S m args below meth cd H locs ls fx hp hl hv)
theorem g_lald {a j : Nat} {i : Int32} (hd : decode cc pc = .ok (.laload, 1)) (hq : pc + 1 = q) (hk : zK M a = 2) (hi : i = nI j) (h31 : j < 2 ^ 31) (hj : j < zN M a) (kk : Go E cc F q lv (.long (zL M a j) :: r) M c s) : Go E cc F pc lv (.int i :: .ref a :: r) M c s := by
  subst hq
  intro p e S m args below meth cd H locs ls fx hp hl hv
  obtain ⟨cell, e1, e2, e3, e4, e5, e6⟩ := hp_arr fx.1 fx.2.1 hp (k := 2) (by omega) (by omega) hk
  obtain ⟨g1, g2⟩ := ix_in hi h31 hj e4
  exact W.lald (v := .long (zL M a j)) fx.2.2.1 fx.2.2.2.1 e1 e2 e3 g1 (by rw [g2]; exact e6 j hj) rfl rfl hd (kk p e S m args below meth cd H locs ls fx hp hl hv)
theorem g_alen {a k : Nat} (hd : decode cc pc = .ok (.arraylength, 1)) (hq : pc + 1 = q) (hk : zK M a = k) (h1 : 1 ≤ k) (h2 : k < 20) (kk : Go E cc F q lv (.int (nI (zN M a)) :: r) M c s) : Go E cc F pc lv (.ref a :: r) M c s := by
  subst hq
  intro p e S m args below meth cd H locs ls fx hp hl hv
  obtain ⟨cell, e1, e2, e3, e4, e5, e6⟩ := hp_arr fx.1 fx.2.1 hp h1 h2 hk
  exact W.alen (n := nI (zN M a)) fx.2.2.1 fx.2.2.2.1 e1 e2 e5 rfl rfl hd (kk p e S m args below meth cd H locs ls fx hp hl hv)
/-- an array's cell behind a store -/
theorem hp_ast {M2 : zM} {H H' : Heap} {a k j : Nat} {v : Value} (hP : HP E M H) (hb : eb E ≤ a) (h1 : 1 ≤ k) (h2 : k < 20) (hk : zK M a = k) (hj : j < zN M a) (e1 : H'[a]? = some ((arrV (eA E k) (zN M a) (fun j => zv (zaty k) M a j)).setSlot j v)) (z : H'.size = H.size) (oq : ∀ q, q ≠ a → H'[q]? = H[q]?)
    (hz : zZ M2 = zZ M) (hK2 : ∀ b, zK M2 b = zK M b) (hN2 : ∀ b, zN M2 b = zN M b) (hs : ∀ b, b ≠ a → zsame M2 M b) (hv2 : ∀ i, updV (fun j => zv (zaty k) M a j) j v i = zv (zaty k) M2 a i) : HP E M2 H' := by
  refine hp_upd hP hb hz hs z oq ⟨fun k' g1 g2 hk' => ?_, fun c2 hc2 => ?_⟩
  · rw [hK2, hk] at hk'
    subst hk'
    refine ⟨((hP.2.2.2.2 a hb).1 k h1 h2 hk).1, ?_⟩
    rw [e1, arrV_store, hN2]
    congr 2
    funext i
    exact hv2 i
  · rw [hK2, hk] at hc2; omega
theorem g_iast {a j : Nat} {i x : Int32} (hd : decode cc pc = .ok (.iastore, 1)) (hq : pc + 1 = q) (hk : zK M a = 1) (hb : eb E ≤ a) (hi : i = nI j) (h31 : j < 2 ^ 31) (hj : j < zN M a) (kk : Go E cc F q lv r (zsI M a j x) c s) : Go E cc F pc lv (.int x :: .int i :: .ref a :: r) M c s := by
  subst hq
  intro p e S m args below meth cd H locs ls fx hp hl hv
  obtain ⟨h3, h4⟩ := (hp.2.2.2.2 a hb).1 1 (by omega) (by omega) hk
  obtain ⟨g1, g2⟩ := ix_in (m := (arrV (eA E 1) (zN M a) (fun j => zv (zaty 1) M a j)).slots.size) hi h31 hj (by rw [arrV_size]; exact Nat.le_refl _)
  refine W.iast fx.2.2.1 fx.2.2.2.1 h4 ((kn_ar fx.1 fx.2.1 (k := 1) (by omega) (by omega)).1 _ _) (fun q => by cases q) g1 rfl rfl hd fun H1 e1 z oq => ?_
  rw [g2] at e1 ⊢
  refine kk p e S m args below meth cd H1 _ ls fx (hp_ast hp hb (k := 1) (by omega) (by omega) hk hj e1 z oq rfl (fun _ => rfl) (fun _ => rfl) (fun b h => zsI_same h) (fun i => ?_)) (fun l hl2 => ?_) hv
  · by_cases e : i = j
    · subst e; simp [updV, zv, zaty, zI, zsI, zup]
    · simp [updV, zv, zaty, zI, zsI, zup, e]
  · rcases List.mem_append.mp hl2 with h | h
    · exact hl l h
    · rw [List.mem_singleton.mp h]; exact hb
theorem g_last {a j : Nat} {i : Int32} {x : Int64} (hd : decode cc pc = .ok (.lastore, 1)) (hq : pc + 1 = q) (hk : zK M a = 2) (hb : eb E ≤ a) (hi : i = nI j) (h31 : j < 2 ^ 31) (hj : j < zN M a) (kk : Go E cc F q lv r (zsL M a j x) c s) : Go E cc F pc lv (.long x :: .int i :: .ref a :: r) M c s := by
  subst hq
  intro p e S m args below meth cd H locs ls fx hp hl hv
  obtain ⟨h3, h4⟩ := (hp.2.2.2.2 a hb).1 2 (by omega) (by omega) hk
  obtain ⟨g1, g2⟩ := ix_in (m := (arrV (eA E 2) (zN M a) (fun j => zv (zaty 2) M a j)).slots.size) hi h31 hj (by rw [arrV_size]; exact Nat.le_refl _)
  refine W.last fx.2.2.1 fx.2.2.2.1 h4 ((kn_ar fx.1 fx.2.1 (k := 2) (by omega) (by omega)).1 _ _) (fun q => by cases q) g1 rfl rfl hd fun H1 e1 z oq => ?_
  rw [g2] at e1 ⊢
  refine kk p e S m args below meth cd H1 _ ls fx (hp_ast hp hb (k := 2) (by omega) (by omega) hk hj e1 z oq rfl (fun _ => rfl) (fun _ => rfl) (fun b h => zsL_same h) (fun i => ?_)) (fun l hl2 => ?_) hv
  · by_cases e : i = j
    · subst e; simp [updV, zv, zaty, zL, zsL, zup]
    · simp [updV, zv, zaty, zL, zsL, zup, e]
  · rcases List.mem_append.mp hl2 with h | h
    · exact hl l h
    · rw [List.mem_singleton.mp h]; exact hb
theorem g_bast {a j : Nat} {i x y : Int32} (hd : decode cc pc = .ok (.bastore, 1)) (hq : pc + 1 = q) (hk : zK M a = 3) (hb : eb E ≤ a) (hi : i = nI j) (h31 : j < 2 ^ 31) (hj : j < zN M a) (hn : narrow .byte (.int x) = .int y) (kk : Go E cc F q lv r (zsI M a j y) c s) : Go E cc F pc lv (.int x :: .int i :: .ref a :: r) M c s := by
  subst hq
  intro p e S m args below meth cd H locs ls fx hp hl hv
  obtain ⟨h3, h4⟩ := (hp.2.2.2.2 a hb).1 3 (by omega) (by omega) hk
  obtain ⟨g1, g2⟩ := ix_in (m := (arrV (eA E 3) (zN M a) (fun j => zv (zaty 3) M a j)).slots.size) hi h31 hj (by rw [arrV_size]; exact Nat.le_refl _)
  refine W.bast fx.2.2.1 fx.2.2.2.1 h4 ((kn_ar fx.1 fx.2.1 (k := 3) (by omega) (by omega)).1 _ _) (fun q => by cases q) g1 rfl rfl hd fun H1 e1 z oq => ?_
  rw [g2, hn] at e1
  rw [g2]
  refine kk p e S m args below meth cd H1 _ ls fx (hp_ast hp hb (k := 3) (by omega) (by omega) hk hj e1 z oq rfl (fun _ => rfl) (fun _ => rfl) (fun b h => zsI_same h) (fun i => ?_)) (fun l hl2 => ?_) hv
  · by_cases e : i = j
    · subst e; simp [updV, zv, zaty, zI, zsI, zup]
    · simp [updV, zv, zaty, zI, zsI, zup, e]
  · rcases List.mem_append.mp hl2 with h | h
    · exact hl l h
    · rw [List.mem_singleton.mp h]; exact hb
theorem g_zast {a j : Nat} {i x y : Int32} (hd : decode cc pc = .ok (.bastore, 1)) (hq : pc + 1 = q) (hk : zK M a = 4) (hb : eb E ≤ a) (hi : i = nI j) (h31 : j < 2 ^ 31) (hj : j < zN M a) (hn : narrow .boolean (.int x) = .int y) (kk : Go E cc F q lv r (zsI M a j y) c s) : Go E cc F pc lv (.int x :: .int i :: .ref a :: r) M c s := by
  subst hq
  intro p e S m args below meth cd H locs ls fx hp hl hv
  obtain ⟨h3, h4⟩ := (hp.2.2.2.2 a hb).1 4 (by omega) (by omega) hk
  obtain ⟨g1, g2⟩ := ix_in (m := (arrV (eA E 4) (zN M a) (fun j => zv (zaty 4) M a j)).slots.size) hi h31 hj (by rw [arrV_size]; exact Nat.le_refl _)
  refine W.zast fx.2.2.1 fx.2.2.2.1 h4 ((kn_ar fx.1 fx.2.1 (k := 4) (by omega) (by omega)).1 _ _) (fun q => by cases q) g1 rfl rfl hd fun H1 e1 z oq => ?_
  rw [g2, hn] at e1
  rw [g2]
  refine kk p e S m args below meth cd H1 _ ls fx (hp_ast hp hb (k := 4) (by omega) (by omega) hk hj e1 z oq rfl (fun _ => rfl) (fun _ => rfl) (fun b h => zsI_same h) (fun i => ?_)) (fun l hl2 => ?_) hv
  · by_cases e : i = j
    · subst e; simp [updV, zv, zaty, zI, zsI, zup]
    · simp [updV, zv, zaty, zI, zsI, zup, e]
  · rcases List.mem_append.mp hl2 with h | h
    · exact hl l h
    · rw [List.mem_singleton.mp h]; exact hb
/-- CALLS -/
def NMH (y : MethodName) (n : Nat) : Prop := y.cls ≠ "java/lang/invoke/MethodHandle" ∧ y.cls ≠ "java/lang/invoke/VarHandle" ∧ (parseMethodDescriptor y.desc).map (fun d => d.parameters.length) = some n
/-- the place of a static call -/
def SS (own : String) (ix : Nat) (y : MethodName) (cc : ByteArray) (nL : Nat) (ret : Option FieldType) (n : Nat) : Prop := GoodIn lw_all (va_wsS own ix y (ws_ y cc nL ret)) ∧ NMH y n ∧ nL ≤ 45
/-- of a call of a class's own method -/
def SV (own : String) (ix c : Nat) (y : MethodName) (cc : ByteArray) (nL : Nat) (ret : Option FieldType) (n : Nat) : Prop := ∃ (C : String) (T : u_T) (N : Nat), zcl[c]? = some (C, T, N) ∧ GoodIn lw_all (wsV own ix C y (ws_ y cc nL ret)) ∧ y.cls = C ∧ NMH y n ∧ nL ≤ 45
theorem blind {as : List Value} : FrameBlind (va_Pc as (fun U => EF E ∧ KN E U ∧ HP E M U.heap)) := fun a U g mk h => ⟨h.1, h.2.1, h.2.2.1, h.2.2.2⟩
/-- behind a call -/
theorem g_behind {p : Program} {e : Env} {S : State} {m : MethodId} {args : Array Value} {below : List Frame} {meth : Method} {cd : Code} {H : Heap} {locs : List Loc} {ls : Array Slot} {mc' ms' pc : Nat} {st rest : List Value} {Post : Option Value → zM → Prop} {aa : Array Value} {Q : State → Prop} {R : Room}
    (hr : va_Run p (eL E) e R S m args below meth cd H locs c s mc' ms' (F0 m pc ls st) rest (QP E Post aa) (fun q => eb E ≤ q)) (hl : ∀ q ∈ locs, eb E ≤ q.base)
    (kk : ∀ (v : Option Value) (M' : zM) (H' : Heap) (locs' : List Loc), Post v M' → HP E M' H' → (∀ q ∈ locs', eb E ≤ q.base) → W p (eL E) e R S m args below meth cd H' locs' (c + mc') (s + ms') Q (F0 m (pc + 3) ls (v.toList ++ rest))) : W p (eL E) e R S m args below meth cd H locs c s Q (F0 m pc ls st) := by
  intro T hT X
  obtain ⟨v, st₀, t, T', L, h0, X', hL, e1, e2, ⟨v', M', hv, hp, hb⟩, st2⟩ := hr T hT X
  cases hv
  obtain ⟨t2, a1, b1⟩ := kk v M' T'.heap (locs ++ L) hp (by rw [e1]; exact hb) (fun q hq => by
      rcases List.mem_append.mp hq with h | h
      · exact hl q h
      · exact hL q h) T' rfl X'
  exact ⟨t2, st2 t2 a1, b1⟩
theorem kn_step {S U : State} (hW : KN E S) (h : S.WarmedH U.vm) : KN E U := State.WarmedH.trans hW h
theorem g_static {y : MethodName} {cc' : ByteArray} {nL' : Nat} {ret' : Option FieldType} {d' mc' ms' ix n : Nat} {as st : List Value} {Post : Option Value → zM → Prop} (hC : Con E y cc' nL' ret' d' mc' ms' as M Post) (hS : SS F.1.cls ix y cc' nL' ret' n) (hd : decode cc pc = .ok (.invokestatic ix, 3)) (hq : pc + 3 = q)
    (hn : as.length = n) (hst : st = as.reverse ++ r) (hcat : (r.map fun v => v.category).sum ≤ 8) (hfr : d' + 1 ≤ F.2.2.2.1.frames ∧ 64 + 64 * d' ≤ F.2.2.2.1.locals) (hm : c + mc' ≤ F.2.2.2.1.cells ∧ s + ms' ≤ F.2.2.2.1.slots)
    (kk : ∀ (v : Option Value) (M' : zM), Post v M' → Go E cc F q lv (v.toList ++ r) M' (c + mc') (s + ms')) : Go E cc F pc lv st M c s := by
  subst hq
  subst hst
  intro p e S m args below meth cd H locs ls fx hp hl hv
  refine g_behind (va_runS (As := as) (rest := r) (n := n) ⟨fx.2.2.1, fx.2.2.2.1, fx.2.2.2.2.2.2.1, fx.2.2.2.2.2.2.2.1, fx.2.2.2.2.2.2.2.2.1⟩ hC (va_cwS n fx.2.2.2.2.2.2.2.2.1 hS.1 rfl rfl rfl hS.2.1 ⟨hfr.1, ?_⟩) ⟨blind, fun U hU hW => ⟨rfl, fx.1, kn_step fx.2.1 hW, by rw [hU]; exact hp⟩⟩ rfl hn hv.1 rfl (lv_room hcat) hd hm) hl (fun v M' H' locs' h1 h2 h3 => kk v M' h1 p e S m args below meth cd H' locs' ls fx h2 h3 hv)
  have := hS.2.2
  have := hfr.2
  show 8 + (nL' + 11) + 64 * d' ≤ _
  omega
theorem g_virtual {y : MethodName} {cc' : ByteArray} {nL' : Nat} {ret' : Option FieldType} {d' mc' ms' ix c' b n : Nat} {as st : List Value} {Post : Option Value → zM → Prop} (hC : Con E y cc' nL' ret' d' mc' ms' (.ref b :: as) M Post) (hS : SV F.1.cls ix c' y cc' nL' ret' n) (hd : decode cc pc = .ok (.invokevirtual ix, 3)) (hq : pc + 3 = q)
    (hk : zK M b = 20 + c') (hn : as.length = n) (hst : st = as.reverse ++ .ref b :: r) (hcat : (r.map fun v => v.category).sum ≤ 8) (hfr : d' + 1 ≤ F.2.2.2.1.frames ∧ 64 + 64 * d' ≤ F.2.2.2.1.locals) (hm : c + mc' ≤ F.2.2.2.1.cells ∧ s + ms' ≤ F.2.2.2.1.slots)
    (kk : ∀ (v : Option Value) (M' : zM), Post v M' → Go E cc F q lv (v.toList ++ r) M' (c + mc') (s + ms')) : Go E cc F pc lv st M c s := by
  subst hq
  subst hst
  intro p e S m args below meth cd H locs ls fx hp hl hv
  obtain ⟨C, T, N, hc, hG, hyC, hN, h45⟩ := hS
  refine g_behind (va_runV (C := C) (As := as) (rest := r) (n := n) ⟨fx.2.2.1, fx.2.2.2.1, fx.2.2.2.2.2.2.1, fx.2.2.2.2.2.2.2.1, fx.2.2.2.2.2.2.2.2.1⟩ hC (cwV n fx.2.2.2.2.2.2.2.2.1 hG rfl rfl rfl ⟨hyC, hN⟩ ⟨hfr.1, ?_⟩) ⟨blind, hp_recv fx.1 fx.2.1 hp hk hc, fun U hU hW => ⟨rfl, fx.1, kn_step fx.2.1 hW, by rw [hU]; exact hp⟩⟩ rfl hn hv.1 rfl (lv_room hcat) hd hm) hl (fun v M' H' locs' h1 h2 h3 => kk v M' h1 p e S m args below meth cd H' locs' ls fx h2 h3 hv)
  have := hfr.2
  show 8 + (nL' + 11) + 64 * d' ≤ _
  omega
/-- what comes back, by kind -/
theorem gI {post : Int32 → zM → Prop} (kk : ∀ (x : Int32) (M' : zM), post x M' → Go E cc F pc lv (.int x :: r) M' c s) : ∀ (v : Option Value) (M' : zM), pI post v M' → Go E cc F pc lv (v.toList ++ r) M' c s := by
  rintro v M' ⟨x, rfl, h⟩
  exact kk x M' h
theorem gL {post : Int64 → zM → Prop} (kk : ∀ (x : Int64) (M' : zM), post x M' → Go E cc F pc lv (.long x :: r) M' c s) : ∀ (v : Option Value) (M' : zM), pL post v M' → Go E cc F pc lv (v.toList ++ r) M' c s := by
  rintro v M' ⟨x, rfl, h⟩
  exact kk x M' h
theorem gV {post : zM → Prop} (kk : ∀ (M' : zM), post M' → Go E cc F pc lv r M' c s) : ∀ (v : Option Value) (M' : zM), pV post v M' → Go E cc F pc lv (v.toList ++ r) M' c s := by
  rintro v M' ⟨rfl, h⟩
  exact kk M' h
theorem gR {post : Nat → zM → Prop} (kk : ∀ (x : Nat) (M' : zM), post x M' → Go E cc F pc lv (.ref x :: r) M' c s) : ∀ (v : Option Value) (M' : zM), pR post v M' → Go E cc F pc lv (v.toList ++ r) M' c s := by
  rintro v M' ⟨x, rfl, h⟩
  exact kk x M' h
/-- the answer is known, the memory stays -/
theorem gIe {x : Int32} (kk : Go E cc F pc lv (.int x :: r) M c s) : ∀ (v : Option Value) (M' : zM), pI (fun y M' => y = x ∧ M' = M) v M' → Go E cc F pc lv (v.toList ++ r) M' c s := gI (fun _ _ h => by rw [h.1, h.2]; exact kk)
theorem gLe {x : Int64} (kk : Go E cc F pc lv (.long x :: r) M c s) : ∀ (v : Option Value) (M' : zM), pL (fun y M' => y = x ∧ M' = M) v M' → Go E cc F pc lv (v.toList ++ r) M' c s := gL (fun _ _ h => by rw [h.1, h.2]; exact kk)
end Heap
