set_option maxRecDepth 100000
/-! THE REFERENCE's MEMORY: S.1 k j: field k (0 if it is no array), place j; S.2 the longs. The object is at o, its arrays right behind it -/
abbrev zS : Type := (Nat → Nat → Int32) × (Nat → Nat → Int64)
def mfd (j : Nat) : Nat := [0, 1, 2, 3, 4, 5, 6, 7, 8, 18, 19, 25, 26, 27, 28, 29, 30, 31, 32, 33, 39, 40, 41, 42, 43, 45, 47, 48, 54, 57, 58, 59, 61].getD j 0
def marr (k : Nat) : Bool := [1, 2, 3, 4, 5, 6, 7, 8, 18, 19, 25, 26, 27, 28, 29, 30, 31, 32, 33, 39, 40, 41, 42, 43, 45, 47, 48, 54, 57, 58, 59, 61].contains k
/-- kinds and lengths of the arrays, by their order -/
def mkd (j : Nat) : Nat := [0, 3, 1, 1, 1, 1, 1, 1, 1, 1, 1, 1, 1, 1, 1, 2, 3, 2, 1, 1, 1, 1, 2, 2, 1, 1, 2, 1, 1, 1, 1, 1, 4].getD j 0
def mln (j : Nat) : Nat := [0, 2400, 4, 4, 4, 12, 480, 1288, 136, 161, 4, 4, 4, 48, 48, 131072, 131072, 40400, 8, 8, 12, 12, 32, 33, 33, 4, 48, 32, 22464, 3, 12, 12, 3].getD j 0
def ms1 (S : zS) (k j : Nat) (v : Int32) : zS := (zup S.1 k j v, S.2)
def ms2 (S : zS) (k j : Nat) (v : Int64) : zS := (S.1, zup S.2 k j v)
def mv (M : zM) (o : Nat) (S : zS) : zM := (fun a j => if a = o then (if marr j then M.1 a j else S.1 j 0) else if o < a ∧ a ≤ o + 32 then S.1 (mfd (a - o)) j else M.1 a j,
  fun a j => if a = o then (if marr j then M.2.1 a j else S.2 j 0) else if o < a ∧ a ≤ o + 32 then S.2 (mfd (a - o)) j else M.2.1 a j, M.2.2)
/-- the reference stands at o -/
def Sk (E : zE) (M : zM) (o : Nat) : Prop := eb E ≤ o ∧ zK M o = 23 ∧ ∀ j, 1 ≤ j → j ≤ 32 → zK M (o + j) = mkd j ∧ zN M (o + j) = mln j ∧ zP M o (mfd j) = some (o + j)
theorem mfd_arr : ∀ j, j < 33 → 1 ≤ j → marr (mfd j) = true := by decide
theorem mfd_inj : ∀ i, i < 33 → ∀ j, j < 33 → mfd i = mfd j → i = j := by decide
theorem mv_self (M : zM) (o : Nat) (S S' : zS) : mv (mv M o S) o S' = mv M o S' := by
  unfold mv
  refine Prod.ext ?_ (Prod.ext ?_ rfl)
  · funext a j
    dsimp only
    by_cases h : a = o
    · simp only [h, if_true]
      split <;> rfl
    · simp only [h, if_false]
      split
      · rfl
      · rfl
  · funext a j
    dsimp only
    by_cases h : a = o
    · simp only [h, if_true]
      split <;> rfl
    · simp only [h, if_false]
      split
      · rfl
      · rfl
theorem mv_I0 {M : zM} {o k : Nat} {S : zS} (h : marr k = false) : zI (mv M o S) o k = S.1 k 0 := by simp [zI, mv, h]
theorem mv_L0 {M : zM} {o k : Nat} {S : zS} (h : marr k = false) : zL (mv M o S) o k = S.2 k 0 := by simp [zL, mv, h]
theorem mv_I {M : zM} {o j n : Nat} {S : zS} (h1 : 1 ≤ j) (h2 : j ≤ 32) : zI (mv M o S) (o + j) n = S.1 (mfd j) n := by
  have e : o + j - o = j := by omega
  have e1 : ¬ (o + j = o) := by omega
  have e2 : o < o + j ∧ o + j ≤ o + 32 := by omega
  simp only [zI, mv, e1, if_false, e2, and_self, if_true, e]
theorem mv_L {M : zM} {o j n : Nat} {S : zS} (h1 : 1 ≤ j) (h2 : j ≤ 32) : zL (mv M o S) (o + j) n = S.2 (mfd j) n := by
  have e : o + j - o = j := by omega
  have e1 : ¬ (o + j = o) := by omega
  have e2 : o < o + j ∧ o + j ≤ o + 32 := by omega
  simp only [zL, mv, e1, if_false, e2, and_self, if_true, e]
theorem mv_s10 {M : zM} {o k : Nat} {S : zS} {v : Int32} (h : marr k = false) : zsI (mv M o S) o k v = mv M o (ms1 S k 0 v) := by
  refine Prod.ext ?_ (Prod.ext ?_ rfl)
  · funext a j
    simp only [zsI, mv, zup, ms1]
    by_cases ha : a = o
    · simp only [ha, if_true]
      by_cases hj : j = k
      · simp [hj, h]
      · simp [hj]
    · simp only [ha, if_false]
      by_cases hr : o < a ∧ a ≤ o + 32
      · have hk : mfd (a - o) ≠ k := fun e => by
          have := mfd_arr (a - o) (by omega) (by omega)
          rw [e, h] at this
          cases this
        simp [hr, hk]
      · simp [hr]
  · rfl
theorem mv_s20 {M : zM} {o k : Nat} {S : zS} {v : Int64} (h : marr k = false) : zsL (mv M o S) o k v = mv M o (ms2 S k 0 v) := by
  refine Prod.ext rfl (Prod.ext ?_ rfl)
  · funext a j
    simp only [zsL, mv, zup, ms2]
    by_cases ha : a = o
    · simp only [ha, if_true]
      by_cases hj : j = k
      · simp [hj, h]
      · simp [hj]
    · simp only [ha, if_false]
      by_cases hr : o < a ∧ a ≤ o + 32
      · have hk : mfd (a - o) ≠ k := fun e => by
          have := mfd_arr (a - o) (by omega) (by omega)
          rw [e, h] at this
          cases this
        simp [hr, hk]
      · simp [hr]
theorem mv_s1 {M : zM} {o j n : Nat} {S : zS} {v : Int32} (h1 : 1 ≤ j) (h2 : j ≤ 32) : zsI (mv M o S) (o + j) n v = mv M o (ms1 S (mfd j) n v) := by
  refine Prod.ext ?_ (Prod.ext ?_ rfl)
  · funext a i
    simp only [zsI, mv, zup, ms1]
    by_cases ha : a = o
    · have e1 : ¬ (o = o + j) := by omega
      simp only [ha, if_true, e1, if_false]
      by_cases hi : marr i = true
      · simp [hi]
      · have hk : i ≠ mfd j := fun e => hi (by rw [e]; exact mfd_arr j (by omega) h1)
        simp [hi, hk]
    · simp only [ha, if_false]
      by_cases hr : o < a ∧ a ≤ o + 32
      · simp only [hr, and_self, if_true]
        by_cases hj : a = o + j
        · subst hj
          have e : o + j - o = j := by omega
          simp only [e, if_true]
        · have hk : mfd (a - o) ≠ mfd j := fun e => hj (by have := mfd_inj (a - o) (by omega) j (by omega) e; omega)
          simp [hj, hk]
      · have hj : a ≠ o + j := by omega
        simp [hr, hj]
  · rfl
theorem mv_s2 {M : zM} {o j n : Nat} {S : zS} {v : Int64} (h1 : 1 ≤ j) (h2 : j ≤ 32) : zsL (mv M o S) (o + j) n v = mv M o (ms2 S (mfd j) n v) := by
  refine Prod.ext rfl (Prod.ext ?_ rfl)
  · funext a i
    simp only [zsL, mv, zup, ms2]
    by_cases ha : a = o
    · have e1 : ¬ (o = o + j) := by omega
      simp only [ha, if_true, e1, if_false]
      by_cases hi : marr i = true
      · simp [hi]
      · have hk : i ≠ mfd j := fun e => hi (by rw [e]; exact mfd_arr j (by omega) h1)
        simp [hi, hk]
    · simp only [ha, if_false]
      by_cases hr : o < a ∧ a ≤ o + 32
      · simp only [hr, and_self, if_true]
        by_cases hj : a = o + j
        · subst hj
          have e : o + j - o = j := by omega
          simp only [e, if_true]
        · have hk : mfd (a - o) ≠ mfd j := fun e => hj (by have := mfd_inj (a - o) (by omega) j (by omega) e; omega)
          simp [hj, hk]
      · have hj : a ≠ o + j := by omega
        simp [hr, hj]
section Mod
variable {E : zE} {cc : ByteArray} {F : zF} {pc q : Nat} {lv : List (Option Value)} {r : List Value} {M : zM} {o : Nat} {S : zS} {c s : Nat}
theorem m_getI {k ix : Nat} (hk0 : Sk E M o) (hf : FS F.1.cls ix 3 k false) (hd : decode cc pc = .ok (.getfield ix, 3)) (hq : pc + 3 = q) (ht : zty 3 k = .int) (hm : marr k = false) (kk : Go E cc F q lv (.int (S.1 k 0) :: r) (mv M o S) c s) : Go E cc F pc lv (.ref o :: r) (mv M o S) c s := by
  refine g_get hf hd hq hk0.2.1 (Or.inl rfl) ?_
  rw [ht]
  show Go E cc F q lv (.int (zI (mv M o S) o k) :: r) (mv M o S) c s
  rw [mv_I0 hm]
  exact kk
theorem m_getL {k ix : Nat} (hk0 : Sk E M o) (hf : FS F.1.cls ix 3 k false) (hd : decode cc pc = .ok (.getfield ix, 3)) (hq : pc + 3 = q) (ht : zty 3 k = .long) (hm : marr k = false) (kk : Go E cc F q lv (.long (S.2 k 0) :: r) (mv M o S) c s) : Go E cc F pc lv (.ref o :: r) (mv M o S) c s := by
  refine g_get hf hd hq hk0.2.1 (Or.inl rfl) ?_
  rw [ht]
  show Go E cc F q lv (.long (zL (mv M o S) o k) :: r) (mv M o S) c s
  rw [mv_L0 hm]
  exact kk
theorem m_getA {k ix j : Nat} (hk0 : Sk E M o) (hf : FS F.1.cls ix 3 k true) (hd : decode cc pc = .ok (.getfield ix, 3)) (hq : pc + 3 = q) (ht : ∀ M a, zv (zty 3 k) M a k = va_rf (zP M a k)) (hm : mfd j = k ∧ 1 ≤ j ∧ j ≤ 32) (kk : Go E cc F q lv (.ref (o + j) :: r) (mv M o S) c s) : Go E cc F pc lv (.ref o :: r) (mv M o S) c s := by
  refine g_get hf hd hq hk0.2.1 (Or.inl rfl) ?_
  rw [ht, show zP (mv M o S) o k = some (o + j) from by rw [← hm.1]; exact (hk0.2.2 j hm.2.1 hm.2.2).2.2]
  exact kk
theorem m_putI {k ix : Nat} {v : Int32} (hk0 : Sk E M o) (hf : FS F.1.cls ix 3 k false) (hd : decode cc pc = .ok (.putfield ix, 3)) (hq : pc + 3 = q) (ht : zty 3 k = .int) (hm : marr k = false) (kk : Go E cc F q lv r (mv M o (ms1 S k 0 v)) c s) : Go E cc F pc lv (.int v :: .ref o :: r) (mv M o S) c s := by
  refine g_putI hf hd hq hk0.2.1 hk0.1 ht ?_
  rw [mv_s10 hm]
  exact kk
theorem m_putL {k ix : Nat} {v : Int64} (hk0 : Sk E M o) (hf : FS F.1.cls ix 3 k false) (hd : decode cc pc = .ok (.putfield ix, 3)) (hq : pc + 3 = q) (ht : zty 3 k = .long) (hm : marr k = false) (kk : Go E cc F q lv r (mv M o (ms2 S k 0 v)) c s) : Go E cc F pc lv (.long v :: .ref o :: r) (mv M o S) c s := by
  refine g_putL hf hd hq hk0.2.1 hk0.1 ht ?_
  rw [mv_s20 hm]
  exact kk
/-- arrays: j the array's order, k its field, L its length, n the index -/
theorem m_iald {j k L n : Nat} {i : Int32} (hk0 : Sk E M o) (hd : decode cc pc = .ok (.iaload, 1)) (hq : pc + 1 = q) (hm : (mfd j = k ∧ mkd j = 1 ∧ mln j = L) ∧ (1 ≤ j ∧ j ≤ 32) ∧ L < 2 ^ 31) (hi : i = nI n) (hn : n < L) (kk : Go E cc F q lv (.int (S.1 k n) :: r) (mv M o S) c s) : Go E cc F pc lv (.int i :: .ref (o + j) :: r) (mv M o S) c s := by
  obtain ⟨⟨e1, e2, e3⟩, ⟨h1, h2⟩, hL⟩ := hm
  obtain ⟨g1, g2, g3⟩ := hk0.2.2 j h1 h2
  refine g_iald (j := n) hd hq (by show zK M (o + j) = 1; rw [g1, e2]) hi (Nat.lt_trans hn hL) (by show n < zN M (o + j); rw [g2, e3]; exact hn) ?_
  rw [mv_I h1 h2, e1]
  exact kk
theorem m_bald {j k L n : Nat} {i : Int32} (hk0 : Sk E M o) (hd : decode cc pc = .ok (.baload, 1)) (hq : pc + 1 = q) (hm : (mfd j = k ∧ mkd j = 3 ∧ mln j = L) ∧ (1 ≤ j ∧ j ≤ 32) ∧ L < 2 ^ 31) (hi : i = nI n) (hn : n < L) (kk : Go E cc F q lv (.int (S.1 k n) :: r) (mv M o S) c s) : Go E cc F pc lv (.int i :: .ref (o + j) :: r) (mv M o S) c s := by
  obtain ⟨⟨e1, e2, e3⟩, ⟨h1, h2⟩, hL⟩ := hm
  obtain ⟨g1, g2, g3⟩ := hk0.2.2 j h1 h2
  refine g_bald (j := n) hd hq (by show zK M (o + j) = 3; rw [g1, e2]) hi (Nat.lt_trans hn hL) (by show n < zN M (o + j); rw [g2, e3]; exact hn) ?_
  rw [mv_I h1 h2, e1]
  exact kk
theorem m_zald {j k L n : Nat} {i : Int32} (hk0 : Sk E M o) (hd : decode cc pc = .ok (.baload, 1)) (hq : pc + 1 = q) (hm : (mfd j = k ∧ mkd j = 4 ∧ mln j = L) ∧ (1 ≤ j ∧ j ≤ 32) ∧ L < 2 ^ 31) (hi : i = nI n) (hn : n < L) (kk : Go E cc F q lv (.int (S.1 k n) :: r) (mv M o S) c s) : Go E cc F pc lv (.int i :: .ref (o + j) :: r) (mv M o S) c s := by
  obtain ⟨⟨e1, e2, e3⟩, ⟨h1, h2⟩, hL⟩ := hm
  obtain ⟨g1, g2, g3⟩ := hk0.2.2 j h1 h2
  refine g_zald (j := n) hd hq (by show zK M (o + j) = 4; rw [g1, e2]) hi (Nat.lt_trans hn hL) (by show n < zN M (o + j); rw [g2, e3]; exact hn) ?_
  rw [mv_I h1 h2, e1]
  exact kk
theorem m_lald {j k L n : Nat} {i : Int32} (hk0 : Sk E M o) (hd : decode cc pc = .ok (.laload, 1)) (hq : pc + 1 = q) (hm : (mfd j = k ∧ mkd j = 2 ∧ mln j = L) ∧ (1 ≤ j ∧ j ≤ 32) ∧ L < 2 ^ 31) (hi : i = nI n) (hn : n < L) (kk : Go E cc F q lv (.long (S.2 k n) :: r) (mv M o S) c s) : Go E cc F pc lv (.int i :: .ref (o + j) :: r) (mv M o S) c s := by
  obtain ⟨⟨e1, e2, e3⟩, ⟨h1, h2⟩, hL⟩ := hm
  obtain ⟨g1, g2, g3⟩ := hk0.2.2 j h1 h2
  refine g_lald (j := n) hd hq (by show zK M (o + j) = 2; rw [g1, e2]) hi (Nat.lt_trans hn hL) (by show n < zN M (o + j); rw [g2, e3]; exact hn) ?_
  rw [mv_L h1 h2, e1]
  exact kk
theorem m_iast {j k L n : Nat} {i x : Int32} (hk0 : Sk E M o) (hd : decode cc pc = .ok (.iastore, 1)) (hq : pc + 1 = q) (hm : (mfd j = k ∧ mkd j = 1 ∧ mln j = L) ∧ (1 ≤ j ∧ j ≤ 32) ∧ L < 2 ^ 31) (hi : i = nI n) (hn : n < L) (kk : Go E cc F q lv r (mv M o (ms1 S k n x)) c s) : Go E cc F pc lv (.int x :: .int i :: .ref (o + j) :: r) (mv M o S) c s := by
  obtain ⟨⟨e1, e2, e3⟩, ⟨h1, h2⟩, hL⟩ := hm
  obtain ⟨g1, g2, g3⟩ := hk0.2.2 j h1 h2
  refine g_iast (j := n) hd hq (by show zK M (o + j) = 1; rw [g1, e2]) (Nat.le_trans hk0.1 (Nat.le_add_right _ _)) hi (Nat.lt_trans hn hL) (by show n < zN M (o + j); rw [g2, e3]; exact hn) ?_
  rw [mv_s1 h1 h2, e1]
  exact kk
theorem m_last {j k L n : Nat} {i : Int32} {x : Int64} (hk0 : Sk E M o) (hd : decode cc pc = .ok (.lastore, 1)) (hq : pc + 1 = q) (hm : (mfd j = k ∧ mkd j = 2 ∧ mln j = L) ∧ (1 ≤ j ∧ j ≤ 32) ∧ L < 2 ^ 31) (hi : i = nI n) (hn : n < L) (kk : Go E cc F q lv r (mv M o (ms2 S k n x)) c s) : Go E cc F pc lv (.long x :: .int i :: .ref (o + j) :: r) (mv M o S) c s := by
  obtain ⟨⟨e1, e2, e3⟩, ⟨h1, h2⟩, hL⟩ := hm
  obtain ⟨g1, g2, g3⟩ := hk0.2.2 j h1 h2
  refine g_last (j := n) hd hq (by show zK M (o + j) = 2; rw [g1, e2]) (Nat.le_trans hk0.1 (Nat.le_add_right _ _)) hi (Nat.lt_trans hn hL) (by show n < zN M (o + j); rw [g2, e3]; exact hn) ?_
  rw [mv_s2 h1 h2, e1]
  exact kk
theorem m_bast {j k L n : Nat} {i x y : Int32} (hk0 : Sk E M o) (hd : decode cc pc = .ok (.bastore, 1)) (hq : pc + 1 = q) (hm : (mfd j = k ∧ mkd j = 3 ∧ mln j = L) ∧ (1 ≤ j ∧ j ≤ 32) ∧ L < 2 ^ 31) (hi : i = nI n) (hn : n < L) (hx : narrow .byte (.int x) = .int y) (kk : Go E cc F q lv r (mv M o (ms1 S k n y)) c s) : Go E cc F pc lv (.int x :: .int i :: .ref (o + j) :: r) (mv M o S) c s := by
  obtain ⟨⟨e1, e2, e3⟩, ⟨h1, h2⟩, hL⟩ := hm
  obtain ⟨g1, g2, g3⟩ := hk0.2.2 j h1 h2
  refine g_bast (j := n) hd hq (by show zK M (o + j) = 3; rw [g1, e2]) (Nat.le_trans hk0.1 (Nat.le_add_right _ _)) hi (Nat.lt_trans hn hL) (by show n < zN M (o + j); rw [g2, e3]; exact hn) hx ?_
  rw [mv_s1 h1 h2, e1]
  exact kk
theorem m_zast {j k L n : Nat} {i x y : Int32} (hk0 : Sk E M o) (hd : decode cc pc = .ok (.bastore, 1)) (hq : pc + 1 = q) (hm : (mfd j = k ∧ mkd j = 4 ∧ mln j = L) ∧ (1 ≤ j ∧ j ≤ 32) ∧ L < 2 ^ 31) (hi : i = nI n) (hn : n < L) (hx : narrow .boolean (.int x) = .int y) (kk : Go E cc F q lv r (mv M o (ms1 S k n y)) c s) : Go E cc F pc lv (.int x :: .int i :: .ref (o + j) :: r) (mv M o S) c s := by
  obtain ⟨⟨e1, e2, e3⟩, ⟨h1, h2⟩, hL⟩ := hm
  obtain ⟨g1, g2, g3⟩ := hk0.2.2 j h1 h2
  refine g_zast (j := n) hd hq (by show zK M (o + j) = 4; rw [g1, e2]) (Nat.le_trans hk0.1 (Nat.le_add_right _ _)) hi (Nat.lt_trans hn hL) (by show n < zN M (o + j); rw [g2, e3]; exact hn) hx ?_
  rw [mv_s1 h1 h2, e1]
  exact kk
/-- contracts of the reference's methods: they make nothing -/
abbrev CoM (E : zE) (y : MethodName) (cc : ByteArray) (nL : Nat) (ret : Option FieldType) (d : Nat) (as : List Value) (M : zM) (o : Nat) (S : zS) (Post : Option Value → zM → Prop) : Prop := Con E y cc nL ret d 0 0 (.ref o :: as) (mv M o S) Post
/-- the memory's part of a post: the reference's memory is S' with P -/
def mP (M : zM) (o : Nat) (P : zS → Prop) : zM → Prop := fun M' => ∃ S' : zS, M' = mv M o S' ∧ P S'
theorem m_call {y : MethodName} {cc' : ByteArray} {nL' : Nat} {ret' : Option FieldType} {d' ix n : Nat} {as st : List Value} {Post : Option Value → zM → Prop} (hk0 : Sk E M o) (hC : Con E y cc' nL' ret' d' 0 0 (.ref o :: as) (mv M o S) Post) (hS : SV F.1.cls ix 3 y cc' nL' ret' n) (hd : decode cc pc = .ok (.invokevirtual ix, 3)) (hq : pc + 3 = q)
    (hn : as.length = n) (hst : st = as.reverse ++ .ref o :: r) (hcat : (r.map fun v => v.category).sum ≤ 8) (hfr : d' + 1 ≤ F.2.2.2.1.frames ∧ 64 + 64 * d' ≤ F.2.2.2.1.locals) (hm : c ≤ F.2.2.2.1.cells ∧ s ≤ F.2.2.2.1.slots)
    (kk : ∀ (v : Option Value) (M' : zM), Post v M' → Go E cc F q lv (v.toList ++ r) M' c s) : Go E cc F pc lv st (mv M o S) c s :=
  g_virtual hC hS hd hq hk0.2.1 hn hst hcat hfr hm kk
theorem m_calls {y : MethodName} {cc' : ByteArray} {nL' : Nat} {ret' : Option FieldType} {d' ix n : Nat} {as st : List Value} {Post : Option Value → zM → Prop} (hC : Con E y cc' nL' ret' d' 0 0 as M Post) (hS : SS F.1.cls ix y cc' nL' ret' n) (hd : decode cc pc = .ok (.invokestatic ix, 3)) (hq : pc + 3 = q)
    (hn : as.length = n) (hst : st = as.reverse ++ r) (hcat : (r.map fun v => v.category).sum ≤ 8) (hfr : d' + 1 ≤ F.2.2.2.1.frames ∧ 64 + 64 * d' ≤ F.2.2.2.1.locals) (hm : c ≤ F.2.2.2.1.cells ∧ s ≤ F.2.2.2.1.slots)
    (kk : ∀ (v : Option Value) (M' : zM), Post v M' → Go E cc F q lv (v.toList ++ r) M' c s) : Go E cc F pc lv st M c s :=
  g_static hC hS hd hq hn hst hcat hfr hm kk
theorem mgI {post : Int32 → zS → Prop} (kk : ∀ (x : Int32) (S' : zS), post x S' → Go E cc F pc lv (.int x :: r) (mv M o S') c s) : ∀ (v : Option Value) (M' : zM), pI (fun x => mP M o (post x)) v M' → Go E cc F pc lv (v.toList ++ r) M' c s := gI (fun x M' h => by obtain ⟨S', rfl, h⟩ := h; exact kk x S' h)
theorem mgL {post : Int64 → zS → Prop} (kk : ∀ (x : Int64) (S' : zS), post x S' → Go E cc F pc lv (.long x :: r) (mv M o S') c s) : ∀ (v : Option Value) (M' : zM), pL (fun x => mP M o (post x)) v M' → Go E cc F pc lv (v.toList ++ r) M' c s := gL (fun x M' h => by obtain ⟨S', rfl, h⟩ := h; exact kk x S' h)
theorem mgV {post : zS → Prop} (kk : ∀ (S' : zS), post S' → Go E cc F pc lv r (mv M o S') c s) : ∀ (v : Option Value) (M' : zM), pV (mP M o post) v M' → Go E cc F pc lv (v.toList ++ r) M' c s := gV (fun M' h => by obtain ⟨S', rfl, h⟩ := h; exact kk S' h)
end Mod
