set_option maxRecDepth 100000
/-! SETS OF MARKS AS LONGS -/
noncomputable def dB (p : Prop) : Bool := @decide p (Classical.propDecidable p)
theorem dB_t {p : Prop} (h : p) : dB p = true := @decide_eq_true p (Classical.propDecidable p) h
theorem dB_f {p : Prop} (h : ¬ p) : dB p = false := @decide_eq_false p (Classical.propDecidable p) h
theorem dB_iff {p : Prop} : dB p = true ↔ p := ⟨fun h => @of_decide_eq_true p (Classical.propDecidable p) h, dB_t⟩
theorem sl_add {r : Int64} {f : Nat → Bool} {k : Nat} (h : ∀ i, i < 64 → bl r i = (decide (i < k) && f i)) (hk : k < 64) (hf : f k = true) : ∀ i, i < 64 → bl (r ||| (1 : Int64) <<< ((nI k).toInt64 &&& 63)) i = (decide (i < k + 1) && f i) := by
  intro i hi
  rw [bl_or, h i hi, bl_one k hk hi]
  by_cases e : i = k
  · subst e; simp [hf]
  · by_cases h2 : i < k
    · simp [h2, e, Nat.lt_succ_of_lt h2]
    · simp [h2, e, show ¬ i < k + 1 by omega]
theorem sl_skip {r : Int64} {f : Nat → Bool} {k : Nat} (h : ∀ i, i < 64 → bl r i = (decide (i < k) && f i)) (hf : f k = false) : ∀ i, i < 64 → bl (r ||| 0) i = (decide (i < k + 1) && f i) := by
  intro i hi
  rw [bl_or, h i hi, bl_0]
  by_cases e : i = k
  · subst e; simp [hf]
  · by_cases h2 : i < k
    · simp [h2, Nat.lt_succ_of_lt h2]
    · simp [h2, show ¬ i < k + 1 by omega]
theorem sl_zero {f : Nat → Bool} : ∀ i, i < 64 → bl 0 i = (decide (i < 0) && f i) := fun i _ => by rw [bl_0]; simp
noncomputable def hB (L : LV) (i : Nat) : Bool := dB (∃ s p, s < 4 ∧ p < 12 ∧ vM L s p = nI i ∧ i < 32)
def rB (L : LV) (z i : Nat) : Bool := decide (dif z i = 0 ∧ dif i z ≤ vW L)
def aB (m w i : Nat) : Bool := decide (w < off m i)
theorem rB_t {L : LV} {z i : Nat} (h : dif z i = 0 ∧ dif i z ≤ vW L) : rB L z i = true := decide_eq_true h
theorem rB_f {L : LV} {z i : Nat} (h : ¬ (dif z i = 0 ∧ dif i z ≤ vW L)) : rB L z i = false := decide_eq_false h
theorem aB_t {m w i : Nat} (h : w < off m i) : aB m w i = true := decide_eq_true h
theorem aB_f {m w i : Nat} (h : off m i ≤ w) : aB m w i = false := decide_eq_false (Nat.not_lt.mpr h)
def clIn (p : Nat → Bool) (a : Nat) (l0 : Int32) : Nat → Int32
  | 0 => l0
  | b + 1 => if p a = true ∧ p b = true ∧ (clIn p a l0 b = -1 ∨ nI (off a b) < clIn p a l0 b) then nI (off a b) else clIn p a l0 b
theorem clIn_succ (p : Nat → Bool) (a : Nat) (l0 : Int32) (b : Nat) : clIn p a l0 (b + 1) = if p a = true ∧ p b = true ∧ (clIn p a l0 b = -1 ∨ nI (off a b) < clIn p a l0 b) then nI (off a b) else clIn p a l0 b := rfl
def clOut (p : Nat → Bool) : Nat → Int32
  | 0 => -1
  | a + 1 => clIn p a (clOut p a) a
theorem clIn_cong {p q : Nat → Bool} {a : Nat} {l0 : Int32} (ha : p a = q a) : ∀ {b : Nat}, (∀ i, i < b → p i = q i) → clIn p a l0 b = clIn q a l0 b
  | 0, _ => rfl
  | b + 1, h => by rw [clIn_succ, clIn_succ, clIn_cong ha (fun i hi => h i (by omega)), ha, h b (by omega)]
theorem clOut_cong {p q : Nat → Bool} : ∀ {n : Nat}, (∀ i, i < n → p i = q i) → clOut p n = clOut q n
  | 0, _ => rfl
  | n + 1, h => by
    show clIn p n (clOut p n) n = clIn q n (clOut q n) n
    rw [clOut_cong (fun i hi => h i (by omega)), clIn_cong (h n (by omega)) (fun i hi => h i (by omega))]
section MSet
variable {E : zE} {M : zM} {o : Nat} {S : zS} {L : LV}
/-- here -/
theorem lp_here (hk0 : Sk E M o) (hH : Hand S L) (hL : LOK L) {Post : Option Value → zM → Prop} (hpost : ∀ r : Int64, (∀ i, i < 64 → bl r i = hB L i) → Post (some (.long r)) (mv M o S)) :
    ∀ k : Nat, k ≤ 48 → ∀ r : Int64, (∀ i, i < 64 → (bl r i = true ↔ ∃ j, j < k ∧ (S.1 27) j = nI i ∧ i < 32)) → (GoR E yX3_here cX3_here 4 (some .long) 1 0 0) Post 4 [some (.ref o), some (.long r), none, some (.int (nI k))] [] (mv M o S) 0 0 := by
  refine up_ind _ (fun k hk ih r hr => ?_)
  have hmk : k < 48 → (S.1 27) k = vM L (k / 12) (k % 12) := fun h => by
    have := hH.2.2.2.2.2.2 (k / 12) (k % 12) (by omega) (by omega)
    rw [show 12 * (k / 12) + k % 12 = k by omega] at this
    exact this
  refine g_ild3 (q := 5) dX3_here_4 rfl ?_
  refine g_bipush (q := 7) dX3_here_5 kb_48 rfl ?_
  refine g_icN_ge (t := 41) (q := 10) dX3_here_7 rfl rfl (by omega) (by omega) (fun c_7 => ?_) (fun c_7 => ?_)
  · obtain rfl : k = 48 := by omega
    refine g_lld1 (q := 42) dX3_here_41 rfl ?_
    refine g_lret dX3_here_42 (Nat.zero_le _) (Nat.zero_le _) (hpost r (fun i hi => ?_))
    rw [Bool.eq_iff_iff, hr i hi]
    unfold hB
    rw [dB_iff]
    constructor
    · rintro ⟨j, h1, h2, h3⟩
      refine ⟨j / 12, j % 12, by omega, by omega, ?_, h3⟩
      have := hH.2.2.2.2.2.2 (j / 12) (j % 12) (by omega) (by omega)
      rw [show 12 * (j / 12) + j % 12 = j by omega] at this
      rw [← this]; exact h2
    · rintro ⟨s, p, h1, h2, h3, h4⟩
      exact ⟨12 * s + p, by omega, by rw [hH.2.2.2.2.2.2 s p h1 h2]; exact h3, h4⟩
  · refine g_lld1 (q := 11) dX3_here_10 rfl ?_
    refine g_ald0 (q := 12) dX3_here_11 rfl ?_
    refine m_getA (j := 13) (q := 15) hk0 fs_X3_47 dX3_here_12 rfl (fun _ _ => rfl) ⟨rfl, by decide, by decide⟩ ?_
    refine g_ild3 (q := 16) dX3_here_15 rfl ?_
    refine m_iald (n := k) (q := 17) hk0 dX3_here_16 rfl ma_27 rfl (by omega) ?_
    refine g_iconst (q := 18) dX3_here_17 ki_m1 rfl ?_
    refine g_ic_ne (t := 25) (q := 21) dX3_here_18 rfl rfl (fun c_18 => ?_) (fun c_18 => ?_)
    · have hm := hmk (by omega)
      rcases hL.mk (k / 12) (k % 12) with h0 | ⟨m, h32, h0⟩
      · exact absurd (hm.trans h0) c_18
      rw [← hm] at h0
      refine g_lconst (v := 1) (q := 26) dX3_here_25 rfl rfl ?_
      refine g_ald0 (q := 27) dX3_here_26 rfl ?_
      refine m_getA (j := 13) (q := 30) hk0 fs_X3_47 dX3_here_27 rfl (fun _ _ => rfl) ⟨rfl, by decide, by decide⟩ ?_
      refine g_ild3 (q := 31) dX3_here_30 rfl ?_
      refine m_iald (n := k) (q := 32) hk0 dX3_here_31 rfl ma_27 rfl (by omega) ?_
      refine g_top h0 ?_
      refine g_lshl (q := 33) dX3_here_32 rfl ?_
      refine g_lor (q := 34) dX3_here_33 rfl ?_
      refine g_lst1 (q := 35) dX3_here_34 rfl rfl ?_
      refine g_inc3 (w := nI (k + 1)) (q := 38) dX3_here_35 rfl (nI_1 _) rfl ?_
      refine g_goto (t := 4) dX3_here_38 rfl ?_
      refine ih (by omega) _ (fun i hi => ?_)
      rw [bl_or, Bool.or_eq_true, hr i hi, bl_one m (by omega) hi, decide_eq_true_iff]
      constructor
      · rintro (⟨j, h1, h2, h3⟩ | rfl)
        · exact ⟨j, by omega, h2, h3⟩
        · exact ⟨k, by omega, h0, h32⟩
      · rintro ⟨j, h1, h2, h3⟩
        by_cases e : j = k
        · subst e
          right
          exact ((nI_eq (by omega) (by omega)).mp (h2.symm.trans h0))
        · exact Or.inl ⟨j, by omega, h2, h3⟩
    · refine g_lconst (v := 0) (q := 22) dX3_here_21 rfl rfl ?_
      refine g_goto (t := 33) dX3_here_22 rfl ?_
      refine g_lor (q := 34) dX3_here_33 rfl ?_
      refine g_lst1 (q := 35) dX3_here_34 rfl rfl ?_
      refine g_inc3 (w := nI (k + 1)) (q := 38) dX3_here_35 rfl (nI_1 _) rfl ?_
      refine g_goto (t := 4) dX3_here_38 rfl ?_
      refine ih (by omega) _ (fun i hi => ?_)
      rw [bl_or, Bool.or_eq_true, hr i hi, bl_0]
      constructor
      · rintro (⟨j, h1, h2, h3⟩ | h)
        · exact ⟨j, by omega, h2, h3⟩
        · cases h
      · rintro ⟨j, h1, h2, h3⟩
        by_cases e : j = k
        · subst e
          exact absurd (h2.symm.trans c_18) (nI_m1 (by omega))
        · exact Or.inl ⟨j, by omega, h2, h3⟩
theorem c_here (hk0 : Sk E M o) (hH : Hand S L) (hL : LOK L) : (Con E yX3_here cX3_here 4 (some .long) 1 0 0) [.ref o] (mv M o S) (pL (fun r M' => (∀ i, i < 64 → bl r i = hB L i) ∧ M' = mv M o S)) := by
  refine Go.enter [some (.ref o), none, none, none] rfl (Nat.le_of_ble_eq_true rfl) rfl (Nat.le_of_ble_eq_true rfl) ?_
  refine g_lconst (v := 0) (q := 1) dX3_here_0 rfl rfl ?_
  refine g_lst1 (q := 2) dX3_here_1 rfl rfl ?_
  refine g_iconst (q := 3) dX3_here_2 ki_0 rfl ?_
  refine g_ist3 (q := 4) dX3_here_3 rfl rfl ?_
  refine lp_here hk0 hH hL (fun r hr => ⟨_, rfl, hr, rfl⟩) 0 (by omega) _ (fun i _ => ?_)
  rw [bl_0]
  exact ⟨(fun h => by cases h), (fun ⟨j, h, _⟩ => by omega)⟩
/-- readings -/
theorem lp_readings (hk0 : Sk E M o) (hH : Hand S L) (hL : LOK L) {z : Nat} {Post : Option Value → zM → Prop} (hpost : ∀ r : Int64, (∀ i, i < 64 → bl r i = (decide (i < 2 ^ vB L) && rB L z i)) → Post (some (.long r)) (mv M o S)) :
    ∀ k : Nat, k ≤ 2 ^ vB L → ∀ r : Int64, (∀ i, i < 64 → bl r i = (decide (i < k) && rB L z i)) → (GoR E yX3_readingsOf cX3_readingsOf 5 (some .long) 4 0 0) Post 5 [some (.ref o), some (.int (nI z)), some (.long r), none, some (.int (nI k))] [] (mv M o S) 0 0 := by
  have hp := pow_b hL.1.2
  have h5 := hL.1.2
  have hw := hL.2.1
  refine up_ind _ (fun k hk ih r hr => ?_)
  refine g_ild4 (q := 7) dX3_readingsOf_5 rfl ?_
  refine g_iconst (q := 8) dX3_readingsOf_7 ki_1 rfl ?_
  refine g_ald0 (q := 9) dX3_readingsOf_8 rfl ?_
  refine m_getI (q := 12) hk0 fs_X3_234 dX3_readingsOf_9 rfl rfl rfl ?_
  refine g_top hH.1 ?_
  refine g_ishl (q := 13) dX3_readingsOf_12 rfl ?_
  refine g_top (shl1 _ (by omega)) ?_
  refine g_icN_ge (t := 47) (q := 16) dX3_readingsOf_13 rfl rfl (by omega) (by omega) (fun c_13 => ?_) (fun c_13 => ?_)
  · obtain rfl : k = 2 ^ vB L := by omega
    refine g_lld2 (q := 48) dX3_readingsOf_47 rfl ?_
    exact g_lret dX3_readingsOf_48 (Nat.zero_le _) (Nat.zero_le _) (hpost r hr)
  · refine g_lld2 (q := 17) dX3_readingsOf_16 rfl ?_
    refine g_ald0 (q := 18) dX3_readingsOf_17 rfl ?_
    refine g_ild4 (q := 20) dX3_readingsOf_18 rfl ?_
    refine g_ild1 (q := 21) dX3_readingsOf_20 rfl ?_
    refine g_ald0 (q := 22) dX3_readingsOf_21 rfl ?_
    refine m_getI (q := 25) hk0 fs_X3_237 dX3_readingsOf_22 rfl rfl rfl ?_
    refine g_top hH.2.1 ?_
    refine m_call (q := 28) hk0 (c_mayBe _ _ _ _ _ _ (by omega) _) sv_X3_257 dX3_readingsOf_25 rfl rfl rfl (Nat.le_of_ble_eq_true rfl) ⟨Nat.le_of_ble_eq_true rfl, Nat.le_of_ble_eq_true rfl⟩ ⟨Nat.zero_le _, Nat.zero_le _⟩ (gIe ?_)
    refine g_ifb_eq (t := 38) (q := 31) dX3_readingsOf_28 rfl rfl (fun c_28 => ?_) (fun c_28 => ?_)
    · refine g_lconst (v := 0) (q := 39) dX3_readingsOf_38 rfl rfl ?_
      refine g_lor (q := 40) dX3_readingsOf_39 rfl ?_
      refine g_lst2 (q := 41) dX3_readingsOf_40 rfl rfl ?_
      refine g_inc4 (w := nI (k + 1)) (q := 44) dX3_readingsOf_41 rfl (nI_1 _) rfl ?_
      refine g_goto (t := 5) dX3_readingsOf_44 rfl ?_
      exact ih (by omega) _ (sl_skip hr (rB_f c_28))
    · refine g_lconst (v := 1) (q := 32) dX3_readingsOf_31 rfl rfl ?_
      refine g_ild4 (q := 34) dX3_readingsOf_32 rfl ?_
      refine g_lshl (q := 35) dX3_readingsOf_34 rfl ?_
      refine g_goto (t := 39) dX3_readingsOf_35 rfl ?_
      refine g_lor (q := 40) dX3_readingsOf_39 rfl ?_
      refine g_lst2 (q := 41) dX3_readingsOf_40 rfl rfl ?_
      refine g_inc4 (w := nI (k + 1)) (q := 44) dX3_readingsOf_41 rfl (nI_1 _) rfl ?_
      refine g_goto (t := 5) dX3_readingsOf_44 rfl ?_
      exact ih (by omega) _ (sl_add hr (by omega) (rB_t c_28))
theorem c_readingsOf (hk0 : Sk E M o) (hH : Hand S L) (hL : LOK L) (z : Nat) : (Con E yX3_readingsOf cX3_readingsOf 5 (some .long) 4 0 0) [.ref o, .int (nI z)] (mv M o S) (pL (fun r M' => (∀ i, i < 64 → bl r i = (decide (i < 2 ^ vB L) && rB L z i)) ∧ M' = mv M o S)) := by
  refine Go.enter [some (.ref o), some (.int (nI z)), none, none, none] rfl (Nat.le_of_ble_eq_true rfl) rfl (Nat.le_of_ble_eq_true rfl) ?_
  refine g_lconst (v := 0) (q := 1) dX3_readingsOf_0 rfl rfl ?_
  refine g_lst2 (q := 2) dX3_readingsOf_1 rfl rfl ?_
  refine g_iconst (q := 3) dX3_readingsOf_2 ki_0 rfl ?_
  refine g_ist4 (q := 5) dX3_readingsOf_3 rfl rfl ?_
  exact lp_readings hk0 hH hL (fun r hr => ⟨_, rfl, hr, rfl⟩) 0 (Nat.zero_le _) _ sl_zero
/-- marks apart -/
theorem lp_apart (hk0 : Sk E M o) (hH : Hand S L) (hL : LOK L) {m w : Nat} (hw : w < 2 ^ 31) {Post : Option Value → zM → Prop} (hpost : ∀ r : Int64, (∀ i, i < 64 → bl r i = (decide (i < 2 ^ vB L) && aB m w i)) → Post (some (.long r)) (mv M o S)) :
    ∀ k : Nat, k ≤ 2 ^ vB L → ∀ r : Int64, (∀ i, i < 64 → bl r i = (decide (i < k) && aB m w i)) → (GoR E yX3_apartFrom cX3_apartFrom 6 (some .long) 4 0 0) Post 5 [some (.ref o), some (.int (nI m)), some (.int (nI w)), some (.long r), none, some (.int (nI k))] [] (mv M o S) 0 0 := by
  have hp := pow_b hL.1.2
  have h5 := hL.1.2
  refine up_ind _ (fun k hk ih r hr => ?_)
  have h32 := off_le m k
  refine g_ild5 (q := 7) dX3_apartFrom_5 rfl ?_
  refine g_iconst (q := 8) dX3_apartFrom_7 ki_1 rfl ?_
  refine g_ald0 (q := 9) dX3_apartFrom_8 rfl ?_
  refine m_getI (q := 12) hk0 fs_X3_234 dX3_apartFrom_9 rfl rfl rfl ?_
  refine g_top hH.1 ?_
  refine g_ishl (q := 13) dX3_apartFrom_12 rfl ?_
  refine g_top (shl1 _ (by omega)) ?_
  refine g_icN_ge (t := 43) (q := 16) dX3_apartFrom_13 rfl rfl (by omega) (by omega) (fun c_13 => ?_) (fun c_13 => ?_)
  · obtain rfl : k = 2 ^ vB L := by omega
    refine g_lld3 (q := 44) dX3_apartFrom_43 rfl ?_
    exact g_lret dX3_apartFrom_44 (Nat.zero_le _) (Nat.zero_le _) (hpost r hr)
  · refine g_lld3 (q := 17) dX3_apartFrom_16 rfl ?_
    refine g_ild1 (q := 18) dX3_apartFrom_17 rfl ?_
    refine g_ild5 (q := 20) dX3_apartFrom_18 rfl ?_
    refine m_calls (q := 23) (c_offOf _ _ _ _) ss_X3_264 dX3_apartFrom_20 rfl rfl rfl (Nat.le_of_ble_eq_true rfl) ⟨Nat.le_of_ble_eq_true rfl, Nat.le_of_ble_eq_true rfl⟩ ⟨Nat.zero_le _, Nat.zero_le _⟩ (gIe ?_)
    refine g_ild2 (q := 24) dX3_apartFrom_23 rfl ?_
    refine g_icN_le (t := 34) (q := 27) dX3_apartFrom_24 rfl rfl (by omega) (by omega) (fun c_24 => ?_) (fun c_24 => ?_)
    · refine g_lconst (v := 0) (q := 35) dX3_apartFrom_34 rfl rfl ?_
      refine g_lor (q := 36) dX3_apartFrom_35 rfl ?_
      refine g_lst3 (q := 37) dX3_apartFrom_36 rfl rfl ?_
      refine g_inc5 (w := nI (k + 1)) (q := 40) dX3_apartFrom_37 rfl (nI_1 _) rfl ?_
      refine g_goto (t := 5) dX3_apartFrom_40 rfl ?_
      exact ih (by omega) _ (sl_skip hr (aB_f c_24))
    · refine g_lconst (v := 1) (q := 28) dX3_apartFrom_27 rfl rfl ?_
      refine g_ild5 (q := 30) dX3_apartFrom_28 rfl ?_
      refine g_lshl (q := 31) dX3_apartFrom_30 rfl ?_
      refine g_goto (t := 35) dX3_apartFrom_31 rfl ?_
      refine g_lor (q := 36) dX3_apartFrom_35 rfl ?_
      refine g_lst3 (q := 37) dX3_apartFrom_36 rfl rfl ?_
      refine g_inc5 (w := nI (k + 1)) (q := 40) dX3_apartFrom_37 rfl (nI_1 _) rfl ?_
      refine g_goto (t := 5) dX3_apartFrom_40 rfl ?_
      exact ih (by omega) _ (sl_add hr (by omega) (aB_t c_24))
theorem c_apartFrom (hk0 : Sk E M o) (hH : Hand S L) (hL : LOK L) (m w : Nat) (hw : w < 2 ^ 31) : (Con E yX3_apartFrom cX3_apartFrom 6 (some .long) 4 0 0) [.ref o, .int (nI m), .int (nI w)] (mv M o S) (pL (fun r M' => (∀ i, i < 64 → bl r i = (decide (i < 2 ^ vB L) && aB m w i)) ∧ M' = mv M o S)) := by
  refine Go.enter [some (.ref o), some (.int (nI m)), some (.int (nI w)), none, none, none] rfl (Nat.le_of_ble_eq_true rfl) rfl (Nat.le_of_ble_eq_true rfl) ?_
  refine g_lconst (v := 0) (q := 1) dX3_apartFrom_0 rfl rfl ?_
  refine g_lst3 (q := 2) dX3_apartFrom_1 rfl rfl ?_
  refine g_iconst (q := 3) dX3_apartFrom_2 ki_0 rfl ?_
  refine g_ist5 (q := 5) dX3_apartFrom_3 rfl rfl ?_
  exact lp_apart hk0 hH hL hw (fun r hr => ⟨_, rfl, hr, rfl⟩) 0 (Nat.zero_le _) _ sl_zero
/-- close -/
theorem lp_closeIn {hr : Int64} {a : Nat} (ha : a < 32) {l0 : Int32} {Post : Option Value → zM → Prop} (kk : ∀ x6, (GoR E yX3_close cX3_close 7 (some .int) 4 0 0) Post 91 [some (.ref o), some (.long hr), none, some (.int (clIn (bl hr) a l0 a)), some (.int (nI a)), some (.int (nI a)), x6] [] M 0 0) :
    ∀ b : Nat, b ≤ a → ∀ x6, (GoR E yX3_close cX3_close 7 (some .int) 4 0 0) Post 20 [some (.ref o), some (.long hr), none, some (.int (clIn (bl hr) a l0 b)), some (.int (nI a)), some (.int (nI b)), x6] [] M 0 0 := by
  refine up_ind _ (fun b hb ih x6 => ?_)
  refine g_ild5 (q := 22) dX3_close_20 rfl ?_
  refine g_ild4 (q := 24) dX3_close_22 rfl ?_
  refine g_icN_ge (t := 91) (q := 27) dX3_close_24 rfl rfl (by omega) (by omega) (fun c_24 => ?_) (fun c_24 => ?_)
  · obtain rfl : b = a := by omega
    exact kk _
  · refine g_lld1 (q := 28) dX3_close_27 rfl ?_
    refine g_ild4 (q := 30) dX3_close_28 rfl ?_
    refine m_calls (q := 33) (c_has _ _ _ _ (by omega)) ss_X3_115 dX3_close_30 rfl rfl rfl (Nat.le_of_ble_eq_true rfl) ⟨Nat.le_of_ble_eq_true rfl, Nat.le_of_ble_eq_true rfl⟩ ⟨Nat.zero_le _, Nat.zero_le _⟩ (gIe ?_)
    refine g_ifb_eq (t := 49) (q := 36) dX3_close_33 rfl rfl (fun c_33 => ?_) (fun c_33 => ?_)
    · refine g_iconst (q := 50) dX3_close_49 ki_0 rfl ?_
      refine g_ist6 (q := 52) dX3_close_50 rfl rfl ?_
      refine g_ild6 (q := 54) dX3_close_52 rfl ?_
      refine g_if_eq (t := 83) (q := 57) dX3_close_54 rfl rfl (fun _ => ?_) (fun c_ => absurd c_ (by decide))
      refine g_ild3 (q := 84) dX3_close_83 rfl ?_
      refine g_ist3 (q := 85) dX3_close_84 rfl rfl ?_
      refine g_inc5 (w := nI (b + 1)) (q := 88) dX3_close_85 rfl (nI_1 _) rfl ?_
      refine g_goto (t := 20) dX3_close_88 rfl ?_
      have := ih (by omega)
      rw [clIn_succ, if_neg (fun h => c_33 h.1)] at this
      exact this _
    · refine g_lld1 (q := 37) dX3_close_36 rfl ?_
      refine g_ild5 (q := 39) dX3_close_37 rfl ?_
      refine m_calls (q := 42) (c_has _ _ _ _ (by omega)) ss_X3_115 dX3_close_39 rfl rfl rfl (Nat.le_of_ble_eq_true rfl) ⟨Nat.le_of_ble_eq_true rfl, Nat.le_of_ble_eq_true rfl⟩ ⟨Nat.zero_le _, Nat.zero_le _⟩ (gIe ?_)
      refine g_ifb_eq (t := 49) (q := 45) dX3_close_42 rfl rfl (fun c_42 => ?_) (fun c_42 => ?_)
      · refine g_iconst (q := 50) dX3_close_49 ki_0 rfl ?_
        refine g_ist6 (q := 52) dX3_close_50 rfl rfl ?_
        refine g_ild6 (q := 54) dX3_close_52 rfl ?_
        refine g_if_eq (t := 83) (q := 57) dX3_close_54 rfl rfl (fun _ => ?_) (fun c_ => absurd c_ (by decide))
        refine g_ild3 (q := 84) dX3_close_83 rfl ?_
        refine g_ist3 (q := 85) dX3_close_84 rfl rfl ?_
        refine g_inc5 (w := nI (b + 1)) (q := 88) dX3_close_85 rfl (nI_1 _) rfl ?_
        refine g_goto (t := 20) dX3_close_88 rfl ?_
        have := ih (by omega)
        rw [clIn_succ, if_neg (fun h => c_42 h.2.1)] at this
        exact this _
      · refine g_iconst (q := 46) dX3_close_45 ki_1 rfl ?_
        refine g_goto (t := 50) dX3_close_46 rfl ?_
        refine g_ist6 (q := 52) dX3_close_50 rfl rfl ?_
        refine g_ild6 (q := 54) dX3_close_52 rfl ?_
        refine g_if_eq (t := 83) (q := 57) dX3_close_54 rfl rfl (fun c_ => absurd c_ (by decide)) (fun _ => ?_)
        refine g_ild3 (q := 58) dX3_close_57 rfl ?_
        refine g_iconst (q := 59) dX3_close_58 ki_m1 rfl ?_
        refine g_ic_eq (t := 73) (q := 62) dX3_close_59 rfl rfl (fun c_59 => ?_) (fun c_59 => ?_)
        · refine g_ild4 (q := 75) dX3_close_73 rfl ?_
          refine g_ild5 (q := 77) dX3_close_75 rfl ?_
          refine m_calls (q := 80) (c_offOf _ _ _ _) ss_X3_264 dX3_close_77 rfl rfl rfl (Nat.le_of_ble_eq_true rfl) ⟨Nat.le_of_ble_eq_true rfl, Nat.le_of_ble_eq_true rfl⟩ ⟨Nat.zero_le _, Nat.zero_le _⟩ (gIe ?_)
          refine g_goto (t := 84) dX3_close_80 rfl ?_
          refine g_ist3 (q := 85) dX3_close_84 rfl rfl ?_
          refine g_inc5 (w := nI (b + 1)) (q := 88) dX3_close_85 rfl (nI_1 _) rfl ?_
          refine g_goto (t := 20) dX3_close_88 rfl ?_
          have := ih (by omega)
          rw [clIn_succ, if_pos ⟨c_33, c_42, Or.inl c_59⟩] at this
          exact this _
        · refine g_ild4 (q := 64) dX3_close_62 rfl ?_
          refine g_ild5 (q := 66) dX3_close_64 rfl ?_
          refine m_calls (q := 69) (c_offOf _ _ _ _) ss_X3_264 dX3_close_66 rfl rfl rfl (Nat.le_of_ble_eq_true rfl) ⟨Nat.le_of_ble_eq_true rfl, Nat.le_of_ble_eq_true rfl⟩ ⟨Nat.zero_le _, Nat.zero_le _⟩ (gIe ?_)
          refine g_ild3 (q := 70) dX3_close_69 rfl ?_
          refine g_ic_ge (t := 83) (q := 73) dX3_close_70 rfl rfl (fun c_70 => ?_) (fun c_70 => ?_)
          · refine g_ild3 (q := 84) dX3_close_83 rfl ?_
            refine g_ist3 (q := 85) dX3_close_84 rfl rfl ?_
            refine g_inc5 (w := nI (b + 1)) (q := 88) dX3_close_85 rfl (nI_1 _) rfl ?_
            refine g_goto (t := 20) dX3_close_88 rfl ?_
            have := ih (by omega)
            rw [clIn_succ, if_neg (fun h => h.2.2.elim c_59 (fun e => Int32.not_lt.mpr c_70 e))] at this
            exact this _
          · refine g_ild4 (q := 75) dX3_close_73 rfl ?_
            refine g_ild5 (q := 77) dX3_close_75 rfl ?_
            refine m_calls (q := 80) (c_offOf _ _ _ _) ss_X3_264 dX3_close_77 rfl rfl rfl (Nat.le_of_ble_eq_true rfl) ⟨Nat.le_of_ble_eq_true rfl, Nat.le_of_ble_eq_true rfl⟩ ⟨Nat.zero_le _, Nat.zero_le _⟩ (gIe ?_)
            refine g_goto (t := 84) dX3_close_80 rfl ?_
            refine g_ist3 (q := 85) dX3_close_84 rfl rfl ?_
            refine g_inc5 (w := nI (b + 1)) (q := 88) dX3_close_85 rfl (nI_1 _) rfl ?_
            refine g_goto (t := 20) dX3_close_88 rfl ?_
            have := ih (by omega)
            rw [clIn_succ, if_pos ⟨c_33, c_42, Or.inr (Int32.not_le.mp c_70)⟩] at this
            exact this _
theorem lp_closeOut {hr : Int64} {Post : Option Value → zM → Prop} (hpost : Post (some (.int (clOut (bl hr) 32))) M) :
    ∀ a : Nat, a ≤ 32 → ∀ x5 x6, (GoR E yX3_close cX3_close 7 (some .int) 4 0 0) Post 10 [some (.ref o), some (.long hr), none, some (.int (clOut (bl hr) a)), some (.int (nI a)), x5, x6] [] M 0 0 := by
  refine up_ind _ (fun a ha ih x5 x6 => ?_)
  refine g_ild4 (q := 12) dX3_close_10 rfl ?_
  refine g_bipush (q := 14) dX3_close_12 kb_32 rfl ?_
  refine g_icN_ge (t := 97) (q := 17) dX3_close_14 rfl rfl (by omega) (by omega) (fun c_14 => ?_) (fun c_14 => ?_)
  · obtain rfl : a = 32 := by omega
    refine g_ild3 (q := 98) dX3_close_97 rfl ?_
    exact g_iret dX3_close_98 (Nat.zero_le _) (Nat.zero_le _) hpost
  · refine g_iconst (q := 18) dX3_close_17 ki_0 rfl ?_
    refine g_ist5 (q := 20) dX3_close_18 rfl rfl ?_
    refine lp_closeIn (by omega) (l0 := clOut (bl hr) a) (fun x6 => ?_) 0 (by omega) _
    refine g_inc4 (w := nI (a + 1)) (q := 94) dX3_close_91 rfl (nI_1 _) rfl ?_
    refine g_goto (t := 10) dX3_close_94 rfl ?_
    exact ih (by omega) _ _
theorem c_close (hk0 : Sk E M o) (hH : Hand S L) (hL : LOK L) : (Con E yX3_close cX3_close 7 (some .int) 4 0 0) [.ref o] (mv M o S) (pI (fun x M' => x = clOut (hB L) 32 ∧ M' = mv M o S)) := by
  refine Go.enter [some (.ref o), none, none, none, none, none, none] rfl (Nat.le_of_ble_eq_true rfl) rfl (Nat.le_of_ble_eq_true rfl) ?_
  refine g_ald0 (q := 1) dX3_close_0 rfl ?_
  refine m_call (q := 4) hk0 (c_here hk0 hH hL) sv_X3_260 dX3_close_1 rfl rfl rfl (Nat.le_of_ble_eq_true rfl) ⟨Nat.le_of_ble_eq_true rfl, Nat.le_of_ble_eq_true rfl⟩ ⟨Nat.zero_le _, Nat.zero_le _⟩ (gL fun hr M' h => ?_)
  obtain ⟨hr1, rfl⟩ := h
  refine g_lst1 (q := 5) dX3_close_4 rfl rfl ?_
  refine g_iconst (q := 6) dX3_close_5 ki_m1 rfl ?_
  refine g_ist3 (q := 7) dX3_close_6 rfl rfl ?_
  refine g_iconst (q := 8) dX3_close_7 ki_0 rfl ?_
  refine g_ist4 (q := 10) dX3_close_8 rfl rfl ?_
  exact lp_closeOut ⟨_, rfl, clOut_cong (fun i hi => hr1 i (by omega)), rfl⟩ 0 (by omega) _ _
end MSet

