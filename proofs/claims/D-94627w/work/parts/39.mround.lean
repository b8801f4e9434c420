set_option maxRecDepth 100000
/-! A ROUND's VALUE: how many readers, asks; where readers are, what is asked -/
abbrev RV : Type := Nat × Nat × (Nat → Nat) × (Nat → Nat)
def ROK (R : RV) : Prop := (1 ≤ R.1 ∧ R.1 ≤ 3) ∧ R.2.1 ≤ 12 ∧ (∀ k, R.2.2.1 k < 12) ∧ (∀ k, R.2.2.2 k < 12)
def RR (f : Nat → Int32) (a : Nat) (R : RV) : Prop := f a = nI R.1 ∧ f (a + 1) = nI R.2.1 ∧ (∀ k, k < R.1 → f (a + 2 + k) = nI (R.2.2.1 k)) ∧ (∀ k, k < R.2.1 → f (a + 5 + k) = nI (R.2.2.2 k))
def MRs (S : zS) (n : Nat) (Rs : Nat → RV) : Prop := n ≤ 2 ∧ (S.1 5) 2 = nI n ∧ ∀ r, r < n → RR ((S.1 8)) (17 * r) (Rs r) ∧ ROK (Rs r)
def spo (c r : Nat) : Nat := c / 12 ^ r % 12
def mvd (c r t : Nat) : Nat := c - spo c r * 12 ^ r + t * 12 ^ r
def dst (a b : Nat) : Nat := if a < b then b - a else a - b
/-- the round is laid -/
def RLaid (S : zS) (R : RV) : Prop := (S.1 55 0) = nI R.1 ∧ (S.1 56 0) = nI R.2.1 ∧ (∀ k, k < 3 → (S.1 57) k = nI (if k < R.1 then R.2.2.1 k else 0)) ∧ (∀ k, k < R.2.1 → (S.1 58) k = nI (R.2.2.2 k))
theorem mvd_ok {c r t : Nat} : nI c + (nI t - nI (spo c r)) * nI (12 ^ r) = nI (mvd c r t) := by
  have h : spo c r * 12 ^ r ≤ c := by
    unfold spo
    have h1 : c / 12 ^ r % 12 ≤ c / 12 ^ r := Nat.mod_le _ _
    exact Nat.le_trans (Nat.mul_le_mul_right _ h1) (Nat.div_mul_le_self _ _)
  have e : nI c + (nI t - nI (spo c r)) * nI (12 ^ r) = (nI c - nI (spo c r) * nI (12 ^ r)) + nI t * nI (12 ^ r) := by grind
  rw [e, pk_mul, pk_mul, pk_sub h, nI_add]
  rfl
section MRound
variable {E : zE} {M : zM} {o : Nat} {S S0 : zS} {n : Nat} {Rs : Nat → RV} {R : RV}
theorem c_unit (E : zE) (M : zM) (r : Nat) (hr : r < 3) : (Con E yX3_unit cX3_unit 1 (some .int) 1 0 0) [.int (nI r)] M (pI (fun x M' => x = nI (12 ^ r) ∧ M' = M)) := by
  rcases (show r = 0 ∨ r = 1 ∨ r = 2 by omega) with rfl | rfl | rfl
  · refine Go.enter [some (.int (nI 0))] rfl (Nat.le_of_ble_eq_true rfl) rfl (Nat.le_of_ble_eq_true rfl) ?_
    refine g_ild0 (q := 1) dX3_unit_0 rfl ?_
    refine g_if_ne (t := 8) (q := 4) dX3_unit_1 rfl rfl (fun c_ => absurd c_ (by decide)) (fun _ => ?_)
    refine g_iconst (q := 5) dX3_unit_4 ki_1 rfl ?_
    refine g_goto (t := 21) dX3_unit_5 rfl ?_
    refine g_iret dX3_unit_21 (Nat.zero_le _) (Nat.zero_le _) ?_
    exact ⟨_, rfl, rfl, rfl⟩
  · refine Go.enter [some (.int (nI 1))] rfl (Nat.le_of_ble_eq_true rfl) rfl (Nat.le_of_ble_eq_true rfl) ?_
    refine g_ild0 (q := 1) dX3_unit_0 rfl ?_
    refine g_if_ne (t := 8) (q := 4) dX3_unit_1 rfl rfl (fun _ => ?_) (fun c_ => absurd c_ (by decide))
    refine g_ild0 (q := 9) dX3_unit_8 rfl ?_
    refine g_iconst (q := 10) dX3_unit_9 ki_1 rfl ?_
    refine g_ic_ne (t := 18) (q := 13) dX3_unit_10 rfl rfl (fun c_ => absurd c_ (by decide)) (fun _ => ?_)
    refine g_bipush (q := 15) dX3_unit_13 kb_12 rfl ?_
    refine g_goto (t := 21) dX3_unit_15 rfl ?_
    refine g_iret dX3_unit_21 (Nat.zero_le _) (Nat.zero_le _) ?_
    exact ⟨_, rfl, rfl, rfl⟩
  · refine Go.enter [some (.int (nI 2))] rfl (Nat.le_of_ble_eq_true rfl) rfl (Nat.le_of_ble_eq_true rfl) ?_
    refine g_ild0 (q := 1) dX3_unit_0 rfl ?_
    refine g_if_ne (t := 8) (q := 4) dX3_unit_1 rfl rfl (fun _ => ?_) (fun c_ => absurd c_ (by decide))
    refine g_ild0 (q := 9) dX3_unit_8 rfl ?_
    refine g_iconst (q := 10) dX3_unit_9 ki_1 rfl ?_
    refine g_ic_ne (t := 18) (q := 13) dX3_unit_10 rfl rfl (fun _ => ?_) (fun c_ => absurd c_ (by decide))
    refine g_sipush (q := 21) dX3_unit_18 ks_144 rfl ?_
    refine g_iret dX3_unit_21 (Nat.zero_le _) (Nat.zero_le _) ?_
    exact ⟨_, rfl, rfl, rfl⟩
theorem pw12 (r : Nat) (hr : r < 3) : 0 < 12 ^ r ∧ 12 ^ r ≤ 144 := by
  rcases (show r = 0 ∨ r = 1 ∨ r = 2 by omega) with rfl | rfl | rfl <;> decide
theorem c_spotOf (E : zE) (M : zM) (c r : Nat) (hc : c < 1728) (hr : r < 3) : (Con E yX3_spotOf cX3_spotOf 2 (some .int) 2 0 0) [.int (nI c), .int (nI r)] M (pI (fun x M' => x = nI (spo c r) ∧ M' = M)) := by
  have hp := pw12 r hr
  have hd : c / 12 ^ r ≤ c := Nat.div_le_self _ _
  refine Go.enter [some (.int (nI c)), some (.int (nI r))] rfl (Nat.le_of_ble_eq_true rfl) rfl (Nat.le_of_ble_eq_true rfl) ?_
  refine g_ild0 (q := 1) dX3_spotOf_0 rfl ?_
  refine g_ild1 (q := 2) dX3_spotOf_1 rfl ?_
  refine m_calls (q := 5) (c_unit _ _ _ (by omega)) ss_X3_445 dX3_spotOf_2 rfl rfl rfl (Nat.le_of_ble_eq_true rfl) ⟨Nat.le_of_ble_eq_true rfl, Nat.le_of_ble_eq_true rfl⟩ ⟨Nat.zero_le _, Nat.zero_le _⟩ (gIe ?_)
  refine g_top rfl ?_
  refine g_idivN (q := 6) dX3_spotOf_5 (by omega) (by omega) (by omega) rfl ?_
  refine g_bipush (q := 8) dX3_spotOf_6 kb_12 rfl ?_
  refine g_iremN (q := 9) dX3_spotOf_8 (by omega) (by omega) (by omega) rfl ?_
  refine g_iret dX3_spotOf_9 (Nat.zero_le _) (Nat.zero_le _) ?_
  exact ⟨_, rfl, rfl, rfl⟩
theorem c_moved (E : zE) (M : zM) (c r t : Nat) (hc : c < 1728) (hr : r < 3) : (Con E yX3_moved cX3_moved 3 (some .int) 3 0 0) [.int (nI c), .int (nI r), .int (nI t)] M (pI (fun x M' => x = nI (mvd c r t) ∧ M' = M)) := by
  refine Go.enter [some (.int (nI c)), some (.int (nI r)), some (.int (nI t))] rfl (Nat.le_of_ble_eq_true rfl) rfl (Nat.le_of_ble_eq_true rfl) ?_
  refine g_ild0 (q := 1) dX3_moved_0 rfl ?_
  refine g_ild2 (q := 2) dX3_moved_1 rfl ?_
  refine g_ild0 (q := 3) dX3_moved_2 rfl ?_
  refine g_ild1 (q := 4) dX3_moved_3 rfl ?_
  refine m_calls (q := 7) (c_spotOf _ _ _ _ (by omega) (by omega)) ss_X3_448 dX3_moved_4 rfl rfl rfl (Nat.le_of_ble_eq_true rfl) ⟨Nat.le_of_ble_eq_true rfl, Nat.le_of_ble_eq_true rfl⟩ ⟨Nat.zero_le _, Nat.zero_le _⟩ (gIe ?_)
  refine g_isub (q := 8) dX3_moved_7 rfl ?_
  refine g_ild1 (q := 9) dX3_moved_8 rfl ?_
  refine m_calls (q := 12) (c_unit _ _ _ (by omega)) ss_X3_445 dX3_moved_9 rfl rfl rfl (Nat.le_of_ble_eq_true rfl) ⟨Nat.le_of_ble_eq_true rfl, Nat.le_of_ble_eq_true rfl⟩ ⟨Nat.zero_le _, Nat.zero_le _⟩ (gIe ?_)
  refine g_imul (q := 13) dX3_moved_12 rfl ?_
  refine g_iadd (q := 14) dX3_moved_13 rfl ?_
  refine g_iret dX3_moved_14 (Nat.zero_le _) (Nat.zero_le _) ?_
  exact ⟨_, rfl, mvd_ok, rfl⟩
theorem c_stepsOf (E : zE) (M : zM) (a b : Nat) (ha : a < 2 ^ 31) (hb : b < 2 ^ 31) : (Con E yX3_stepsOf cX3_stepsOf 2 (some .int) 1 0 0) [.int (nI a), .int (nI b)] M (pI (fun x M' => x = nI (dst a b) ∧ M' = M)) := by
  refine Go.enter [some (.int (nI a)), some (.int (nI b))] rfl (Nat.le_of_ble_eq_true rfl) rfl (Nat.le_of_ble_eq_true rfl) ?_
  refine g_ild0 (q := 1) dX3_stepsOf_0 rfl ?_
  refine g_ild1 (q := 2) dX3_stepsOf_1 rfl ?_
  refine g_icN_ge (t := 11) (q := 5) dX3_stepsOf_2 rfl rfl (by omega) (by omega) (fun c_2 => ?_) (fun c_2 => ?_)
  · refine g_ild0 (q := 12) dX3_stepsOf_11 rfl ?_
    refine g_ild1 (q := 13) dX3_stepsOf_12 rfl ?_
    refine g_isubN (q := 14) dX3_stepsOf_13 (by omega) rfl ?_
    refine g_iret dX3_stepsOf_14 (Nat.zero_le _) (Nat.zero_le _) ?_
    exact ⟨_, rfl, by unfold dst; rw [if_neg (by omega)], rfl⟩
  · refine g_ild1 (q := 6) dX3_stepsOf_5 rfl ?_
    refine g_ild0 (q := 7) dX3_stepsOf_6 rfl ?_
    refine g_isubN (q := 8) dX3_stepsOf_7 (by omega) rfl ?_
    refine g_goto (t := 14) dX3_stepsOf_8 rfl ?_
    refine g_iret dX3_stepsOf_14 (Nat.zero_le _) (Nat.zero_le _) ?_
    exact ⟨_, rfl, by unfold dst; rw [if_pos c_2], rfl⟩
end MRound

