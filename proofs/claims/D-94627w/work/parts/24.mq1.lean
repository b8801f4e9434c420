set_option maxRecDepth 100000
/-- the fields that a question may change -/
abbrev scr : List Nat := [0, 9, 10, 11, 12, 13, 14, 15, 16, 17, 18, 19, 20, 21, 22, 23, 24, 25, 26, 27, 28, 29, 30, 31, 32, 33, 34, 35, 36, 37, 38, 39, 40, 41, 42, 43, 44, 45, 46, 47, 48, 49, 50, 51, 52, 53, 54, 55, 56, 57, 58, 59, 60]
theorem hks_scr : ∀ k, hks.contains k = true → scr.contains k = true := by
  intro k h
  simp only [List.contains_cons, List.contains_nil, Bool.or_false, Bool.or_eq_true, beq_iff_eq] at h ⊢
  omega
theorem MLs.kp {ks : List Nat} {S S' : zS} {n : Nat} {Ls : Nat → LV} (h : MLs S n Ls) (hk : Kp ks S S') (h5 : ks.contains 5 = false) (h6 : ks.contains 6 = false) : MLs S' n Ls := by
  refine ⟨h.1, by rw [(hk 5 h5).1]; exact h.2.1, fun l hl => ?_⟩
  rw [(hk 6 h6).1]
  exact h.2.2 l hl
theorem MLs.cd {S : zS} {n : Nat} {Ls : Nat → LV} {v : Int32} (h : MLs S n Ls) : MLs (ms1 S 0 0 v) n Ls := h.kp (ks := [0]) (Kp.rf.s1 rfl) rfl rfl
/-- a set as a long -/
def mkL (f : Nat → Bool) : Nat → Int64
  | 0 => 0
  | k + 1 => mkL f k ||| (if f k = true then (1 : Int64) <<< ((nI k).toInt64 &&& 63) else 0)
theorem bl_mkL (f : Nat → Bool) : ∀ k, k ≤ 64 → ∀ i, i < 64 → bl (mkL f k) i = (decide (i < k) && f i)
  | 0, _ => sl_zero
  | k + 1, hk => by
    show ∀ i, i < 64 → bl (mkL f k ||| _) i = _
    by_cases h : f k = true
    · rw [if_pos h]; exact sl_add (bl_mkL f k (by omega)) (by omega) h
    · rw [if_neg h]; exact sl_skip (bl_mkL f k (by omega)) (by simpa using h)
theorem eq_mkL {r : Int64} {f : Nat → Bool} {k : Nat} (hk : k ≤ 64) (h : ∀ i, i < 64 → bl r i = (decide (i < k) && f i)) : r = mkL f k := bl_ext (fun i hi => by rw [h i hi, bl_mkL f k hk i hi])
theorem hB_32 {L : LV} {i : Nat} (h : hB L i = true) : i < 32 := by
  obtain ⟨_, _, _, _, _, h⟩ := dB_iff.mp h
  exact h
/-! the questions' answers -/
def q_place (n : Nat) (Ls : Nat → LV) (l s p : Int32) : Int32 := if ixo l n ∧ ixo s (vN (Ls l.toNatClampNeg)) ∧ ixo p (vP (Ls l.toNatClampNeg) s.toNatClampNeg) then vM (Ls l.toNatClampNeg) s.toNatClampNeg p.toNatClampNeg else -2
def q_off (n : Nat) (Ls : Nat → LV) (l a b y : Int32) : Int32 := if ixo l n ∧ ixo a (2 ^ vB (Ls l.toNatClampNeg)) ∧ ixo b (2 ^ vB (Ls l.toNatClampNeg)) then (if y = 0 then nI (off a.toNatClampNeg b.toNatClampNeg) else nI (off a.toNatClampNeg b.toNatClampNeg * vR (Ls l.toNatClampNeg))) else -1
noncomputable def q_readings (n : Nat) (Ls : Nat → LV) (l z w : Int32) : Int64 := if ixo l n ∧ ixo z (2 ^ vB (Ls l.toNatClampNeg)) ∧ (w = 0 ∨ w = 1) then (if w = 0 then mkL (rB (Ls l.toNatClampNeg) z.toNatClampNeg) (2 ^ vB (Ls l.toNatClampNeg)) else mkL (fun i => rB (Ls l.toNatClampNeg) z.toNatClampNeg i && hB (Ls l.toNatClampNeg) i) (2 ^ vB (Ls l.toNatClampNeg))) else -1
section MQ1
variable {E : zE} {M : zM} {o : Nat} {S : zS} {n : Nat} {Ls : Nat → LV}
theorem c_place (hk0 : Sk E M o) (hM : MLs S n Ls) (l s p : Int32) : (Con E yX3_place cX3_place 4 (some .int) 4 0 0) [.ref o, .int l, .int s, .int p] (mv M o S) (pI (fun x => mP M o (fun S' => x = q_place n Ls l s p ∧ Kp scr S S'))) := by
  have h2 := hM.1
  refine Go.enter [some (.ref o), some (.int l), some (.int s), some (.int p)] rfl (Nat.le_of_ble_eq_true rfl) rfl (Nat.le_of_ble_eq_true rfl) ?_
  refine g_ald0 (q := 1) dX3_place_0 rfl ?_
  refine g_iconst (q := 2) dX3_place_1 ki_0 rfl ?_
  refine m_putI (q := 5) hk0 fs_X3_111 dX3_place_2 rfl rfl rfl ?_
  refine g_ald0 (q := 6) dX3_place_5 rfl ?_
  refine g_ild1 (q := 7) dX3_place_6 rfl ?_
  refine m_call (q := 10) hk0 (c_hand hk0 hM.cd _) sv_X3_270 dX3_place_7 rfl rfl rfl (Nat.le_of_ble_eq_true rfl) ⟨Nat.le_of_ble_eq_true rfl, Nat.le_of_ble_eq_true rfl⟩ ⟨Nat.zero_le _, Nat.zero_le _⟩ (mgI fun x S' h => ?_)
  obtain ⟨rfl, hK, hJ⟩ := h
  have hK : Kp scr S S' := (Kp.rf.s1 (ks := scr) (k := 0) rfl).then (hK.up hks_scr)
  refine g_ifb_eq (t := 36) (q := 13) dX3_place_10 rfl rfl (fun c_10 => ?_) (fun c_10 => ?_)
  · refine g_bipush (q := 38) dX3_place_36 kb_m2 rfl ?_
    refine g_iret dX3_place_38 (Nat.zero_le _) (Nat.zero_le _) ?_
    first
      | exact ⟨_, rfl, _, rfl, by unfold q_place; rw [if_neg (fun h => c_10 h.1)], hK⟩
      | exact ⟨_, rfl, _, rfl, by unfold q_place; rw [nI_clamp (by omega), if_neg (fun h => c_19 h.2)], hK⟩
      | exact ⟨_, rfl, _, rfl, by unfold q_place; rw [nI_clamp (by omega), nI_clamp (by omega), nI_clamp (by omega), if_pos ⟨c_10, c1, c2⟩]; exact hH.2.2.2.2.2.2 s p (by omega) (by omega), hK⟩
  · obtain ⟨hH, -⟩ := hJ c_10
    obtain ⟨l, hl, rfl⟩ := ixo_of c_10 (by omega)
    rw [nI_clamp (by omega)] at hH
    have hL := (hM.2.2 l hl).2
    have h4 := hL.2.2.2.1
    refine g_ald0 (q := 14) dX3_place_13 rfl ?_
    refine g_ild2 (q := 15) dX3_place_14 rfl ?_
    refine g_ild3 (q := 16) dX3_place_15 rfl ?_
    refine m_call (q := 19) hk0 (c_isPlace hk0 hH hL _ _) sv_X3_345 dX3_place_16 rfl rfl rfl (Nat.le_of_ble_eq_true rfl) ⟨Nat.le_of_ble_eq_true rfl, Nat.le_of_ble_eq_true rfl⟩ ⟨Nat.zero_le _, Nat.zero_le _⟩ (gIe ?_)
    refine g_ifb_eq (t := 36) (q := 22) dX3_place_19 rfl rfl (fun c_19 => ?_) (fun c_19 => ?_)
    · refine g_bipush (q := 38) dX3_place_36 kb_m2 rfl ?_
      refine g_iret dX3_place_38 (Nat.zero_le _) (Nat.zero_le _) ?_
      first
        | exact ⟨_, rfl, _, rfl, by unfold q_place; rw [if_neg (fun h => c_10 h.1)], hK⟩
        | exact ⟨_, rfl, _, rfl, by unfold q_place; rw [nI_clamp (by omega), if_neg (fun h => c_19 h.2)], hK⟩
        | exact ⟨_, rfl, _, rfl, by unfold q_place; rw [nI_clamp (by omega), nI_clamp (by omega), nI_clamp (by omega), if_pos ⟨c_10, c1, c2⟩]; exact hH.2.2.2.2.2.2 s p (by omega) (by omega), hK⟩
    · obtain ⟨c1, c2⟩ := c_19
      obtain ⟨s, hs, rfl⟩ := ixo_of c1 (by omega)
      rw [nI_clamp (by omega)] at c2
      have h12 := hL.p12 s
      obtain ⟨p, hp, rfl⟩ := ixo_of c2 (by omega)
      refine g_ald0 (q := 23) dX3_place_22 rfl ?_
      refine m_getA (j := 13) (q := 26) hk0 fs_X3_47 dX3_place_23 rfl (fun _ _ => rfl) ⟨rfl, by decide, by decide⟩ ?_
      refine g_bipush (q := 28) dX3_place_26 kb_12 rfl ?_
      refine g_ild2 (q := 29) dX3_place_28 rfl ?_
      refine g_imul (q := 30) dX3_place_29 rfl ?_
      refine g_ild3 (q := 31) dX3_place_30 rfl ?_
      refine g_iadd (q := 32) dX3_place_31 rfl ?_
      refine m_iald (n := (12 * s + p)) (q := 33) hk0 dX3_place_32 rfl ma_27 ((congrArg (fun z => z + nI p) (pk_mul 12 s)).trans (nI_add _ _)) (by omega) ?_
      refine g_goto (t := 38) dX3_place_33 rfl ?_
      refine g_iret dX3_place_38 (Nat.zero_le _) (Nat.zero_le _) ?_
      first
        | exact ⟨_, rfl, _, rfl, by unfold q_place; rw [if_neg (fun h => c_10 h.1)], hK⟩
        | exact ⟨_, rfl, _, rfl, by unfold q_place; rw [nI_clamp (by omega), if_neg (fun h => c_19 h.2)], hK⟩
        | exact ⟨_, rfl, _, rfl, by unfold q_place; rw [nI_clamp (by omega), nI_clamp (by omega), nI_clamp (by omega), if_pos ⟨c_10, c1, c2⟩]; exact hH.2.2.2.2.2.2 s p (by omega) (by omega), hK⟩
theorem c_off (hk0 : Sk E M o) (hM : MLs S n Ls) (l a b y : Int32) : (Con E yX3_off cX3_off 5 (some .int) 4 0 0) [.ref o, .int l, .int a, .int b, .int y] (mv M o S) (pI (fun x => mP M o (fun S' => x = q_off n Ls l a b y ∧ Kp scr S S'))) := by
  have h2 := hM.1
  refine Go.enter [some (.ref o), some (.int l), some (.int a), some (.int b), some (.int y)] rfl (Nat.le_of_ble_eq_true rfl) rfl (Nat.le_of_ble_eq_true rfl) ?_
  refine g_ald0 (q := 1) dX3_off_0 rfl ?_
  refine g_iconst (q := 2) dX3_off_1 ki_0 rfl ?_
  refine m_putI (q := 5) hk0 fs_X3_111 dX3_off_2 rfl rfl rfl ?_
  refine g_ald0 (q := 6) dX3_off_5 rfl ?_
  refine g_ild1 (q := 7) dX3_off_6 rfl ?_
  refine m_call (q := 10) hk0 (c_hand hk0 hM.cd _) sv_X3_270 dX3_off_7 rfl rfl rfl (Nat.le_of_ble_eq_true rfl) ⟨Nat.le_of_ble_eq_true rfl, Nat.le_of_ble_eq_true rfl⟩ ⟨Nat.zero_le _, Nat.zero_le _⟩ (mgI fun x S' h => ?_)
  obtain ⟨rfl, hK, hJ⟩ := h
  have hK : Kp scr S S' := (Kp.rf.s1 (ks := scr) (k := 0) rfl).then (hK.up hks_scr)
  refine g_ifb_eq (t := 29) (q := 13) dX3_off_10 rfl rfl (fun c_10 => ?_) (fun c_10 => ?_)
  · refine g_iconst (q := 30) dX3_off_29 ki_m1 rfl ?_
    refine g_iret dX3_off_30 (Nat.zero_le _) (Nat.zero_le _) ?_
    first
      | exact ⟨_, rfl, _, rfl, by unfold q_off; rw [if_neg (fun h => c_10 h.1)], hK⟩
      | exact ⟨_, rfl, _, rfl, by unfold q_off; rw [nI_clamp (by omega), if_neg (fun h => c_18 h.2.1)], hK⟩
      | exact ⟨_, rfl, _, rfl, by unfold q_off; rw [nI_clamp (by omega), if_neg (fun h => c_26 h.2.2)], hK⟩
      | exact ⟨_, rfl, _, rfl, by unfold q_off; rw [nI_clamp (by omega), nI_clamp (by omega), nI_clamp (by omega), if_pos ⟨c_10, c_18, c_26⟩, if_pos c_33], hK⟩
      | exact ⟨_, rfl, _, rfl, by unfold q_off; rw [nI_clamp (by omega), nI_clamp (by omega), nI_clamp (by omega), if_pos ⟨c_10, c_18, c_26⟩, if_neg c_33], hK⟩
  · obtain ⟨hH, -⟩ := hJ c_10
    obtain ⟨l, hl, rfl⟩ := ixo_of c_10 (by omega)
    rw [nI_clamp (by omega)] at hH
    have hL := (hM.2.2 l hl).2
    have h32 := pow_b hL.1.2
    refine g_ald0 (q := 14) dX3_off_13 rfl ?_
    refine g_ild2 (q := 15) dX3_off_14 rfl ?_
    refine m_call (q := 18) hk0 (c_isMark hk0 hH hL _) sv_X3_348 dX3_off_15 rfl rfl rfl (Nat.le_of_ble_eq_true rfl) ⟨Nat.le_of_ble_eq_true rfl, Nat.le_of_ble_eq_true rfl⟩ ⟨Nat.zero_le _, Nat.zero_le _⟩ (gIe ?_)
    refine g_ifb_eq (t := 29) (q := 21) dX3_off_18 rfl rfl (fun c_18 => ?_) (fun c_18 => ?_)
    · refine g_iconst (q := 30) dX3_off_29 ki_m1 rfl ?_
      refine g_iret dX3_off_30 (Nat.zero_le _) (Nat.zero_le _) ?_
      first
        | exact ⟨_, rfl, _, rfl, by unfold q_off; rw [if_neg (fun h => c_10 h.1)], hK⟩
        | exact ⟨_, rfl, _, rfl, by unfold q_off; rw [nI_clamp (by omega), if_neg (fun h => c_18 h.2.1)], hK⟩
        | exact ⟨_, rfl, _, rfl, by unfold q_off; rw [nI_clamp (by omega), if_neg (fun h => c_26 h.2.2)], hK⟩
        | exact ⟨_, rfl, _, rfl, by unfold q_off; rw [nI_clamp (by omega), nI_clamp (by omega), nI_clamp (by omega), if_pos ⟨c_10, c_18, c_26⟩, if_pos c_33], hK⟩
        | exact ⟨_, rfl, _, rfl, by unfold q_off; rw [nI_clamp (by omega), nI_clamp (by omega), nI_clamp (by omega), if_pos ⟨c_10, c_18, c_26⟩, if_neg c_33], hK⟩
    · refine g_ald0 (q := 22) dX3_off_21 rfl ?_
      refine g_ild3 (q := 23) dX3_off_22 rfl ?_
      refine m_call (q := 26) hk0 (c_isMark hk0 hH hL _) sv_X3_348 dX3_off_23 rfl rfl rfl (Nat.le_of_ble_eq_true rfl) ⟨Nat.le_of_ble_eq_true rfl, Nat.le_of_ble_eq_true rfl⟩ ⟨Nat.zero_le _, Nat.zero_le _⟩ (gIe ?_)
      refine g_ifb_ne (t := 31) (q := 29) dX3_off_26 rfl rfl (fun c_26 => ?_) (fun c_26 => ?_)
      · obtain ⟨a, ha, rfl⟩ := ixo_of c_18 (by omega)
        obtain ⟨b, hb, rfl⟩ := ixo_of c_26 (by omega)
        refine g_ild4 (q := 33) dX3_off_31 rfl ?_
        refine g_if_eq (t := 49) (q := 36) dX3_off_33 rfl rfl (fun c_33 => ?_) (fun c_33 => ?_)
        · refine g_ild2 (q := 50) dX3_off_49 rfl ?_
          refine g_ild3 (q := 51) dX3_off_50 rfl ?_
          refine m_calls (q := 54) (c_offOf _ _ _ _) ss_X3_264 dX3_off_51 rfl rfl rfl (Nat.le_of_ble_eq_true rfl) ⟨Nat.le_of_ble_eq_true rfl, Nat.le_of_ble_eq_true rfl⟩ ⟨Nat.zero_le _, Nat.zero_le _⟩ (gIe ?_)
          refine g_iret dX3_off_54 (Nat.zero_le _) (Nat.zero_le _) ?_
          first
            | exact ⟨_, rfl, _, rfl, by unfold q_off; rw [if_neg (fun h => c_10 h.1)], hK⟩
            | exact ⟨_, rfl, _, rfl, by unfold q_off; rw [nI_clamp (by omega), if_neg (fun h => c_18 h.2.1)], hK⟩
            | exact ⟨_, rfl, _, rfl, by unfold q_off; rw [nI_clamp (by omega), if_neg (fun h => c_26 h.2.2)], hK⟩
            | exact ⟨_, rfl, _, rfl, by unfold q_off; rw [nI_clamp (by omega), nI_clamp (by omega), nI_clamp (by omega), if_pos ⟨c_10, c_18, c_26⟩, if_pos c_33], hK⟩
            | exact ⟨_, rfl, _, rfl, by unfold q_off; rw [nI_clamp (by omega), nI_clamp (by omega), nI_clamp (by omega), if_pos ⟨c_10, c_18, c_26⟩, if_neg c_33], hK⟩
        · refine g_ild2 (q := 37) dX3_off_36 rfl ?_
          refine g_ild3 (q := 38) dX3_off_37 rfl ?_
          refine m_calls (q := 41) (c_offOf _ _ _ _) ss_X3_264 dX3_off_38 rfl rfl rfl (Nat.le_of_ble_eq_true rfl) ⟨Nat.le_of_ble_eq_true rfl, Nat.le_of_ble_eq_true rfl⟩ ⟨Nat.zero_le _, Nat.zero_le _⟩ (gIe ?_)
          refine g_ald0 (q := 42) dX3_off_41 rfl ?_
          refine m_getI (q := 45) hk0 fs_X3_240 dX3_off_42 rfl rfl rfl ?_
          refine g_top hH.2.2.1 ?_
          refine g_imulN (q := 46) dX3_off_45 rfl ?_
          refine g_goto (t := 54) dX3_off_46 rfl ?_
          refine g_iret dX3_off_54 (Nat.zero_le _) (Nat.zero_le _) ?_
          first
            | exact ⟨_, rfl, _, rfl, by unfold q_off; rw [if_neg (fun h => c_10 h.1)], hK⟩
            | exact ⟨_, rfl, _, rfl, by unfold q_off; rw [nI_clamp (by omega), if_neg (fun h => c_18 h.2.1)], hK⟩
            | exact ⟨_, rfl, _, rfl, by unfold q_off; rw [nI_clamp (by omega), if_neg (fun h => c_26 h.2.2)], hK⟩
            | exact ⟨_, rfl, _, rfl, by unfold q_off; rw [nI_clamp (by omega), nI_clamp (by omega), nI_clamp (by omega), if_pos ⟨c_10, c_18, c_26⟩, if_pos c_33], hK⟩
            | exact ⟨_, rfl, _, rfl, by unfold q_off; rw [nI_clamp (by omega), nI_clamp (by omega), nI_clamp (by omega), if_pos ⟨c_10, c_18, c_26⟩, if_neg c_33], hK⟩
      · refine g_iconst (q := 30) dX3_off_29 ki_m1 rfl ?_
        refine g_iret dX3_off_30 (Nat.zero_le _) (Nat.zero_le _) ?_
        first
          | exact ⟨_, rfl, _, rfl, by unfold q_off; rw [if_neg (fun h => c_10 h.1)], hK⟩
          | exact ⟨_, rfl, _, rfl, by unfold q_off; rw [nI_clamp (by omega), if_neg (fun h => c_18 h.2.1)], hK⟩
          | exact ⟨_, rfl, _, rfl, by unfold q_off; rw [nI_clamp (by omega), if_neg (fun h => c_26 h.2.2)], hK⟩
          | exact ⟨_, rfl, _, rfl, by unfold q_off; rw [nI_clamp (by omega), nI_clamp (by omega), nI_clamp (by omega), if_pos ⟨c_10, c_18, c_26⟩, if_pos c_33], hK⟩
          | exact ⟨_, rfl, _, rfl, by unfold q_off; rw [nI_clamp (by omega), nI_clamp (by omega), nI_clamp (by omega), if_pos ⟨c_10, c_18, c_26⟩, if_neg c_33], hK⟩
end MQ1

