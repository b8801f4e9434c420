set_option maxRecDepth 100000
/-- of those of a set, the k-th -/
theorem ct_lt {p : Nat → Bool} {a b : Nat} (h : a < b) (ha : p a = true) : fb_ct p a < fb_ct p b := by
  have h1 := fb_ct_mono p (show a + 1 ≤ b from h)
  rw [fb_ct_succ, if_pos ha] at h1
  omega
def qnth (p : Nat → Bool) (k : Nat) (x : Int32) : Prop := Fst (fun i => p i = true ∧ fb_ct p i = k) 32 nI (-1) x
/-- pairs of a set that are near -/
def prs (p : Nat → Bool) (t : Nat) (m : Nat) : Nat := fb_sm (fun a => fb_ct (fun b => p a && (p b && decide (off a b ≤ t))) a) m
noncomputable def q_pairs (n : Nat) (Ls : Nat → LV) (l y : Int32) : Int32 := if ixo y 1000 ∧ ixo l n then nI (prs (hB (Ls l.toNatClampNeg)) (y.toNatClampNeg / vR (Ls l.toNatClampNeg)) 32) else -1
/-- a choice of bits that tells all of a set apart -/
def TellP (p : Nat → Bool) (f : Nat) : Prop := ∀ a, a < 32 → ∀ b, b < a → p a = true → p b = true → (a ^^^ b) &&& f ≠ 0
def pcI (x : Int32) : Nat := fb_ct (bt x) 32
noncomputable def tlB (p : Nat → Bool) : Nat → Int32
  | 0 => -1
  | k + 1 => if (tlB p k = -1 ∨ pcI (nI k) < pcI (tlB p k)) ∧ dB (TellP p k) = true then nI k else tlB p k
theorem tlB_succ (p : Nat → Bool) (k : Nat) : tlB p (k + 1) = if (tlB p k = -1 ∨ pcI (nI k) < pcI (tlB p k)) ∧ dB (TellP p k) = true then nI k else tlB p k := rfl
noncomputable def q_tells (n : Nat) (Ls : Nat → LV) (l : Int32) : Int32 := if ixo l n then tlB (hB (Ls l.toNatClampNeg)) (2 ^ vB (Ls l.toNatClampNeg)) else -1
theorem pc_long (x : Int32) : fb_ct (bl x.toInt64) 32 = pcI x := fb_ct_cong (fun i hi => by rw [bl_ext32 _ (by omega), if_pos hi])
theorem in_n {v : Int32} {m : Nat} (hm : m < 2 ^ 31 - 1) : (nI 0 ≤ v ∧ v ≤ nI m) ↔ ixo v (m + 1) := by
  rw [Int32.le_iff_toInt_le, Int32.le_iff_toInt_le, nI_toInt (n := 0) (by decide), nI_toInt (n := m) (by omega)]
  omega
section MQ4
variable {E : zE} {M : zM} {o : Nat} {S : zS} {n : Nat} {Ls : Nat → LV} {L : LV}
/-- the first mark that is apart from all -/
theorem lp_fresh (hk0 : Sk E M o) (hH : Hand S L) (hL : LOK L) {l : Int32} {w : Nat} {h : Int64} (hw : w < 6) (hh : ∀ i, i < 64 → bl h i = hB L i) {Post : Option Value → zM → Prop} (hpost : ∀ x, Fst (fun k => ∀ i, i < 32 → hB L i = true → w < off k i) (2 ^ vB L) nI (-1) x → Post (some (.int x)) (mv M o S)) :
    ∀ p, p ≤ 2 ^ vB L → (∀ j, j < p → ¬ ∀ i, i < 32 → hB L i = true → w < off j i) → (GoR E yX3_fresh cX3_fresh 6 (some .int) 5 0 0) Post 32 [some (.ref o), some (.int l), some (.int (nI w)), some (.long h), none, some (.int (nI p))] [] (mv M o S) 0 0 := by
  have h32 := pow_b hL.1.2
  have h5 := hL.1.2
  refine up_ind _ (fun p hp ih hno => ?_)
  refine g_ild5 (q := 34) dX3_fresh_32 rfl ?_
  refine g_iconst (q := 35) dX3_fresh_34 ki_1 rfl ?_
  refine g_ald0 (q := 36) dX3_fresh_35 rfl ?_
  refine m_getI (q := 39) hk0 fs_X3_234 dX3_fresh_36 rfl rfl rfl ?_
  refine g_top hH.1 ?_
  refine g_ishl (q := 40) dX3_fresh_39 rfl ?_
  refine g_top (shl1 _ (by omega)) ?_
  refine g_icN_ge (t := 70) (q := 43) dX3_fresh_40 rfl rfl (by omega) (by omega) (fun c_40 => ?_) (fun c_40 => ?_)
  · obtain rfl : p = 2 ^ vB L := by omega
    refine g_iconst (q := 71) dX3_fresh_70 ki_m1 rfl ?_
    exact g_iret dX3_fresh_71 (Nat.zero_le _) (Nat.zero_le _) (hpost _ (Or.inr ⟨hno, rfl⟩))
  · refine g_lld3 (q := 44) dX3_fresh_43 rfl ?_
    refine g_ald0 (q := 45) dX3_fresh_44 rfl ?_
    refine g_ild5 (q := 47) dX3_fresh_45 rfl ?_
    refine g_ild2 (q := 48) dX3_fresh_47 rfl ?_
    refine m_call (q := 51) hk0 (c_apartFrom hk0 hH hL p w (by omega)) sv_X3_357 dX3_fresh_48 rfl rfl rfl (Nat.le_of_ble_eq_true rfl) ⟨Nat.le_of_ble_eq_true rfl, Nat.le_of_ble_eq_true rfl⟩ ⟨Nat.zero_le _, Nat.zero_le _⟩ (gL fun r M' hr => ?_)
    obtain ⟨hr, rfl⟩ := hr
    have key : (h &&& (r ^^^ (-1))) = 0 ↔ ∀ i, i < 32 → hB L i = true → w < off p i := by
      constructor
      · intro e i hi hb
        have e2 := congrArg (fun y => bl y i) e
        simp only [bl_and, bl_xor, bl_0, hh i (by omega), hr i (by omega), bl_m1 i (by omega), hb] at e2
        have hlt := hB_lt hL hb
        unfold aB at e2
        simp only [hlt, decide_true, Bool.true_and, Bool.xor_true, Bool.not_eq_false', decide_eq_true_eq] at e2
        exact e2
      · intro e
        refine bl_ext (fun i hi => ?_)
        rw [bl_and, bl_xor, bl_0, hh i hi, hr i hi, bl_m1 i hi]
        cases hb : hB L i with
        | false => rfl
        | true =>
          have hlt := hB_lt hL hb
          rw [aB_t (e i (hB_32 hb) hb), decide_eq_true hlt]
          rfl
    refine g_ldc2 (v := -1) (q := 54) q2026 dX3_fresh_51 rfl ?_
    refine g_lxor (q := 55) dX3_fresh_54 rfl ?_
    refine g_land (q := 56) dX3_fresh_55 rfl ?_
    refine g_lconst (v := 0) (q := 57) dX3_fresh_56 rfl rfl ?_
    refine g_lcmp (q := 58) dX3_fresh_57 rfl ?_
    refine g_lcn (t := 64) (q := 61) dX3_fresh_58 rfl rfl (fun c_58 => ?_) (fun c_58 => ?_)
    · refine g_inc5 (w := nI (p + 1)) (q := 67) dX3_fresh_64 rfl (nI_1 _) rfl ?_
      refine g_goto (t := 32) dX3_fresh_67 rfl ?_
      exact ih (by omega) (lt_s hno (fun e => c_58 (key.mpr e)))
    · exact g_ild5 (q := 63) dX3_fresh_61 rfl (g_iret dX3_fresh_63 (Nat.zero_le _) (Nat.zero_le _) (hpost _ (Or.inl ⟨p, by omega, key.mp c_58, hno, rfl⟩)))
theorem c_fresh (hk0 : Sk E M o) (hM : MLs S n Ls) (l w : Int32) : (Con E yX3_fresh cX3_fresh 6 (some .int) 5 0 0) [.ref o, .int l, .int w] (mv M o S) (pI (fun x => mP M o (fun S' => q_fresh n Ls l w x ∧ Kp scr S S'))) := by
  have h2 := hM.1
  refine Go.enter [some (.ref o), some (.int l), some (.int w), none, none, none] rfl (Nat.le_of_ble_eq_true rfl) rfl (Nat.le_of_ble_eq_true rfl) ?_
  refine g_ald0 (q := 1) dX3_fresh_0 rfl ?_
  refine g_iconst (q := 2) dX3_fresh_1 ki_0 rfl ?_
  refine m_putI (q := 5) hk0 fs_X3_111 dX3_fresh_2 rfl rfl rfl ?_
  refine g_ild2 (q := 6) dX3_fresh_5 rfl ?_
  refine g_iconst (q := 7) dX3_fresh_6 ki_0 rfl ?_
  refine g_iconst (q := 8) dX3_fresh_7 ki_5 rfl ?_
  refine m_calls (q := 11) (c_in _ _ _ _ _) ss_X3_123 dX3_fresh_8 rfl rfl rfl (Nat.le_of_ble_eq_true rfl) ⟨Nat.le_of_ble_eq_true rfl, Nat.le_of_ble_eq_true rfl⟩ ⟨Nat.zero_le _, Nat.zero_le _⟩ (gIe ?_)
  refine g_ifb_eq (t := 22) (q := 14) dX3_fresh_11 rfl rfl (fun c_11 => ?_) (fun c_11 => ?_)
  · refine g_iconst (q := 23) dX3_fresh_22 ki_m1 rfl ?_
    refine g_iret dX3_fresh_23 (Nat.zero_le _) (Nat.zero_le _) ?_
    first
      | exact ⟨_, rfl, _, rfl, by unfold q_fresh; rw [if_neg (fun h => c_11 ((in_n (by omega)).mpr h.1))], Kp.rf.s1 rfl⟩
      | exact ⟨_, rfl, _, rfl, by unfold q_fresh; rw [if_neg (fun h => c_19 h.2)], hK⟩
  · obtain ⟨w, hw, rfl⟩ := ixo_of ((in_n (by omega)).mp c_11) (by omega)
    have hw2 := (in_n (by omega)).mp c_11
    refine g_ald0 (q := 15) dX3_fresh_14 rfl ?_
    refine g_ild1 (q := 16) dX3_fresh_15 rfl ?_
    refine m_call (q := 19) hk0 (c_hand hk0 hM.cd _) sv_X3_270 dX3_fresh_16 rfl rfl rfl (Nat.le_of_ble_eq_true rfl) ⟨Nat.le_of_ble_eq_true rfl, Nat.le_of_ble_eq_true rfl⟩ ⟨Nat.zero_le _, Nat.zero_le _⟩ (mgI fun x S' h => ?_)
    obtain ⟨rfl, hK, hJ⟩ := h
    have hK : Kp scr S S' := (Kp.rf.s1 (ks := scr) (k := 0) rfl).then (hK.up hks_scr)
    refine g_ifb_ne (t := 24) (q := 22) dX3_fresh_19 rfl rfl (fun c_19 => ?_) (fun c_19 => ?_)
    · obtain ⟨hH, hBg⟩ := hJ c_19
      obtain ⟨l, hl, rfl⟩ := ixo_of c_19 (by omega)
      rw [nI_clamp (by omega)] at hH
      have hL := (hM.2.2 l hl).2
      have h4 := hL.2.2.2.1
      have h5 := hL.1.2
      have h32 := pow_b hL.1.2
      refine g_ald0 (q := 25) dX3_fresh_24 rfl ?_
      refine m_call (q := 28) hk0 (c_here hk0 hH hL) sv_X3_260 dX3_fresh_25 rfl rfl rfl (Nat.le_of_ble_eq_true rfl) ⟨Nat.le_of_ble_eq_true rfl, Nat.le_of_ble_eq_true rfl⟩ ⟨Nat.zero_le _, Nat.zero_le _⟩ (gL fun r M' hr => ?_)
      obtain ⟨hr, rfl⟩ := hr
      refine g_lst3 (q := 29) dX3_fresh_28 rfl rfl ?_
      refine g_iconst (q := 30) dX3_fresh_29 ki_0 rfl ?_
      refine g_ist5 (q := 32) dX3_fresh_30 rfl rfl ?_
      refine lp_fresh hk0 hH hL hw hr (fun x hx => ⟨_, rfl, _, rfl, ?_, hK⟩) 0 (Nat.zero_le _) (fun j h => by omega)
      unfold q_fresh
      rw [nI_clamp (n := l) (by omega), nI_clamp (n := w) (by omega), if_pos ⟨hw2, c_19⟩]
      exact hx
    · refine g_iconst (q := 23) dX3_fresh_22 ki_m1 rfl ?_
      refine g_iret dX3_fresh_23 (Nat.zero_le _) (Nat.zero_le _) ?_
      first
        | exact ⟨_, rfl, _, rfl, by unfold q_fresh; rw [if_neg (fun h => c_11 ((in_n (by omega)).mpr h.1))], Kp.rf.s1 rfl⟩
        | exact ⟨_, rfl, _, rfl, by unfold q_fresh; rw [if_neg (fun h => c_19 h.2)], hK⟩
end MQ4

