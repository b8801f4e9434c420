set_option maxRecDepth 100000
/-- how far a place's mark is off -/
def byN (f : Nat → Int32) (m k : Nat) : Nat := if f k = -1 then 1000000 else off (f k).toNatClampNeg m
def neF (f : Nat → Int32) (m : Nat) : Nat → Int32 × Nat
  | 0 => (-1, 1000000)
  | k + 1 => if byN f m k < (neF f m k).2 then (nI k, byN f m k) else neF f m k
theorem neF_succ (f : Nat → Int32) (m k : Nat) : neF f m (k + 1) = if byN f m k < (neF f m k).2 then (nI k, byN f m k) else neF f m k := rfl
theorem neF_ok (f : Nat → Int32) (m : Nat) : ∀ k, (neF f m k).2 ≤ 1000000 ∧ ((neF f m k).1 = -1 ∨ ∃ j, j < k ∧ (neF f m k).1 = nI j)
  | 0 => ⟨Nat.le_refl _, Or.inl rfl⟩
  | k + 1 => by
    have h := neF_ok f m k
    rw [neF_succ]
    split
    · exact ⟨by dsimp only; omega, Or.inr ⟨k, by omega, rfl⟩⟩
    · refine ⟨h.1, h.2.elim Or.inl (fun ⟨j, h1, h2⟩ => Or.inr ⟨j, by omega, h2⟩)⟩
/-- the marks in a row, twelve a shelf -/
def flat (L : LV) (k : Nat) : Int32 := vM L (k / 12) (k % 12)
def neA (q : Int32 × Nat) (w : Int32) : Int32 := if q.1 = -1 then -1 else if w = 0 then nI (q.1.toNatClampNeg / 12) else if w = nI 1 then nI (q.1.toNatClampNeg % 12) else nI q.2
def q_nearest (n : Nat) (Ls : Nat → LV) (l m w : Int32) : Int32 := if ixo l n ∧ ixo m (2 ^ vB (Ls l.toNatClampNeg)) ∧ ixo w 3 then neA (neF (flat (Ls l.toNatClampNeg)) m.toNatClampNeg 48) w else -1
/-- how many marks of a shelf lie between two -/
def cmk (f : Nat → Int32) (lo hi : Int32) (pl : Nat) : Nat := fb_ct (fun p => decide (lo ≤ f p ∧ f p ≤ hi)) pl
def swR (L : LV) (a b : Nat) (x : Int32) : Prop := (ntab (vM L a) (vP L a) = 0 → x = nI 0) ∧ (¬ ntab (vM L a) (vP L a) = 0 → ∃ m, m < 32 ∧ ntab (vM L a) (vP L a) ≤ cmk (vM L a) (nI 0) (nI m) (vP L a) + cmk (vM L b) (nI 0) (nI m) (vP L b) ∧ (∀ j, j < m → cmk (vM L a) (nI 0) (nI j) (vP L a) + cmk (vM L b) (nI 0) (nI j) (vP L b) < ntab (vM L a) (vP L a))
  ∧ x = nI (ntab (vM L a) (vP L a) - cmk (vM L a) (nI 0) (nI m - nI 1) (vP L a) - min (cmk (vM L a) (nI m) (nI m) (vP L a)) (ntab (vM L a) (vP L a) - cmk (vM L a) (nI 0) (nI m - nI 1) (vP L a) - cmk (vM L b) (nI 0) (nI m - nI 1) (vP L b))))
def q_swaps (n : Nat) (Ls : Nat → LV) (l a b x : Int32) : Prop := if ixo l n ∧ ixo a (vN (Ls l.toNatClampNeg)) ∧ ixo b (vN (Ls l.toNatClampNeg)) ∧ ¬ a = b then swR (Ls l.toNatClampNeg) a.toNatClampNeg b.toNatClampNeg x else x = -1
theorem ntab_succ (f : Nat → Int32) (n : Nat) : ntab f (n + 1) = ntab f n + (if f n = -1 then 0 else 1) := rfl
theorem cmk_tab {f : Nat → Int32} (h : ∀ p, f p = -1 ∨ ∃ m, m < 32 ∧ f p = nI m) : ∀ pl, cmk f (nI 0) (nI 31) pl = ntab f pl
  | 0 => rfl
  | pl + 1 => by
    have ih := cmk_tab h pl
    unfold cmk at ih ⊢
    rw [fb_ct_succ, ih, ntab_succ]
    rcases h pl with e | ⟨m, hm, e⟩
    · rw [e, if_pos rfl, if_neg (by decide)]
    · rw [e, if_neg (nI_m1 (by omega)), if_pos (decide_eq_true ⟨nI_le (by omega) (by omega), nI_le (by omega) (by omega)⟩)]
theorem cmk_le {f : Nat → Int32} {hi : Int32} : ∀ pl, cmk f (nI 0) hi pl ≤ ntab f pl
  | 0 => Nat.le_refl _
  | pl + 1 => by
    have ih := cmk_le (f := f) (hi := hi) pl
    unfold cmk at ih ⊢
    rw [fb_ct_succ, ntab_succ]
    by_cases e : f pl = -1
    · rw [if_pos e, if_neg (by rw [e]; exact fun h => absurd (of_decide_eq_true h).1 (by decide))]; omega
    · rw [if_neg e]; split <;> omega
theorem cmk_neg (f : Nat → Int32) (pl : Nat) : cmk f (nI 0) (nI 0 - nI 1) pl = 0 := fb_ct_zero.mpr (fun k _ => decide_eq_false (fun h => absurd (Int32.le_trans h.1 h.2) (by decide)))
/-- the last mark ahead, the first one behind -/
def lowB (f : Nat → Int32) : Nat → Int32
  | 0 => nI 0
  | p + 1 => if f p = -1 then lowB f p else f p
def higB (f : Nat → Int32) (pl : Nat) : Nat → Int32
  | 0 => nI 32
  | j + 1 => if f (pl - 1 - j) = -1 then higB f pl j else f (pl - 1 - j)
noncomputable def q_between (n : Nat) (Ls : Nat → LV) (l s p m : Int32) : Int64 := if ixo l n ∧ (ixo s (vN (Ls l.toNatClampNeg)) ∧ ixo p (vP (Ls l.toNatClampNeg) s.toNatClampNeg)) ∧ ixo m (2 ^ vB (Ls l.toNatClampNeg)) then
  mkL (fun i => rB (Ls l.toNatClampNeg) m.toNatClampNeg i && decide (lowB (vM (Ls l.toNatClampNeg) s.toNatClampNeg) p.toNatClampNeg ≤ nI i ∧ nI i ≤ higB (vM (Ls l.toNatClampNeg) s.toNatClampNeg) (vP (Ls l.toNatClampNeg) s.toNatClampNeg) (vP (Ls l.toNatClampNeg) s.toNatClampNeg - 1 - p.toNatClampNeg))) (2 ^ vB (Ls l.toNatClampNeg)) else -1
section MQ6
variable {E : zE} {M : zM} {o : Nat} {S : zS} {n : Nat} {Ls : Nat → LV} {L : LV}
theorem hand_flat (hH : Hand S L) {k : Nat} (h : k < 48) : (S.1 27) k = flat L k := by
  have := hH.2.2.2.2.2.2 (k / 12) (k % 12) (by omega) (by omega)
  rw [show 12 * (k / 12) + k % 12 = k by omega] at this
  exact this
theorem lp_nearest (hk0 : Sk E M o) (hH : Hand S L) (hL : LOK L) {l w : Int32} {m : Nat} {Post : Option Value → zM → Prop} (kk : ∀ x7, (GoR E yX3_nearest cX3_nearest 8 (some .int) 4 0 0) Post 118 [some (.ref o), some (.int l), some (.int (nI m)), some (.int w), some (.int (neF (flat L) m 48).1), some (.int (nI (neF (flat L) m 48).2)), some (.int (nI 48)), x7] [] (mv M o S) 0 0) :
    ∀ k, k ≤ 48 → ∀ x7, (GoR E yX3_nearest cX3_nearest 8 (some .int) 4 0 0) Post 43 [some (.ref o), some (.int l), some (.int (nI m)), some (.int w), some (.int (neF (flat L) m k).1), some (.int (nI (neF (flat L) m k).2)), some (.int (nI k)), x7] [] (mv M o S) 0 0 := by
  refine up_ind _ (fun k hk ih x7 => ?_)
  obtain ⟨hle, -⟩ := neF_ok (flat L) m k
  refine g_ild6 (q := 45) dX3_nearest_43 rfl ?_
  refine g_bipush (q := 47) dX3_nearest_45 kb_48 rfl ?_
  refine g_icN_ge (t := 118) (q := 50) dX3_nearest_47 rfl rfl (by omega) (by omega) (fun c_47 => ?_) (fun c_47 => ?_)
  · obtain rfl : k = 48 := by omega
    exact kk _
  · refine g_ald0 (q := 51) dX3_nearest_50 rfl ?_
    refine m_getA (j := 13) (q := 54) hk0 fs_X3_47 dX3_nearest_51 rfl (fun _ _ => rfl) ⟨rfl, by decide, by decide⟩ ?_
    refine g_ild6 (q := 56) dX3_nearest_54 rfl ?_
    refine m_iald (n := k) (q := 57) hk0 dX3_nearest_56 rfl ma_27 rfl (by omega) ?_
    refine g_top (hand_flat hH (by omega)) ?_
    refine g_iconst (q := 58) dX3_nearest_57 ki_m1 rfl ?_
    refine g_ic_ne (t := 67) (q := 61) dX3_nearest_58 rfl rfl (fun c_58 => ?_) (fun c_58 => ?_)
    · obtain ⟨mm, hm32, hmm⟩ := (hL.mk (k / 12) (k % 12)).resolve_left c_58
      have hby : byN (flat L) m k = off mm m := by unfold byN; rw [if_neg c_58, show flat L k = nI mm from hmm, nI_clamp (by omega)]
      have hof := off_le mm m
      refine g_ald0 (q := 68) dX3_nearest_67 rfl ?_
      refine m_getA (j := 13) (q := 71) hk0 fs_X3_47 dX3_nearest_68 rfl (fun _ _ => rfl) ⟨rfl, by decide, by decide⟩ ?_
      refine g_ild6 (q := 73) dX3_nearest_71 rfl ?_
      refine m_iald (n := k) (q := 74) hk0 dX3_nearest_73 rfl ma_27 rfl (by omega) ?_
      refine g_top ((hand_flat hH (by omega)).trans hmm) ?_
      refine g_ild2 (q := 75) dX3_nearest_74 rfl ?_
      refine m_calls (q := 78) (c_offOf _ _ _ _) ss_X3_264 dX3_nearest_75 rfl rfl rfl (Nat.le_of_ble_eq_true rfl) ⟨Nat.le_of_ble_eq_true rfl, Nat.le_of_ble_eq_true rfl⟩ ⟨Nat.zero_le _, Nat.zero_le _⟩ (gIe ?_)
      refine g_ist7 (q := 80) dX3_nearest_78 rfl rfl ?_
      refine g_ild7 (q := 82) dX3_nearest_80 rfl ?_
      refine g_ild5 (q := 84) dX3_nearest_82 rfl ?_
      refine g_icN_ge (t := 92) (q := 87) dX3_nearest_84 rfl rfl (by omega) (by omega) (fun c_84 => ?_) (fun c_84 => ?_)
      · refine g_ild4 (q := 94) dX3_nearest_92 rfl ?_
        refine g_ist4 (q := 96) dX3_nearest_94 rfl rfl ?_
        refine g_ild7 (q := 98) dX3_nearest_96 rfl ?_
        refine g_ild5 (q := 100) dX3_nearest_98 rfl ?_
        refine g_icN_ge (t := 108) (q := 103) dX3_nearest_100 rfl rfl (by omega) (by omega) (fun c_100 => ?_) (fun c_100 => ?_)
        · refine g_ild5 (q := 110) dX3_nearest_108 rfl ?_
          refine g_ist5 (q := 112) dX3_nearest_110 rfl rfl ?_
          refine g_inc6 (w := nI (k + 1)) (q := 115) dX3_nearest_112 rfl (nI_1 _) rfl ?_
          refine g_goto (t := 43) dX3_nearest_115 rfl ?_
          have := ih (by omega)
          rw [neF_succ, hby, if_neg (by omega)] at this
          exact this _
        · omega
      · refine g_ild6 (q := 89) dX3_nearest_87 rfl ?_
        refine g_goto (t := 94) dX3_nearest_89 rfl ?_
        refine g_ist4 (q := 96) dX3_nearest_94 rfl rfl ?_
        refine g_ild7 (q := 98) dX3_nearest_96 rfl ?_
        refine g_ild5 (q := 100) dX3_nearest_98 rfl ?_
        refine g_icN_ge (t := 108) (q := 103) dX3_nearest_100 rfl rfl (by omega) (by omega) (fun c_100 => ?_) (fun c_100 => ?_)
        · omega
        · refine g_ild7 (q := 105) dX3_nearest_103 rfl ?_
          refine g_goto (t := 110) dX3_nearest_105 rfl ?_
          refine g_ist5 (q := 112) dX3_nearest_110 rfl rfl ?_
          refine g_inc6 (w := nI (k + 1)) (q := 115) dX3_nearest_112 rfl (nI_1 _) rfl ?_
          refine g_goto (t := 43) dX3_nearest_115 rfl ?_
          have := ih (by omega)
          rw [neF_succ, hby, if_pos c_84] at this
          exact this _
    · refine g_ldcw (v := 1000000) (q := 64) q2170 dX3_nearest_61 rfl ?_
      refine g_top (show (1000000 : Int32) = nI 1000000 from rfl) ?_
      refine g_goto (t := 78) dX3_nearest_64 rfl ?_
      refine g_ist7 (q := 80) dX3_nearest_78 rfl rfl ?_
      refine g_ild7 (q := 82) dX3_nearest_80 rfl ?_
      refine g_ild5 (q := 84) dX3_nearest_82 rfl ?_
      refine g_icN_ge (t := 92) (q := 87) dX3_nearest_84 rfl rfl (by omega) (by omega) (fun c_84 => ?_) (fun c_84 => ?_)
      · refine g_ild4 (q := 94) dX3_nearest_92 rfl ?_
        refine g_ist4 (q := 96) dX3_nearest_94 rfl rfl ?_
        refine g_ild7 (q := 98) dX3_nearest_96 rfl ?_
        refine g_ild5 (q := 100) dX3_nearest_98 rfl ?_
        refine g_icN_ge (t := 108) (q := 103) dX3_nearest_100 rfl rfl (by omega) (by omega) (fun c_100 => ?_) (fun c_100 => ?_)
        · refine g_ild5 (q := 110) dX3_nearest_108 rfl ?_
          refine g_ist5 (q := 112) dX3_nearest_110 rfl rfl ?_
          refine g_inc6 (w := nI (k + 1)) (q := 115) dX3_nearest_112 rfl (nI_1 _) rfl ?_
          refine g_goto (t := 43) dX3_nearest_115 rfl ?_
          have := ih (by omega)
          rw [neF_succ, if_neg (by unfold byN; rw [show flat L k = -1 from c_58, if_pos rfl]; omega)] at this
          exact this _
        · omega
      · omega
theorem c_nearest (hk0 : Sk E M o) (hM : MLs S n Ls) (l m w : Int32) : (Con E yX3_nearest cX3_nearest 8 (some .int) 4 0 0) [.ref o, .int l, .int m, .int w] (mv M o S) (pI (fun x => mP M o (fun S' => x = q_nearest n Ls l m w ∧ Kp scr S S'))) := by
  have h2 := hM.1
  refine Go.enter [some (.ref o), some (.int l), some (.int m), some (.int w), none, none, none, none] rfl (Nat.le_of_ble_eq_true rfl) rfl (Nat.le_of_ble_eq_true rfl) ?_
  refine g_ald0 (q := 1) dX3_nearest_0 rfl ?_
  refine g_iconst (q := 2) dX3_nearest_1 ki_0 rfl ?_
  refine m_putI (q := 5) hk0 fs_X3_111 dX3_nearest_2 rfl rfl rfl ?_
  refine g_ald0 (q := 6) dX3_nearest_5 rfl ?_
  refine g_ild1 (q := 7) dX3_nearest_6 rfl ?_
  refine m_call (q := 10) hk0 (c_hand hk0 hM.cd _) sv_X3_270 dX3_nearest_7 rfl rfl rfl (Nat.le_of_ble_eq_true rfl) ⟨Nat.le_of_ble_eq_true rfl, Nat.le_of_ble_eq_true rfl⟩ ⟨Nat.zero_le _, Nat.zero_le _⟩ (mgI fun x S' h => ?_)
  obtain ⟨rfl, hK, hJ⟩ := h
  have hK : Kp scr S S' := (Kp.rf.s1 (ks := scr) (k := 0) rfl).then (hK.up hks_scr)
  refine g_ifb_eq (t := 30) (q := 13) dX3_nearest_10 rfl rfl (fun c_10 => ?_) (fun c_10 => ?_)
  · refine g_iconst (q := 31) dX3_nearest_30 ki_m1 rfl ?_
    refine g_iret dX3_nearest_31 (Nat.zero_le _) (Nat.zero_le _) ?_
    first
      | exact ⟨_, rfl, _, rfl, by unfold q_nearest; rw [if_neg (fun h => c_10 h.1)], hK⟩
      | exact ⟨_, rfl, _, rfl, by unfold q_nearest; rw [nI_clamp (by omega), if_neg (fun h => c_18 h.2.1)], hK⟩
      | exact ⟨_, rfl, _, rfl, by unfold q_nearest; rw [nI_clamp (by omega), if_neg (fun h => c_27 ((in_n (by omega)).mpr h.2.2))], hK⟩
  · obtain ⟨hH, hBg⟩ := hJ c_10
    obtain ⟨l, hl, rfl⟩ := ixo_of c_10 (by omega)
    rw [nI_clamp (by omega)] at hH
    have hL := (hM.2.2 l hl).2
    have h4 := hL.2.2.2.1
    have h5 := hL.1.2
    have h32 := pow_b hL.1.2
    refine g_ald0 (q := 14) dX3_nearest_13 rfl ?_
    refine g_ild2 (q := 15) dX3_nearest_14 rfl ?_
    refine m_call (q := 18) hk0 (c_isMark hk0 hH hL _) sv_X3_348 dX3_nearest_15 rfl rfl rfl (Nat.le_of_ble_eq_true rfl) ⟨Nat.le_of_ble_eq_true rfl, Nat.le_of_ble_eq_true rfl⟩ ⟨Nat.zero_le _, Nat.zero_le _⟩ (gIe ?_)
    refine g_ifb_eq (t := 30) (q := 21) dX3_nearest_18 rfl rfl (fun c_18 => ?_) (fun c_18 => ?_)
    · refine g_iconst (q := 31) dX3_nearest_30 ki_m1 rfl ?_
      refine g_iret dX3_nearest_31 (Nat.zero_le _) (Nat.zero_le _) ?_
      first
        | exact ⟨_, rfl, _, rfl, by unfold q_nearest; rw [if_neg (fun h => c_10 h.1)], hK⟩
        | exact ⟨_, rfl, _, rfl, by unfold q_nearest; rw [nI_clamp (by omega), if_neg (fun h => c_18 h.2.1)], hK⟩
        | exact ⟨_, rfl, _, rfl, by unfold q_nearest; rw [nI_clamp (by omega), if_neg (fun h => c_27 ((in_n (by omega)).mpr h.2.2))], hK⟩
    · refine g_ild3 (q := 22) dX3_nearest_21 rfl ?_
      refine g_iconst (q := 23) dX3_nearest_22 ki_0 rfl ?_
      refine g_iconst (q := 24) dX3_nearest_23 ki_2 rfl ?_
      refine m_calls (q := 27) (c_in _ _ _ _ _) ss_X3_123 dX3_nearest_24 rfl rfl rfl (Nat.le_of_ble_eq_true rfl) ⟨Nat.le_of_ble_eq_true rfl, Nat.le_of_ble_eq_true rfl⟩ ⟨Nat.zero_le _, Nat.zero_le _⟩ (gIe ?_)
      refine g_ifb_ne (t := 32) (q := 30) dX3_nearest_27 rfl rfl (fun c_27 => ?_) (fun c_27 => ?_)
      · obtain ⟨m, hm, rfl⟩ := ixo_of c_18 (by omega)
        have cw := (in_n (by omega)).mp c_27
        have R : ∀ x, x = neA (neF (flat (Ls l)) m 48) w → mP M o (fun S' => x = q_nearest n Ls (nI l) (nI m) w ∧ Kp scr S S') (mv M o S') := fun x hx => ⟨S', rfl, by unfold q_nearest; rw [nI_clamp (n := l) (by omega), nI_clamp (n := m) (by omega), if_pos ⟨c_10, c_18, cw⟩]; exact hx, hK⟩
        have hok := (neF_ok (flat (Ls l)) m 48)
        refine g_iconst (q := 33) dX3_nearest_32 ki_m1 rfl ?_
        refine g_ist4 (q := 35) dX3_nearest_33 rfl rfl ?_
        refine g_ldcw (v := 1000000) (q := 38) q2170 dX3_nearest_35 rfl ?_
        refine g_top (show (1000000 : Int32) = nI 1000000 from rfl) ?_
        refine g_ist5 (q := 40) dX3_nearest_38 rfl rfl ?_
        refine g_iconst (q := 41) dX3_nearest_40 ki_0 rfl ?_
        refine g_ist6 (q := 43) dX3_nearest_41 rfl rfl ?_
        refine lp_nearest hk0 hH hL (fun x7 => ?_) 0 (by omega) _
        generalize neF (flat (Ls l)) m 48 = q at *
        obtain ⟨b, v⟩ := q
        refine g_ild4 (q := 120) dX3_nearest_118 rfl ?_
        refine g_iconst (q := 121) dX3_nearest_120 ki_m1 rfl ?_
        refine g_ic_ne (t := 128) (q := 124) dX3_nearest_121 rfl rfl (fun c_121 => ?_) (fun c_121 => ?_)
        · obtain ⟨j, hj, hbj⟩ := hok.2.resolve_left c_121
          dsimp only at hbj
          subst hbj
          refine g_ild3 (q := 129) dX3_nearest_128 rfl ?_
          refine g_if_ne (t := 140) (q := 132) dX3_nearest_129 rfl rfl (fun c_129 => ?_) (fun c_129 => ?_)
          · refine g_ild3 (q := 141) dX3_nearest_140 rfl ?_
            refine g_iconst (q := 142) dX3_nearest_141 ki_1 rfl ?_
            refine g_ic_ne (t := 153) (q := 145) dX3_nearest_142 rfl rfl (fun c_142 => ?_) (fun c_142 => ?_)
            · refine g_ild5 (q := 155) dX3_nearest_153 rfl ?_
              exact g_iret dX3_nearest_155 (Nat.zero_le _) (Nat.zero_le _) ⟨_, rfl, R _ (by unfold neA; rw [if_neg c_121, if_neg c_129, if_neg c_142])⟩
            · refine g_ild4 (q := 147) dX3_nearest_145 rfl ?_
              refine g_bipush (q := 149) dX3_nearest_147 kb_12 rfl ?_
              refine g_iremN (q := 150) dX3_nearest_149 (by dsimp only at *; omega) (by dsimp only at *; omega) (by dsimp only at *; omega) rfl ?_
              refine g_goto (t := 155) dX3_nearest_150 rfl ?_
              exact g_iret dX3_nearest_155 (Nat.zero_le _) (Nat.zero_le _) ⟨_, rfl, R _ (by unfold neA; rw [if_neg c_121, if_neg c_129, if_pos c_142]; dsimp only; rw [nI_clamp (by omega)])⟩
          · refine g_ild4 (q := 134) dX3_nearest_132 rfl ?_
            refine g_bipush (q := 136) dX3_nearest_134 kb_12 rfl ?_
            refine g_idivN (q := 137) dX3_nearest_136 (by dsimp only at *; omega) (by dsimp only at *; omega) (by dsimp only at *; omega) rfl ?_
            refine g_goto (t := 155) dX3_nearest_137 rfl ?_
            exact g_iret dX3_nearest_155 (Nat.zero_le _) (Nat.zero_le _) ⟨_, rfl, R _ (by unfold neA; rw [if_neg c_121, if_pos c_129]; dsimp only; rw [nI_clamp (by omega)])⟩
        · refine g_iconst (q := 125) dX3_nearest_124 ki_m1 rfl ?_
          refine g_goto (t := 155) dX3_nearest_125 rfl ?_
          exact g_iret dX3_nearest_155 (Nat.zero_le _) (Nat.zero_le _) ⟨_, rfl, R _ (by unfold neA; rw [if_pos c_121])⟩
      · refine g_iconst (q := 31) dX3_nearest_30 ki_m1 rfl ?_
        refine g_iret dX3_nearest_31 (Nat.zero_le _) (Nat.zero_le _) ?_
        first
          | exact ⟨_, rfl, _, rfl, by unfold q_nearest; rw [if_neg (fun h => c_10 h.1)], hK⟩
          | exact ⟨_, rfl, _, rfl, by unfold q_nearest; rw [nI_clamp (by omega), if_neg (fun h => c_18 h.2.1)], hK⟩
          | exact ⟨_, rfl, _, rfl, by unfold q_nearest; rw [nI_clamp (by omega), if_neg (fun h => c_27 ((in_n (by omega)).mpr h.2.2))], hK⟩
theorem lp_countMarks (hk0 : Sk E M o) (hH : Hand S L) (hL : LOK L) {s : Nat} {lo hi : Int32} (hs : s < 4) {Post : Option Value → zM → Prop} (hpost : Post (some (.int (nI (cmk (vM L s) lo hi (vP L s))))) (mv M o S)) :
    ∀ p, p ≤ vP L s → (GoR E yX3_countMarks cX3_countMarks 6 (some .int) 2 0 0) Post 6 [some (.ref o), some (.int (nI s)), some (.int lo), some (.int hi), some (.int (nI (cmk (vM L s) lo hi p))), some (.int (nI p))] [] (mv M o S) 0 0 := by
  have h12 := hL.p12 s
  refine up_ind _ (fun p hp ih => ?_)
  refine g_ild5 (q := 8) dX3_countMarks_6 rfl ?_
  refine g_ald0 (q := 9) dX3_countMarks_8 rfl ?_
  refine m_getA (j := 11) (q := 12) hk0 fs_X3_41 dX3_countMarks_9 rfl (fun _ _ => rfl) ⟨rfl, by decide, by decide⟩ ?_
  refine g_ild1 (q := 13) dX3_countMarks_12 rfl ?_
  refine m_iald (n := s) (q := 14) hk0 dX3_countMarks_13 rfl ma_25 rfl (by omega) ?_
  refine g_top (hH.2.2.2.2.1 s hs) ?_
  refine g_icN_ge (t := 53) (q := 17) dX3_countMarks_14 rfl rfl (by omega) (by omega) (fun c_14 => ?_) (fun c_14 => ?_)
  · obtain rfl : p = vP L s := by omega
    refine g_ild4 (q := 55) dX3_countMarks_53 rfl ?_
    exact g_iret dX3_countMarks_55 (Nat.zero_le _) (Nat.zero_le _) hpost
  · refine g_ild4 (q := 19) dX3_countMarks_17 rfl ?_
    refine g_ald0 (q := 20) dX3_countMarks_19 rfl ?_
    refine m_getA (j := 13) (q := 23) hk0 fs_X3_47 dX3_countMarks_20 rfl (fun _ _ => rfl) ⟨rfl, by decide, by decide⟩ ?_
    refine g_bipush (q := 25) dX3_countMarks_23 kb_12 rfl ?_
    refine g_ild1 (q := 26) dX3_countMarks_25 rfl ?_
    refine g_imulN (q := 27) dX3_countMarks_26 rfl ?_
    refine g_ild5 (q := 29) dX3_countMarks_27 rfl ?_
    refine g_iaddN (q := 30) dX3_countMarks_29 rfl ?_
    refine m_iald (n := ((12 * s) + p)) (q := 31) hk0 dX3_countMarks_30 rfl ma_27 rfl (by omega) ?_
    refine g_top (hH.2.2.2.2.2.2 s p hs (by omega)) ?_
    refine g_ild2 (q := 32) dX3_countMarks_31 rfl ?_
    refine g_ild3 (q := 33) dX3_countMarks_32 rfl ?_
    refine m_calls (q := 36) (c_in _ _ _ _ _) ss_X3_123 dX3_countMarks_33 rfl rfl rfl (Nat.le_of_ble_eq_true rfl) ⟨Nat.le_of_ble_eq_true rfl, Nat.le_of_ble_eq_true rfl⟩ ⟨Nat.zero_le _, Nat.zero_le _⟩ (gIe ?_)
    refine g_ifb_eq (t := 43) (q := 39) dX3_countMarks_36 rfl rfl (fun c_36 => ?_) (fun c_36 => ?_)
    · refine g_iconst (q := 44) dX3_countMarks_43 ki_0 rfl ?_
      refine g_iaddN (q := 45) dX3_countMarks_44 rfl ?_
      refine g_ist4 (q := 47) dX3_countMarks_45 rfl rfl ?_
      refine g_inc5 (w := nI (p + 1)) (q := 50) dX3_countMarks_47 rfl (nI_1 _) rfl ?_
      refine g_goto (t := 6) dX3_countMarks_50 rfl ?_
      have := ih (by omega)
      unfold cmk at this ⊢
      rw [fb_ct_succ, if_neg (fun e => c_36 (of_decide_eq_true e))] at this
      exact this
    · refine g_iconst (q := 40) dX3_countMarks_39 ki_1 rfl ?_
      refine g_goto (t := 44) dX3_countMarks_40 rfl ?_
      refine g_iaddN (q := 45) dX3_countMarks_44 rfl ?_
      refine g_ist4 (q := 47) dX3_countMarks_45 rfl rfl ?_
      refine g_inc5 (w := nI (p + 1)) (q := 50) dX3_countMarks_47 rfl (nI_1 _) rfl ?_
      refine g_goto (t := 6) dX3_countMarks_50 rfl ?_
      have := ih (by omega)
      unfold cmk at this ⊢
      rw [fb_ct_succ, if_pos (decide_eq_true c_36)] at this
      exact this
theorem c_countMarks (hk0 : Sk E M o) (hH : Hand S L) (hL : LOK L) (s : Nat) (lo hi : Int32) (hs : s < 4) : (Con E yX3_countMarks cX3_countMarks 6 (some .int) 2 0 0) [.ref o, .int (nI s), .int lo, .int hi] (mv M o S) (pI (fun x M' => x = nI (cmk (vM L s) lo hi (vP L s)) ∧ M' = mv M o S)) := by
  refine Go.enter [some (.ref o), some (.int (nI s)), some (.int lo), some (.int hi), none, none] rfl (Nat.le_of_ble_eq_true rfl) rfl (Nat.le_of_ble_eq_true rfl) ?_
  refine g_iconst (q := 1) dX3_countMarks_0 ki_0 rfl ?_
  refine g_ist4 (q := 3) dX3_countMarks_1 rfl rfl ?_
  refine g_iconst (q := 4) dX3_countMarks_3 ki_0 rfl ?_
  refine g_ist5 (q := 6) dX3_countMarks_4 rfl rfl ?_
  exact lp_countMarks hk0 hH hL hs ⟨_, rfl, rfl, rfl⟩ 0 (by omega)
theorem lp_swaps (hk0 : Sk E M o) (hH : Hand S L) (hL : LOK L) {l : Int32} {a b N : Nat} (ha : a < 4) (hb : b < 4) (hN : N = ntab (vM L a) (vP L a)) {Post : Option Value → zM → Prop}
    (kk : ∀ m, m < 32 → N ≤ cmk (vM L a) (nI 0) (nI m) (vP L a) + cmk (vM L b) (nI 0) (nI m) (vP L b) → (∀ j, j < m → cmk (vM L a) (nI 0) (nI j) (vP L a) + cmk (vM L b) (nI 0) (nI j) (vP L b) < N) → (GoR E yX3_swaps cX3_swaps 8 (some .int) 4 0 0) Post 81 [some (.ref o), some (.int l), some (.int (nI a)), some (.int (nI b)), some (.int (nI N)), some (.int (nI m)), none, none] [] (mv M o S) 0 0) :
    ∀ m, m ≤ 31 → (∀ j, j < m → cmk (vM L a) (nI 0) (nI j) (vP L a) + cmk (vM L b) (nI 0) (nI j) (vP L b) < N) → (GoR E yX3_swaps cX3_swaps 8 (some .int) 4 0 0) Post 53 [some (.ref o), some (.int l), some (.int (nI a)), some (.int (nI b)), some (.int (nI N)), some (.int (nI m)), none, none] [] (mv M o S) 0 0 := by
  refine up_ind _ (fun m hm ih hno => ?_)
  have e1 : cmk (vM L a) (nI 0) (nI m) (vP L a) ≤ 12 := Nat.le_trans (fb_ct_le _ _) (hL.p12 a)
  have e2 : cmk (vM L b) (nI 0) (nI m) (vP L b) ≤ 12 := Nat.le_trans (fb_ct_le _ _) (hL.p12 b)
  have e3 : N ≤ 12 := by rw [hN]; exact Nat.le_trans (ntab_le _ _) (hL.p12 a)
  refine g_ald0 (q := 54) dX3_swaps_53 rfl ?_
  refine g_ild2 (q := 55) dX3_swaps_54 rfl ?_
  refine g_iconst (q := 56) dX3_swaps_55 ki_0 rfl ?_
  refine g_ild5 (q := 58) dX3_swaps_56 rfl ?_
  refine m_call (q := 61) hk0 (c_countMarks hk0 hH hL _ _ _ (by omega)) sv_X3_488 dX3_swaps_58 rfl rfl rfl (Nat.le_of_ble_eq_true rfl) ⟨Nat.le_of_ble_eq_true rfl, Nat.le_of_ble_eq_true rfl⟩ ⟨Nat.zero_le _, Nat.zero_le _⟩ (gIe ?_)
  refine g_ald0 (q := 62) dX3_swaps_61 rfl ?_
  refine g_ild3 (q := 63) dX3_swaps_62 rfl ?_
  refine g_iconst (q := 64) dX3_swaps_63 ki_0 rfl ?_
  refine g_ild5 (q := 66) dX3_swaps_64 rfl ?_
  refine m_call (q := 69) hk0 (c_countMarks hk0 hH hL _ _ _ (by omega)) sv_X3_488 dX3_swaps_66 rfl rfl rfl (Nat.le_of_ble_eq_true rfl) ⟨Nat.le_of_ble_eq_true rfl, Nat.le_of_ble_eq_true rfl⟩ ⟨Nat.zero_le _, Nat.zero_le _⟩ (gIe ?_)
  refine g_iaddN (q := 70) dX3_swaps_69 rfl ?_
  refine g_ild4 (q := 72) dX3_swaps_70 rfl ?_
  refine g_icN_ge (t := 81) (q := 75) dX3_swaps_72 rfl rfl (by omega) (by omega) (fun c_72 => ?_) (fun c_72 => ?_)
  · exact kk m (by omega) c_72 hno
  · refine g_inc5 (w := nI (m + 1)) (q := 78) dX3_swaps_75 rfl (nI_1 _) rfl ?_
    refine g_goto (t := 53) dX3_swaps_78 rfl ?_
    have h31 : m ≠ 31 := by
      intro e
      subst e
      rw [cmk_tab (hL.mk a), ← hN] at c_72
      omega
    exact ih (by omega) (lt_s hno c_72)
theorem c_swaps (hk0 : Sk E M o) (hM : MLs S n Ls) (l a b : Int32) : (Con E yX3_swaps cX3_swaps 8 (some .int) 4 0 0) [.ref o, .int l, .int a, .int b] (mv M o S) (pI (fun x => mP M o (fun S' => q_swaps n Ls l a b x ∧ Kp scr S S'))) := by
  have h2 := hM.1
  refine Go.enter [some (.ref o), some (.int l), some (.int a), some (.int b), none, none, none, none] rfl (Nat.le_of_ble_eq_true rfl) rfl (Nat.le_of_ble_eq_true rfl) ?_
  refine g_ald0 (q := 1) dX3_swaps_0 rfl ?_
  refine g_iconst (q := 2) dX3_swaps_1 ki_0 rfl ?_
  refine m_putI (q := 5) hk0 fs_X3_111 dX3_swaps_2 rfl rfl rfl ?_
  refine g_ald0 (q := 6) dX3_swaps_5 rfl ?_
  refine g_ild1 (q := 7) dX3_swaps_6 rfl ?_
  refine m_call (q := 10) hk0 (c_hand hk0 hM.cd _) sv_X3_270 dX3_swaps_7 rfl rfl rfl (Nat.le_of_ble_eq_true rfl) ⟨Nat.le_of_ble_eq_true rfl, Nat.le_of_ble_eq_true rfl⟩ ⟨Nat.zero_le _, Nat.zero_le _⟩ (mgI fun x S' h => ?_)
  obtain ⟨rfl, hK, hJ⟩ := h
  have hK : Kp scr S S' := (Kp.rf.s1 (ks := scr) (k := 0) rfl).then (hK.up hks_scr)
  refine g_ifb_eq (t := 34) (q := 13) dX3_swaps_10 rfl rfl (fun c_10 => ?_) (fun c_10 => ?_)
  · refine g_iconst (q := 35) dX3_swaps_34 ki_m1 rfl ?_
    refine g_iret dX3_swaps_35 (Nat.zero_le _) (Nat.zero_le _) ?_
    first
      | exact ⟨_, rfl, _, rfl, by unfold q_swaps; rw [if_neg (fun h => c_10 h.1)], hK⟩
      | exact ⟨_, rfl, _, rfl, by unfold q_swaps; rw [nI_clamp (by omega), if_neg (fun h => c_18 h.2.1)], hK⟩
      | exact ⟨_, rfl, _, rfl, by unfold q_swaps; rw [nI_clamp (by omega), if_neg (fun h => c_26 h.2.2.1)], hK⟩
      | exact ⟨_, rfl, _, rfl, by unfold q_swaps; rw [nI_clamp (by omega), if_neg (fun h => h.2.2.2 c_31)], hK⟩
  · obtain ⟨hH, hBg⟩ := hJ c_10
    obtain ⟨l, hl, rfl⟩ := ixo_of c_10 (by omega)
    rw [nI_clamp (by omega)] at hH
    have hL := (hM.2.2 l hl).2
    have h4 := hL.2.2.2.1
    have h5 := hL.1.2
    have h32 := pow_b hL.1.2
    refine g_ald0 (q := 14) dX3_swaps_13 rfl ?_
    refine g_ild2 (q := 15) dX3_swaps_14 rfl ?_
    refine m_call (q := 18) hk0 (c_isShelf hk0 hH hL _) sv_X3_246 dX3_swaps_15 rfl rfl rfl (Nat.le_of_ble_eq_true rfl) ⟨Nat.le_of_ble_eq_true rfl, Nat.le_of_ble_eq_true rfl⟩ ⟨Nat.zero_le _, Nat.zero_le _⟩ (gIe ?_)
    refine g_ifb_eq (t := 34) (q := 21) dX3_swaps_18 rfl rfl (fun c_18 => ?_) (fun c_18 => ?_)
    · refine g_iconst (q := 35) dX3_swaps_34 ki_m1 rfl ?_
      refine g_iret dX3_swaps_35 (Nat.zero_le _) (Nat.zero_le _) ?_
      first
        | exact ⟨_, rfl, _, rfl, by unfold q_swaps; rw [if_neg (fun h => c_10 h.1)], hK⟩
        | exact ⟨_, rfl, _, rfl, by unfold q_swaps; rw [nI_clamp (by omega), if_neg (fun h => c_18 h.2.1)], hK⟩
        | exact ⟨_, rfl, _, rfl, by unfold q_swaps; rw [nI_clamp (by omega), if_neg (fun h => c_26 h.2.2.1)], hK⟩
        | exact ⟨_, rfl, _, rfl, by unfold q_swaps; rw [nI_clamp (by omega), if_neg (fun h => h.2.2.2 c_31)], hK⟩
    · refine g_ald0 (q := 22) dX3_swaps_21 rfl ?_
      refine g_ild3 (q := 23) dX3_swaps_22 rfl ?_
      refine m_call (q := 26) hk0 (c_isShelf hk0 hH hL _) sv_X3_246 dX3_swaps_23 rfl rfl rfl (Nat.le_of_ble_eq_true rfl) ⟨Nat.le_of_ble_eq_true rfl, Nat.le_of_ble_eq_true rfl⟩ ⟨Nat.zero_le _, Nat.zero_le _⟩ (gIe ?_)
      refine g_ifb_eq (t := 34) (q := 29) dX3_swaps_26 rfl rfl (fun c_26 => ?_) (fun c_26 => ?_)
      · refine g_iconst (q := 35) dX3_swaps_34 ki_m1 rfl ?_
        refine g_iret dX3_swaps_35 (Nat.zero_le _) (Nat.zero_le _) ?_
        first
          | exact ⟨_, rfl, _, rfl, by unfold q_swaps; rw [if_neg (fun h => c_10 h.1)], hK⟩
          | exact ⟨_, rfl, _, rfl, by unfold q_swaps; rw [nI_clamp (by omega), if_neg (fun h => c_18 h.2.1)], hK⟩
          | exact ⟨_, rfl, _, rfl, by unfold q_swaps; rw [nI_clamp (by omega), if_neg (fun h => c_26 h.2.2.1)], hK⟩
          | exact ⟨_, rfl, _, rfl, by unfold q_swaps; rw [nI_clamp (by omega), if_neg (fun h => h.2.2.2 c_31)], hK⟩
      · refine g_ild2 (q := 30) dX3_swaps_29 rfl ?_
        refine g_ild3 (q := 31) dX3_swaps_30 rfl ?_
        refine g_ic_ne (t := 36) (q := 34) dX3_swaps_31 rfl rfl (fun c_31 => ?_) (fun c_31 => ?_)
        · obtain ⟨a, ha, rfl⟩ := ixo_of c_18 (by omega)
          obtain ⟨b, hb, rfl⟩ := ixo_of c_26 (by omega)
          have R : ∀ x, swR (Ls l) a b x → mP M o (fun S' => q_swaps n Ls (nI l) (nI a) (nI b) x ∧ Kp scr S S') (mv M o S') := fun x hx => ⟨S', rfl, by unfold q_swaps; rw [nI_clamp (n := l) (by omega), nI_clamp (n := a) (by omega), nI_clamp (n := b) (by omega), if_pos ⟨c_10, c_18, c_26, c_31⟩]; exact hx, hK⟩
          unfold swR at R
          have e3 : ntab (vM (Ls l) a) (vP (Ls l) a) ≤ 12 := Nat.le_trans (ntab_le _ _) (hL.p12 a)
          obtain ⟨N, hN⟩ : ∃ N, N = ntab (vM (Ls l) a) (vP (Ls l) a) := ⟨_, rfl⟩
          rw [← hN] at R e3
          refine g_ald0 (q := 37) dX3_swaps_36 rfl ?_
          refine g_ild2 (q := 38) dX3_swaps_37 rfl ?_
          refine m_call (q := 41) hk0 (c_tabletsOn hk0 hH hL _ (by omega)) sv_X3_249 dX3_swaps_38 rfl rfl rfl (Nat.le_of_ble_eq_true rfl) ⟨Nat.le_of_ble_eq_true rfl, Nat.le_of_ble_eq_true rfl⟩ ⟨Nat.zero_le _, Nat.zero_le _⟩ (gIe ?_)
          rw [← hN]
          refine g_ist4 (q := 43) dX3_swaps_41 rfl rfl ?_
          refine g_ild4 (q := 45) dX3_swaps_43 rfl ?_
          refine g_if_ne (t := 50) (q := 48) dX3_swaps_45 rfl rfl (fun c_45 => ?_) (fun c_45 => ?_)
          · refine g_iconst (q := 51) dX3_swaps_50 ki_0 rfl ?_
            refine g_ist5 (q := 53) dX3_swaps_51 rfl rfl ?_
            have hN0 : ¬ N = 0 := fun e => c_45 (by rw [e]; rfl)
            refine lp_swaps hk0 hH hL (by omega) (by omega) hN (fun m hm hge hno => ?_) 0 (by omega) (fun j h => by omega)
            have q1 : cmk (vM (Ls l) a) (nI 0) (nI m - nI 1) (vP (Ls l) a) + cmk (vM (Ls l) b) (nI 0) (nI m - nI 1) (vP (Ls l) b) ≤ N := by
              cases m with
              | zero => rw [cmk_neg, cmk_neg]; omega
              | succ m => rw [show nI (m + 1) - nI 1 = nI m from nI_pred m]; exact Nat.le_of_lt (hno m (by omega))
            have q3 : cmk (vM (Ls l) a) (nI m) (nI m) (vP (Ls l) a) ≤ 12 := Nat.le_trans (fb_ct_le _ _) (hL.p12 a)
            refine g_ild4 (q := 83) dX3_swaps_81 rfl ?_
            refine g_ald0 (q := 84) dX3_swaps_83 rfl ?_
            refine g_ild2 (q := 85) dX3_swaps_84 rfl ?_
            refine g_iconst (q := 86) dX3_swaps_85 ki_0 rfl ?_
            refine g_ild5 (q := 88) dX3_swaps_86 rfl ?_
            refine g_iconst (q := 89) dX3_swaps_88 ki_1 rfl ?_
            refine g_isub (q := 90) dX3_swaps_89 rfl ?_
            refine m_call (q := 93) hk0 (c_countMarks hk0 hH hL _ _ _ (by omega)) sv_X3_488 dX3_swaps_90 rfl rfl rfl (Nat.le_of_ble_eq_true rfl) ⟨Nat.le_of_ble_eq_true rfl, Nat.le_of_ble_eq_true rfl⟩ ⟨Nat.zero_le _, Nat.zero_le _⟩ (gIe ?_)
            refine g_isubN (q := 94) dX3_swaps_93 (by omega) rfl ?_
            refine g_ald0 (q := 95) dX3_swaps_94 rfl ?_
            refine g_ild3 (q := 96) dX3_swaps_95 rfl ?_
            refine g_iconst (q := 97) dX3_swaps_96 ki_0 rfl ?_
            refine g_ild5 (q := 99) dX3_swaps_97 rfl ?_
            refine g_iconst (q := 100) dX3_swaps_99 ki_1 rfl ?_
            refine g_isub (q := 101) dX3_swaps_100 rfl ?_
            refine m_call (q := 104) hk0 (c_countMarks hk0 hH hL _ _ _ (by omega)) sv_X3_488 dX3_swaps_101 rfl rfl rfl (Nat.le_of_ble_eq_true rfl) ⟨Nat.le_of_ble_eq_true rfl, Nat.le_of_ble_eq_true rfl⟩ ⟨Nat.zero_le _, Nat.zero_le _⟩ (gIe ?_)
            refine g_isubN (q := 105) dX3_swaps_104 (by omega) rfl ?_
            refine g_ist6 (q := 107) dX3_swaps_105 rfl rfl ?_
            refine g_ald0 (q := 108) dX3_swaps_107 rfl ?_
            refine g_ild2 (q := 109) dX3_swaps_108 rfl ?_
            refine g_ild5 (q := 111) dX3_swaps_109 rfl ?_
            refine g_ild5 (q := 113) dX3_swaps_111 rfl ?_
            refine m_call (q := 116) hk0 (c_countMarks hk0 hH hL _ _ _ (by omega)) sv_X3_488 dX3_swaps_113 rfl rfl rfl (Nat.le_of_ble_eq_true rfl) ⟨Nat.le_of_ble_eq_true rfl, Nat.le_of_ble_eq_true rfl⟩ ⟨Nat.zero_le _, Nat.zero_le _⟩ (gIe ?_)
            refine g_ist7 (q := 118) dX3_swaps_116 rfl rfl ?_
            refine g_ild4 (q := 120) dX3_swaps_118 rfl ?_
            refine g_ald0 (q := 121) dX3_swaps_120 rfl ?_
            refine g_ild2 (q := 122) dX3_swaps_121 rfl ?_
            refine g_iconst (q := 123) dX3_swaps_122 ki_0 rfl ?_
            refine g_ild5 (q := 125) dX3_swaps_123 rfl ?_
            refine g_iconst (q := 126) dX3_swaps_125 ki_1 rfl ?_
            refine g_isub (q := 127) dX3_swaps_126 rfl ?_
            refine m_call (q := 130) hk0 (c_countMarks hk0 hH hL _ _ _ (by omega)) sv_X3_488 dX3_swaps_127 rfl rfl rfl (Nat.le_of_ble_eq_true rfl) ⟨Nat.le_of_ble_eq_true rfl, Nat.le_of_ble_eq_true rfl⟩ ⟨Nat.zero_le _, Nat.zero_le _⟩ (gIe ?_)
            refine g_isubN (q := 131) dX3_swaps_130 (by omega) rfl ?_
            refine g_ild7 (q := 133) dX3_swaps_131 rfl ?_
            refine g_ild6 (q := 135) dX3_swaps_133 rfl ?_
            refine g_icN_ge (t := 143) (q := 138) dX3_swaps_135 rfl rfl (by omega) (by omega) (fun c_135 => ?_) (fun c_135 => ?_)
            · refine g_ild6 (q := 145) dX3_swaps_143 rfl ?_
              refine g_isubN (q := 146) dX3_swaps_145 (by omega) rfl ?_
              refine g_iret dX3_swaps_146 (Nat.zero_le _) (Nat.zero_le _) ?_
              refine ⟨_, rfl, R _ ⟨fun h => absurd h hN0, fun _ => ⟨m, hm, hge, hno, ?_⟩⟩⟩
              first | rw [Nat.min_eq_left (by omega)] | rw [Nat.min_eq_right (by omega)]
            · refine g_ild7 (q := 140) dX3_swaps_138 rfl ?_
              refine g_goto (t := 145) dX3_swaps_140 rfl ?_
              refine g_isubN (q := 146) dX3_swaps_145 (by omega) rfl ?_
              refine g_iret dX3_swaps_146 (Nat.zero_le _) (Nat.zero_le _) ?_
              refine ⟨_, rfl, R _ ⟨fun h => absurd h hN0, fun _ => ⟨m, hm, hge, hno, ?_⟩⟩⟩
              first | rw [Nat.min_eq_left (by omega)] | rw [Nat.min_eq_right (by omega)]
          · refine g_iconst (q := 49) dX3_swaps_48 ki_0 rfl ?_
            exact g_iret dX3_swaps_49 (Nat.zero_le _) (Nat.zero_le _) ⟨_, rfl, R _ ⟨fun _ => rfl, fun h => absurd ((nI_eq (a := N) (b := 0) (by omega) (by omega)).mp c_45) h⟩⟩
        · refine g_iconst (q := 35) dX3_swaps_34 ki_m1 rfl ?_
          refine g_iret dX3_swaps_35 (Nat.zero_le _) (Nat.zero_le _) ?_
          first
            | exact ⟨_, rfl, _, rfl, by unfold q_swaps; rw [if_neg (fun h => c_10 h.1)], hK⟩
            | exact ⟨_, rfl, _, rfl, by unfold q_swaps; rw [nI_clamp (by omega), if_neg (fun h => c_18 h.2.1)], hK⟩
            | exact ⟨_, rfl, _, rfl, by unfold q_swaps; rw [nI_clamp (by omega), if_neg (fun h => c_26 h.2.2.1)], hK⟩
            | exact ⟨_, rfl, _, rfl, by unfold q_swaps; rw [nI_clamp (by omega), if_neg (fun h => h.2.2.2 c_31)], hK⟩
end MQ6

