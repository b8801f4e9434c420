set_option maxRecDepth 100000
abbrev cks : List Nat := [27, 47, 48, 49, 50, 51, 52, 53]
theorem ixo_iff {j n : Nat} (hj : j < 2 ^ 31) : ixo (nI j) n ↔ j < n := by
  show (0 ≤ (nI j).toInt ∧ (nI j).toInt < n) ↔ _
  rw [nI_toInt hj]
  omega
theorem ipl {L : LV} {s p : Nat} (hs : s < 2 ^ 31) (hp : p < 2 ^ 31) : (ixo (nI s) (vN L) ∧ ixo (nI p) (vP L (nI s).toNatClampNeg)) ↔ (s < vN L ∧ p < vP L s) := by
  rw [nI_clamp hs, ixo_iff hs, ixo_iff hp]
theorem nI_le0 {n : Nat} (h : n < 2 ^ 31) : nI n ≤ 0 ↔ n = 0 := by
  rw [Int32.le_iff_toInt_le, nI_toInt h]
  have h0 : (0 : Int32).toInt = 0 := rfl
  omega
/-- the deed's answer -/
def DoesR (k : Nat) (r : Option CV) (x : Int32) (S S' : zS) : Prop := Kp cks S S' ∧ ((r = none ∧ x = 0 ∧ S' = S) ∨ ∃ C', r = some C' ∧ x = 1 ∧ Crs S' C' ∧ COK C' (k + 1))
section MDoes
variable {E : zE} {M : zM} {o : Nat} {S S0 : zS} {C : CV} {B : BV}
theorem DoesR.no {k w s p b : Nat} (h : stp k w s p b C = none) : DoesR k (stp k w s p b C) 0 S S := ⟨Kp.rf, Or.inl ⟨h, rfl, rfl⟩⟩
theorem c_does0 (hk0 : Sk E M o) {d : Nat} (hd : d < 2) (hbk : (S.1 46 0) = nI d) (hR : BR ((S.1 7)) (161 * d) B) (h40 : B.1 ≤ 40) (hC : Crs S C) {k : Nat} (hk : k < B.1) (hO : COK C k) {s p : Nat} (hs : s < 4) (hp : p < 12) (hw0 : B.2 k 0 = nI 0) (hs1 : B.2 k 1 = nI s) (hp2 : B.2 k 2 = nI p) {b : Nat} (hb3 : B.2 k 3 = nI b) (hb32 : b < 32) : (Con E yX3_does cX3_does 10 (some .boolean) 5 0 0) [.ref o, .int (nI k)] (mv M o S) (pI (fun x => mP M o (DoesR k (stp k 0 s p b C) x S))) := by
  have hL := hO.1
  have hH := hC.1
  have hpw := pow_b hL.1.2
  have h12 := hL.p12 s
  have h4 := hL.2.2.2.1
  have hst := COK.hand hO hs hp
  have hmk : (S.1 27) (12 * s + p) = vM C.1 s p := hH.2.2.2.2.2.2 s p hs hp
  refine Go.enter [some (.ref o), some (.int (nI k)), none, none, none, none, none, none, none, none] rfl (Nat.le_of_ble_eq_true rfl) rfl (Nat.le_of_ble_eq_true rfl) ?_
  refine g_ald0 (q := 1) dX3_does_0 rfl ?_
  refine g_ild1 (q := 2) dX3_does_1 rfl ?_
  refine g_iconst (q := 3) dX3_does_2 ki_0 rfl ?_
  refine m_call (q := 6) hk0 (c_deedOf hk0 hd hbk hR h40 k 0 hk (by omega)) sv_X3_389 dX3_does_3 rfl rfl rfl (Nat.le_of_ble_eq_true rfl) ⟨Nat.le_of_ble_eq_true rfl, Nat.le_of_ble_eq_true rfl⟩ ⟨Nat.zero_le _, Nat.zero_le _⟩ (gIe ?_)
  refine g_top hw0 ?_
  refine g_ist2 (q := 7) dX3_does_6 rfl rfl ?_
  refine g_ald0 (q := 8) dX3_does_7 rfl ?_
  refine g_ild1 (q := 9) dX3_does_8 rfl ?_
  refine g_iconst (q := 10) dX3_does_9 ki_1 rfl ?_
  refine m_call (q := 13) hk0 (c_deedOf hk0 hd hbk hR h40 k 1 hk (by omega)) sv_X3_389 dX3_does_10 rfl rfl rfl (Nat.le_of_ble_eq_true rfl) ⟨Nat.le_of_ble_eq_true rfl, Nat.le_of_ble_eq_true rfl⟩ ⟨Nat.zero_le _, Nat.zero_le _⟩ (gIe ?_)
  refine g_top hs1 ?_
  refine g_ist3 (q := 14) dX3_does_13 rfl rfl ?_
  refine g_ald0 (q := 15) dX3_does_14 rfl ?_
  refine g_ild1 (q := 16) dX3_does_15 rfl ?_
  refine g_iconst (q := 17) dX3_does_16 ki_2 rfl ?_
  refine m_call (q := 20) hk0 (c_deedOf hk0 hd hbk hR h40 k 2 hk (by omega)) sv_X3_389 dX3_does_17 rfl rfl rfl (Nat.le_of_ble_eq_true rfl) ⟨Nat.le_of_ble_eq_true rfl, Nat.le_of_ble_eq_true rfl⟩ ⟨Nat.zero_le _, Nat.zero_le _⟩ (gIe ?_)
  refine g_top hp2 ?_
  refine g_ist4 (q := 22) dX3_does_20 rfl rfl ?_
  refine g_ald0 (q := 23) dX3_does_22 rfl ?_
  refine g_ild1 (q := 24) dX3_does_23 rfl ?_
  refine g_iconst (q := 25) dX3_does_24 ki_3 rfl ?_
  refine m_call (q := 28) hk0 (c_deedOf hk0 hd hbk hR h40 k 3 hk (by omega)) sv_X3_389 dX3_does_25 rfl rfl rfl (Nat.le_of_ble_eq_true rfl) ⟨Nat.le_of_ble_eq_true rfl, Nat.le_of_ble_eq_true rfl⟩ ⟨Nat.zero_le _, Nat.zero_le _⟩ (gIe ?_)
  refine g_top hb3 ?_
  refine g_ist5 (q := 30) dX3_does_28 rfl rfl ?_
  refine g_ald0 (q := 31) dX3_does_30 rfl ?_
  refine g_ild3 (q := 32) dX3_does_31 rfl ?_
  refine g_ild4 (q := 34) dX3_does_32 rfl ?_
  refine m_call (q := 37) hk0 (c_isPlace hk0 hH hL _ _) sv_X3_345 dX3_does_34 rfl rfl rfl (Nat.le_of_ble_eq_true rfl) ⟨Nat.le_of_ble_eq_true rfl, Nat.le_of_ble_eq_true rfl⟩ ⟨Nat.zero_le _, Nat.zero_le _⟩ (gIe ?_)
  refine g_ifb_ne (t := 42) (q := 40) dX3_does_37 rfl rfl (fun c_37 => ?_) (fun c_37 => ?_)
  · replace c_37 := (ipl (by omega) (by omega)).mp c_37
    refine g_bipush (q := 44) dX3_does_42 kb_12 rfl ?_
    refine g_ild3 (q := 45) dX3_does_44 rfl ?_
    refine g_imulN (q := 46) dX3_does_45 rfl ?_
    refine g_ild4 (q := 48) dX3_does_46 rfl ?_
    refine g_iaddN (q := 49) dX3_does_48 rfl ?_
    refine g_ist6 (q := 51) dX3_does_49 rfl rfl ?_
    refine g_bipush (q := 53) dX3_does_51 kb_12 rfl ?_
    refine g_ild3 (q := 54) dX3_does_53 rfl ?_
    refine g_imulN (q := 55) dX3_does_54 rfl ?_
    refine g_ild5 (q := 57) dX3_does_55 rfl ?_
    refine g_iaddN (q := 58) dX3_does_57 rfl ?_
    refine g_ist7 (q := 60) dX3_does_58 rfl rfl ?_
    refine g_ald0 (q := 61) dX3_does_60 rfl ?_
    refine m_getA (j := 13) (q := 64) hk0 fs_X3_47 dX3_does_61 rfl (fun _ _ => rfl) ⟨rfl, by decide, by decide⟩ ?_
    refine g_ild6 (q := 66) dX3_does_64 rfl ?_
    refine m_iald (n := ((12 * s) + p)) (q := 67) hk0 dX3_does_66 rfl ma_27 rfl (by omega) ?_
    refine g_top hmk ?_
    refine g_iconst (q := 68) dX3_does_67 ki_m1 rfl ?_
    refine g_ic_ne (t := 75) (q := 71) dX3_does_68 rfl rfl (fun c_68 => ?_) (fun c_68 => ?_)
    · refine g_iconst (q := 76) dX3_does_75 ki_0 rfl ?_
      refine g_ist8 (q := 78) dX3_does_76 rfl rfl ?_
      refine g_ild2 (q := 79) dX3_does_78 rfl ?_
      refine g_if_ne (t := 96) (q := 82) dX3_does_79 rfl rfl (fun c_ => absurd c_ (by decide)) (fun _ => ?_)
      refine g_ild8 (q := 84) dX3_does_82 rfl ?_
      refine g_if_eq (t := 151) (q := 87) dX3_does_84 rfl rfl (fun _ => ?_) (fun c_ => absurd c_ (by decide))
      refine g_iconst (q := 152) dX3_does_151 ki_0 rfl ?_
      refine g_zret dX3_does_152 rfl (Nat.zero_le _) (Nat.zero_le _) ?_
      refine ⟨_, rfl, _, rfl, DoesR.no ?_⟩
      unfold stp
      rw [if_pos c_37, if_pos rfl, if_neg (fun h => c_68 h.1)]
    · refine g_iconst (q := 72) dX3_does_71 ki_1 rfl ?_
      refine g_goto (t := 76) dX3_does_72 rfl ?_
      refine g_ist8 (q := 78) dX3_does_76 rfl rfl ?_
      refine g_ild2 (q := 79) dX3_does_78 rfl ?_
      refine g_if_ne (t := 96) (q := 82) dX3_does_79 rfl rfl (fun c_ => absurd c_ (by decide)) (fun _ => ?_)
      refine g_ild8 (q := 84) dX3_does_82 rfl ?_
      refine g_if_eq (t := 151) (q := 87) dX3_does_84 rfl rfl (fun c_ => absurd c_ (by decide)) (fun _ => ?_)
      refine g_ald0 (q := 88) dX3_does_87 rfl ?_
      refine g_ild5 (q := 90) dX3_does_88 rfl ?_
      refine m_call (q := 93) hk0 (c_isMark hk0 hH hL _) sv_X3_348 dX3_does_90 rfl rfl rfl (Nat.le_of_ble_eq_true rfl) ⟨Nat.le_of_ble_eq_true rfl, Nat.le_of_ble_eq_true rfl⟩ ⟨Nat.zero_le _, Nat.zero_le _⟩ (gIe ?_)
      have hcb := hO.2.2.2.1 b
      refine g_ifb_eq (t := 151) (q := 96) dX3_does_93 rfl rfl (fun c_93 => ?_) (fun c_93 => ?_)
      · refine g_iconst (q := 152) dX3_does_151 ki_0 rfl ?_
        refine g_zret dX3_does_152 rfl (Nat.zero_le _) (Nat.zero_le _) ?_
        refine ⟨_, rfl, _, rfl, DoesR.no ?_⟩
        unfold stp
        rw [if_pos c_37, if_pos rfl, if_neg (fun h => c_93 ((ixo_iff (by omega)).mpr h.2))]
      · refine g_ild2 (q := 97) dX3_does_96 rfl ?_
        refine g_iconst (q := 98) dX3_does_97 ki_1 rfl ?_
        refine g_ic_ne (t := 106) (q := 101) dX3_does_98 rfl rfl (fun _ => ?_) (fun c_ => absurd c_ (by decide))
        refine g_ild2 (q := 107) dX3_does_106 rfl ?_
        refine g_iconst (q := 108) dX3_does_107 ki_2 rfl ?_
        refine g_ic_ne (t := 137) (q := 111) dX3_does_108 rfl rfl (fun _ => ?_) (fun c_ => absurd c_ (by decide))
        refine g_ild2 (q := 138) dX3_does_137 rfl ?_
        refine g_iconst (q := 139) dX3_does_138 ki_3 rfl ?_
        refine g_ic_ne (t := 153) (q := 142) dX3_does_139 rfl rfl (fun _ => ?_) (fun c_ => absurd c_ (by decide))
        refine g_ald0 (q := 154) dX3_does_153 rfl ?_
        refine g_ild3 (q := 155) dX3_does_154 rfl ?_
        refine g_ild4 (q := 157) dX3_does_155 rfl ?_
        refine m_call (q := 160) hk0 (c_handTo hk0 _ _) sv_X3_407 dX3_does_157 rfl rfl rfl (Nat.le_of_ble_eq_true rfl) ⟨Nat.le_of_ble_eq_true rfl, Nat.le_of_ble_eq_true rfl⟩ ⟨Nat.zero_le _, Nat.zero_le _⟩ (gV (fun _ e => ?_))
        subst e
        have hC1 := hC.hand hO hs hp
        refine g_ild2 (q := 161) dX3_does_160 rfl ?_
        refine g_if_ne (t := 200) (q := 164) dX3_does_161 rfl rfl (fun c_ => absurd c_ (by decide)) (fun _ => ?_)
        refine g_ald0 (q := 165) dX3_does_164 rfl ?_
        refine m_getA (j := 27) (q := 168) hk0 fs_X3_92 dX3_does_165 rfl (fun _ _ => rfl) ⟨rfl, by decide, by decide⟩ ?_
        refine g_ild5 (q := 170) dX3_does_168 rfl ?_
        refine g_dup2 (q := 171) dX3_does_170 rfl rfl rfl ?_
        refine m_iald (n := b) (q := 172) hk0 dX3_does_171 rfl ma_48 rfl (by omega) ?_
        refine g_top (show _ = nI (cn C b) from hC1.2.2.1 b hb32) ?_
        refine g_ald0 (q := 173) dX3_does_172 rfl ?_
        refine m_getA (j := 27) (q := 176) hk0 fs_X3_92 dX3_does_173 rfl (fun _ _ => rfl) ⟨rfl, by decide, by decide⟩ ?_
        refine g_ild5 (q := 178) dX3_does_176 rfl ?_
        refine m_iald (n := b) (q := 179) hk0 dX3_does_178 rfl ma_48 rfl (by omega) ?_
        refine g_top (show _ = nI (cn C b) from hC1.2.2.1 b hb32) ?_
        refine g_if_le (t := 186) (q := 182) dX3_does_179 rfl rfl (fun c_179 => ?_) (fun c_179 => ?_)
        · replace c_179 : cn C b = 0 := (nI_le0 (by omega)).mp c_179
          refine g_iconst (q := 187) dX3_does_186 ki_0 rfl ?_
          refine g_isubN (q := 188) dX3_does_187 (by omega) rfl ?_
          refine m_iast (n := b) (q := 189) hk0 dX3_does_188 rfl ma_48 rfl (by omega) ?_
          refine g_ald0 (q := 190) dX3_does_189 rfl ?_
          refine g_ild6 (q := 192) dX3_does_190 rfl ?_
          refine g_ild5 (q := 194) dX3_does_192 rfl ?_
          refine m_call (q := 197) hk0 (c_change (b := vB C.1) hk0 hL.1.2 (by exact hH.1) (12 * s + p) (by omega) _) sv_X3_410 dX3_does_194 rfl rfl rfl (Nat.le_of_ble_eq_true rfl) ⟨Nat.le_of_ble_eq_true rfl, Nat.le_of_ble_eq_true rfl⟩ ⟨Nat.zero_le _, Nat.zero_le _⟩ (gV (fun _ e => ?_))
          refine g_goto (t := 357) dX3_does_197 rfl ?_
          subst e
          have hb2 := (ixo_iff (by omega)).mp c_93
          refine g_iconst (q := 358) dX3_does_357 ki_1 rfl ?_
          refine g_zret dX3_does_358 rfl (Nat.zero_le _) (Nat.zero_le _) ?_
          refine ⟨_, rfl, _, rfl, ((((((Kp.rf.s1 rfl).s1 rfl).s1 rfl).s1 rfl).s1 rfl).s2 rfl), Or.inr ⟨cChg (cLent (cHand C s p) b (cn C b - 1)) s p (nI b), ?_, rfl, (hC1.lent (by first | rfl | (rw [show cn C b = 0 by omega]))).chg hp _, hst.1.smk c_37.2 (Or.inr ⟨b, hb2, rfl⟩), hst.2.1, hst.2.2.1, fun m => ?_, Nat.le_trans hO.2.2.2.2.1 (Nat.le_succ k), Nat.le_trans hst.2.2.2 (by have := hO.2.2.2.2.2; omega)⟩⟩
          · unfold stp
            rw [if_pos c_37, if_pos rfl, if_pos ⟨c_68, hb2⟩]
          · show (if m = b then cn C b - 1 else cn C m) ≤ k + 1
            have := hO.2.2.2.1 m
            have := hO.2.2.2.1 b
            split <;> omega
        · replace c_179 : ¬ cn C b = 0 := fun e => c_179 ((nI_le0 (by omega)).mpr e)
          refine g_iconst (q := 183) dX3_does_182 ki_1 rfl ?_
          refine g_goto (t := 187) dX3_does_183 rfl ?_
          refine g_isubN (q := 188) dX3_does_187 (by omega) rfl ?_
          refine m_iast (n := b) (q := 189) hk0 dX3_does_188 rfl ma_48 rfl (by omega) ?_
          refine g_ald0 (q := 190) dX3_does_189 rfl ?_
          refine g_ild6 (q := 192) dX3_does_190 rfl ?_
          refine g_ild5 (q := 194) dX3_does_192 rfl ?_
          refine m_call (q := 197) hk0 (c_change (b := vB C.1) hk0 hL.1.2 (by exact hH.1) (12 * s + p) (by omega) _) sv_X3_410 dX3_does_194 rfl rfl rfl (Nat.le_of_ble_eq_true rfl) ⟨Nat.le_of_ble_eq_true rfl, Nat.le_of_ble_eq_true rfl⟩ ⟨Nat.zero_le _, Nat.zero_le _⟩ (gV (fun _ e => ?_))
          refine g_goto (t := 357) dX3_does_197 rfl ?_
          subst e
          have hb2 := (ixo_iff (by omega)).mp c_93
          refine g_iconst (q := 358) dX3_does_357 ki_1 rfl ?_
          refine g_zret dX3_does_358 rfl (Nat.zero_le _) (Nat.zero_le _) ?_
          refine ⟨_, rfl, _, rfl, ((((((Kp.rf.s1 rfl).s1 rfl).s1 rfl).s1 rfl).s1 rfl).s2 rfl), Or.inr ⟨cChg (cLent (cHand C s p) b (cn C b - 1)) s p (nI b), ?_, rfl, (hC1.lent (by first | rfl | (rw [show cn C b = 0 by omega]))).chg hp _, hst.1.smk c_37.2 (Or.inr ⟨b, hb2, rfl⟩), hst.2.1, hst.2.2.1, fun m => ?_, Nat.le_trans hO.2.2.2.2.1 (Nat.le_succ k), Nat.le_trans hst.2.2.2 (by have := hO.2.2.2.2.2; omega)⟩⟩
          · unfold stp
            rw [if_pos c_37, if_pos rfl, if_pos ⟨c_68, hb2⟩]
          · show (if m = b then cn C b - 1 else cn C m) ≤ k + 1
            have := hO.2.2.2.1 m
            have := hO.2.2.2.1 b
            split <;> omega
  · refine g_iconst (q := 41) dX3_does_40 ki_0 rfl ?_
    refine g_zret dX3_does_41 rfl (Nat.zero_le _) (Nat.zero_le _) ?_
    refine ⟨_, rfl, _, rfl, DoesR.no ?_⟩
    unfold stp
    rw [if_neg (fun h => c_37 ((ipl (by omega) (by omega)).mpr h))]
theorem c_does1 (hk0 : Sk E M o) {d : Nat} (hd : d < 2) (hbk : (S.1 46 0) = nI d) (hR : BR ((S.1 7)) (161 * d) B) (h40 : B.1 ≤ 40) (hC : Crs S C) {k : Nat} (hk : k < B.1) (hO : COK C k) {s p : Nat} (hs : s < 4) (hp : p < 12) (hw0 : B.2 k 0 = nI 1) (hs1 : B.2 k 1 = nI s) (hp2 : B.2 k 2 = nI p) (hb3 : B.2 k 3 = -1) : (Con E yX3_does cX3_does 10 (some .boolean) 5 0 0) [.ref o, .int (nI k)] (mv M o S) (pI (fun x => mP M o (DoesR k (stp k 1 s p 0 C) x S))) := by
  have hL := hO.1
  have hH := hC.1
  have hpw := pow_b hL.1.2
  have h12 := hL.p12 s
  have h4 := hL.2.2.2.1
  have hst := COK.hand hO hs hp
  have hmk : (S.1 27) (12 * s + p) = vM C.1 s p := hH.2.2.2.2.2.2 s p hs hp
  refine Go.enter [some (.ref o), some (.int (nI k)), none, none, none, none, none, none, none, none] rfl (Nat.le_of_ble_eq_true rfl) rfl (Nat.le_of_ble_eq_true rfl) ?_
  refine g_ald0 (q := 1) dX3_does_0 rfl ?_
  refine g_ild1 (q := 2) dX3_does_1 rfl ?_
  refine g_iconst (q := 3) dX3_does_2 ki_0 rfl ?_
  refine m_call (q := 6) hk0 (c_deedOf hk0 hd hbk hR h40 k 0 hk (by omega)) sv_X3_389 dX3_does_3 rfl rfl rfl (Nat.le_of_ble_eq_true rfl) ⟨Nat.le_of_ble_eq_true rfl, Nat.le_of_ble_eq_true rfl⟩ ⟨Nat.zero_le _, Nat.zero_le _⟩ (gIe ?_)
  refine g_top hw0 ?_
  refine g_ist2 (q := 7) dX3_does_6 rfl rfl ?_
  refine g_ald0 (q := 8) dX3_does_7 rfl ?_
  refine g_ild1 (q := 9) dX3_does_8 rfl ?_
  refine g_iconst (q := 10) dX3_does_9 ki_1 rfl ?_
  refine m_call (q := 13) hk0 (c_deedOf hk0 hd hbk hR h40 k 1 hk (by omega)) sv_X3_389 dX3_does_10 rfl rfl rfl (Nat.le_of_ble_eq_true rfl) ⟨Nat.le_of_ble_eq_true rfl, Nat.le_of_ble_eq_true rfl⟩ ⟨Nat.zero_le _, Nat.zero_le _⟩ (gIe ?_)
  refine g_top hs1 ?_
  refine g_ist3 (q := 14) dX3_does_13 rfl rfl ?_
  refine g_ald0 (q := 15) dX3_does_14 rfl ?_
  refine g_ild1 (q := 16) dX3_does_15 rfl ?_
  refine g_iconst (q := 17) dX3_does_16 ki_2 rfl ?_
  refine m_call (q := 20) hk0 (c_deedOf hk0 hd hbk hR h40 k 2 hk (by omega)) sv_X3_389 dX3_does_17 rfl rfl rfl (Nat.le_of_ble_eq_true rfl) ⟨Nat.le_of_ble_eq_true rfl, Nat.le_of_ble_eq_true rfl⟩ ⟨Nat.zero_le _, Nat.zero_le _⟩ (gIe ?_)
  refine g_top hp2 ?_
  refine g_ist4 (q := 22) dX3_does_20 rfl rfl ?_
  refine g_ald0 (q := 23) dX3_does_22 rfl ?_
  refine g_ild1 (q := 24) dX3_does_23 rfl ?_
  refine g_iconst (q := 25) dX3_does_24 ki_3 rfl ?_
  refine m_call (q := 28) hk0 (c_deedOf hk0 hd hbk hR h40 k 3 hk (by omega)) sv_X3_389 dX3_does_25 rfl rfl rfl (Nat.le_of_ble_eq_true rfl) ⟨Nat.le_of_ble_eq_true rfl, Nat.le_of_ble_eq_true rfl⟩ ⟨Nat.zero_le _, Nat.zero_le _⟩ (gIe ?_)
  refine g_top hb3 ?_
  refine g_ist5 (q := 30) dX3_does_28 rfl rfl ?_
  refine g_ald0 (q := 31) dX3_does_30 rfl ?_
  refine g_ild3 (q := 32) dX3_does_31 rfl ?_
  refine g_ild4 (q := 34) dX3_does_32 rfl ?_
  refine m_call (q := 37) hk0 (c_isPlace hk0 hH hL _ _) sv_X3_345 dX3_does_34 rfl rfl rfl (Nat.le_of_ble_eq_true rfl) ⟨Nat.le_of_ble_eq_true rfl, Nat.le_of_ble_eq_true rfl⟩ ⟨Nat.zero_le _, Nat.zero_le _⟩ (gIe ?_)
  refine g_ifb_ne (t := 42) (q := 40) dX3_does_37 rfl rfl (fun c_37 => ?_) (fun c_37 => ?_)
  · replace c_37 := (ipl (by omega) (by omega)).mp c_37
    refine g_bipush (q := 44) dX3_does_42 kb_12 rfl ?_
    refine g_ild3 (q := 45) dX3_does_44 rfl ?_
    refine g_imulN (q := 46) dX3_does_45 rfl ?_
    refine g_ild4 (q := 48) dX3_does_46 rfl ?_
    refine g_iaddN (q := 49) dX3_does_48 rfl ?_
    refine g_ist6 (q := 51) dX3_does_49 rfl rfl ?_
    refine g_bipush (q := 53) dX3_does_51 kb_12 rfl ?_
    refine g_ild3 (q := 54) dX3_does_53 rfl ?_
    refine g_imulN (q := 55) dX3_does_54 rfl ?_
    refine g_ild5 (q := 57) dX3_does_55 rfl ?_
    refine g_iadd (q := 58) dX3_does_57 rfl ?_
    refine g_ist7 (q := 60) dX3_does_58 rfl rfl ?_
    refine g_ald0 (q := 61) dX3_does_60 rfl ?_
    refine m_getA (j := 13) (q := 64) hk0 fs_X3_47 dX3_does_61 rfl (fun _ _ => rfl) ⟨rfl, by decide, by decide⟩ ?_
    refine g_ild6 (q := 66) dX3_does_64 rfl ?_
    refine m_iald (n := ((12 * s) + p)) (q := 67) hk0 dX3_does_66 rfl ma_27 rfl (by omega) ?_
    refine g_top hmk ?_
    refine g_iconst (q := 68) dX3_does_67 ki_m1 rfl ?_
    refine g_ic_ne (t := 75) (q := 71) dX3_does_68 rfl rfl (fun c_68 => ?_) (fun c_68 => ?_)
    · refine g_iconst (q := 76) dX3_does_75 ki_0 rfl ?_
      refine g_ist8 (q := 78) dX3_does_76 rfl rfl ?_
      refine g_ild2 (q := 79) dX3_does_78 rfl ?_
      refine g_if_ne (t := 96) (q := 82) dX3_does_79 rfl rfl (fun _ => ?_) (fun c_ => absurd c_ (by decide))
      refine g_ild2 (q := 97) dX3_does_96 rfl ?_
      refine g_iconst (q := 98) dX3_does_97 ki_1 rfl ?_
      refine g_ic_ne (t := 106) (q := 101) dX3_does_98 rfl rfl (fun c_ => absurd c_ (by decide)) (fun _ => ?_)
      refine g_ild8 (q := 103) dX3_does_101 rfl ?_
      refine g_if_ne (t := 151) (q := 106) dX3_does_103 rfl rfl (fun c_ => absurd c_ (by decide)) (fun _ => ?_)
      refine g_ild2 (q := 107) dX3_does_106 rfl ?_
      refine g_iconst (q := 108) dX3_does_107 ki_2 rfl ?_
      refine g_ic_ne (t := 137) (q := 111) dX3_does_108 rfl rfl (fun _ => ?_) (fun c_ => absurd c_ (by decide))
      refine g_ild2 (q := 138) dX3_does_137 rfl ?_
      refine g_iconst (q := 139) dX3_does_138 ki_3 rfl ?_
      refine g_ic_ne (t := 153) (q := 142) dX3_does_139 rfl rfl (fun _ => ?_) (fun c_ => absurd c_ (by decide))
      obtain ⟨m, hm, em⟩ := (hL.mk s p).resolve_left c_68
      have hmn := hO.2.2.2.1 m
      refine g_ald0 (q := 154) dX3_does_153 rfl ?_
      refine g_ild3 (q := 155) dX3_does_154 rfl ?_
      refine g_ild4 (q := 157) dX3_does_155 rfl ?_
      refine m_call (q := 160) hk0 (c_handTo hk0 _ _) sv_X3_407 dX3_does_157 rfl rfl rfl (Nat.le_of_ble_eq_true rfl) ⟨Nat.le_of_ble_eq_true rfl, Nat.le_of_ble_eq_true rfl⟩ ⟨Nat.zero_le _, Nat.zero_le _⟩ (gV (fun _ e => ?_))
      subst e
      have hC1 := hC.hand hO hs hp
      refine g_ild2 (q := 161) dX3_does_160 rfl ?_
      refine g_if_ne (t := 200) (q := 164) dX3_does_161 rfl rfl (fun _ => ?_) (fun c_ => absurd c_ (by decide))
      refine g_ild2 (q := 201) dX3_does_200 rfl ?_
      refine g_iconst (q := 202) dX3_does_201 ki_1 rfl ?_
      refine g_ic_ne (t := 231) (q := 205) dX3_does_202 rfl rfl (fun c_ => absurd c_ (by decide)) (fun _ => ?_)
      refine g_ald0 (q := 206) dX3_does_205 rfl ?_
      refine m_getA (j := 27) (q := 209) hk0 fs_X3_92 dX3_does_206 rfl (fun _ _ => rfl) ⟨rfl, by decide, by decide⟩ ?_
      refine g_ald0 (q := 210) dX3_does_209 rfl ?_
      refine m_getA (j := 13) (q := 213) hk0 fs_X3_47 dX3_does_210 rfl (fun _ _ => rfl) ⟨rfl, by decide, by decide⟩ ?_
      refine g_ild6 (q := 215) dX3_does_213 rfl ?_
      refine m_iald (n := ((12 * s) + p)) (q := 216) hk0 dX3_does_215 rfl ma_27 rfl (by omega) ?_
      refine g_top (show _ = nI m from hmk.trans em) ?_
      refine g_dup2 (q := 217) dX3_does_216 rfl rfl rfl ?_
      refine m_iald (n := m) (q := 218) hk0 dX3_does_217 rfl ma_48 rfl (by omega) ?_
      refine g_top (show _ = nI (cn C m) from hC1.2.2.1 m hm) ?_
      refine g_iconst (q := 219) dX3_does_218 ki_1 rfl ?_
      refine g_iaddN (q := 220) dX3_does_219 rfl ?_
      refine m_iast (n := m) (q := 221) hk0 dX3_does_220 rfl ma_48 rfl (by omega) ?_
      refine g_ald0 (q := 222) dX3_does_221 rfl ?_
      refine g_ild6 (q := 224) dX3_does_222 rfl ?_
      refine g_iconst (q := 225) dX3_does_224 ki_m1 rfl ?_
      refine m_call (q := 228) hk0 (c_change (b := vB C.1) hk0 hL.1.2 (by exact hH.1) (12 * s + p) (by omega) _) sv_X3_410 dX3_does_225 rfl rfl rfl (Nat.le_of_ble_eq_true rfl) ⟨Nat.le_of_ble_eq_true rfl, Nat.le_of_ble_eq_true rfl⟩ ⟨Nat.zero_le _, Nat.zero_le _⟩ (gV (fun _ e => ?_))
      refine g_goto (t := 357) dX3_does_228 rfl ?_
      subst e
      refine g_iconst (q := 358) dX3_does_357 ki_1 rfl ?_
      refine g_zret dX3_does_358 rfl (Nat.zero_le _) (Nat.zero_le _) ?_
      refine ⟨_, rfl, _, rfl, ((((((Kp.rf.s1 rfl).s1 rfl).s1 rfl).s1 rfl).s1 rfl).s2 rfl), Or.inr ⟨cChg (cLent (cHand C s p) m (cn C m + 1)) s p (-1), ?_, rfl, (hC1.lent rfl).chg hp _, hst.1.smk c_37.2 (Or.inl rfl), hst.2.1, hst.2.2.1, fun m' => ?_, Nat.le_trans hO.2.2.2.2.1 (Nat.le_succ k), Nat.le_trans hst.2.2.2 (by have := hO.2.2.2.2.2; omega)⟩⟩
      · unfold stp
        rw [if_pos c_37, if_neg (by omega), if_pos rfl, if_neg c_68, em, nI_clamp (by omega)]
      · show (if m' = m then cn C m + 1 else cn C m') ≤ k + 1
        have := hO.2.2.2.1 m'
        split <;> omega
    · refine g_iconst (q := 72) dX3_does_71 ki_1 rfl ?_
      refine g_goto (t := 76) dX3_does_72 rfl ?_
      refine g_ist8 (q := 78) dX3_does_76 rfl rfl ?_
      refine g_ild2 (q := 79) dX3_does_78 rfl ?_
      refine g_if_ne (t := 96) (q := 82) dX3_does_79 rfl rfl (fun _ => ?_) (fun c_ => absurd c_ (by decide))
      refine g_ild2 (q := 97) dX3_does_96 rfl ?_
      refine g_iconst (q := 98) dX3_does_97 ki_1 rfl ?_
      refine g_ic_ne (t := 106) (q := 101) dX3_does_98 rfl rfl (fun c_ => absurd c_ (by decide)) (fun _ => ?_)
      refine g_ild8 (q := 103) dX3_does_101 rfl ?_
      refine g_if_ne (t := 151) (q := 106) dX3_does_103 rfl rfl (fun _ => ?_) (fun c_ => absurd c_ (by decide))
      refine g_iconst (q := 152) dX3_does_151 ki_0 rfl ?_
      refine g_zret dX3_does_152 rfl (Nat.zero_le _) (Nat.zero_le _) ?_
      refine ⟨_, rfl, _, rfl, DoesR.no ?_⟩
      unfold stp
      rw [if_pos c_37, if_neg (by omega), if_pos rfl, if_pos c_68]
  · refine g_iconst (q := 41) dX3_does_40 ki_0 rfl ?_
    refine g_zret dX3_does_41 rfl (Nat.zero_le _) (Nat.zero_le _) ?_
    refine ⟨_, rfl, _, rfl, DoesR.no ?_⟩
    unfold stp
    rw [if_neg (fun h => c_37 ((ipl (by omega) (by omega)).mpr h))]
theorem c_does2 (hk0 : Sk E M o) {d : Nat} (hd : d < 2) (hbk : (S.1 46 0) = nI d) (hR : BR ((S.1 7)) (161 * d) B) (h40 : B.1 ≤ 40) (hC : Crs S C) {k : Nat} (hk : k < B.1) (hO : COK C k) {s p : Nat} (hs : s < 4) (hp : p < 12) (hw0 : B.2 k 0 = nI 2) (hs1 : B.2 k 1 = nI s) (hp2 : B.2 k 2 = nI p) {b : Nat} (hb3 : B.2 k 3 = nI b) (hb32 : b < 12) : (Con E yX3_does cX3_does 10 (some .boolean) 5 0 0) [.ref o, .int (nI k)] (mv M o S) (pI (fun x => mP M o (DoesR k (stp k 2 s p b C) x S))) := by
  have hL := hO.1
  have hH := hC.1
  have hpw := pow_b hL.1.2
  have h12 := hL.p12 s
  have h4 := hL.2.2.2.1
  have hst := COK.hand hO hs hp
  have hmk : (S.1 27) (12 * s + p) = vM C.1 s p := hH.2.2.2.2.2.2 s p hs hp
  refine Go.enter [some (.ref o), some (.int (nI k)), none, none, none, none, none, none, none, none] rfl (Nat.le_of_ble_eq_true rfl) rfl (Nat.le_of_ble_eq_true rfl) ?_
  refine g_ald0 (q := 1) dX3_does_0 rfl ?_
  refine g_ild1 (q := 2) dX3_does_1 rfl ?_
  refine g_iconst (q := 3) dX3_does_2 ki_0 rfl ?_
  refine m_call (q := 6) hk0 (c_deedOf hk0 hd hbk hR h40 k 0 hk (by omega)) sv_X3_389 dX3_does_3 rfl rfl rfl (Nat.le_of_ble_eq_true rfl) ⟨Nat.le_of_ble_eq_true rfl, Nat.le_of_ble_eq_true rfl⟩ ⟨Nat.zero_le _, Nat.zero_le _⟩ (gIe ?_)
  refine g_top hw0 ?_
  refine g_ist2 (q := 7) dX3_does_6 rfl rfl ?_
  refine g_ald0 (q := 8) dX3_does_7 rfl ?_
  refine g_ild1 (q := 9) dX3_does_8 rfl ?_
  refine g_iconst (q := 10) dX3_does_9 ki_1 rfl ?_
  refine m_call (q := 13) hk0 (c_deedOf hk0 hd hbk hR h40 k 1 hk (by omega)) sv_X3_389 dX3_does_10 rfl rfl rfl (Nat.le_of_ble_eq_true rfl) ⟨Nat.le_of_ble_eq_true rfl, Nat.le_of_ble_eq_true rfl⟩ ⟨Nat.zero_le _, Nat.zero_le _⟩ (gIe ?_)
  refine g_top hs1 ?_
  refine g_ist3 (q := 14) dX3_does_13 rfl rfl ?_
  refine g_ald0 (q := 15) dX3_does_14 rfl ?_
  refine g_ild1 (q := 16) dX3_does_15 rfl ?_
  refine g_iconst (q := 17) dX3_does_16 ki_2 rfl ?_
  refine m_call (q := 20) hk0 (c_deedOf hk0 hd hbk hR h40 k 2 hk (by omega)) sv_X3_389 dX3_does_17 rfl rfl rfl (Nat.le_of_ble_eq_true rfl) ⟨Nat.le_of_ble_eq_true rfl, Nat.le_of_ble_eq_true rfl⟩ ⟨Nat.zero_le _, Nat.zero_le _⟩ (gIe ?_)
  refine g_top hp2 ?_
  refine g_ist4 (q := 22) dX3_does_20 rfl rfl ?_
  refine g_ald0 (q := 23) dX3_does_22 rfl ?_
  refine g_ild1 (q := 24) dX3_does_23 rfl ?_
  refine g_iconst (q := 25) dX3_does_24 ki_3 rfl ?_
  refine m_call (q := 28) hk0 (c_deedOf hk0 hd hbk hR h40 k 3 hk (by omega)) sv_X3_389 dX3_does_25 rfl rfl rfl (Nat.le_of_ble_eq_true rfl) ⟨Nat.le_of_ble_eq_true rfl, Nat.le_of_ble_eq_true rfl⟩ ⟨Nat.zero_le _, Nat.zero_le _⟩ (gIe ?_)
  refine g_top hb3 ?_
  refine g_ist5 (q := 30) dX3_does_28 rfl rfl ?_
  refine g_ald0 (q := 31) dX3_does_30 rfl ?_
  refine g_ild3 (q := 32) dX3_does_31 rfl ?_
  refine g_ild4 (q := 34) dX3_does_32 rfl ?_
  refine m_call (q := 37) hk0 (c_isPlace hk0 hH hL _ _) sv_X3_345 dX3_does_34 rfl rfl rfl (Nat.le_of_ble_eq_true rfl) ⟨Nat.le_of_ble_eq_true rfl, Nat.le_of_ble_eq_true rfl⟩ ⟨Nat.zero_le _, Nat.zero_le _⟩ (gIe ?_)
  refine g_ifb_ne (t := 42) (q := 40) dX3_does_37 rfl rfl (fun c_37 => ?_) (fun c_37 => ?_)
  · replace c_37 := (ipl (by omega) (by omega)).mp c_37
    refine g_bipush (q := 44) dX3_does_42 kb_12 rfl ?_
    refine g_ild3 (q := 45) dX3_does_44 rfl ?_
    refine g_imulN (q := 46) dX3_does_45 rfl ?_
    refine g_ild4 (q := 48) dX3_does_46 rfl ?_
    refine g_iaddN (q := 49) dX3_does_48 rfl ?_
    refine g_ist6 (q := 51) dX3_does_49 rfl rfl ?_
    refine g_bipush (q := 53) dX3_does_51 kb_12 rfl ?_
    refine g_ild3 (q := 54) dX3_does_53 rfl ?_
    refine g_imulN (q := 55) dX3_does_54 rfl ?_
    refine g_ild5 (q := 57) dX3_does_55 rfl ?_
    refine g_iaddN (q := 58) dX3_does_57 rfl ?_
    refine g_ist7 (q := 60) dX3_does_58 rfl rfl ?_
    refine g_ald0 (q := 61) dX3_does_60 rfl ?_
    refine m_getA (j := 13) (q := 64) hk0 fs_X3_47 dX3_does_61 rfl (fun _ _ => rfl) ⟨rfl, by decide, by decide⟩ ?_
    refine g_ild6 (q := 66) dX3_does_64 rfl ?_
    refine m_iald (n := ((12 * s) + p)) (q := 67) hk0 dX3_does_66 rfl ma_27 rfl (by omega) ?_
    refine g_top hmk ?_
    refine g_iconst (q := 68) dX3_does_67 ki_m1 rfl ?_
    refine g_ic_ne (t := 75) (q := 71) dX3_does_68 rfl rfl (fun c_68 => ?_) (fun c_68 => ?_)
    · refine g_iconst (q := 76) dX3_does_75 ki_0 rfl ?_
      refine g_ist8 (q := 78) dX3_does_76 rfl rfl ?_
      refine g_ild2 (q := 79) dX3_does_78 rfl ?_
      refine g_if_ne (t := 96) (q := 82) dX3_does_79 rfl rfl (fun _ => ?_) (fun c_ => absurd c_ (by decide))
      refine g_ild2 (q := 97) dX3_does_96 rfl ?_
      refine g_iconst (q := 98) dX3_does_97 ki_1 rfl ?_
      refine g_ic_ne (t := 106) (q := 101) dX3_does_98 rfl rfl (fun _ => ?_) (fun c_ => absurd c_ (by decide))
      refine g_ild2 (q := 107) dX3_does_106 rfl ?_
      refine g_iconst (q := 108) dX3_does_107 ki_2 rfl ?_
      refine g_ic_ne (t := 137) (q := 111) dX3_does_108 rfl rfl (fun c_ => absurd c_ (by decide)) (fun _ => ?_)
      refine g_ild8 (q := 113) dX3_does_111 rfl ?_
      refine g_if_ne (t := 151) (q := 116) dX3_does_113 rfl rfl (fun c_ => absurd c_ (by decide)) (fun _ => ?_)
      refine g_ald0 (q := 117) dX3_does_116 rfl ?_
      refine g_ild3 (q := 118) dX3_does_117 rfl ?_
      refine g_ild5 (q := 120) dX3_does_118 rfl ?_
      refine m_call (q := 123) hk0 (c_isPlace hk0 hH hL _ _) sv_X3_345 dX3_does_120 rfl rfl rfl (Nat.le_of_ble_eq_true rfl) ⟨Nat.le_of_ble_eq_true rfl, Nat.le_of_ble_eq_true rfl⟩ ⟨Nat.zero_le _, Nat.zero_le _⟩ (gIe ?_)
      refine g_ifb_eq (t := 151) (q := 126) dX3_does_123 rfl rfl (fun c_123 => ?_) (fun c_123 => ?_)
      · refine g_iconst (q := 152) dX3_does_151 ki_0 rfl ?_
        refine g_zret dX3_does_152 rfl (Nat.zero_le _) (Nat.zero_le _) ?_
        refine ⟨_, rfl, _, rfl, DoesR.no ?_⟩
        unfold stp
        rw [if_pos c_37, if_neg (by omega), if_neg (by omega), if_pos rfl, if_neg c_68, if_neg (fun h => c_123 ((ipl (by omega) (by omega)).mpr ⟨c_37.1, h.1⟩))]
      · refine g_ald0 (q := 127) dX3_does_126 rfl ?_
        refine m_getA (j := 13) (q := 130) hk0 fs_X3_47 dX3_does_127 rfl (fun _ _ => rfl) ⟨rfl, by decide, by decide⟩ ?_
        refine g_ild7 (q := 132) dX3_does_130 rfl ?_
        refine m_iald (n := ((12 * s) + b)) (q := 133) hk0 dX3_does_132 rfl ma_27 rfl (by omega) ?_
        refine g_top (show _ = vM C.1 s b from hH.2.2.2.2.2.2 s b hs hb32) ?_
        refine g_iconst (q := 134) dX3_does_133 ki_m1 rfl ?_
        refine g_ic_ne (t := 151) (q := 137) dX3_does_134 rfl rfl (fun c_134 => ?_) (fun c_134 => ?_)
        · refine g_iconst (q := 152) dX3_does_151 ki_0 rfl ?_
          refine g_zret dX3_does_152 rfl (Nat.zero_le _) (Nat.zero_le _) ?_
          refine ⟨_, rfl, _, rfl, DoesR.no ?_⟩
          unfold stp
          rw [if_pos c_37, if_neg (by omega), if_neg (by omega), if_pos rfl, if_neg c_68, if_neg (fun h => c_134 h.2)]
        · refine g_ild2 (q := 138) dX3_does_137 rfl ?_
          refine g_iconst (q := 139) dX3_does_138 ki_3 rfl ?_
          refine g_ic_ne (t := 153) (q := 142) dX3_does_139 rfl rfl (fun _ => ?_) (fun c_ => absurd c_ (by decide))
          refine g_ald0 (q := 154) dX3_does_153 rfl ?_
          refine g_ild3 (q := 155) dX3_does_154 rfl ?_
          refine g_ild4 (q := 157) dX3_does_155 rfl ?_
          refine m_call (q := 160) hk0 (c_handTo hk0 _ _) sv_X3_407 dX3_does_157 rfl rfl rfl (Nat.le_of_ble_eq_true rfl) ⟨Nat.le_of_ble_eq_true rfl, Nat.le_of_ble_eq_true rfl⟩ ⟨Nat.zero_le _, Nat.zero_le _⟩ (gV (fun _ e => ?_))
          subst e
          have hC1 := hC.hand hO hs hp
          refine g_ild2 (q := 161) dX3_does_160 rfl ?_
          refine g_if_ne (t := 200) (q := 164) dX3_does_161 rfl rfl (fun _ => ?_) (fun c_ => absurd c_ (by decide))
          refine g_ild2 (q := 201) dX3_does_200 rfl ?_
          refine g_iconst (q := 202) dX3_does_201 ki_1 rfl ?_
          refine g_ic_ne (t := 231) (q := 205) dX3_does_202 rfl rfl (fun _ => ?_) (fun c_ => absurd c_ (by decide))
          refine g_ild2 (q := 232) dX3_does_231 rfl ?_
          refine g_iconst (q := 233) dX3_does_232 ki_2 rfl ?_
          refine g_ic_ne (t := 266) (q := 236) dX3_does_233 rfl rfl (fun c_ => absurd c_ (by decide)) (fun _ => ?_)
          refine g_ald0 (q := 237) dX3_does_236 rfl ?_
          refine g_ild3 (q := 238) dX3_does_237 rfl ?_
          refine g_ild5 (q := 240) dX3_does_238 rfl ?_
          refine m_call (q := 243) hk0 (c_handTo hk0 _ _) sv_X3_407 dX3_does_240 rfl rfl rfl (Nat.le_of_ble_eq_true rfl) ⟨Nat.le_of_ble_eq_true rfl, Nat.le_of_ble_eq_true rfl⟩ ⟨Nat.zero_le _, Nat.zero_le _⟩ (gV (fun _ e => ?_))
          subst e
          have hO1 : COK (cHand C s p) (k + 1) := ⟨hst.1, hst.2.1, hst.2.2.1, fun m => Nat.le_trans (hO.2.2.2.1 m) (Nat.le_succ k), Nat.le_trans hO.2.2.2.2.1 (Nat.le_succ k), Nat.le_trans hst.2.2.2 (by have := hO.2.2.2.2.2; omega)⟩
          have hC2 := hC1.hand hO1 hs hb32
          have hst2 := COK.hand hO1 hs hb32
          have hb2 := ((ipl (by omega) (by omega)).mp c_123).2
          refine g_ald0 (q := 244) dX3_does_243 rfl ?_
          refine g_ild7 (q := 246) dX3_does_244 rfl ?_
          refine g_ald0 (q := 247) dX3_does_246 rfl ?_
          refine m_getA (j := 13) (q := 250) hk0 fs_X3_47 dX3_does_247 rfl (fun _ _ => rfl) ⟨rfl, by decide, by decide⟩ ?_
          refine g_ild6 (q := 252) dX3_does_250 rfl ?_
          refine m_iald (n := ((12 * s) + p)) (q := 253) hk0 dX3_does_252 rfl ma_27 rfl (by omega) ?_
          refine g_top (show _ = vM C.1 s p from hmk) ?_
          refine m_call (q := 256) hk0 (c_change (b := vB C.1) hk0 hL.1.2 (by exact hH.1) (12 * s + b) (by omega) _) sv_X3_410 dX3_does_253 rfl rfl rfl (Nat.le_of_ble_eq_true rfl) ⟨Nat.le_of_ble_eq_true rfl, Nat.le_of_ble_eq_true rfl⟩ ⟨Nat.zero_le _, Nat.zero_le _⟩ (gV (fun _ e => ?_))
          subst e
          refine g_ald0 (q := 257) dX3_does_256 rfl ?_
          refine g_ild6 (q := 259) dX3_does_257 rfl ?_
          refine g_iconst (q := 260) dX3_does_259 ki_m1 rfl ?_
          refine m_call (q := 263) hk0 (c_change (b := vB C.1) hk0 hL.1.2 (by exact hH.1) (12 * s + p) (by omega) _) sv_X3_410 dX3_does_260 rfl rfl rfl (Nat.le_of_ble_eq_true rfl) ⟨Nat.le_of_ble_eq_true rfl, Nat.le_of_ble_eq_true rfl⟩ ⟨Nat.zero_le _, Nat.zero_le _⟩ (gV (fun _ e => ?_))
          refine g_goto (t := 357) dX3_does_263 rfl ?_
          subst e
          refine g_iconst (q := 358) dX3_does_357 ki_1 rfl ?_
          refine g_zret dX3_does_358 rfl (Nat.zero_le _) (Nat.zero_le _) ?_
          refine ⟨_, rfl, _, rfl, ((((((((((Kp.rf.s1 rfl).s1 rfl).s1 rfl).s1 rfl).s1 rfl).s1 rfl).s1 rfl).s2 rfl).s1 rfl).s2 rfl), Or.inr ⟨cChg (cChg (cHand (cHand C s p) s b) s b (vM C.1 s p)) s p (-1), ?_, rfl, (hC2.chg hb32 _).chg hp _, (hst2.1.smk hb2 (hL.2.2.2.2.2.2.2 s p)).smk c_37.2 (Or.inl rfl), hst2.2.1, hst2.2.2.1, hO1.2.2.2.1, hO1.2.2.2.2.1, Nat.le_trans hst2.2.2.2 (by have := hO.2.2.2.2.2; have := hst.2.2.2; omega)⟩⟩
          unfold stp
          rw [if_pos c_37, if_neg (by omega), if_neg (by omega), if_pos rfl, if_neg c_68, if_pos ⟨hb2, c_134⟩]
    · refine g_iconst (q := 72) dX3_does_71 ki_1 rfl ?_
      refine g_goto (t := 76) dX3_does_72 rfl ?_
      refine g_ist8 (q := 78) dX3_does_76 rfl rfl ?_
      refine g_ild2 (q := 79) dX3_does_78 rfl ?_
      refine g_if_ne (t := 96) (q := 82) dX3_does_79 rfl rfl (fun _ => ?_) (fun c_ => absurd c_ (by decide))
      refine g_ild2 (q := 97) dX3_does_96 rfl ?_
      refine g_iconst (q := 98) dX3_does_97 ki_1 rfl ?_
      refine g_ic_ne (t := 106) (q := 101) dX3_does_98 rfl rfl (fun _ => ?_) (fun c_ => absurd c_ (by decide))
      refine g_ild2 (q := 107) dX3_does_106 rfl ?_
      refine g_iconst (q := 108) dX3_does_107 ki_2 rfl ?_
      refine g_ic_ne (t := 137) (q := 111) dX3_does_108 rfl rfl (fun c_ => absurd c_ (by decide)) (fun _ => ?_)
      refine g_ild8 (q := 113) dX3_does_111 rfl ?_
      refine g_if_ne (t := 151) (q := 116) dX3_does_113 rfl rfl (fun _ => ?_) (fun c_ => absurd c_ (by decide))
      refine g_iconst (q := 152) dX3_does_151 ki_0 rfl ?_
      refine g_zret dX3_does_152 rfl (Nat.zero_le _) (Nat.zero_le _) ?_
      refine ⟨_, rfl, _, rfl, DoesR.no ?_⟩
      unfold stp
      rw [if_pos c_37, if_neg (by omega), if_neg (by omega), if_pos rfl, if_pos c_68]
  · refine g_iconst (q := 41) dX3_does_40 ki_0 rfl ?_
    refine g_zret dX3_does_41 rfl (Nat.zero_le _) (Nat.zero_le _) ?_
    refine ⟨_, rfl, _, rfl, DoesR.no ?_⟩
    unfold stp
    rw [if_neg (fun h => c_37 ((ipl (by omega) (by omega)).mpr h))]
theorem c_does3 (hk0 : Sk E M o) {d : Nat} (hd : d < 2) (hbk : (S.1 46 0) = nI d) (hR : BR ((S.1 7)) (161 * d) B) (h40 : B.1 ≤ 40) (hC : Crs S C) {k : Nat} (hk : k < B.1) (hO : COK C k) {s p : Nat} (hs : s < 4) (hp : p < 12) (hw0 : B.2 k 0 = nI 3) (hs1 : B.2 k 1 = nI s) (hp2 : B.2 k 2 = nI p) {b : Nat} (hb3 : B.2 k 3 = nI b) (hb32 : b < 32) : (Con E yX3_does cX3_does 10 (some .boolean) 5 0 0) [.ref o, .int (nI k)] (mv M o S) (pI (fun x => mP M o (DoesR k (stp k 3 s p b C) x S))) := by
  have hL := hO.1
  have hH := hC.1
  have hpw := pow_b hL.1.2
  have h12 := hL.p12 s
  have h4 := hL.2.2.2.1
  have hst := COK.hand hO hs hp
  have hmk : (S.1 27) (12 * s + p) = vM C.1 s p := hH.2.2.2.2.2.2 s p hs hp
  refine Go.enter [some (.ref o), some (.int (nI k)), none, none, none, none, none, none, none, none] rfl (Nat.le_of_ble_eq_true rfl) rfl (Nat.le_of_ble_eq_true rfl) ?_
  refine g_ald0 (q := 1) dX3_does_0 rfl ?_
  refine g_ild1 (q := 2) dX3_does_1 rfl ?_
  refine g_iconst (q := 3) dX3_does_2 ki_0 rfl ?_
  refine m_call (q := 6) hk0 (c_deedOf hk0 hd hbk hR h40 k 0 hk (by omega)) sv_X3_389 dX3_does_3 rfl rfl rfl (Nat.le_of_ble_eq_true rfl) ⟨Nat.le_of_ble_eq_true rfl, Nat.le_of_ble_eq_true rfl⟩ ⟨Nat.zero_le _, Nat.zero_le _⟩ (gIe ?_)
  refine g_top hw0 ?_
  refine g_ist2 (q := 7) dX3_does_6 rfl rfl ?_
  refine g_ald0 (q := 8) dX3_does_7 rfl ?_
  refine g_ild1 (q := 9) dX3_does_8 rfl ?_
  refine g_iconst (q := 10) dX3_does_9 ki_1 rfl ?_
  refine m_call (q := 13) hk0 (c_deedOf hk0 hd hbk hR h40 k 1 hk (by omega)) sv_X3_389 dX3_does_10 rfl rfl rfl (Nat.le_of_ble_eq_true rfl) ⟨Nat.le_of_ble_eq_true rfl, Nat.le_of_ble_eq_true rfl⟩ ⟨Nat.zero_le _, Nat.zero_le _⟩ (gIe ?_)
  refine g_top hs1 ?_
  refine g_ist3 (q := 14) dX3_does_13 rfl rfl ?_
  refine g_ald0 (q := 15) dX3_does_14 rfl ?_
  refine g_ild1 (q := 16) dX3_does_15 rfl ?_
  refine g_iconst (q := 17) dX3_does_16 ki_2 rfl ?_
  refine m_call (q := 20) hk0 (c_deedOf hk0 hd hbk hR h40 k 2 hk (by omega)) sv_X3_389 dX3_does_17 rfl rfl rfl (Nat.le_of_ble_eq_true rfl) ⟨Nat.le_of_ble_eq_true rfl, Nat.le_of_ble_eq_true rfl⟩ ⟨Nat.zero_le _, Nat.zero_le _⟩ (gIe ?_)
  refine g_top hp2 ?_
  refine g_ist4 (q := 22) dX3_does_20 rfl rfl ?_
  refine g_ald0 (q := 23) dX3_does_22 rfl ?_
  refine g_ild1 (q := 24) dX3_does_23 rfl ?_
  refine g_iconst (q := 25) dX3_does_24 ki_3 rfl ?_
  refine m_call (q := 28) hk0 (c_deedOf hk0 hd hbk hR h40 k 3 hk (by omega)) sv_X3_389 dX3_does_25 rfl rfl rfl (Nat.le_of_ble_eq_true rfl) ⟨Nat.le_of_ble_eq_true rfl, Nat.le_of_ble_eq_true rfl⟩ ⟨Nat.zero_le _, Nat.zero_le _⟩ (gIe ?_)
  refine g_top hb3 ?_
  refine g_ist5 (q := 30) dX3_does_28 rfl rfl ?_
  refine g_ald0 (q := 31) dX3_does_30 rfl ?_
  refine g_ild3 (q := 32) dX3_does_31 rfl ?_
  refine g_ild4 (q := 34) dX3_does_32 rfl ?_
  refine m_call (q := 37) hk0 (c_isPlace hk0 hH hL _ _) sv_X3_345 dX3_does_34 rfl rfl rfl (Nat.le_of_ble_eq_true rfl) ⟨Nat.le_of_ble_eq_true rfl, Nat.le_of_ble_eq_true rfl⟩ ⟨Nat.zero_le _, Nat.zero_le _⟩ (gIe ?_)
  refine g_ifb_ne (t := 42) (q := 40) dX3_does_37 rfl rfl (fun c_37 => ?_) (fun c_37 => ?_)
  · replace c_37 := (ipl (by omega) (by omega)).mp c_37
    refine g_bipush (q := 44) dX3_does_42 kb_12 rfl ?_
    refine g_ild3 (q := 45) dX3_does_44 rfl ?_
    refine g_imulN (q := 46) dX3_does_45 rfl ?_
    refine g_ild4 (q := 48) dX3_does_46 rfl ?_
    refine g_iaddN (q := 49) dX3_does_48 rfl ?_
    refine g_ist6 (q := 51) dX3_does_49 rfl rfl ?_
    refine g_bipush (q := 53) dX3_does_51 kb_12 rfl ?_
    refine g_ild3 (q := 54) dX3_does_53 rfl ?_
    refine g_imulN (q := 55) dX3_does_54 rfl ?_
    refine g_ild5 (q := 57) dX3_does_55 rfl ?_
    refine g_iaddN (q := 58) dX3_does_57 rfl ?_
    refine g_ist7 (q := 60) dX3_does_58 rfl rfl ?_
    refine g_ald0 (q := 61) dX3_does_60 rfl ?_
    refine m_getA (j := 13) (q := 64) hk0 fs_X3_47 dX3_does_61 rfl (fun _ _ => rfl) ⟨rfl, by decide, by decide⟩ ?_
    refine g_ild6 (q := 66) dX3_does_64 rfl ?_
    refine m_iald (n := ((12 * s) + p)) (q := 67) hk0 dX3_does_66 rfl ma_27 rfl (by omega) ?_
    refine g_top hmk ?_
    refine g_iconst (q := 68) dX3_does_67 ki_m1 rfl ?_
    refine g_ic_ne (t := 75) (q := 71) dX3_does_68 rfl rfl (fun c_68 => ?_) (fun c_68 => ?_)
    · refine g_iconst (q := 76) dX3_does_75 ki_0 rfl ?_
      refine g_ist8 (q := 78) dX3_does_76 rfl rfl ?_
      refine g_ild2 (q := 79) dX3_does_78 rfl ?_
      refine g_if_ne (t := 96) (q := 82) dX3_does_79 rfl rfl (fun _ => ?_) (fun c_ => absurd c_ (by decide))
      refine g_ild2 (q := 97) dX3_does_96 rfl ?_
      refine g_iconst (q := 98) dX3_does_97 ki_1 rfl ?_
      refine g_ic_ne (t := 106) (q := 101) dX3_does_98 rfl rfl (fun _ => ?_) (fun c_ => absurd c_ (by decide))
      refine g_ild2 (q := 107) dX3_does_106 rfl ?_
      refine g_iconst (q := 108) dX3_does_107 ki_2 rfl ?_
      refine g_ic_ne (t := 137) (q := 111) dX3_does_108 rfl rfl (fun _ => ?_) (fun c_ => absurd c_ (by decide))
      refine g_ild2 (q := 138) dX3_does_137 rfl ?_
      refine g_iconst (q := 139) dX3_does_138 ki_3 rfl ?_
      refine g_ic_ne (t := 153) (q := 142) dX3_does_139 rfl rfl (fun c_ => absurd c_ (by decide)) (fun _ => ?_)
      refine g_ald0 (q := 143) dX3_does_142 rfl ?_
      refine g_ild5 (q := 145) dX3_does_143 rfl ?_
      refine m_call (q := 148) hk0 (c_isMark hk0 hH hL _) sv_X3_348 dX3_does_145 rfl rfl rfl (Nat.le_of_ble_eq_true rfl) ⟨Nat.le_of_ble_eq_true rfl, Nat.le_of_ble_eq_true rfl⟩ ⟨Nat.zero_le _, Nat.zero_le _⟩ (gIe ?_)
      refine g_ifb_ne (t := 153) (q := 151) dX3_does_148 rfl rfl (fun c_148 => ?_) (fun c_148 => ?_)
      · refine g_ald0 (q := 154) dX3_does_153 rfl ?_
        refine g_ild3 (q := 155) dX3_does_154 rfl ?_
        refine g_ild4 (q := 157) dX3_does_155 rfl ?_
        refine m_call (q := 160) hk0 (c_handTo hk0 _ _) sv_X3_407 dX3_does_157 rfl rfl rfl (Nat.le_of_ble_eq_true rfl) ⟨Nat.le_of_ble_eq_true rfl, Nat.le_of_ble_eq_true rfl⟩ ⟨Nat.zero_le _, Nat.zero_le _⟩ (gV (fun _ e => ?_))
        subst e
        have hC1 := hC.hand hO hs hp
        refine g_ild2 (q := 161) dX3_does_160 rfl ?_
        refine g_if_ne (t := 200) (q := 164) dX3_does_161 rfl rfl (fun _ => ?_) (fun c_ => absurd c_ (by decide))
        refine g_ild2 (q := 201) dX3_does_200 rfl ?_
        refine g_iconst (q := 202) dX3_does_201 ki_1 rfl ?_
        refine g_ic_ne (t := 231) (q := 205) dX3_does_202 rfl rfl (fun _ => ?_) (fun c_ => absurd c_ (by decide))
        refine g_ild2 (q := 232) dX3_does_231 rfl ?_
        refine g_iconst (q := 233) dX3_does_232 ki_2 rfl ?_
        refine g_ic_ne (t := 266) (q := 236) dX3_does_233 rfl rfl (fun _ => ?_) (fun c_ => absurd c_ (by decide))
        refine g_ald0 (q := 267) dX3_does_266 rfl ?_
        refine m_getA (j := 26) (q := 270) hk0 fs_X3_89 dX3_does_267 rfl (fun _ _ => rfl) ⟨rfl, by decide, by decide⟩ ?_
        refine g_ild6 (q := 272) dX3_does_270 rfl ?_
        refine g_dup2 (q := 273) dX3_does_272 rfl rfl rfl ?_
        refine m_lald (n := ((12 * s) + p)) (q := 274) hk0 dX3_does_273 rfl ma_47 rfl (by omega) ?_
        refine g_topL (show _ = cf C s p from hC1.2.1 s p hs hp) ?_
        refine g_ald0 (q := 275) dX3_does_274 rfl ?_
        refine g_ild5 (q := 277) dX3_does_275 rfl ?_
        refine m_call (q := 280) hk0 (c_readingsOf hk0 hC1.1 hst.1 b) sv_X3_353 dX3_does_277 rfl rfl rfl (Nat.le_of_ble_eq_true rfl) ⟨Nat.le_of_ble_eq_true rfl, Nat.le_of_ble_eq_true rfl⟩ ⟨Nat.zero_le _, Nat.zero_le _⟩ (gL (fun r _ h => ?_))
        obtain ⟨hr, e⟩ := h
        subst e
        have er : r = rdL C.1 b := eq_mkL (by have := hpw; show 2 ^ vB C.1 ≤ 64; omega) hr
        subst er
        have hC2 := hC1.felt (s := s) (p := p) hp (x := cf C s p &&& rdL C.1 b) rfl
        have hb2 := (ixo_iff (by omega)).mp c_148
        have hwr := hO.2.2.2.2.1
        have Fin : ∀ (x : Nat) (y : Int32), (x = if bad C s p b then 1 else 0) → (y = if bad C s p b ∧ cw C = 0 then nI k else cx C) → stp k 3 s p b C = some (cWrg (cFelt (cHand C s p) s p (cf C s p &&& rdL C.1 b)) (cw C + x) y) ∧ COK (cWrg (cFelt (cHand C s p) s p (cf C s p &&& rdL C.1 b)) (cw C + x) y) (k + 1) := fun x y hx hy => ⟨by unfold stp; rw [if_pos c_37, if_neg (by omega), if_neg (by omega), if_neg (by omega), if_pos hb2, hx, hy], hst.1, hst.2.1, hst.2.2.1, fun m => Nat.le_trans (hO.2.2.2.1 m) (Nat.le_succ k), (by show cw C + x ≤ k + 1; rw [hx]; split <;> omega), Nat.le_trans hst.2.2.2 (by have := hO.2.2.2.2.2; omega)⟩
        have KP : ∀ {u v : Int32}, Kp cks S (ms1 (ms1 (ms2 (ms1 (ms1 (ms1 S 51 0 ((S.1 51 0) + (nI 10 * adI (nI s) ((S.1 52 0)) + adI (nI p) ((S.1 53 0))))) 52 0 (nI s)) 53 0 (nI p)) 47 (12 * s + p) (cf C s p &&& rdL C.1 b)) 50 0 u) 49 0 v) := ((((((Kp.rf.s1 rfl).s1 rfl).s1 rfl).s2 rfl).s1 rfl).s1 rfl)
        refine g_land (q := 281) dX3_does_280 rfl ?_
        refine m_last (n := ((12 * s) + p)) (q := 282) hk0 dX3_does_281 rfl ma_47 rfl (by omega) ?_
        refine g_ild8 (q := 284) dX3_does_282 rfl ?_
        refine g_if_ne (t := 307) (q := 287) dX3_does_284 rfl rfl (fun c_ => absurd c_ (by decide)) (fun _ => ?_)
        obtain ⟨m, hm, em⟩ := (hL.mk s p).resolve_left c_68
        refine g_ald0 (q := 288) dX3_does_287 rfl ?_
        refine g_ald0 (q := 289) dX3_does_288 rfl ?_
        refine m_getA (j := 13) (q := 292) hk0 fs_X3_47 dX3_does_289 rfl (fun _ _ => rfl) ⟨rfl, by decide, by decide⟩ ?_
        refine g_ild6 (q := 294) dX3_does_292 rfl ?_
        refine m_iald (n := ((12 * s) + p)) (q := 295) hk0 dX3_does_294 rfl ma_27 rfl (by omega) ?_
        refine g_top (show _ = nI m from hmk.trans em) ?_
        refine g_ild5 (q := 297) dX3_does_295 rfl ?_
        refine g_ald0 (q := 298) dX3_does_297 rfl ?_
        refine m_getI (q := 301) hk0 fs_X3_237 dX3_does_298 rfl rfl rfl ?_
        refine g_top hH.2.1 ?_
        refine m_call (q := 304) hk0 (c_mayBe E M o m b (vW C.1) (by have := hL.2.1; omega) _) sv_X3_257 dX3_does_301 rfl rfl rfl (Nat.le_of_ble_eq_true rfl) ⟨Nat.le_of_ble_eq_true rfl, Nat.le_of_ble_eq_true rfl⟩ ⟨Nat.zero_le _, Nat.zero_le _⟩ (gIe ?_)
        refine g_ifb_ne (t := 311) (q := 307) dX3_does_304 rfl rfl (fun c_304 => ?_) (fun c_304 => ?_)
        · have hbad : ¬ bad C s p b := fun h => h.elim c_68 (fun h => by rw [em, nI_clamp (by omega)] at h; exact h c_304)
          refine g_iconst (q := 312) dX3_does_311 ki_0 rfl ?_
          refine g_ist9 (q := 314) dX3_does_312 rfl rfl ?_
          refine g_ald0 (q := 315) dX3_does_314 rfl ?_
          refine g_ild9 (q := 317) dX3_does_315 rfl ?_
          refine g_if_eq (t := 331) (q := 320) dX3_does_317 rfl rfl (fun _ => ?_) (fun c_ => absurd c_ (by decide))
          refine g_ald0 (q := 332) dX3_does_331 rfl ?_
          refine m_getI (q := 335) hk0 fs_X3_395 dX3_does_332 rfl rfl rfl ?_
          refine m_putI (q := 338) hk0 fs_X3_395 dX3_does_335 rfl rfl rfl ?_
          refine g_ald0 (q := 339) dX3_does_338 rfl ?_
          refine g_dup (q := 340) dX3_does_339 rfl rfl ?_
          refine m_getI (q := 343) hk0 fs_X3_392 dX3_does_340 rfl rfl rfl ?_
          refine g_top hC.2.2.2.1 ?_
          refine g_ild9 (q := 345) dX3_does_343 rfl ?_
          refine g_if_eq (t := 352) (q := 348) dX3_does_345 rfl rfl (fun _ => ?_) (fun c_ => absurd c_ (by decide))
          refine g_iconst (q := 353) dX3_does_352 ki_0 rfl ?_
          refine g_iaddN (q := 354) dX3_does_353 rfl ?_
          refine m_putI (q := 357) hk0 fs_X3_392 dX3_does_354 rfl rfl rfl ?_
          refine g_iconst (q := 358) dX3_does_357 ki_1 rfl ?_
          refine g_zret dX3_does_358 rfl (Nat.zero_le _) (Nat.zero_le _) ?_
          obtain ⟨F1, F2⟩ := Fin 0 (cx C) (if_neg hbad).symm (if_neg (fun h => hbad h.1)).symm
          exact ⟨_, rfl, _, rfl, KP, Or.inr ⟨_, F1, rfl, hC2.wrg rfl hC.2.2.2.2.1, F2⟩⟩
        · have hbad : bad C s p b := by first | exact Or.inl c_68 | exact Or.inr (by rw [em, nI_clamp (by omega)]; exact c_304)
          refine g_iconst (q := 308) dX3_does_307 ki_1 rfl ?_
          refine g_goto (t := 312) dX3_does_308 rfl ?_
          refine g_ist9 (q := 314) dX3_does_312 rfl rfl ?_
          refine g_ald0 (q := 315) dX3_does_314 rfl ?_
          refine g_ild9 (q := 317) dX3_does_315 rfl ?_
          refine g_if_eq (t := 331) (q := 320) dX3_does_317 rfl rfl (fun c_ => absurd c_ (by decide)) (fun _ => ?_)
          refine g_ald0 (q := 321) dX3_does_320 rfl ?_
          refine m_getI (q := 324) hk0 fs_X3_392 dX3_does_321 rfl rfl rfl ?_
          refine g_top hC.2.2.2.1 ?_
          refine g_if_ne (t := 331) (q := 327) dX3_does_324 rfl rfl (fun c_324 => ?_) (fun c_324 => ?_)
          · refine g_ald0 (q := 332) dX3_does_331 rfl ?_
            refine m_getI (q := 335) hk0 fs_X3_395 dX3_does_332 rfl rfl rfl ?_
            refine m_putI (q := 338) hk0 fs_X3_395 dX3_does_335 rfl rfl rfl ?_
            refine g_ald0 (q := 339) dX3_does_338 rfl ?_
            refine g_dup (q := 340) dX3_does_339 rfl rfl ?_
            refine m_getI (q := 343) hk0 fs_X3_392 dX3_does_340 rfl rfl rfl ?_
            refine g_top hC.2.2.2.1 ?_
            refine g_ild9 (q := 345) dX3_does_343 rfl ?_
            refine g_if_eq (t := 352) (q := 348) dX3_does_345 rfl rfl (fun c_ => absurd c_ (by decide)) (fun _ => ?_)
            refine g_iconst (q := 349) dX3_does_348 ki_1 rfl ?_
            refine g_goto (t := 353) dX3_does_349 rfl ?_
            refine g_iaddN (q := 354) dX3_does_353 rfl ?_
            refine m_putI (q := 357) hk0 fs_X3_392 dX3_does_354 rfl rfl rfl ?_
            refine g_iconst (q := 358) dX3_does_357 ki_1 rfl ?_
            refine g_zret dX3_does_358 rfl (Nat.zero_le _) (Nat.zero_le _) ?_
            obtain ⟨F1, F2⟩ := Fin 1 (cx C) (if_pos hbad).symm (if_neg (fun h => c_324 (by rw [h.2]; rfl))).symm
            exact ⟨_, rfl, _, rfl, KP, Or.inr ⟨_, F1, rfl, hC2.wrg rfl hC.2.2.2.2.1, F2⟩⟩
          · refine g_ild1 (q := 328) dX3_does_327 rfl ?_
            refine g_goto (t := 335) dX3_does_328 rfl ?_
            refine m_putI (q := 338) hk0 fs_X3_395 dX3_does_335 rfl rfl rfl ?_
            refine g_ald0 (q := 339) dX3_does_338 rfl ?_
            refine g_dup (q := 340) dX3_does_339 rfl rfl ?_
            refine m_getI (q := 343) hk0 fs_X3_392 dX3_does_340 rfl rfl rfl ?_
            refine g_top hC.2.2.2.1 ?_
            refine g_ild9 (q := 345) dX3_does_343 rfl ?_
            refine g_if_eq (t := 352) (q := 348) dX3_does_345 rfl rfl (fun c_ => absurd c_ (by decide)) (fun _ => ?_)
            refine g_iconst (q := 349) dX3_does_348 ki_1 rfl ?_
            refine g_goto (t := 353) dX3_does_349 rfl ?_
            refine g_iaddN (q := 354) dX3_does_353 rfl ?_
            refine m_putI (q := 357) hk0 fs_X3_392 dX3_does_354 rfl rfl rfl ?_
            refine g_iconst (q := 358) dX3_does_357 ki_1 rfl ?_
            refine g_zret dX3_does_358 rfl (Nat.zero_le _) (Nat.zero_le _) ?_
            obtain ⟨F1, F2⟩ := Fin 1 (nI k) (if_pos hbad).symm (if_pos ⟨hbad, (nI_eq (b := 0) (by omega) (by omega)).mp c_324⟩).symm
            exact ⟨_, rfl, _, rfl, KP, Or.inr ⟨_, F1, rfl, hC2.wrg rfl rfl, F2⟩⟩
      · refine g_iconst (q := 152) dX3_does_151 ki_0 rfl ?_
        refine g_zret dX3_does_152 rfl (Nat.zero_le _) (Nat.zero_le _) ?_
        refine ⟨_, rfl, _, rfl, DoesR.no ?_⟩
        unfold stp
        rw [if_pos c_37, if_neg (by omega), if_neg (by omega), if_neg (by omega), if_neg (fun h => c_148 ((ixo_iff (by omega)).mpr h))]
    · refine g_iconst (q := 72) dX3_does_71 ki_1 rfl ?_
      refine g_goto (t := 76) dX3_does_72 rfl ?_
      refine g_ist8 (q := 78) dX3_does_76 rfl rfl ?_
      refine g_ild2 (q := 79) dX3_does_78 rfl ?_
      refine g_if_ne (t := 96) (q := 82) dX3_does_79 rfl rfl (fun _ => ?_) (fun c_ => absurd c_ (by decide))
      refine g_ild2 (q := 97) dX3_does_96 rfl ?_
      refine g_iconst (q := 98) dX3_does_97 ki_1 rfl ?_
      refine g_ic_ne (t := 106) (q := 101) dX3_does_98 rfl rfl (fun _ => ?_) (fun c_ => absurd c_ (by decide))
      refine g_ild2 (q := 107) dX3_does_106 rfl ?_
      refine g_iconst (q := 108) dX3_does_107 ki_2 rfl ?_
      refine g_ic_ne (t := 137) (q := 111) dX3_does_108 rfl rfl (fun _ => ?_) (fun c_ => absurd c_ (by decide))
      refine g_ild2 (q := 138) dX3_does_137 rfl ?_
      refine g_iconst (q := 139) dX3_does_138 ki_3 rfl ?_
      refine g_ic_ne (t := 153) (q := 142) dX3_does_139 rfl rfl (fun c_ => absurd c_ (by decide)) (fun _ => ?_)
      refine g_ald0 (q := 143) dX3_does_142 rfl ?_
      refine g_ild5 (q := 145) dX3_does_143 rfl ?_
      refine m_call (q := 148) hk0 (c_isMark hk0 hH hL _) sv_X3_348 dX3_does_145 rfl rfl rfl (Nat.le_of_ble_eq_true rfl) ⟨Nat.le_of_ble_eq_true rfl, Nat.le_of_ble_eq_true rfl⟩ ⟨Nat.zero_le _, Nat.zero_le _⟩ (gIe ?_)
      refine g_ifb_ne (t := 153) (q := 151) dX3_does_148 rfl rfl (fun c_148 => ?_) (fun c_148 => ?_)
      · refine g_ald0 (q := 154) dX3_does_153 rfl ?_
        refine g_ild3 (q := 155) dX3_does_154 rfl ?_
        refine g_ild4 (q := 157) dX3_does_155 rfl ?_
        refine m_call (q := 160) hk0 (c_handTo hk0 _ _) sv_X3_407 dX3_does_157 rfl rfl rfl (Nat.le_of_ble_eq_true rfl) ⟨Nat.le_of_ble_eq_true rfl, Nat.le_of_ble_eq_true rfl⟩ ⟨Nat.zero_le _, Nat.zero_le _⟩ (gV (fun _ e => ?_))
        subst e
        have hC1 := hC.hand hO hs hp
        refine g_ild2 (q := 161) dX3_does_160 rfl ?_
        refine g_if_ne (t := 200) (q := 164) dX3_does_161 rfl rfl (fun _ => ?_) (fun c_ => absurd c_ (by decide))
        refine g_ild2 (q := 201) dX3_does_200 rfl ?_
        refine g_iconst (q := 202) dX3_does_201 ki_1 rfl ?_
        refine g_ic_ne (t := 231) (q := 205) dX3_does_202 rfl rfl (fun _ => ?_) (fun c_ => absurd c_ (by decide))
        refine g_ild2 (q := 232) dX3_does_231 rfl ?_
        refine g_iconst (q := 233) dX3_does_232 ki_2 rfl ?_
        refine g_ic_ne (t := 266) (q := 236) dX3_does_233 rfl rfl (fun _ => ?_) (fun c_ => absurd c_ (by decide))
        refine g_ald0 (q := 267) dX3_does_266 rfl ?_
        refine m_getA (j := 26) (q := 270) hk0 fs_X3_89 dX3_does_267 rfl (fun _ _ => rfl) ⟨rfl, by decide, by decide⟩ ?_
        refine g_ild6 (q := 272) dX3_does_270 rfl ?_
        refine g_dup2 (q := 273) dX3_does_272 rfl rfl rfl ?_
        refine m_lald (n := ((12 * s) + p)) (q := 274) hk0 dX3_does_273 rfl ma_47 rfl (by omega) ?_
        refine g_topL (show _ = cf C s p from hC1.2.1 s p hs hp) ?_
        refine g_ald0 (q := 275) dX3_does_274 rfl ?_
        refine g_ild5 (q := 277) dX3_does_275 rfl ?_
        refine m_call (q := 280) hk0 (c_readingsOf hk0 hC1.1 hst.1 b) sv_X3_353 dX3_does_277 rfl rfl rfl (Nat.le_of_ble_eq_true rfl) ⟨Nat.le_of_ble_eq_true rfl, Nat.le_of_ble_eq_true rfl⟩ ⟨Nat.zero_le _, Nat.zero_le _⟩ (gL (fun r _ h => ?_))
        obtain ⟨hr, e⟩ := h
        subst e
        have er : r = rdL C.1 b := eq_mkL (by have := hpw; show 2 ^ vB C.1 ≤ 64; omega) hr
        subst er
        have hC2 := hC1.felt (s := s) (p := p) hp (x := cf C s p &&& rdL C.1 b) rfl
        have hb2 := (ixo_iff (by omega)).mp c_148
        have hwr := hO.2.2.2.2.1
        have Fin : ∀ (x : Nat) (y : Int32), (x = if bad C s p b then 1 else 0) → (y = if bad C s p b ∧ cw C = 0 then nI k else cx C) → stp k 3 s p b C = some (cWrg (cFelt (cHand C s p) s p (cf C s p &&& rdL C.1 b)) (cw C + x) y) ∧ COK (cWrg (cFelt (cHand C s p) s p (cf C s p &&& rdL C.1 b)) (cw C + x) y) (k + 1) := fun x y hx hy => ⟨by unfold stp; rw [if_pos c_37, if_neg (by omega), if_neg (by omega), if_neg (by omega), if_pos hb2, hx, hy], hst.1, hst.2.1, hst.2.2.1, fun m => Nat.le_trans (hO.2.2.2.1 m) (Nat.le_succ k), (by show cw C + x ≤ k + 1; rw [hx]; split <;> omega), Nat.le_trans hst.2.2.2 (by have := hO.2.2.2.2.2; omega)⟩
        have KP : ∀ {u v : Int32}, Kp cks S (ms1 (ms1 (ms2 (ms1 (ms1 (ms1 S 51 0 ((S.1 51 0) + (nI 10 * adI (nI s) ((S.1 52 0)) + adI (nI p) ((S.1 53 0))))) 52 0 (nI s)) 53 0 (nI p)) 47 (12 * s + p) (cf C s p &&& rdL C.1 b)) 50 0 u) 49 0 v) := ((((((Kp.rf.s1 rfl).s1 rfl).s1 rfl).s2 rfl).s1 rfl).s1 rfl)
        refine g_land (q := 281) dX3_does_280 rfl ?_
        refine m_last (n := ((12 * s) + p)) (q := 282) hk0 dX3_does_281 rfl ma_47 rfl (by omega) ?_
        refine g_ild8 (q := 284) dX3_does_282 rfl ?_
        refine g_if_ne (t := 307) (q := 287) dX3_does_284 rfl rfl (fun _ => ?_) (fun c_ => absurd c_ (by decide))
        have hbad : bad C s p b := by first | exact Or.inl c_68 | exact Or.inr (by rw [em, nI_clamp (by omega)]; exact c_304)
        refine g_iconst (q := 308) dX3_does_307 ki_1 rfl ?_
        refine g_goto (t := 312) dX3_does_308 rfl ?_
        refine g_ist9 (q := 314) dX3_does_312 rfl rfl ?_
        refine g_ald0 (q := 315) dX3_does_314 rfl ?_
        refine g_ild9 (q := 317) dX3_does_315 rfl ?_
        refine g_if_eq (t := 331) (q := 320) dX3_does_317 rfl rfl (fun c_ => absurd c_ (by decide)) (fun _ => ?_)
        refine g_ald0 (q := 321) dX3_does_320 rfl ?_
        refine m_getI (q := 324) hk0 fs_X3_392 dX3_does_321 rfl rfl rfl ?_
        refine g_top hC.2.2.2.1 ?_
        refine g_if_ne (t := 331) (q := 327) dX3_does_324 rfl rfl (fun c_324 => ?_) (fun c_324 => ?_)
        · refine g_ald0 (q := 332) dX3_does_331 rfl ?_
          refine m_getI (q := 335) hk0 fs_X3_395 dX3_does_332 rfl rfl rfl ?_
          refine m_putI (q := 338) hk0 fs_X3_395 dX3_does_335 rfl rfl rfl ?_
          refine g_ald0 (q := 339) dX3_does_338 rfl ?_
          refine g_dup (q := 340) dX3_does_339 rfl rfl ?_
          refine m_getI (q := 343) hk0 fs_X3_392 dX3_does_340 rfl rfl rfl ?_
          refine g_top hC.2.2.2.1 ?_
          refine g_ild9 (q := 345) dX3_does_343 rfl ?_
          refine g_if_eq (t := 352) (q := 348) dX3_does_345 rfl rfl (fun c_ => absurd c_ (by decide)) (fun _ => ?_)
          refine g_iconst (q := 349) dX3_does_348 ki_1 rfl ?_
          refine g_goto (t := 353) dX3_does_349 rfl ?_
          refine g_iaddN (q := 354) dX3_does_353 rfl ?_
          refine m_putI (q := 357) hk0 fs_X3_392 dX3_does_354 rfl rfl rfl ?_
          refine g_iconst (q := 358) dX3_does_357 ki_1 rfl ?_
          refine g_zret dX3_does_358 rfl (Nat.zero_le _) (Nat.zero_le _) ?_
          obtain ⟨F1, F2⟩ := Fin 1 (cx C) (if_pos hbad).symm (if_neg (fun h => c_324 (by rw [h.2]; rfl))).symm
          exact ⟨_, rfl, _, rfl, KP, Or.inr ⟨_, F1, rfl, hC2.wrg rfl hC.2.2.2.2.1, F2⟩⟩
        · refine g_ild1 (q := 328) dX3_does_327 rfl ?_
          refine g_goto (t := 335) dX3_does_328 rfl ?_
          refine m_putI (q := 338) hk0 fs_X3_395 dX3_does_335 rfl rfl rfl ?_
          refine g_ald0 (q := 339) dX3_does_338 rfl ?_
          refine g_dup (q := 340) dX3_does_339 rfl rfl ?_
          refine m_getI (q := 343) hk0 fs_X3_392 dX3_does_340 rfl rfl rfl ?_
          refine g_top hC.2.2.2.1 ?_
          refine g_ild9 (q := 345) dX3_does_343 rfl ?_
          refine g_if_eq (t := 352) (q := 348) dX3_does_345 rfl rfl (fun c_ => absurd c_ (by decide)) (fun _ => ?_)
          refine g_iconst (q := 349) dX3_does_348 ki_1 rfl ?_
          refine g_goto (t := 353) dX3_does_349 rfl ?_
          refine g_iaddN (q := 354) dX3_does_353 rfl ?_
          refine m_putI (q := 357) hk0 fs_X3_392 dX3_does_354 rfl rfl rfl ?_
          refine g_iconst (q := 358) dX3_does_357 ki_1 rfl ?_
          refine g_zret dX3_does_358 rfl (Nat.zero_le _) (Nat.zero_le _) ?_
          obtain ⟨F1, F2⟩ := Fin 1 (nI k) (if_pos hbad).symm (if_pos ⟨hbad, (nI_eq (b := 0) (by omega) (by omega)).mp c_324⟩).symm
          exact ⟨_, rfl, _, rfl, KP, Or.inr ⟨_, F1, rfl, hC2.wrg rfl rfl, F2⟩⟩
      · refine g_iconst (q := 152) dX3_does_151 ki_0 rfl ?_
        refine g_zret dX3_does_152 rfl (Nat.zero_le _) (Nat.zero_le _) ?_
        refine ⟨_, rfl, _, rfl, DoesR.no ?_⟩
        unfold stp
        rw [if_pos c_37, if_neg (by omega), if_neg (by omega), if_neg (by omega), if_neg (fun h => c_148 ((ixo_iff (by omega)).mpr h))]
  · refine g_iconst (q := 41) dX3_does_40 ki_0 rfl ?_
    refine g_zret dX3_does_41 rfl (Nat.zero_le _) (Nat.zero_le _) ?_
    refine ⟨_, rfl, _, rfl, DoesR.no ?_⟩
    unfold stp
    rw [if_neg (fun h => c_37 ((ipl (by omega) (by omega)).mpr h))]
end MDoes


