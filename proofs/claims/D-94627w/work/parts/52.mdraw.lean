set_option maxRecDepth 100000
/-- the dice: the next seed, and what is thrown -/
def rll (x : Int32) : Int32 := x * nI 1103515245 + nI 12345
def thr (x m : Int32) : Int32 := (x.toUInt32 >>> ((nI 16).toUInt32 &&& Int32.toUInt32 31)).toInt32 - (x.toUInt32 >>> ((nI 16).toUInt32 &&& Int32.toUInt32 31)).toInt32 / m * m
section MDraw
variable {E : zE} {M : zM} {o : Nat} {S S0 : zS} {n : Nat} {Ls : Nat → LV} {L : LV}
theorem c_draw (hk0 : Sk E M o) {m : Int32} (hm : ¬ m = 0) : (Con E yX3_draw cX3_draw 2 (some .int) 1 0 0) [.ref o, .int m] (mv M o S) (pI (fun x M' => x = thr (rll ((S.1 60 0))) m ∧ M' = mv M o (ms1 S 60 0 (rll ((S.1 60 0)))))) := by
  refine Go.enter [some (.ref o), some (.int m)] rfl (Nat.le_of_ble_eq_true rfl) rfl (Nat.le_of_ble_eq_true rfl) ?_
  refine g_ald0 (q := 1) dX3_draw_0 rfl ?_
  refine g_ald0 (q := 2) dX3_draw_1 rfl ?_
  refine m_getI (q := 5) hk0 fs_X3_471 dX3_draw_2 rfl rfl rfl ?_
  refine g_ldcw (v := 1103515245) (q := 8) q2199 dX3_draw_5 rfl ?_
  refine g_top (show (1103515245 : Int32) = nI 1103515245 from rfl) ?_
  refine g_imul (q := 9) dX3_draw_8 rfl ?_
  refine g_sipush (q := 12) dX3_draw_9 ks_12345 rfl ?_
  refine g_iadd (q := 13) dX3_draw_12 rfl ?_
  refine m_putI (q := 16) hk0 fs_X3_471 dX3_draw_13 rfl rfl rfl ?_
  refine g_ald0 (q := 17) dX3_draw_16 rfl ?_
  refine m_getI (q := 20) hk0 fs_X3_471 dX3_draw_17 rfl rfl rfl ?_
  refine g_bipush (q := 22) dX3_draw_20 kb_16 rfl ?_
  refine g_iushr (q := 23) dX3_draw_22 rfl ?_
  refine g_ild1 (q := 24) dX3_draw_23 rfl ?_
  refine g_irem (q := 25) dX3_draw_24 hm rfl ?_
  refine g_iret dX3_draw_25 (Nat.zero_le _) (Nat.zero_le _) ?_
  exact ⟨_, rfl, rfl, rfl⟩
end MDraw

