def F_X13_worth (a0 : Option Nat) (x1 : Int32) (x2 : Int32) (w : cH) : Option (Int32 × cH) :=
  if tg w a0 = some 13 then (cb (F_X13_refusesBridge a0 x1 x2 w) fun i3 w3 =>if i3 = 0 then (cb (F_X13_roundOf a0 x1 x2 w3) fun i20 w20 =>if i20 < 1000000 then ((fI w20 a0 13 11).bind fun i44 => some (i20 - i44, w20)) else (cb (F_X13_finding a0 (-1000004) w20) fun i35 w35 => some (i35, w35))) else (cb (F_X13_finding a0 i3 w3) fun i13 w13 => some (i13, w13))) else none
abbrev rm_X13_worth : Room := { frames := 6, cells := 0, slots := 0, locals := 146 }
set_option maxHeartbeats 4000000 in
set_option maxRecDepth 100000 in
theorem ct_X13_worth {l : Launch} {g : Gt} (G : Gok g) {a0 : Option Nat} {x1 : Int32} {x2 : Int32} {w : cH} {r9 : Int32} {w9 : cH} (hF : F_X13_worth a0 x1 x2 w = some (r9, w9)) : tg w a0 = some 13 ∧ Mx l yX13_worth (ws_ yX13_worth cX13_worth 5 (some .int)) rm_X13_worth g [va_rf a0, .int x1, .int x2] w (.returned (some (.int r9))) w9 0 0 := by
  unfold F_X13_worth at hF
  obtain ⟨ht, hF⟩ := bg hF
  refine ⟨ht, mk_ct cX13_worth 5 (some .int) "CarryFairModel" (plainFor_of_name (by decide)) rfl (lg_le ⟨cr _, rfl, rfl, trivial⟩ (Nat.le_of_ble_eq_true rfl)) (av_ok ⟨cr _, rfl, rfl, trivial⟩) G (fun x B hl hR hin hh => ?_)⟩
  show J g x _ _ 0 0 w 0 0 0 [some (va_rf a0), some (.int x1), some (.int x2), none, none] []
  refine j_aload_n B dX13_worth_0 rfl ?_
  refine j_iload_n B dX13_worth_1 rfl ?_
  refine j_iload_n B dX13_worth_2 rfl ?_
  obtain ⟨i3, w3, e3, hF⟩ := bc hF
  refine j_rV (st2 := [.int i3]) B [.int x1, .int x2] [] cv_X13_257 dX13_worth_3 hl hR (ct_X13_refusesBridge G e3) rfl rfl rfl rfl trivial (Nat.le_of_ble_eq_true rfl) ?_
  refine j_istore_n (vs' := [some (va_rf a0), some (.int x1), some (.int x2), some (.int i3), none]) B dX13_worth_6 (by decide) rfl ?_
  refine j_iload_n B dX13_worth_7 rfl ?_
  refine j_if_eq (tgt := 17) B dX13_worth_8 (by decide) hF (fun h8 hF => ?_) (fun h8 hF => ?_)
  · refine j_aload_n B dX13_worth_17 rfl ?_
    refine j_iload_n B dX13_worth_18 rfl ?_
    refine j_iload_n B dX13_worth_19 rfl ?_
    obtain ⟨i20, w20, e20, hF⟩ := bc hF
    refine j_rV (st2 := [.int i20]) B [.int x1, .int x2] [] cv_X13_233 dX13_worth_20 hl hR (ct_X13_roundOf G e20) rfl rfl rfl rfl trivial (Nat.le_of_ble_eq_true rfl) ?_
    refine j_istore (vs' := [some (va_rf a0), some (.int x1), some (.int x2), some (.int i3), some (.int i20)]) B dX13_worth_23 (by decide) rfl ?_
    refine j_iload B dX13_worth_25 rfl ?_
    refine j_ldc (v := 1000000) B q1546 dX13_worth_27 ?_
    refine j_icmp_lt (tgt := 41) B dX13_worth_29 (by decide) hF (fun h29 hF => ?_) (fun h29 hF => ?_)
    · refine j_iload B dX13_worth_41 rfl ?_
      refine j_aload_n B dX13_worth_43 rfl ?_
      refine j_getI B fl_X13_242 dX13_worth_44 hF (fun i44 hF => ?_)
      refine j_isub B dX13_worth_47 ?_
      exact j_lIw B rfl dX13_worth_48 hF (by decide) (by decide)
    · refine j_aload_n B dX13_worth_32 rfl ?_
      refine j_ldc (v := (-1000004)) B q1551 dX13_worth_33 ?_
      obtain ⟨i35, w35, e35, hF⟩ := bc hF
      refine j_rV (st2 := [.int i35]) B [.int (-1000004)] [] cv_X13_92 dX13_worth_35 hl hR (ct_X13_finding G e35) rfl rfl rfl rfl trivial (Nat.le_of_ble_eq_true rfl) ?_
      refine j_goto (tgt := 48) B dX13_worth_38 (by decide) ?_
      exact j_lIw B rfl dX13_worth_48 hF (by decide) (by decide)
  · refine j_aload_n B dX13_worth_11 rfl ?_
    refine j_iload_n B dX13_worth_12 rfl ?_
    obtain ⟨i13, w13, e13, hF⟩ := bc hF
    refine j_rV (st2 := [.int i13]) B [.int i3] [] cv_X13_92 dX13_worth_13 hl hR (ct_X13_finding G e13) rfl rfl rfl rfl trivial (Nat.le_of_ble_eq_true rfl) ?_
    exact j_lIw B rfl dX13_worth_16 hF (by decide) (by decide)
def F_X13_reach_J64 (rc29 : (Option Nat) → Int32 → Int32 → Int32 → cH → Option (Int32 × cH)) (a0 : Option Nat) (x1 : Int32) (x3 : Int32) (s0 : Int32) (s1 : Int32) (w : cH) : Option (Int32 × cH) :=
  rc29 a0 x1 (s1 ||| s0) (x3 + 1) w
def F_X13_reach_B29 (rc29 : Option Nat → Int32 → Int32 → Int32 → cH → Option (Int32 × cH)) (a0 : Option Nat) (x1 : Int32) (x2 : Int32) (x3 : Int32) (w : cH) : Option (Int32 × cH) :=
  if 7 ≤ x3 then (some (x2, w)) else ((fA w a0 13 5).bind fun a37p => (F_X13_cIs a0 x1 1 w).bind fun i45 => (aI w a37p 100 ((7 * i45) + x3)).bind fun i51 =>if 1000000 ≤ i51 then (F_X13_reach_J64  rc29 a0 x1 x3 0 x2 w) else (F_X13_reach_J64  rc29 a0 x1 x3 (1 <<< (x3 &&& 31)) x2 w))
def F_X13_reach_L29 : Nat → Option Nat → Int32 → Int32 → Int32 → cH → Option (Int32 × cH)
  | 0, _, _, _, _, _ => none
  | n9 + 1, a0, x1, x2, x3, w => F_X13_reach_B29  (F_X13_reach_L29  n9) a0 x1 x2 x3 w
def F_X13_reach (a0 : Option Nat) (x1 : Int32) (w : cH) : Option (Int32 × cH) :=
  if tg w a0 = some 13 then ((F_X13_isCarrier a0 x1 w).bind fun i2 =>if ¬ i2 = 0 then ((F_X13_cIs a0 x1 0 w).bind fun i19 => (F_X13_findFar a0 i19 w).bind fun w22 => F_X13_reach_L29  fu a0 x1 0 0 w22) else (cb (F_X13_finding a0 (-1000001) w) fun i11 w11 => some (i11, w11))) else none
abbrev rm_X13_reach : Room := { frames := 4, cells := 0, slots := 0, locals := 93 }
set_option maxHeartbeats 4000000 in
set_option maxRecDepth 100000 in
theorem ct_X13_reach {l : Launch} {g : Gt} (G : Gok g) {a0 : Option Nat} {x1 : Int32} {w : cH} {r9 : Int32} {w9 : cH} (hF : F_X13_reach a0 x1 w = some (r9, w9)) : tg w a0 = some 13 ∧ Mx l yX13_reach (ws_ yX13_reach cX13_reach 4 (some .int)) rm_X13_reach g [va_rf a0, .int x1] w (.returned (some (.int r9))) w9 0 0 := by
  unfold F_X13_reach at hF
  obtain ⟨ht, hF⟩ := bg hF
  refine ⟨ht, mk_ct cX13_reach 4 (some .int) "CarryFairModel" (plainFor_of_name (by decide)) rfl (lg_le ⟨cr _, rfl, trivial⟩ (Nat.le_of_ble_eq_true rfl)) (av_ok ⟨cr _, rfl, trivial⟩) G (fun x B hl hR hin hh => ?_)⟩
  show J g x _ _ 0 0 w 0 0 0 [some (va_rf a0), some (.int x1), none, none] []
  have lp29 : ∀ (n9 : Nat) (a0 : Option Nat) (x1 : Int32) (x2 : Int32) (x3 : Int32) (w : cH), F_X13_reach_L29  n9 a0 x1 x2 x3 w = some (r9, w9) → J g x (.returned (some (.int r9))) w9 0 0 w 0 0 29 [some (va_rf a0), some (.int x1), some (.int x2), some (.int x3)] [] := by
    intro n9
    induction n9 with
    | zero => intro a0 x1 x2 x3 w hF; cases hF
    | succ n29 ih29 =>
      intro a0 x1 x2 x3 w hF
      have hF : F_X13_reach_B29  (F_X13_reach_L29  n29) a0 x1 x2 x3 w = some (r9, w9) := hF
      unfold F_X13_reach_B29 at hF
      have jb64 : ∀ (a0 : Option Nat) (x1 : Int32) (x3 : Int32) (s0 : Int32) (s1 : Int32) (w : cH), F_X13_reach_J64  (F_X13_reach_L29  n29) a0 x1 x3 s0 s1 w = some (r9, w9) → J g x (.returned (some (.int r9))) w9 0 0 w 0 0 64 [some (va_rf a0), some (.int x1), none, some (.int x3)] [.int s0, .int s1] := by
        intro a0 x1 x3 s0 s1 w hF
        unfold F_X13_reach_J64 at hF
        refine j_ior B dX13_reach_64 ?_
        refine j_istore_n (vs' := [some (va_rf a0), some (.int x1), some (.int (s1 ||| s0)), some (.int x3)]) B dX13_reach_65 (by decide) rfl ?_
        refine j_iinc (v := x3 + 1) (vs' := [some (va_rf a0), some (.int x1), some (.int (s1 ||| s0)), some (.int (x3 + 1))]) B dX13_reach_66 (by decide) rfl rfl rfl ?_
        refine j_goto (tgt := 29) B dX13_reach_69 (by decide) ?_
        exact ih29 a0 x1 (s1 ||| s0) (x3 + 1) w hF
      refine j_iload_n B dX13_reach_29 rfl ?_
      refine j_bipush (v := 7) B dX13_reach_30 (by decide) ?_
      refine j_icmp_ge (tgt := 72) B dX13_reach_32 (by decide) hF (fun h32 hF => ?_) (fun h32 hF => ?_)
      · refine j_iload_n B dX13_reach_72 rfl ?_
        exact j_lIw B rfl dX13_reach_73 hF (by decide) (by decide)
      · refine j_iload_n B dX13_reach_35 rfl ?_
        refine j_aload_n B dX13_reach_36 rfl ?_
        refine j_getA B fl_X13_22 dX13_reach_37 hF (fun a37p hF => ?_)
        refine j_bipush (v := 7) B dX13_reach_40 (by decide) ?_
        refine j_aload_n B dX13_reach_42 rfl ?_
        refine j_iload_n B dX13_reach_43 rfl ?_
        refine j_iconst (v := 1) B dX13_reach_44 (by decide) ?_
        obtain ⟨i45, e45, hF⟩ := bo hF
        refine j_rV (st2 := [.int i45, .int 7, va_rf a37p, .int x2]) B [.int x1, .int 1] [.int 7, va_rf a37p, .int x2] cv_X13_104 dX13_reach_45 hl hR (ct_X13_cIs G e45) rfl rfl rfl rfl ⟨rfl, cr _, rfl, trivial⟩ (Nat.le_of_ble_eq_true rfl) ?_
        refine j_imul B dX13_reach_48 ?_
        refine j_iload_n B dX13_reach_49 rfl ?_
        refine j_iadd B dX13_reach_50 ?_
        refine j_iaload B dX13_reach_51 hF (fun i51 hF => ?_)
        refine j_ldc (v := 1000000) B q1546 dX13_reach_52 ?_
        refine j_icmp_ge (tgt := 63) B dX13_reach_54 (by decide) hF (fun h54 hF => ?_) (fun h54 hF => ?_)
        · refine j_iconst (v := 0) B dX13_reach_63 (by decide) ?_
          refine j_msk [true, true, false, true] rfl ?_
          exact jb64 a0 x1 x3 0 x2 w hF
        · refine j_iconst (v := 1) B dX13_reach_57 (by decide) ?_
          refine j_iload_n B dX13_reach_58 rfl ?_
          refine j_ishl B dX13_reach_59 ?_
          refine j_goto (tgt := 64) B dX13_reach_60 (by decide) ?_
          refine j_msk [true, true, false, true] rfl ?_
          exact jb64 a0 x1 x3 (1 <<< (x3 &&& 31)) x2 w hF
  refine j_aload_n B dX13_reach_0 rfl ?_
  refine j_iload_n B dX13_reach_1 rfl ?_
  obtain ⟨i2, e2, hF⟩ := bo hF
  refine j_rV (st2 := [.int i2]) B [.int x1] [] cv_X13_117 dX13_reach_2 hl hR (ct_X13_isCarrier G e2) rfl rfl rfl rfl trivial (Nat.le_of_ble_eq_true rfl) ?_
  refine j_if_ne (tgt := 15) B dX13_reach_5 (by decide) hF (fun h5 hF => ?_) (fun h5 hF => ?_)
  · refine j_aload_n B dX13_reach_15 rfl ?_
    refine j_aload_n B dX13_reach_16 rfl ?_
    refine j_iload_n B dX13_reach_17 rfl ?_
    refine j_iconst (v := 0) B dX13_reach_18 (by decide) ?_
    obtain ⟨i19, e19, hF⟩ := bo hF
    refine j_rV (st2 := [.int i19, va_rf a0]) B [.int x1, .int 0] [va_rf a0] cv_X13_104 dX13_reach_19 hl hR (ct_X13_cIs G e19) rfl rfl rfl rfl ⟨cr _, trivial⟩ (Nat.le_of_ble_eq_true rfl) ?_
    obtain ⟨w22, e22, hF⟩ := bo hF
    refine j_rV (st2 := []) B [.int i19] [] cv_X13_174 dX13_reach_22 hl hR (ct_X13_findFar G e22) rfl rfl rfl rfl trivial (Nat.le_of_ble_eq_true rfl) ?_
    refine j_iconst (v := 0) B dX13_reach_25 (by decide) ?_
    refine j_istore_n (vs' := [some (va_rf a0), some (.int x1), some (.int 0), none]) B dX13_reach_26 (by decide) rfl ?_
    refine j_iconst (v := 0) B dX13_reach_27 (by decide) ?_
    refine j_istore_n (vs' := [some (va_rf a0), some (.int x1), some (.int 0), some (.int 0)]) B dX13_reach_28 (by decide) rfl ?_
    exact lp29 fu a0 x1 0 0 w22 hF
  · refine j_aload_n B dX13_reach_8 rfl ?_
    refine j_ldc (v := (-1000001)) B q1436 dX13_reach_9 ?_
    obtain ⟨i11, w11, e11, hF⟩ := bc hF
    refine j_rV (st2 := [.int i11]) B [.int (-1000001)] [] cv_X13_92 dX13_reach_11 hl hR (ct_X13_finding G e11) rfl rfl rfl rfl trivial (Nat.le_of_ble_eq_true rfl) ?_
    exact j_lIw B rfl dX13_reach_14 hF (by decide) (by decide)
def F_X13_middle_J183 (rc96 : (Option Nat) → Int32 → Int32 → Int32 → Int32 → cH → Option (Int32 × cH)) (a0 : Option Nat) (x2 : Int32) (x4 : Int32) (x5 : Int32) (x6 : Int32) (s0 : Int32) (w : cH) : Option (Int32 × cH) :=
  rc96 a0 x2 s0 (F_J3_min x4 x6) (x5 + 1) w
def F_X13_middle_J162 (rc96 : (Option Nat) → Int32 → Int32 → Int32 → Int32 → cH → Option (Int32 × cH)) (rc123 : (Option Nat) → Int32 → Int32 → Int32 → Int32 → Int32 → Int32 → cH → Option (Int32 × cH)) (a0 : Option Nat) (x2 : Int32) (x3 : Int32) (x4 : Int32) (x5 : Int32) (x7 : Int32) (s0 : Int32) (w : cH) : Option (Int32 × cH) :=
  rc123 a0 x2 x3 x4 x5 s0 (x7 + 1) w
def F_X13_middle_B123 (rc96 : (Option Nat) → Int32 → Int32 → Int32 → Int32 → cH → Option (Int32 × cH)) (rc123 : Option Nat → Int32 → Int32 → Int32 → Int32 → Int32 → Int32 → cH → Option (Int32 × cH)) (a0 : Option Nat) (x2 : Int32) (x3 : Int32) (x4 : Int32) (x5 : Int32) (x6 : Int32) (x7 : Int32) (w : cH) : Option (Int32 × cH) :=
  if 7 ≤ x7 then (if x4 ≤ x6 then (F_X13_middle_J183  rc96 a0 x2 x4 x5 x6 x3 w) else (F_X13_middle_J183  rc96 a0 x2 x4 x5 x6 x5 w)) else (if (F_X13_has x2 x7) = 0 then (F_X13_middle_J162  rc96 rc123 a0 x2 x3 x4 x5 x7 x6 w) else ((fA w a0 13 5).bind fun a142p => (aI w a142p 100 ((7 * x5) + x7)).bind fun i153 => F_X13_middle_J162  rc96 rc123 a0 x2 x3 x4 x5 x7 (F_J3_max x6 i153) w))
def F_X13_middle_L123 (rc96 : (Option Nat) → Int32 → Int32 → Int32 → Int32 → cH → Option (Int32 × cH)) : Nat → Option Nat → Int32 → Int32 → Int32 → Int32 → Int32 → Int32 → cH → Option (Int32 × cH)
  | 0, _, _, _, _, _, _, _, _ => none
  | n9 + 1, a0, x2, x3, x4, x5, x6, x7, w => F_X13_middle_B123  rc96 (F_X13_middle_L123  rc96 n9) a0 x2 x3 x4 x5 x6 x7 w
def F_X13_middle_J118 (rc96 : (Option Nat) → Int32 → Int32 → Int32 → Int32 → cH → Option (Int32 × cH)) (a0 : Option Nat) (x2 : Int32) (x3 : Int32) (x4 : Int32) (x5 : Int32) (s0 : Int32) (w : cH) : Option (Int32 × cH) :=
  F_X13_middle_L123  rc96 fu a0 x2 x3 x4 x5 s0 0 w
def F_X13_middle_B96 (rc96 : Option Nat → Int32 → Int32 → Int32 → Int32 → cH → Option (Int32 × cH)) (a0 : Option Nat) (x2 : Int32) (x3 : Int32) (x4 : Int32) (x5 : Int32) (w : cH) : Option (Int32 × cH) :=
  if 7 ≤ x5 then (if 0 ≤ x3 then (some (x3, w)) else (cb (F_X13_finding a0 (-1000004) w) fun i206 w206 => some (i206, w206))) else (if (F_X13_has x2 x5) = 0 then (F_X13_middle_J118  rc96 a0 x2 x3 x4 x5 1000000 w) else (F_X13_middle_J118  rc96 a0 x2 x3 x4 x5 0 w))
def F_X13_middle_L96 : Nat → Option Nat → Int32 → Int32 → Int32 → Int32 → cH → Option (Int32 × cH)
  | 0, _, _, _, _, _, _ => none
  | n9 + 1, a0, x2, x3, x4, x5, w => F_X13_middle_B96  (F_X13_middle_L96  n9) a0 x2 x3 x4 x5 w
def F_X13_middle_J73 (rc29 : (Option Nat) → Int32 → Int32 → cH → Option (Int32 × cH)) (rc38 : (Option Nat) → Int32 → Int32 → Int32 → cH → Option (Int32 × cH)) (a0 : Option Nat) (x3 : Int32) (x4 : Int32) (s0 : Int32) (s1 : Int32) (w : cH) : Option (Int32 × cH) :=
  rc38 a0 (s1 ||| s0) x3 (x4 + 1) w
def F_X13_middle_J72 (rc29 : (Option Nat) → Int32 → Int32 → cH → Option (Int32 × cH)) (rc38 : (Option Nat) → Int32 → Int32 → Int32 → cH → Option (Int32 × cH)) (a0 : Option Nat) (x3 : Int32) (x4 : Int32) (s0 : Int32) (w : cH) : Option (Int32 × cH) :=
  F_X13_middle_J73  rc29 rc38 a0 x3 x4 0 s0 w
def F_X13_middle_B38 (rc29 : (Option Nat) → Int32 → Int32 → cH → Option (Int32 × cH)) (rc38 : Option Nat → Int32 → Int32 → Int32 → cH → Option (Int32 × cH)) (a0 : Option Nat) (x2 : Int32) (x3 : Int32) (x4 : Int32) (w : cH) : Option (Int32 × cH) :=
  if 7 ≤ x4 then (rc29 a0 x2 (x3 + 1) w) else (if x3 = x4 then (F_X13_middle_J72  rc29 rc38 a0 x3 x4 x2 w) else ((fA w a0 13 0).bind fun a53p => (aI w a53p 100 (F_X13_wayAt x3 x4)).bind fun i62 =>if i62 ≤ 0 then (F_X13_middle_J72  rc29 rc38 a0 x3 x4 x2 w) else (F_X13_middle_J73  rc29 rc38 a0 x3 x4 (1 <<< (x3 &&& 31)) x2 w)))
def F_X13_middle_L38 (rc29 : (Option Nat) → Int32 → Int32 → cH → Option (Int32 × cH)) : Nat → Option Nat → Int32 → Int32 → Int32 → cH → Option (Int32 × cH)
  | 0, _, _, _, _, _ => none
  | n9 + 1, a0, x2, x3, x4, w => F_X13_middle_B38  rc29 (F_X13_middle_L38  rc29 n9) a0 x2 x3 x4 w
def F_X13_middle_B29 (rc29 : Option Nat → Int32 → Int32 → cH → Option (Int32 × cH)) (a0 : Option Nat) (x2 : Int32) (x3 : Int32) (w : cH) : Option (Int32 × cH) :=
  if 7 ≤ x3 then (F_X13_middle_L96  fu a0 x2 (-1) 1000000 0 w) else (F_X13_middle_L38  rc29 fu a0 x2 x3 0 w)
def F_X13_middle_L29 : Nat → Option Nat → Int32 → Int32 → cH → Option (Int32 × cH)
  | 0, _, _, _, _ => none
  | n9 + 1, a0, x2, x3, w => F_X13_middle_B29  (F_X13_middle_L29  n9) a0 x2 x3 w
def F_X13_middle (a0 : Option Nat) (x1 : Int32) (w : cH) : Option (Int32 × cH) :=
  if tg w a0 = some 13 then ((F_X13_isCarrier a0 x1 w).bind fun i2 =>if ¬ i2 = 0 then ((F_X13_cIs a0 x1 0 w).bind fun i19 => (F_X13_findFar a0 i19 w).bind fun w22 => F_X13_middle_L29  fu a0 0 0 w22) else (cb (F_X13_finding a0 (-1000001) w) fun i11 w11 => some (i11, w11))) else none
abbrev rm_X13_middle : Room := { frames := 4, cells := 0, slots := 0, locals := 93 }
set_option maxHeartbeats 4000000 in
set_option maxRecDepth 100000 in
theorem ct_X13_middle {l : Launch} {g : Gt} (G : Gok g) {a0 : Option Nat} {x1 : Int32} {w : cH} {r9 : Int32} {w9 : cH} (hF : F_X13_middle a0 x1 w = some (r9, w9)) : tg w a0 = some 13 ∧ Mx l yX13_middle (ws_ yX13_middle cX13_middle 8 (some .int)) rm_X13_middle g [va_rf a0, .int x1] w (.returned (some (.int r9))) w9 0 0 := by
  unfold F_X13_middle at hF
  obtain ⟨ht, hF⟩ := bg hF
  refine ⟨ht, mk_ct cX13_middle 8 (some .int) "CarryFairModel" (plainFor_of_name (by decide)) rfl (lg_le ⟨cr _, rfl, trivial⟩ (Nat.le_of_ble_eq_true rfl)) (av_ok ⟨cr _, rfl, trivial⟩) G (fun x B hl hR hin hh => ?_)⟩
  show J g x _ _ 0 0 w 0 0 0 [some (va_rf a0), some (.int x1), none, none, none, none, none, none] []
  have lp96 : ∀ (n9 : Nat) (a0 : Option Nat) (x2 : Int32) (x3 : Int32) (x4 : Int32) (x5 : Int32) (w : cH), F_X13_middle_L96  n9 a0 x2 x3 x4 x5 w = some (r9, w9) → J g x (.returned (some (.int r9))) w9 0 0 w 0 0 96 [some (va_rf a0), none, some (.int x2), some (.int x3), some (.int x4), some (.int x5), none, none] [] := by
    intro n9
    induction n9 with
    | zero => intro a0 x2 x3 x4 x5 w hF; cases hF
    | succ n96 ih96 =>
      intro a0 x2 x3 x4 x5 w hF
      have hF : F_X13_middle_B96  (F_X13_middle_L96  n96) a0 x2 x3 x4 x5 w = some (r9, w9) := hF
      unfold F_X13_middle_B96 at hF
      have jb183 : ∀ (a0 : Option Nat) (x2 : Int32) (x4 : Int32) (x5 : Int32) (x6 : Int32) (s0 : Int32) (w : cH), F_X13_middle_J183  (F_X13_middle_L96  n96) a0 x2 x4 x5 x6 s0 w = some (r9, w9) → J g x (.returned (some (.int r9))) w9 0 0 w 0 0 183 [some (va_rf a0), none, some (.int x2), none, some (.int x4), some (.int x5), some (.int x6), none] [.int s0] := by
        intro a0 x2 x4 x5 x6 s0 w hF
        unfold F_X13_middle_J183 at hF
        refine j_istore_n (vs' := [some (va_rf a0), none, some (.int x2), some (.int s0), some (.int x4), some (.int x5), some (.int x6), none]) B dX13_middle_183 (by decide) rfl ?_
        refine j_iload B dX13_middle_184 rfl ?_
        refine j_iload B dX13_middle_186 rfl ?_
        refine j_rS (st2 := [.int (F_J3_min x4 x6)]) B [.int x4, .int x6] [] cs_X13_136 dX13_middle_188 hl hR (ct_J3_min G) rfl rfl rfl rfl trivial (Nat.le_of_ble_eq_true rfl) ?_
        refine j_istore (vs' := [some (va_rf a0), none, some (.int x2), some (.int s0), some (.int (F_J3_min x4 x6)), some (.int x5), some (.int x6), none]) B dX13_middle_191 (by decide) rfl ?_
        refine j_iinc (v := x5 + 1) (vs' := [some (va_rf a0), none, some (.int x2), some (.int s0), some (.int (F_J3_min x4 x6)), some (.int (x5 + 1)), some (.int x6), none]) B dX13_middle_193 (by decide) rfl rfl rfl ?_
        refine j_goto (tgt := 96) B dX13_middle_196 (by decide) ?_
        refine j_msk [true, false, true, true, true, true, false, false] rfl ?_
        exact ih96 a0 x2 s0 (F_J3_min x4 x6) (x5 + 1) w hF
      have lp123 : ∀ (n9 : Nat) (a0 : Option Nat) (x2 : Int32) (x3 : Int32) (x4 : Int32) (x5 : Int32) (x6 : Int32) (x7 : Int32) (w : cH), F_X13_middle_L123  (F_X13_middle_L96  n96) n9 a0 x2 x3 x4 x5 x6 x7 w = some (r9, w9) → J g x (.returned (some (.int r9))) w9 0 0 w 0 0 123 [some (va_rf a0), none, some (.int x2), some (.int x3), some (.int x4), some (.int x5), some (.int x6), some (.int x7)] [] := by
        intro n9
        induction n9 with
        | zero => intro a0 x2 x3 x4 x5 x6 x7 w hF; cases hF
        | succ n123 ih123 =>
          intro a0 x2 x3 x4 x5 x6 x7 w hF
          have hF : F_X13_middle_B123  (F_X13_middle_L96  n96) (F_X13_middle_L123  (F_X13_middle_L96  n96) n123) a0 x2 x3 x4 x5 x6 x7 w = some (r9, w9) := hF
          unfold F_X13_middle_B123 at hF
          have jb162 : ∀ (a0 : Option Nat) (x2 : Int32) (x3 : Int32) (x4 : Int32) (x5 : Int32) (x7 : Int32) (s0 : Int32) (w : cH), F_X13_middle_J162  (F_X13_middle_L96  n96) (F_X13_middle_L123  (F_X13_middle_L96  n96) n123) a0 x2 x3 x4 x5 x7 s0 w = some (r9, w9) → J g x (.returned (some (.int r9))) w9 0 0 w 0 0 162 [some (va_rf a0), none, some (.int x2), some (.int x3), some (.int x4), some (.int x5), none, some (.int x7)] [.int s0] := by
            intro a0 x2 x3 x4 x5 x7 s0 w hF
            unfold F_X13_middle_J162 at hF
            refine j_istore (vs' := [some (va_rf a0), none, some (.int x2), some (.int x3), some (.int x4), some (.int x5), some (.int s0), some (.int x7)]) B dX13_middle_162 (by decide) rfl ?_
            refine j_iinc (v := x7 + 1) (vs' := [some (va_rf a0), none, some (.int x2), some (.int x3), some (.int x4), some (.int x5), some (.int s0), some (.int (x7 + 1))]) B dX13_middle_164 (by decide) rfl rfl rfl ?_
            refine j_goto (tgt := 123) B dX13_middle_167 (by decide) ?_
            exact ih123 a0 x2 x3 x4 x5 s0 (x7 + 1) w hF
          refine j_iload B dX13_middle_123 rfl ?_
          refine j_bipush (v := 7) B dX13_middle_125 (by decide) ?_
          refine j_icmp_ge (tgt := 170) B dX13_middle_127 (by decide) hF (fun h127 hF => ?_) (fun h127 hF => ?_)
          · refine j_iload B dX13_middle_170 rfl ?_
            refine j_iload B dX13_middle_172 rfl ?_
            refine j_icmp_ge (tgt := 182) B dX13_middle_174 (by decide) hF (fun h174 hF => ?_) (fun h174 hF => ?_)
            · refine j_iload_n B dX13_middle_182 rfl ?_
              refine j_msk [true, false, true, false, true, true, true, false] rfl ?_
              exact jb183 a0 x2 x4 x5 x6 x3 w hF
            · refine j_iload B dX13_middle_177 rfl ?_
              refine j_goto (tgt := 183) B dX13_middle_179 (by decide) ?_
              refine j_msk [true, false, true, false, true, true, true, false] rfl ?_
              exact jb183 a0 x2 x4 x5 x6 x5 w hF
          · refine j_iload_n B dX13_middle_130 rfl ?_
            refine j_iload B dX13_middle_131 rfl ?_
            refine j_rS (st2 := [.int (F_X13_has x2 x7)]) B [.int x2, .int x7] [] cs_X13_114 dX13_middle_133 hl hR (ct_X13_has G) rfl rfl rfl rfl trivial (Nat.le_of_ble_eq_true rfl) ?_
            refine j_if_eq (tgt := 160) B dX13_middle_136 (by decide) hF (fun h136 hF => ?_) (fun h136 hF => ?_)
            · refine j_iload B dX13_middle_160 rfl ?_
              refine j_msk [true, false, true, true, true, true, false, true] rfl ?_
              exact jb162 a0 x2 x3 x4 x5 x7 x6 w hF
            · refine j_iload B dX13_middle_139 rfl ?_
              refine j_aload_n B dX13_middle_141 rfl ?_
              refine j_getA B fl_X13_22 dX13_middle_142 hF (fun a142p hF => ?_)
              refine j_bipush (v := 7) B dX13_middle_145 (by decide) ?_
              refine j_iload B dX13_middle_147 rfl ?_
              refine j_imul B dX13_middle_149 ?_
              refine j_iload B dX13_middle_150 rfl ?_
              refine j_iadd B dX13_middle_152 ?_
              refine j_iaload B dX13_middle_153 hF (fun i153 hF => ?_)
              refine j_rS (st2 := [.int (F_J3_max x6 i153)]) B [.int x6, .int i153] [] cs_X13_141 dX13_middle_154 hl hR (ct_J3_max G) rfl rfl rfl rfl trivial (Nat.le_of_ble_eq_true rfl) ?_
              refine j_goto (tgt := 162) B dX13_middle_157 (by decide) ?_
              refine j_msk [true, false, true, true, true, true, false, true] rfl ?_
              exact jb162 a0 x2 x3 x4 x5 x7 (F_J3_max x6 i153) w hF
      have jb118 : ∀ (a0 : Option Nat) (x2 : Int32) (x3 : Int32) (x4 : Int32) (x5 : Int32) (s0 : Int32) (w : cH), F_X13_middle_J118  (F_X13_middle_L96  n96) a0 x2 x3 x4 x5 s0 w = some (r9, w9) → J g x (.returned (some (.int r9))) w9 0 0 w 0 0 118 [some (va_rf a0), none, some (.int x2), some (.int x3), some (.int x4), some (.int x5), none, none] [.int s0] := by
        intro a0 x2 x3 x4 x5 s0 w hF
        unfold F_X13_middle_J118 at hF
        refine j_istore (vs' := [some (va_rf a0), none, some (.int x2), some (.int x3), some (.int x4), some (.int x5), some (.int s0), none]) B dX13_middle_118 (by decide) rfl ?_
        refine j_iconst (v := 0) B dX13_middle_120 (by decide) ?_
        refine j_istore (vs' := [some (va_rf a0), none, some (.int x2), some (.int x3), some (.int x4), some (.int x5), some (.int s0), some (.int 0)]) B dX13_middle_121 (by decide) rfl ?_
        exact lp123 fu a0 x2 x3 x4 x5 s0 0 w hF
      refine j_iload B dX13_middle_96 rfl ?_
      refine j_bipush (v := 7) B dX13_middle_98 (by decide) ?_
      refine j_icmp_ge (tgt := 199) B dX13_middle_100 (by decide) hF (fun h100 hF => ?_) (fun h100 hF => ?_)
      · refine j_iload_n B dX13_middle_199 rfl ?_
        refine j_if_ge (tgt := 212) B dX13_middle_200 (by decide) hF (fun h200 hF => ?_) (fun h200 hF => ?_)
        · refine j_iload_n B dX13_middle_212 rfl ?_
          exact j_lIw B rfl dX13_middle_213 hF (by decide) (by decide)
        · refine j_aload_n B dX13_middle_203 rfl ?_
          refine j_ldc (v := (-1000004)) B q1551 dX13_middle_204 ?_
          obtain ⟨i206, w206, e206, hF⟩ := bc hF
          refine j_rV (st2 := [.int i206]) B [.int (-1000004)] [] cv_X13_92 dX13_middle_206 hl hR (ct_X13_finding G e206) rfl rfl rfl rfl trivial (Nat.le_of_ble_eq_true rfl) ?_
          refine j_goto (tgt := 213) B dX13_middle_209 (by decide) ?_
          exact j_lIw B rfl dX13_middle_213 hF (by decide) (by decide)
      · refine j_iload_n B dX13_middle_103 rfl ?_
        refine j_iload B dX13_middle_104 rfl ?_
        refine j_rS (st2 := [.int (F_X13_has x2 x5)]) B [.int x2, .int x5] [] cs_X13_114 dX13_middle_106 hl hR (ct_X13_has G) rfl rfl rfl rfl trivial (Nat.le_of_ble_eq_true rfl) ?_
        refine j_if_eq (tgt := 116) B dX13_middle_109 (by decide) hF (fun h109 hF => ?_) (fun h109 hF => ?_)
        · refine j_ldc (v := 1000000) B q1546 dX13_middle_116 ?_
          exact jb118 a0 x2 x3 x4 x5 1000000 w hF
        · refine j_iconst (v := 0) B dX13_middle_112 (by decide) ?_
          refine j_goto (tgt := 118) B dX13_middle_113 (by decide) ?_
          exact jb118 a0 x2 x3 x4 x5 0 w hF
  have lp29 : ∀ (n9 : Nat) (a0 : Option Nat) (x2 : Int32) (x3 : Int32) (w : cH), F_X13_middle_L29  n9 a0 x2 x3 w = some (r9, w9) → J g x (.returned (some (.int r9))) w9 0 0 w 0 0 29 [some (va_rf a0), none, some (.int x2), some (.int x3), none, none, none, none] [] := by
    intro n9
    induction n9 with
    | zero => intro a0 x2 x3 w hF; cases hF
    | succ n29 ih29 =>
      intro a0 x2 x3 w hF
      have hF : F_X13_middle_B29  (F_X13_middle_L29  n29) a0 x2 x3 w = some (r9, w9) := hF
      unfold F_X13_middle_B29 at hF
      have lp38 : ∀ (n9 : Nat) (a0 : Option Nat) (x2 : Int32) (x3 : Int32) (x4 : Int32) (w : cH), F_X13_middle_L38  (F_X13_middle_L29  n29) n9 a0 x2 x3 x4 w = some (r9, w9) → J g x (.returned (some (.int r9))) w9 0 0 w 0 0 38 [some (va_rf a0), none, some (.int x2), some (.int x3), some (.int x4), none, none, none] [] := by
        intro n9
        induction n9 with
        | zero => intro a0 x2 x3 x4 w hF; cases hF
        | succ n38 ih38 =>
          intro a0 x2 x3 x4 w hF
          have hF : F_X13_middle_B38  (F_X13_middle_L29  n29) (F_X13_middle_L38  (F_X13_middle_L29  n29) n38) a0 x2 x3 x4 w = some (r9, w9) := hF
          unfold F_X13_middle_B38 at hF
          have jb73 : ∀ (a0 : Option Nat) (x3 : Int32) (x4 : Int32) (s0 : Int32) (s1 : Int32) (w : cH), F_X13_middle_J73  (F_X13_middle_L29  n29) (F_X13_middle_L38  (F_X13_middle_L29  n29) n38) a0 x3 x4 s0 s1 w = some (r9, w9) → J g x (.returned (some (.int r9))) w9 0 0 w 0 0 73 [some (va_rf a0), none, none, some (.int x3), some (.int x4), none, none, none] [.int s0, .int s1] := by
            intro a0 x3 x4 s0 s1 w hF
            unfold F_X13_middle_J73 at hF
            refine j_ior B dX13_middle_73 ?_
            refine j_istore_n (vs' := [some (va_rf a0), none, some (.int (s1 ||| s0)), some (.int x3), some (.int x4), none, none, none]) B dX13_middle_74 (by decide) rfl ?_
            refine j_iinc (v := x4 + 1) (vs' := [some (va_rf a0), none, some (.int (s1 ||| s0)), some (.int x3), some (.int (x4 + 1)), none, none, none]) B dX13_middle_75 (by decide) rfl rfl rfl ?_
            refine j_goto (tgt := 38) B dX13_middle_78 (by decide) ?_
            exact ih38 a0 (s1 ||| s0) x3 (x4 + 1) w hF
          have jb72 : ∀ (a0 : Option Nat) (x3 : Int32) (x4 : Int32) (s0 : Int32) (w : cH), F_X13_middle_J72  (F_X13_middle_L29  n29) (F_X13_middle_L38  (F_X13_middle_L29  n29) n38) a0 x3 x4 s0 w = some (r9, w9) → J g x (.returned (some (.int r9))) w9 0 0 w 0 0 72 [some (va_rf a0), none, none, some (.int x3), some (.int x4), none, none, none] [.int s0] := by
            intro a0 x3 x4 s0 w hF
            unfold F_X13_middle_J72 at hF
            refine j_iconst (v := 0) B dX13_middle_72 (by decide) ?_
            exact jb73 a0 x3 x4 0 s0 w hF
          refine j_iload B dX13_middle_38 rfl ?_
          refine j_bipush (v := 7) B dX13_middle_40 (by decide) ?_
          refine j_icmp_ge (tgt := 81) B dX13_middle_42 (by decide) hF (fun h42 hF => ?_) (fun h42 hF => ?_)
          · refine j_iinc (v := x3 + 1) (vs' := [some (va_rf a0), none, some (.int x2), some (.int (x3 + 1)), some (.int x4), none, none, none]) B dX13_middle_81 (by decide) rfl rfl rfl ?_
            refine j_goto (tgt := 29) B dX13_middle_84 (by decide) ?_
            refine j_msk [true, false, true, true, false, false, false, false] rfl ?_
            exact ih29 a0 x2 (x3 + 1) w hF
          · refine j_iload_n B dX13_middle_45 rfl ?_
            refine j_iload_n B dX13_middle_46 rfl ?_
            refine j_iload B dX13_middle_47 rfl ?_
            refine j_icmp_eq (tgt := 72) B dX13_middle_49 (by decide) hF (fun h49 hF => ?_) (fun h49 hF => ?_)
            · refine j_msk [true, false, false, true, true, false, false, false] rfl ?_
              exact jb72 a0 x3 x4 x2 w hF
            · refine j_aload_n B dX13_middle_52 rfl ?_
              refine j_getA B fl_X13_9 dX13_middle_53 hF (fun a53p hF => ?_)
              refine j_iload_n B dX13_middle_56 rfl ?_
              refine j_iload B dX13_middle_57 rfl ?_
              refine j_rS (st2 := [.int (F_X13_wayAt x3 x4), va_rf a53p, .int x2]) B [.int x3, .int x4] [va_rf a53p, .int x2] cs_X13_144 dX13_middle_59 hl hR (ct_X13_wayAt G) rfl rfl rfl rfl ⟨cr _, rfl, trivial⟩ (Nat.le_of_ble_eq_true rfl) ?_
              refine j_iaload B dX13_middle_62 hF (fun i62 hF => ?_)
              refine j_if_le (tgt := 72) B dX13_middle_63 (by decide) hF (fun h63 hF => ?_) (fun h63 hF => ?_)
              · refine j_msk [true, false, false, true, true, false, false, false] rfl ?_
                exact jb72 a0 x3 x4 x2 w hF
              · refine j_iconst (v := 1) B dX13_middle_66 (by decide) ?_
                refine j_iload_n B dX13_middle_67 rfl ?_
                refine j_ishl B dX13_middle_68 ?_
                refine j_goto (tgt := 73) B dX13_middle_69 (by decide) ?_
                refine j_msk [true, false, false, true, true, false, false, false] rfl ?_
                exact jb73 a0 x3 x4 (1 <<< (x3 &&& 31)) x2 w hF
      refine j_iload_n B dX13_middle_29 rfl ?_
      refine j_bipush (v := 7) B dX13_middle_30 (by decide) ?_
      refine j_icmp_ge (tgt := 87) B dX13_middle_32 (by decide) hF (fun h32 hF => ?_) (fun h32 hF => ?_)
      · refine j_iconst (v := (-1)) B dX13_middle_87 (by decide) ?_
        refine j_istore_n (vs' := [some (va_rf a0), none, some (.int x2), some (.int (-1)), none, none, none, none]) B dX13_middle_88 (by decide) rfl ?_
        refine j_ldc (v := 1000000) B q1546 dX13_middle_89 ?_
        refine j_istore (vs' := [some (va_rf a0), none, some (.int x2), some (.int (-1)), some (.int 1000000), none, none, none]) B dX13_middle_91 (by decide) rfl ?_
        refine j_iconst (v := 0) B dX13_middle_93 (by decide) ?_
        refine j_istore (vs' := [some (va_rf a0), none, some (.int x2), some (.int (-1)), some (.int 1000000), some (.int 0), none, none]) B dX13_middle_94 (by decide) rfl ?_
        exact lp96 fu a0 x2 (-1) 1000000 0 w hF
      · refine j_iconst (v := 0) B dX13_middle_35 (by decide) ?_
        refine j_istore (vs' := [some (va_rf a0), none, some (.int x2), some (.int x3), some (.int 0), none, none, none]) B dX13_middle_36 (by decide) rfl ?_
        exact lp38 fu a0 x2 x3 0 w hF
  refine j_aload_n B dX13_middle_0 rfl ?_
  refine j_iload_n B dX13_middle_1 rfl ?_
  obtain ⟨i2, e2, hF⟩ := bo hF
  refine j_rV (st2 := [.int i2]) B [.int x1] [] cv_X13_117 dX13_middle_2 hl hR (ct_X13_isCarrier G e2) rfl rfl rfl rfl trivial (Nat.le_of_ble_eq_true rfl) ?_
  refine j_if_ne (tgt := 15) B dX13_middle_5 (by decide) hF (fun h5 hF => ?_) (fun h5 hF => ?_)
  · refine j_aload_n B dX13_middle_15 rfl ?_
    refine j_aload_n B dX13_middle_16 rfl ?_
    refine j_iload_n B dX13_middle_17 rfl ?_
    refine j_iconst (v := 0) B dX13_middle_18 (by decide) ?_
    obtain ⟨i19, e19, hF⟩ := bo hF
    refine j_rV (st2 := [.int i19, va_rf a0]) B [.int x1, .int 0] [va_rf a0] cv_X13_104 dX13_middle_19 hl hR (ct_X13_cIs G e19) rfl rfl rfl rfl ⟨cr _, trivial⟩ (Nat.le_of_ble_eq_true rfl) ?_
    obtain ⟨w22, e22, hF⟩ := bo hF
    refine j_rV (st2 := []) B [.int i19] [] cv_X13_174 dX13_middle_22 hl hR (ct_X13_findFar G e22) rfl rfl rfl rfl trivial (Nat.le_of_ble_eq_true rfl) ?_
    refine j_iconst (v := 0) B dX13_middle_25 (by decide) ?_
    refine j_istore_n (vs' := [some (va_rf a0), some (.int x1), some (.int 0), none, none, none, none, none]) B dX13_middle_26 (by decide) rfl ?_
    refine j_iconst (v := 0) B dX13_middle_27 (by decide) ?_
    refine j_istore_n (vs' := [some (va_rf a0), some (.int x1), some (.int 0), some (.int 0), none, none, none, none]) B dX13_middle_28 (by decide) rfl ?_
    refine j_msk [true, false, true, true, false, false, false, false] rfl ?_
    exact lp29 fu a0 0 0 w22 hF
  · refine j_aload_n B dX13_middle_8 rfl ?_
    refine j_ldc (v := (-1000001)) B q1436 dX13_middle_9 ?_
    obtain ⟨i11, w11, e11, hF⟩ := bc hF
    refine j_rV (st2 := [.int i11]) B [.int (-1000001)] [] cv_X13_92 dX13_middle_11 hl hR (ct_X13_finding G e11) rfl rfl rfl rfl trivial (Nat.le_of_ble_eq_true rfl) ?_
    exact j_lIw B rfl dX13_middle_14 hF (by decide) (by decide)
def F_X13_heavy_J103 (rc53 : (Option Nat) → Int32 → Int32 → Int32 → Int32 → Int32 → cH → Option (Int32 × cH)) (a0 : Option Nat) (x1 : Int32) (x2 : Int32) (x3 : Int32) (x5 : Int32) (s0 : Int32) (s1 : Int32) (w : cH) : Option (Int32 × cH) :=
  rc53 a0 x1 x2 x3 (s1 ||| s0) (x5 + 1) w
def F_X13_heavy_J102 (rc53 : (Option Nat) → Int32 → Int32 → Int32 → Int32 → Int32 → cH → Option (Int32 × cH)) (a0 : Option Nat) (x1 : Int32) (x2 : Int32) (x3 : Int32) (x5 : Int32) (s0 : Int32) (w : cH) : Option (Int32 × cH) :=
  F_X13_heavy_J103  rc53 a0 x1 x2 x3 x5 0 s0 w
def F_X13_heavy_B53 (rc53 : Option Nat → Int32 → Int32 → Int32 → Int32 → Int32 → cH → Option (Int32 × cH)) (a0 : Option Nat) (x1 : Int32) (x2 : Int32) (x3 : Int32) (x4 : Int32) (x5 : Int32) (w : cH) : Option (Int32 × cH) :=
  (fA w a0 13 0).bind fun a56p => (aI w a56p 100 43).bind fun i61 =>if i61 ≤ x5 then (some (x4, w)) else (if (F_X13_has x2 x5) = 0 then (F_X13_heavy_J102  rc53 a0 x1 x2 x3 x5 x4 w) else ((F_X13_eIs a0 x5 0 w).bind fun i81 => (F_X13_bears a0 x1 w).bind fun i89 =>if (x3 + (i81 / 2)) ≤ i89 then (F_X13_heavy_J102  rc53 a0 x1 x2 x3 x5 x4 w) else (F_X13_heavy_J103  rc53 a0 x1 x2 x3 x5 (1 <<< (x5 &&& 31)) x4 w)))
def F_X13_heavy_L53 : Nat → Option Nat → Int32 → Int32 → Int32 → Int32 → Int32 → cH → Option (Int32 × cH)
  | 0, _, _, _, _, _, _, _ => none
  | n9 + 1, a0, x1, x2, x3, x4, x5, w => F_X13_heavy_B53  (F_X13_heavy_L53  n9) a0 x1 x2 x3 x4 x5 w
def F_X13_heavy_J18 (a0 : Option Nat) (w : cH) : Option (Int32 × cH) :=
  cb (F_X13_finding a0 (-1000001) w) fun i21 w21 => some (i21, w21)
def F_X13_heavy (a0 : Option Nat) (x1 : Int32) (x2 : Int32) (w : cH) : Option (Int32 × cH) :=
  if tg w a0 = some 13 then ((F_X13_isCarrier a0 x1 w).bind fun i2 =>if i2 = 0 then (F_X13_heavy_J18  a0 w) else ((F_X13_isSet a0 x2 8 w).bind fun i12 =>if ¬ i12 = 0 then ((F_X13_weighs a0 x2 w).bind fun i27 => (F_X13_bears a0 x1 w).bind fun i34 =>if i27 ≤ i34 then (F_X13_heavy_L53  fu a0 x1 x2 i27 0 0 w) else (cb (F_X13_finding a0 (-1000005) w) fun i43 w43 => some (i43, w43))) else (F_X13_heavy_J18  a0 w))) else none
abbrev rm_X13_heavy : Room := { frames := 3, cells := 0, slots := 0, locals := 66 }
set_option maxHeartbeats 4000000 in
set_option maxRecDepth 100000 in
theorem ct_X13_heavy {l : Launch} {g : Gt} (G : Gok g) {a0 : Option Nat} {x1 : Int32} {x2 : Int32} {w : cH} {r9 : Int32} {w9 : cH} (hF : F_X13_heavy a0 x1 x2 w = some (r9, w9)) : tg w a0 = some 13 ∧ Mx l yX13_heavy (ws_ yX13_heavy cX13_heavy 6 (some .int)) rm_X13_heavy g [va_rf a0, .int x1, .int x2] w (.returned (some (.int r9))) w9 0 0 := by
  unfold F_X13_heavy at hF
  obtain ⟨ht, hF⟩ := bg hF
  refine ⟨ht, mk_ct cX13_heavy 6 (some .int) "CarryFairModel" (plainFor_of_name (by decide)) rfl (lg_le ⟨cr _, rfl, rfl, trivial⟩ (Nat.le_of_ble_eq_true rfl)) (av_ok ⟨cr _, rfl, rfl, trivial⟩) G (fun x B hl hR hin hh => ?_)⟩
  show J g x _ _ 0 0 w 0 0 0 [some (va_rf a0), some (.int x1), some (.int x2), none, none, none] []
  have lp53 : ∀ (n9 : Nat) (a0 : Option Nat) (x1 : Int32) (x2 : Int32) (x3 : Int32) (x4 : Int32) (x5 : Int32) (w : cH), F_X13_heavy_L53  n9 a0 x1 x2 x3 x4 x5 w = some (r9, w9) → J g x (.returned (some (.int r9))) w9 0 0 w 0 0 53 [some (va_rf a0), some (.int x1), some (.int x2), some (.int x3), some (.int x4), some (.int x5)] [] := by
    intro n9
    induction n9 with
    | zero => intro a0 x1 x2 x3 x4 x5 w hF; cases hF
    | succ n53 ih53 =>
      intro a0 x1 x2 x3 x4 x5 w hF
      have hF : F_X13_heavy_B53  (F_X13_heavy_L53  n53) a0 x1 x2 x3 x4 x5 w = some (r9, w9) := hF
      unfold F_X13_heavy_B53 at hF
      have jb103 : ∀ (a0 : Option Nat) (x1 : Int32) (x2 : Int32) (x3 : Int32) (x5 : Int32) (s0 : Int32) (s1 : Int32) (w : cH), F_X13_heavy_J103  (F_X13_heavy_L53  n53) a0 x1 x2 x3 x5 s0 s1 w = some (r9, w9) → J g x (.returned (some (.int r9))) w9 0 0 w 0 0 103 [some (va_rf a0), some (.int x1), some (.int x2), some (.int x3), none, some (.int x5)] [.int s0, .int s1] := by
        intro a0 x1 x2 x3 x5 s0 s1 w hF
        unfold F_X13_heavy_J103 at hF
        refine j_ior B dX13_heavy_103 ?_
        refine j_istore (vs' := [some (va_rf a0), some (.int x1), some (.int x2), some (.int x3), some (.int (s1 ||| s0)), some (.int x5)]) B dX13_heavy_104 (by decide) rfl ?_
        refine j_iinc (v := x5 + 1) (vs' := [some (va_rf a0), some (.int x1), some (.int x2), some (.int x3), some (.int (s1 ||| s0)), some (.int (x5 + 1))]) B dX13_heavy_106 (by decide) rfl rfl rfl ?_
        refine j_goto (tgt := 53) B dX13_heavy_109 (by decide) ?_
        exact ih53 a0 x1 x2 x3 (s1 ||| s0) (x5 + 1) w hF
      have jb102 : ∀ (a0 : Option Nat) (x1 : Int32) (x2 : Int32) (x3 : Int32) (x5 : Int32) (s0 : Int32) (w : cH), F_X13_heavy_J102  (F_X13_heavy_L53  n53) a0 x1 x2 x3 x5 s0 w = some (r9, w9) → J g x (.returned (some (.int r9))) w9 0 0 w 0 0 102 [some (va_rf a0), some (.int x1), some (.int x2), some (.int x3), none, some (.int x5)] [.int s0] := by
        intro a0 x1 x2 x3 x5 s0 w hF
        unfold F_X13_heavy_J102 at hF
        refine j_iconst (v := 0) B dX13_heavy_102 (by decide) ?_
        exact jb103 a0 x1 x2 x3 x5 0 s0 w hF
      refine j_iload B dX13_heavy_53 rfl ?_
      refine j_aload_n B dX13_heavy_55 rfl ?_
      refine j_getA B fl_X13_9 dX13_heavy_56 hF (fun a56p hF => ?_)
      refine j_bipush (v := 43) B dX13_heavy_59 (by decide) ?_
      refine j_iaload B dX13_heavy_61 hF (fun i61 hF => ?_)
      refine j_icmp_ge (tgt := 112) B dX13_heavy_62 (by decide) hF (fun h62 hF => ?_) (fun h62 hF => ?_)
      · refine j_iload B dX13_heavy_112 rfl ?_
        exact j_lIw B rfl dX13_heavy_114 hF (by decide) (by decide)
      · refine j_iload B dX13_heavy_65 rfl ?_
        refine j_iload_n B dX13_heavy_67 rfl ?_
        refine j_iload B dX13_heavy_68 rfl ?_
        refine j_rS (st2 := [.int (F_X13_has x2 x5), .int x4]) B [.int x2, .int x5] [.int x4] cs_X13_114 dX13_heavy_70 hl hR (ct_X13_has G) rfl rfl rfl rfl ⟨rfl, trivial⟩ (Nat.le_of_ble_eq_true rfl) ?_
        refine j_if_eq (tgt := 102) B dX13_heavy_73 (by decide) hF (fun h73 hF => ?_) (fun h73 hF => ?_)
        · refine j_msk [true, true, true, true, false, true] rfl ?_
          exact jb102 a0 x1 x2 x3 x5 x4 w hF
        · refine j_iload_n B dX13_heavy_76 rfl ?_
          refine j_aload_n B dX13_heavy_77 rfl ?_
          refine j_iload B dX13_heavy_78 rfl ?_
          refine j_iconst (v := 0) B dX13_heavy_80 (by decide) ?_
          obtain ⟨i81, e81, hF⟩ := bo hF
          refine j_rV (st2 := [.int i81, .int x3, .int x4]) B [.int x5, .int 0] [.int x3, .int x4] cv_X13_111 dX13_heavy_81 hl hR (ct_X13_eIs G e81) rfl rfl rfl rfl ⟨rfl, rfl, trivial⟩ (Nat.le_of_ble_eq_true rfl) ?_
          refine j_iconst (v := 2) B dX13_heavy_84 (by decide) ?_
          refine j_idiv B dX13_heavy_85 (by decide) ?_
          refine j_iadd B dX13_heavy_86 ?_
          refine j_aload_n B dX13_heavy_87 rfl ?_
          refine j_iload_n B dX13_heavy_88 rfl ?_
          obtain ⟨i89, e89, hF⟩ := bo hF
          refine j_rV (st2 := [.int i89, .int (x3 + (i81 / 2)), .int x4]) B [.int x1] [.int (x3 + (i81 / 2)), .int x4] cv_X13_120 dX13_heavy_89 hl hR (ct_X13_bears G e89) rfl rfl rfl rfl ⟨rfl, rfl, trivial⟩ (Nat.le_of_ble_eq_true rfl) ?_
          refine j_icmp_le (tgt := 102) B dX13_heavy_92 (by decide) hF (fun h92 hF => ?_) (fun h92 hF => ?_)
          · refine j_msk [true, true, true, true, false, true] rfl ?_
            exact jb102 a0 x1 x2 x3 x5 x4 w hF
          · refine j_iconst (v := 1) B dX13_heavy_95 (by decide) ?_
            refine j_iload B dX13_heavy_96 rfl ?_
            refine j_ishl B dX13_heavy_98 ?_
            refine j_goto (tgt := 103) B dX13_heavy_99 (by decide) ?_
            refine j_msk [true, true, true, true, false, true] rfl ?_
            exact jb103 a0 x1 x2 x3 x5 (1 <<< (x5 &&& 31)) x4 w hF
  have jb18 : ∀ (a0 : Option Nat) (w : cH), F_X13_heavy_J18  a0 w = some (r9, w9) → J g x (.returned (some (.int r9))) w9 0 0 w 0 0 18 [some (va_rf a0), none, none, none, none, none] [] := by
    intro a0 w hF
    unfold F_X13_heavy_J18 at hF
    refine j_aload_n B dX13_heavy_18 rfl ?_
    refine j_ldc (v := (-1000001)) B q1436 dX13_heavy_19 ?_
    obtain ⟨i21, w21, e21, hF⟩ := bc hF
    refine j_rV (st2 := [.int i21]) B [.int (-1000001)] [] cv_X13_92 dX13_heavy_21 hl hR (ct_X13_finding G e21) rfl rfl rfl rfl trivial (Nat.le_of_ble_eq_true rfl) ?_
    exact j_lIw B rfl dX13_heavy_24 hF (by decide) (by decide)
  refine j_aload_n B dX13_heavy_0 rfl ?_
  refine j_iload_n B dX13_heavy_1 rfl ?_
  obtain ⟨i2, e2, hF⟩ := bo hF
  refine j_rV (st2 := [.int i2]) B [.int x1] [] cv_X13_117 dX13_heavy_2 hl hR (ct_X13_isCarrier G e2) rfl rfl rfl rfl trivial (Nat.le_of_ble_eq_true rfl) ?_
  refine j_if_eq (tgt := 18) B dX13_heavy_5 (by decide) hF (fun h5 hF => ?_) (fun h5 hF => ?_)
  · refine j_msk [true, false, false, false, false, false] rfl ?_
    exact jb18 a0 w hF
  · refine j_aload_n B dX13_heavy_8 rfl ?_
    refine j_iload_n B dX13_heavy_9 rfl ?_
    refine j_bipush (v := 8) B dX13_heavy_10 (by decide) ?_
    obtain ⟨i12, e12, hF⟩ := bo hF
    refine j_rV (st2 := [.int i12]) B [.int x2, .int 8] [] cv_X13_224 dX13_heavy_12 hl hR (ct_X13_isSet G e12) rfl rfl rfl rfl trivial (Nat.le_of_ble_eq_true rfl) ?_
    refine j_if_ne (tgt := 25) B dX13_heavy_15 (by decide) hF (fun h15 hF => ?_) (fun h15 hF => ?_)
    · refine j_aload_n B dX13_heavy_25 rfl ?_
      refine j_iload_n B dX13_heavy_26 rfl ?_
      obtain ⟨i27, e27, hF⟩ := bo hF
      refine j_rV (st2 := [.int i27]) B [.int x2] [] cv_X13_126 dX13_heavy_27 hl hR (ct_X13_weighs G e27) rfl rfl rfl rfl trivial (Nat.le_of_ble_eq_true rfl) ?_
      refine j_istore_n (vs' := [some (va_rf a0), some (.int x1), some (.int x2), some (.int i27), none, none]) B dX13_heavy_30 (by decide) rfl ?_
      refine j_iload_n B dX13_heavy_31 rfl ?_
      refine j_aload_n B dX13_heavy_32 rfl ?_
      refine j_iload_n B dX13_heavy_33 rfl ?_
      obtain ⟨i34, e34, hF⟩ := bo hF
      refine j_rV (st2 := [.int i34, .int i27]) B [.int x1] [.int i27] cv_X13_120 dX13_heavy_34 hl hR (ct_X13_bears G e34) rfl rfl rfl rfl ⟨rfl, trivial⟩ (Nat.le_of_ble_eq_true rfl) ?_
      refine j_icmp_le (tgt := 47) B dX13_heavy_37 (by decide) hF (fun h37 hF => ?_) (fun h37 hF => ?_)
      · refine j_iconst (v := 0) B dX13_heavy_47 (by decide) ?_
        refine j_istore (vs' := [some (va_rf a0), some (.int x1), some (.int x2), some (.int i27), some (.int 0), none]) B dX13_heavy_48 (by decide) rfl ?_
        refine j_iconst (v := 0) B dX13_heavy_50 (by decide) ?_
        refine j_istore (vs' := [some (va_rf a0), some (.int x1), some (.int x2), some (.int i27), some (.int 0), some (.int 0)]) B dX13_heavy_51 (by decide) rfl ?_
        exact lp53 fu a0 x1 x2 i27 0 0 w hF
      · refine j_aload_n B dX13_heavy_40 rfl ?_
        refine j_ldc (v := (-1000005)) B q1587 dX13_heavy_41 ?_
        obtain ⟨i43, w43, e43, hF⟩ := bc hF
        refine j_rV (st2 := [.int i43]) B [.int (-1000005)] [] cv_X13_92 dX13_heavy_43 hl hR (ct_X13_finding G e43) rfl rfl rfl rfl trivial (Nat.le_of_ble_eq_true rfl) ?_
        exact j_lIw B rfl dX13_heavy_46 hF (by decide) (by decide)
    · refine j_msk [true, false, false, false, false, false] rfl ?_
      exact jb18 a0 w hF
def F_X13_refusesDays (a0 : Option Nat) (x1 : Int32) (w : cH) : Option Int32 :=
  if tg w a0 = some 13 then (if ¬ (F_X13_within x1 1 12) = 0 then ((fA w a0 13 0).bind fun a16p => (aI w a16p 100 42).bind fun i21 =>if ¬ i21 = 0 then (some (0)) else (some ((-1000005)))) else (some ((-1000001)))) else none
abbrev rm_X13_refusesDays : Room := { frames := 1, cells := 0, slots := 0, locals := 22 }
set_option maxHeartbeats 4000000 in
set_option maxRecDepth 100000 in
theorem ct_X13_refusesDays {l : Launch} {g : Gt} (G : Gok g) {a0 : Option Nat} {x1 : Int32} {w : cH} {r9 : Int32} (hF : F_X13_refusesDays a0 x1 w = some r9) : tg w a0 = some 13 ∧ Mx l yX13_refusesDays (ws_ yX13_refusesDays cX13_refusesDays 2 (some .int)) rm_X13_refusesDays g [va_rf a0, .int x1] w (.returned (some (.int r9))) w 0 0 := by
  unfold F_X13_refusesDays at hF
  obtain ⟨ht, hF⟩ := bg hF
  refine ⟨ht, mk_ct cX13_refusesDays 2 (some .int) "CarryFairModel" (plainFor_of_name (by decide)) rfl (lg_le ⟨cr _, rfl, trivial⟩ (Nat.le_of_ble_eq_true rfl)) (av_ok ⟨cr _, rfl, trivial⟩) G (fun x B hl hR hin hh => ?_)⟩
  show J g x _ _ 0 0 w 0 0 0 [some (va_rf a0), some (.int x1)] []
  refine j_iload_n B dX13_refusesDays_0 rfl ?_
  refine j_iconst (v := 1) B dX13_refusesDays_1 (by decide) ?_
  refine j_bipush (v := 12) B dX13_refusesDays_2 (by decide) ?_
  refine j_rS (st2 := [.int (F_X13_within x1 1 12)]) B [.int x1, .int 1, .int 12] [] cs_X13_77 dX13_refusesDays_4 hl hR (ct_X13_within G) rfl rfl rfl rfl trivial (Nat.le_of_ble_eq_true rfl) ?_
  refine j_if_ne (tgt := 15) B dX13_refusesDays_7 (by decide) hF (fun h7 hF => ?_) (fun h7 hF => ?_)
  · refine j_aload_n B dX13_refusesDays_15 rfl ?_
    refine j_getA B fl_X13_9 dX13_refusesDays_16 hF (fun a16p hF => ?_)
    refine j_bipush (v := 42) B dX13_refusesDays_19 (by decide) ?_
    refine j_iaload B dX13_refusesDays_21 hF (fun i21 hF => ?_)
    refine j_if_ne (tgt := 30) B dX13_refusesDays_22 (by decide) hF (fun h22 hF => ?_) (fun h22 hF => ?_)
    · refine j_iconst (v := 0) B dX13_refusesDays_30 (by decide) ?_
      exact j_lI B rfl dX13_refusesDays_31 hF (by decide) (by decide)
    · refine j_ldc (v := (-1000005)) B q1587 dX13_refusesDays_25 ?_
      refine j_goto (tgt := 31) B dX13_refusesDays_27 (by decide) ?_
      exact j_lI B rfl dX13_refusesDays_31 hF (by decide) (by decide)
  · refine j_ldc (v := (-1000001)) B q1436 dX13_refusesDays_10 ?_
    refine j_goto (tgt := 31) B dX13_refusesDays_12 (by decide) ?_
    exact j_lI B rfl dX13_refusesDays_31 hF (by decide) (by decide)
def F_X13_drawn (a0 : Option Nat) (x1 : Int32) (w : cH) : Option (Int32 × cH) :=
  if tg w a0 = some 13 then ((fA w a0 13 0).bind fun a1p => (fA w a0 13 0).bind fun a7p => (aI w a7p 100 45).bind fun i12 => (aS w a1p 100 45 (.int ((i12 * 1103515245) + 12345))).bind fun w21 => (fA w21 a0 13 0).bind fun a23p => (aI w21 a23p 100 45).bind fun i28 => if ¬ x1 = 0 then (some (((i28.toUInt32 >>> ((8 : Int32).toUInt32 &&& Int32.toUInt32 31)).toInt32) - ((i28.toUInt32 >>> ((8 : Int32).toUInt32 &&& Int32.toUInt32 31)).toInt32) / x1 * x1, w21)) else none) else none
abbrev rm_X13_drawn : Room := { frames := 0, cells := 0, slots := 0, locals := 0 }
set_option maxHeartbeats 4000000 in
set_option maxRecDepth 100000 in
theorem ct_X13_drawn {l : Launch} {g : Gt} (G : Gok g) {a0 : Option Nat} {x1 : Int32} {w : cH} {r9 : Int32} {w9 : cH} (hF : F_X13_drawn a0 x1 w = some (r9, w9)) : tg w a0 = some 13 ∧ Mx l yX13_drawn (ws_ yX13_drawn cX13_drawn 2 (some .int)) rm_X13_drawn g [va_rf a0, .int x1] w (.returned (some (.int r9))) w9 0 0 := by
  unfold F_X13_drawn at hF
  obtain ⟨ht, hF⟩ := bg hF
  refine ⟨ht, mk_ct cX13_drawn 2 (some .int) "CarryFairModel" (plainFor_of_name (by decide)) rfl (lg_le ⟨cr _, rfl, trivial⟩ (Nat.le_of_ble_eq_true rfl)) (av_ok ⟨cr _, rfl, trivial⟩) G (fun x B hl hR hin hh => ?_)⟩
  show J g x _ _ 0 0 w 0 0 0 [some (va_rf a0), some (.int x1)] []
  refine j_aload_n B dX13_drawn_0 rfl ?_
  refine j_getA B fl_X13_9 dX13_drawn_1 hF (fun a1p hF => ?_)
  refine j_bipush (v := 45) B dX13_drawn_4 (by decide) ?_
  refine j_aload_n B dX13_drawn_6 rfl ?_
  refine j_getA B fl_X13_9 dX13_drawn_7 hF (fun a7p hF => ?_)
  refine j_bipush (v := 45) B dX13_drawn_10 (by decide) ?_
  refine j_iaload B dX13_drawn_12 hF (fun i12 hF => ?_)
  refine j_ldcw (v := 1103515245) B q1759 dX13_drawn_13 ?_
  refine j_imul B dX13_drawn_16 ?_
  refine j_sipush (v := 12345) B dX13_drawn_17 (by decide) ?_
  refine j_iadd B dX13_drawn_20 ?_
  refine j_iastore B dX13_drawn_21 hF (fun w21 hF => ?_)
  refine j_aload_n B dX13_drawn_22 rfl ?_
  refine j_getA B fl_X13_9 dX13_drawn_23 hF (fun a23p hF => ?_)
  refine j_bipush (v := 45) B dX13_drawn_26 (by decide) ?_
  refine j_iaload B dX13_drawn_28 hF (fun i28 hF => ?_)
  refine j_bipush (v := 8) B dX13_drawn_29 (by decide) ?_
  refine j_iushr B dX13_drawn_31 ?_
  refine j_iload_n B dX13_drawn_32 rfl ?_
  obtain ⟨hne, hF⟩ := bg hF
  refine j_irem B dX13_drawn_33 hne ?_
  exact j_lIw B rfl dX13_drawn_34 hF (by decide) (by decide)
def F_X13_takesAll_J42 (rc2 : (Option Nat) → Int32 → Int32 → cH → Option cH) (a0 : Option Nat) (x1 : Int32) (x2 : Int32) (w : cH) : Option cH :=
  rc2 a0 x1 (x2 + 1) w
def F_X13_takesAll_B2 (rc2 : Option Nat → Int32 → Int32 → cH → Option cH) (a0 : Option Nat) (x1 : Int32) (x2 : Int32) (w : cH) : Option cH :=
  (fA w a0 13 0).bind fun a4p => (aI w a4p 100 43).bind fun i9 =>if i9 ≤ x2 then (some w) else ((F_X13_cIs a0 x1 1 w).bind fun i18 => (F_X13_liesAt a0 x2 i18 w).bind fun i21 =>if i21 = 0 then (F_X13_takesAll_J42  rc2 a0 x1 x2 w) else ((F_X13_fitsTo a0 x1 x2 w).bind fun i30 =>if i30 = 0 then (F_X13_takesAll_J42  rc2 a0 x1 x2 w) else ((F_X13_taken a0 x1 x2 w).bind fun w39 => F_X13_takesAll_J42  rc2 a0 x1 x2 w39)))
def F_X13_takesAll_L2 : Nat → Option Nat → Int32 → Int32 → cH → Option cH
  | 0, _, _, _, _ => none
  | n9 + 1, a0, x1, x2, w => F_X13_takesAll_B2  (F_X13_takesAll_L2  n9) a0 x1 x2 w
def F_X13_takesAll (a0 : Option Nat) (x1 : Int32) (w : cH) : Option cH :=
  if tg w a0 = some 13 then (F_X13_takesAll_L2  fu a0 x1 0 w) else none
abbrev rm_X13_takesAll : Room := { frames := 4, cells := 0, slots := 0, locals := 88 }
set_option maxHeartbeats 4000000 in
set_option maxRecDepth 100000 in
theorem ct_X13_takesAll {l : Launch} {g : Gt} (G : Gok g) {a0 : Option Nat} {x1 : Int32} {w : cH}  {w9 : cH} (hF : F_X13_takesAll a0 x1 w = some w9) : tg w a0 = some 13 ∧ Mx l yX13_takesAll (ws_ yX13_takesAll cX13_takesAll 3 none) rm_X13_takesAll g [va_rf a0, .int x1] w (.returned none) w9 0 0 := by
  unfold F_X13_takesAll at hF
  obtain ⟨ht, hF⟩ := bg hF
  refine ⟨ht, mk_ct cX13_takesAll 3 none "CarryFairModel" (plainFor_of_name (by decide)) rfl (lg_le ⟨cr _, rfl, trivial⟩ (Nat.le_of_ble_eq_true rfl)) (av_ok ⟨cr _, rfl, trivial⟩) G (fun x B hl hR hin hh => ?_)⟩
  show J g x _ _ 0 0 w 0 0 0 [some (va_rf a0), some (.int x1), none] []
  have lp2 : ∀ (n9 : Nat) (a0 : Option Nat) (x1 : Int32) (x2 : Int32) (w : cH), F_X13_takesAll_L2  n9 a0 x1 x2 w = some w9 → J g x (.returned none) w9 0 0 w 0 0 2 [some (va_rf a0), some (.int x1), some (.int x2)] [] := by
    intro n9
    induction n9 with
    | zero => intro a0 x1 x2 w hF; cases hF
    | succ n2 ih2 =>
      intro a0 x1 x2 w hF
      have hF : F_X13_takesAll_B2  (F_X13_takesAll_L2  n2) a0 x1 x2 w = some w9 := hF
      unfold F_X13_takesAll_B2 at hF
      have jb42 : ∀ (a0 : Option Nat) (x1 : Int32) (x2 : Int32) (w : cH), F_X13_takesAll_J42  (F_X13_takesAll_L2  n2) a0 x1 x2 w = some w9 → J g x (.returned none) w9 0 0 w 0 0 42 [some (va_rf a0), some (.int x1), some (.int x2)] [] := by
        intro a0 x1 x2 w hF
        unfold F_X13_takesAll_J42 at hF
        refine j_iinc (v := x2 + 1) (vs' := [some (va_rf a0), some (.int x1), some (.int (x2 + 1))]) B dX13_takesAll_42 (by decide) rfl rfl rfl ?_
        refine j_goto (tgt := 2) B dX13_takesAll_45 (by decide) ?_
        exact ih2 a0 x1 (x2 + 1) w hF
      refine j_iload_n B dX13_takesAll_2 rfl ?_
      refine j_aload_n B dX13_takesAll_3 rfl ?_
      refine j_getA B fl_X13_9 dX13_takesAll_4 hF (fun a4p hF => ?_)
      refine j_bipush (v := 43) B dX13_takesAll_7 (by decide) ?_
      refine j_iaload B dX13_takesAll_9 hF (fun i9 hF => ?_)
      refine j_icmp_ge (tgt := 48) B dX13_takesAll_10 (by decide) hF (fun h10 hF => ?_) (fun h10 hF => ?_)
      · exact j_lV B rfl dX13_takesAll_48 hF (by decide) (by decide)
      · refine j_aload_n B dX13_takesAll_13 rfl ?_
        refine j_iload_n B dX13_takesAll_14 rfl ?_
        refine j_aload_n B dX13_takesAll_15 rfl ?_
        refine j_iload_n B dX13_takesAll_16 rfl ?_
        refine j_iconst (v := 1) B dX13_takesAll_17 (by decide) ?_
        obtain ⟨i18, e18, hF⟩ := bo hF
        refine j_rV (st2 := [.int i18, .int x2, va_rf a0]) B [.int x1, .int 1] [.int x2, va_rf a0] cv_X13_104 dX13_takesAll_18 hl hR (ct_X13_cIs G e18) rfl rfl rfl rfl ⟨rfl, cr _, trivial⟩ (Nat.le_of_ble_eq_true rfl) ?_
        obtain ⟨i21, e21, hF⟩ := bo hF
        refine j_rV (st2 := [.int i21]) B [.int x2, .int i18] [] cv_X13_181 dX13_takesAll_21 hl hR (ct_X13_liesAt G e21) rfl rfl rfl rfl trivial (Nat.le_of_ble_eq_true rfl) ?_
        refine j_if_eq (tgt := 42) B dX13_takesAll_24 (by decide) hF (fun h24 hF => ?_) (fun h24 hF => ?_)
        · exact jb42 a0 x1 x2 w hF
        · refine j_aload_n B dX13_takesAll_27 rfl ?_
          refine j_iload_n B dX13_takesAll_28 rfl ?_
          refine j_iload_n B dX13_takesAll_29 rfl ?_
          obtain ⟨i30, e30, hF⟩ := bo hF
          refine j_rV (st2 := [.int i30]) B [.int x1, .int x2] [] cv_X13_185 dX13_takesAll_30 hl hR (ct_X13_fitsTo G e30) rfl rfl rfl rfl trivial (Nat.le_of_ble_eq_true rfl) ?_
          refine j_if_eq (tgt := 42) B dX13_takesAll_33 (by decide) hF (fun h33 hF => ?_) (fun h33 hF => ?_)
          · exact jb42 a0 x1 x2 w hF
          · refine j_aload_n B dX13_takesAll_36 rfl ?_
            refine j_iload_n B dX13_takesAll_37 rfl ?_
            refine j_iload_n B dX13_takesAll_38 rfl ?_
            obtain ⟨w39, e39, hF⟩ := bo hF
            refine j_rV (st2 := []) B [.int x1, .int x2] [] cv_X13_188 dX13_takesAll_39 hl hR (ct_X13_taken G e39) rfl rfl rfl rfl trivial (Nat.le_of_ble_eq_true rfl) ?_
            exact jb42 a0 x1 x2 w39 hF
  refine j_iconst (v := 0) B dX13_takesAll_0 (by decide) ?_
  refine j_istore_n (vs' := [some (va_rf a0), some (.int x1), some (.int 0)]) B dX13_takesAll_1 (by decide) rfl ?_
  exact lp2 fu a0 x1 0 w hF
theorem cv_X13_261 : CV "CarryFairModel" 261 13 yX13_drawn cX13_drawn 2 (some .int) 1 := ⟨_, _, rfl, lw_V q1755 q1757 qs111 q142 q1758, by decide +kernel⟩
theorem cv_X13_264 : CV "CarryFairModel" 264 13 yX13_takesAll cX13_takesAll 3 none 1 := ⟨_, _, rfl, lw_V q1760 q1762 qs112 q142 q1763, by decide +kernel⟩
def F_X13_days_B9 (rc9 : Option Nat → Int32 → Int32 → Int32 → cH → Option (Int32 × cH)) (a0 : Option Nat) (x1 : Int32) (x2 : Int32) (x3 : Int32) (w : cH) : Option (Int32 × cH) :=
  if x1 ≤ x3 then (if 0 ≤ x2 then ((fI w a0 13 6).bind fun i65 => some (i65, w)) else (some (x2, w))) else ((fA w a0 13 0).bind fun a16p => (aI w a16p 100 42).bind fun i21 => cb (F_X13_drawn a0 i21 w) fun i22 w22 => (F_X13_takesAll a0 i22 w22).bind fun w30 => cb (F_X13_drawn a0 7 w30) fun i40 w40 => cb (F_X13_walked a0 i22 i40 w40) fun i43 w43 => rc9 a0 x1 (F_J3_max x2 i43) (x3 + 1) w43)
def F_X13_days_L9 : Nat → Option Nat → Int32 → Int32 → Int32 → cH → Option (Int32 × cH)
  | 0, _, _, _, _, _ => none
  | n9 + 1, a0, x1, x2, x3, w => F_X13_days_B9  (F_X13_days_L9  n9) a0 x1 x2 x3 w
def F_X13_days (a0 : Option Nat) (x1 : Int32) (w : cH) : Option (Int32 × cH) :=
  if tg w a0 = some 13 then ((pV w a0 13 6 (.int 0)).bind fun w2 => F_X13_days_L9  fu a0 x1 0 0 w2) else none
abbrev rm_X13_days : Room := { frames := 7, cells := 0, slots := 0, locals := 164 }
set_option maxHeartbeats 4000000 in
set_option maxRecDepth 100000 in
theorem ct_X13_days {l : Launch} {g : Gt} (G : Gok g) {a0 : Option Nat} {x1 : Int32} {w : cH} {r9 : Int32} {w9 : cH} (hF : F_X13_days a0 x1 w = some (r9, w9)) : tg w a0 = some 13 ∧ Mx l yX13_days (ws_ yX13_days cX13_days 5 (some .int)) rm_X13_days g [va_rf a0, .int x1] w (.returned (some (.int r9))) w9 0 0 := by
  unfold F_X13_days at hF
  obtain ⟨ht, hF⟩ := bg hF
  refine ⟨ht, mk_ct cX13_days 5 (some .int) "CarryFairModel" (plainFor_of_name (by decide)) rfl (lg_le ⟨cr _, rfl, trivial⟩ (Nat.le_of_ble_eq_true rfl)) (av_ok ⟨cr _, rfl, trivial⟩) G (fun x B hl hR hin hh => ?_)⟩
  show J g x _ _ 0 0 w 0 0 0 [some (va_rf a0), some (.int x1), none, none, none] []
  have lp9 : ∀ (n9 : Nat) (a0 : Option Nat) (x1 : Int32) (x2 : Int32) (x3 : Int32) (w : cH), F_X13_days_L9  n9 a0 x1 x2 x3 w = some (r9, w9) → J g x (.returned (some (.int r9))) w9 0 0 w 0 0 9 [some (va_rf a0), some (.int x1), some (.int x2), some (.int x3), none] [] := by
    intro n9
    induction n9 with
    | zero => intro a0 x1 x2 x3 w hF; cases hF
    | succ n9 ih9 =>
      intro a0 x1 x2 x3 w hF
      have hF : F_X13_days_B9  (F_X13_days_L9  n9) a0 x1 x2 x3 w = some (r9, w9) := hF
      unfold F_X13_days_B9 at hF
      refine j_iload_n B dX13_days_9 rfl ?_
      refine j_iload_n B dX13_days_10 rfl ?_
      refine j_icmp_ge (tgt := 56) B dX13_days_11 (by decide) hF (fun h11 hF => ?_) (fun h11 hF => ?_)
      · refine j_iload_n B dX13_days_56 rfl ?_
        refine j_if_ge (tgt := 64) B dX13_days_57 (by decide) hF (fun h57 hF => ?_) (fun h57 hF => ?_)
        · refine j_aload_n B dX13_days_64 rfl ?_
          refine j_getI B fl_X13_192 dX13_days_65 hF (fun i65 hF => ?_)
          exact j_lIw B rfl dX13_days_68 hF (by decide) (by decide)
        · refine j_iload_n B dX13_days_60 rfl ?_
          refine j_goto (tgt := 68) B dX13_days_61 (by decide) ?_
          exact j_lIw B rfl dX13_days_68 hF (by decide) (by decide)
      · refine j_aload_n B dX13_days_14 rfl ?_
        refine j_aload_n B dX13_days_15 rfl ?_
        refine j_getA B fl_X13_9 dX13_days_16 hF (fun a16p hF => ?_)
        refine j_bipush (v := 42) B dX13_days_19 (by decide) ?_
        refine j_iaload B dX13_days_21 hF (fun i21 hF => ?_)
        obtain ⟨i22, w22, e22, hF⟩ := bc hF
        refine j_rV (st2 := [.int i22]) B [.int i21] [] cv_X13_261 dX13_days_22 hl hR (ct_X13_drawn G e22) rfl rfl rfl rfl trivial (Nat.le_of_ble_eq_true rfl) ?_
        refine j_istore (vs' := [some (va_rf a0), some (.int x1), some (.int x2), some (.int x3), some (.int i22)]) B dX13_days_25 (by decide) rfl ?_
        refine j_aload_n B dX13_days_27 rfl ?_
        refine j_iload B dX13_days_28 rfl ?_
        obtain ⟨w30, e30, hF⟩ := bo hF
        refine j_rV (st2 := []) B [.int i22] [] cv_X13_264 dX13_days_30 hl hR (ct_X13_takesAll G e30) rfl rfl rfl rfl trivial (Nat.le_of_ble_eq_true rfl) ?_
        refine j_iload_n B dX13_days_33 rfl ?_
        refine j_aload_n B dX13_days_34 rfl ?_
        refine j_iload B dX13_days_35 rfl ?_
        refine j_aload_n B dX13_days_37 rfl ?_
        refine j_bipush (v := 7) B dX13_days_38 (by decide) ?_
        obtain ⟨i40, w40, e40, hF⟩ := bc hF
        refine j_rV (st2 := [.int i40, .int i22, va_rf a0, .int x2]) B [.int 7] [.int i22, va_rf a0, .int x2] cv_X13_261 dX13_days_40 hl hR (ct_X13_drawn G e40) rfl rfl rfl rfl ⟨rfl, cr _, rfl, trivial⟩ (Nat.le_of_ble_eq_true rfl) ?_
        obtain ⟨i43, w43, e43, hF⟩ := bc hF
        refine j_rV (st2 := [.int i43, .int x2]) B [.int i22, .int i40] [.int x2] cv_X13_199 dX13_days_43 hl hR (ct_X13_walked G e43) rfl rfl rfl rfl ⟨rfl, trivial⟩ (Nat.le_of_ble_eq_true rfl) ?_
        refine j_rS (st2 := [.int (F_J3_max x2 i43)]) B [.int x2, .int i43] [] cs_X13_141 dX13_days_46 hl hR (ct_J3_max G) rfl rfl rfl rfl trivial (Nat.le_of_ble_eq_true rfl) ?_
        refine j_istore_n (vs' := [some (va_rf a0), some (.int x1), some (.int (F_J3_max x2 i43)), some (.int x3), some (.int i22)]) B dX13_days_49 (by decide) rfl ?_
        refine j_iinc (v := x3 + 1) (vs' := [some (va_rf a0), some (.int x1), some (.int (F_J3_max x2 i43)), some (.int (x3 + 1)), some (.int i22)]) B dX13_days_50 (by decide) rfl rfl rfl ?_
        refine j_goto (tgt := 9) B dX13_days_53 (by decide) ?_
        refine j_msk [true, true, true, true, false] rfl ?_
        exact ih9 a0 x1 (F_J3_max x2 i43) (x3 + 1) w43 hF
  refine j_aload_n B dX13_days_0 rfl ?_
  refine j_iconst (v := 0) B dX13_days_1 (by decide) ?_
  refine j_putV B fp_X13_192 (fun h => by cases h) rfl rfl dX13_days_2 hF (fun w2 hF => ?_)
  refine j_iconst (v := 0) B dX13_days_5 (by decide) ?_
  refine j_istore_n (vs' := [some (va_rf a0), some (.int x1), some (.int 0), none, none]) B dX13_days_6 (by decide) rfl ?_
  refine j_iconst (v := 0) B dX13_days_7 (by decide) ?_
  refine j_istore_n (vs' := [some (va_rf a0), some (.int x1), some (.int 0), some (.int 0), none]) B dX13_days_8 (by decide) rfl ?_
  exact lp9 fu a0 x1 0 0 w2 hF
theorem cv_X13_267 : CV "CarryFairModel" 267 13 yX13_refusesDays cX13_refusesDays 2 (some .int) 1 := ⟨_, _, rfl, lw_V q1747 q1749 qs109 q142 q1750, by decide +kernel⟩
theorem cv_X13_270 : CV "CarryFairModel" 270 13 yX13_days cX13_days 5 (some .int) 1 := ⟨_, _, rfl, lw_V q1751 q1753 qs110 q142 q1754, by decide +kernel⟩
def F_X13_day (a0 : Option Nat) (x1 : Int32) (w : cH) : Option (Int32 × cH) :=
  if tg w a0 = some 13 then ((F_X13_refusesDays a0 x1 w).bind fun i2 =>if i2 = 0 then (cb (F_X13_days a0 x1 w) fun i20 w20 => some (i20, w20)) else (cb (F_X13_finding a0 i2 w) fun i12 w12 => some (i12, w12))) else none
abbrev rm_X13_day : Room := { frames := 8, cells := 0, slots := 0, locals := 188 }
set_option maxHeartbeats 4000000 in
set_option maxRecDepth 100000 in
theorem ct_X13_day {l : Launch} {g : Gt} (G : Gok g) {a0 : Option Nat} {x1 : Int32} {w : cH} {r9 : Int32} {w9 : cH} (hF : F_X13_day a0 x1 w = some (r9, w9)) : tg w a0 = some 13 ∧ Mx l yX13_day (ws_ yX13_day cX13_day 3 (some .int)) rm_X13_day g [va_rf a0, .int x1] w (.returned (some (.int r9))) w9 0 0 := by
  unfold F_X13_day at hF
  obtain ⟨ht, hF⟩ := bg hF
  refine ⟨ht, mk_ct cX13_day 3 (some .int) "CarryFairModel" (plainFor_of_name (by decide)) rfl (lg_le ⟨cr _, rfl, trivial⟩ (Nat.le_of_ble_eq_true rfl)) (av_ok ⟨cr _, rfl, trivial⟩) G (fun x B hl hR hin hh => ?_)⟩
  show J g x _ _ 0 0 w 0 0 0 [some (va_rf a0), some (.int x1), none] []
  refine j_aload_n B dX13_day_0 rfl ?_
  refine j_iload_n B dX13_day_1 rfl ?_
  obtain ⟨i2, e2, hF⟩ := bo hF
  refine j_rV (st2 := [.int i2]) B [.int x1] [] cv_X13_267 dX13_day_2 hl hR (ct_X13_refusesDays G e2) rfl rfl rfl rfl trivial (Nat.le_of_ble_eq_true rfl) ?_
  refine j_istore_n (vs' := [some (va_rf a0), some (.int x1), some (.int i2)]) B dX13_day_5 (by decide) rfl ?_
  refine j_iload_n B dX13_day_6 rfl ?_
  refine j_if_eq (tgt := 18) B dX13_day_7 (by decide) hF (fun h7 hF => ?_) (fun h7 hF => ?_)
  · refine j_aload_n B dX13_day_18 rfl ?_
    refine j_iload_n B dX13_day_19 rfl ?_
    obtain ⟨i20, w20, e20, hF⟩ := bc hF
    refine j_rV (st2 := [.int i20]) B [.int x1] [] cv_X13_270 dX13_day_20 hl hR (ct_X13_days G e20) rfl rfl rfl rfl trivial (Nat.le_of_ble_eq_true rfl) ?_
    exact j_lIw B rfl dX13_day_23 hF (by decide) (by decide)
  · refine j_aload_n B dX13_day_10 rfl ?_
    refine j_iload_n B dX13_day_11 rfl ?_
    obtain ⟨i12, w12, e12, hF⟩ := bc hF
    refine j_rV (st2 := [.int i12]) B [.int i2] [] cv_X13_92 dX13_day_12 hl hR (ct_X13_finding G e12) rfl rfl rfl rfl trivial (Nat.le_of_ble_eq_true rfl) ?_
    refine j_goto (tgt := 23) B dX13_day_15 (by decide) ?_
    exact j_lIw B rfl dX13_day_23 hF (by decide) (by decide)
def F_X13_copyRow_B2 (rc2 : Option Nat → Option Nat → Int32 → cH → Option cH) (a0 : Option Nat) (a1 : Option Nat) (x2 : Int32) (w : cH) : Option cH :=
  if 138 ≤ x2 then (some w) else ((aI w a0 100 x2).bind fun i13 => (aS w a1 100 x2 (.int i13)).bind fun w14 => rc2 a0 a1 (x2 + 1) w14)
def F_X13_copyRow_L2 : Nat → Option Nat → Option Nat → Int32 → cH → Option cH
  | 0, _, _, _, _ => none
  | n9 + 1, a0, a1, x2, w => F_X13_copyRow_B2  (F_X13_copyRow_L2  n9) a0 a1 x2 w
def F_X13_copyRow (a0 : Option Nat) (a1 : Option Nat) (w : cH) : Option cH :=
  F_X13_copyRow_L2  fu a0 a1 0 w
abbrev rm_X13_copyRow : Room := { frames := 0, cells := 0, slots := 0, locals := 0 }
set_option maxHeartbeats 4000000 in
set_option maxRecDepth 100000 in
theorem ct_X13_copyRow {l : Launch} {g : Gt} (G : Gok g) {a0 : Option Nat} {a1 : Option Nat} {w : cH}  {w9 : cH} (hF : F_X13_copyRow a0 a1 w = some w9) : Mx l yX13_copyRow (ws_ yX13_copyRow cX13_copyRow 3 none) rm_X13_copyRow g [va_rf a0, va_rf a1] w (.returned none) w9 0 0 := by
  unfold F_X13_copyRow at hF
  refine mk_ct cX13_copyRow 3 none "CarryFairModel" (plainFor_of_name (by decide)) rfl (lg_le ⟨cr _, cr _, trivial⟩ (Nat.le_of_ble_eq_true rfl)) (av_ok ⟨cr _, cr _, trivial⟩) G (fun x B hl hR hin hh => ?_)
  show J g x _ _ 0 0 w 0 0 0 [some (va_rf a0), some (va_rf a1), none] []
  have lp2 : ∀ (n9 : Nat) (a0 : Option Nat) (a1 : Option Nat) (x2 : Int32) (w : cH), F_X13_copyRow_L2  n9 a0 a1 x2 w = some w9 → J g x (.returned none) w9 0 0 w 0 0 2 [some (va_rf a0), some (va_rf a1), some (.int x2)] [] := by
    intro n9
    induction n9 with
    | zero => intro a0 a1 x2 w hF; cases hF
    | succ n2 ih2 =>
      intro a0 a1 x2 w hF
      have hF : F_X13_copyRow_B2  (F_X13_copyRow_L2  n2) a0 a1 x2 w = some w9 := hF
      unfold F_X13_copyRow_B2 at hF
      refine j_iload_n B dX13_copyRow_2 rfl ?_
      refine j_sipush (v := 138) B dX13_copyRow_3 (by decide) ?_
      refine j_icmp_ge (tgt := 21) B dX13_copyRow_6 (by decide) hF (fun h6 hF => ?_) (fun h6 hF => ?_)
      · exact j_lV B rfl dX13_copyRow_21 hF (by decide) (by decide)
      · refine j_aload_n B dX13_copyRow_9 rfl ?_
        refine j_iload_n B dX13_copyRow_10 rfl ?_
        refine j_aload_n B dX13_copyRow_11 rfl ?_
        refine j_iload_n B dX13_copyRow_12 rfl ?_
        refine j_iaload B dX13_copyRow_13 hF (fun i13 hF => ?_)
        refine j_iastore B dX13_copyRow_14 hF (fun w14 hF => ?_)
        refine j_iinc (v := x2 + 1) (vs' := [some (va_rf a0), some (va_rf a1), some (.int (x2 + 1))]) B dX13_copyRow_15 (by decide) rfl rfl rfl ?_
        refine j_goto (tgt := 2) B dX13_copyRow_18 (by decide) ?_
        exact ih2 a0 a1 (x2 + 1) w14 hF
  refine j_iconst (v := 0) B dX13_copyRow_0 (by decide) ?_
  refine j_istore_n (vs' := [some (va_rf a0), some (va_rf a1), some (.int 0)]) B dX13_copyRow_1 (by decide) rfl ?_
  exact lp2 fu a0 a1 0 w hF
theorem fl_X13_16 : FL "CarryFairModel" 16 13 2 := ⟨RX13, TX13, 30, rfl, by decide, in_X13, Or.inl q1337⟩
theorem cs_X13_73 : CS "CarryFairModel" 73 yX13_copyRow cX13_copyRow 3 none 2 := ⟨Or.inl (lw_S q1768 q1769 q142 q1770), by decide +kernel⟩
def F_X13_putBack (a0 : Option Nat) (x1 : Int32) (w : cH) : Option (Int32 × cH) :=
  if tg w a0 = some 13 then ((fA w a0 13 2).bind fun a1p => (fA w a0 13 0).bind fun a5p => (F_X13_copyRow a1p a5p w).bind fun w8 => some (x1, w8)) else none
abbrev rm_X13_putBack : Room := { frames := 1, cells := 0, slots := 0, locals := 22 }
set_option maxHeartbeats 4000000 in
set_option maxRecDepth 100000 in
theorem ct_X13_putBack {l : Launch} {g : Gt} (G : Gok g) {a0 : Option Nat} {x1 : Int32} {w : cH} {r9 : Int32} {w9 : cH} (hF : F_X13_putBack a0 x1 w = some (r9, w9)) : tg w a0 = some 13 ∧ Mx l yX13_putBack (ws_ yX13_putBack cX13_putBack 2 (some .int)) rm_X13_putBack g [va_rf a0, .int x1] w (.returned (some (.int r9))) w9 0 0 := by
  unfold F_X13_putBack at hF
  obtain ⟨ht, hF⟩ := bg hF
  refine ⟨ht, mk_ct cX13_putBack 2 (some .int) "CarryFairModel" (plainFor_of_name (by decide)) rfl (lg_le ⟨cr _, rfl, trivial⟩ (Nat.le_of_ble_eq_true rfl)) (av_ok ⟨cr _, rfl, trivial⟩) G (fun x B hl hR hin hh => ?_)⟩
  show J g x _ _ 0 0 w 0 0 0 [some (va_rf a0), some (.int x1)] []
  refine j_aload_n B dX13_putBack_0 rfl ?_
  refine j_getA B fl_X13_16 dX13_putBack_1 hF (fun a1p hF => ?_)
  refine j_aload_n B dX13_putBack_4 rfl ?_
  refine j_getA B fl_X13_9 dX13_putBack_5 hF (fun a5p hF => ?_)
  obtain ⟨w8, e8, hF⟩ := bo hF
  refine j_rS (st2 := []) B [va_rf a1p, va_rf a5p] [] cs_X13_73 dX13_putBack_8 hl hR (ct_X13_copyRow G e8) rfl rfl rfl rfl trivial (Nat.le_of_ble_eq_true rfl) ?_
  refine j_iload_n B dX13_putBack_11 rfl ?_
  exact j_lIw B rfl dX13_putBack_12 hF (by decide) (by decide)
theorem cv_X13_273 : CV "CarryFairModel" 273 13 yX13_putBack cX13_putBack 2 (some .int) 1 := ⟨_, _, rfl, lw_V q1771 q1773 qs113 q142 q1774, by decide +kernel⟩
def F_X13_ahead (a0 : Option Nat) (x1 : Int32) (w : cH) : Option (Int32 × cH) :=
  if tg w a0 = some 13 then ((F_X13_refusesDays a0 x1 w).bind fun i2 =>if i2 = 0 then ((fA w a0 13 0).bind fun a17p => (fA w a0 13 2).bind fun a21p => (F_X13_copyRow a17p a21p w).bind fun w24 => cb (F_X13_days a0 x1 w24) fun i30 w30 => cb (F_X13_putBack a0 i30 w30) fun i33 w33 => some (i33, w33)) else (cb (F_X13_finding a0 i2 w) fun i12 w12 => some (i12, w12))) else none
abbrev rm_X13_ahead : Room := { frames := 8, cells := 0, slots := 0, locals := 188 }
set_option maxHeartbeats 4000000 in
set_option maxRecDepth 100000 in
theorem ct_X13_ahead {l : Launch} {g : Gt} (G : Gok g) {a0 : Option Nat} {x1 : Int32} {w : cH} {r9 : Int32} {w9 : cH} (hF : F_X13_ahead a0 x1 w = some (r9, w9)) : tg w a0 = some 13 ∧ Mx l yX13_ahead (ws_ yX13_ahead cX13_ahead 3 (some .int)) rm_X13_ahead g [va_rf a0, .int x1] w (.returned (some (.int r9))) w9 0 0 := by
  unfold F_X13_ahead at hF
  obtain ⟨ht, hF⟩ := bg hF
  refine ⟨ht, mk_ct cX13_ahead 3 (some .int) "CarryFairModel" (plainFor_of_name (by decide)) rfl (lg_le ⟨cr _, rfl, trivial⟩ (Nat.le_of_ble_eq_true rfl)) (av_ok ⟨cr _, rfl, trivial⟩) G (fun x B hl hR hin hh => ?_)⟩
  show J g x _ _ 0 0 w 0 0 0 [some (va_rf a0), some (.int x1), none] []
  refine j_aload_n B dX13_ahead_0 rfl ?_
  refine j_iload_n B dX13_ahead_1 rfl ?_
  obtain ⟨i2, e2, hF⟩ := bo hF
  refine j_rV (st2 := [.int i2]) B [.int x1] [] cv_X13_267 dX13_ahead_2 hl hR (ct_X13_refusesDays G e2) rfl rfl rfl rfl trivial (Nat.le_of_ble_eq_true rfl) ?_
  refine j_istore_n (vs' := [some (va_rf a0), some (.int x1), some (.int i2)]) B dX13_ahead_5 (by decide) rfl ?_
  refine j_iload_n B dX13_ahead_6 rfl ?_
  refine j_if_eq (tgt := 16) B dX13_ahead_7 (by decide) hF (fun h7 hF => ?_) (fun h7 hF => ?_)
  · refine j_aload_n B dX13_ahead_16 rfl ?_
    refine j_getA B fl_X13_9 dX13_ahead_17 hF (fun a17p hF => ?_)
    refine j_aload_n B dX13_ahead_20 rfl ?_
    refine j_getA B fl_X13_16 dX13_ahead_21 hF (fun a21p hF => ?_)
    obtain ⟨w24, e24, hF⟩ := bo hF
    refine j_rS (st2 := []) B [va_rf a17p, va_rf a21p] [] cs_X13_73 dX13_ahead_24 hl hR (ct_X13_copyRow G e24) rfl rfl rfl rfl trivial (Nat.le_of_ble_eq_true rfl) ?_
    refine j_aload_n B dX13_ahead_27 rfl ?_
    refine j_aload_n B dX13_ahead_28 rfl ?_
    refine j_iload_n B dX13_ahead_29 rfl ?_
    obtain ⟨i30, w30, e30, hF⟩ := bc hF
    refine j_rV (st2 := [.int i30, va_rf a0]) B [.int x1] [va_rf a0] cv_X13_270 dX13_ahead_30 hl hR (ct_X13_days G e30) rfl rfl rfl rfl ⟨cr _, trivial⟩ (Nat.le_of_ble_eq_true rfl) ?_
    obtain ⟨i33, w33, e33, hF⟩ := bc hF
    refine j_rV (st2 := [.int i33]) B [.int i30] [] cv_X13_273 dX13_ahead_33 hl hR (ct_X13_putBack G e33) rfl rfl rfl rfl trivial (Nat.le_of_ble_eq_true rfl) ?_
    exact j_lIw B rfl dX13_ahead_36 hF (by decide) (by decide)
  · refine j_aload_n B dX13_ahead_10 rfl ?_
    refine j_iload_n B dX13_ahead_11 rfl ?_
    obtain ⟨i12, w12, e12, hF⟩ := bc hF
    refine j_rV (st2 := [.int i12]) B [.int i2] [] cv_X13_92 dX13_ahead_12 hl hR (ct_X13_finding G e12) rfl rfl rfl rfl trivial (Nat.le_of_ble_eq_true rfl) ?_
    exact j_lIw B rfl dX13_ahead_15 hF (by decide) (by decide)
def F_X13_seed (a0 : Option Nat) (x1 : Int32) (w : cH) : Option (Int32 × cH) :=
  if tg w a0 = some 13 then (cb (F_X13_become a0 45 x1 w) fun i4 w4 => some (i4, w4)) else none
abbrev rm_X13_seed : Room := { frames := 1, cells := 0, slots := 0, locals := 23 }
set_option maxHeartbeats 4000000 in
set_option maxRecDepth 100000 in
theorem ct_X13_seed {l : Launch} {g : Gt} (G : Gok g) {a0 : Option Nat} {x1 : Int32} {w : cH} {r9 : Int32} {w9 : cH} (hF : F_X13_seed a0 x1 w = some (r9, w9)) : tg w a0 = some 13 ∧ Mx l yX13_seed (ws_ yX13_seed cX13_seed 2 (some .int)) rm_X13_seed g [va_rf a0, .int x1] w (.returned (some (.int r9))) w9 0 0 := by
  unfold F_X13_seed at hF
  obtain ⟨ht, hF⟩ := bg hF
  refine ⟨ht, mk_ct cX13_seed 2 (some .int) "CarryFairModel" (plainFor_of_name (by decide)) rfl (lg_le ⟨cr _, rfl, trivial⟩ (Nat.le_of_ble_eq_true rfl)) (av_ok ⟨cr _, rfl, trivial⟩) G (fun x B hl hR hin hh => ?_)⟩
  show J g x _ _ 0 0 w 0 0 0 [some (va_rf a0), some (.int x1)] []
  refine j_aload_n B dX13_seed_0 rfl ?_
  refine j_bipush (v := 45) B dX13_seed_1 (by decide) ?_
  refine j_iload_n B dX13_seed_3 rfl ?_
  obtain ⟨i4, w4, e4, hF⟩ := bc hF
  refine j_rV (st2 := [.int i4]) B [.int 45, .int x1] [] cv_X13_133 dX13_seed_4 hl hR (ct_X13_become G e4) rfl rfl rfl rfl trivial (Nat.le_of_ble_eq_true rfl) ?_
  exact j_lIw B rfl dX13_seed_7 hF (by decide) (by decide)
theorem fl_X13_276 : FL "CarryFairModel" 276 13 14 := ⟨RX13, TX13, 30, rfl, by decide, in_X13, Or.inl q1349⟩
theorem fl_X13_34 : FL "CarryFairModel" 34 13 13 := ⟨RX13, TX13, 30, rfl, by decide, in_X13, Or.inl q1348⟩
theorem fp_X13_276 : FP "CarryFairModel" 276 13 14 .int false := ⟨RX13, TX13, 30, rfl, by decide, in_X13, Or.inl q1349, rfl, (fun h => by cases h), by decide +kernel, ap_X13, tyX13, tyX13_ok⟩
def F_X13_feed_B38 (rc38 : Option Nat → Int32 → Int32 → cH → Option (Int32 × cH)) (a0 : Option Nat) (x1 : Int32) (x3 : Int32) (w : cH) : Option (Int32 × cH) :=
  if x3 < 0 then ((fI w a0 13 14).bind fun i78 => some (i78, w)) else ((fA w a0 13 13).bind fun a43p => (fI w a0 13 14).bind fun i47 => (aS w a43p 100 i47 (.int ((x1 >>> ((8 * x3) &&& 31)) &&& 255))).bind fun w60 => (fI w60 a0 13 14).bind fun i63 => (pV w60 a0 13 14 (.int (i63 + 1))).bind fun w68 => rc38 a0 x1 (x3 + (-1)) w68)
def F_X13_feed_L38 : Nat → Option Nat → Int32 → Int32 → cH → Option (Int32 × cH)
  | 0, _, _, _, _ => none
  | n9 + 1, a0, x1, x3, w => F_X13_feed_B38  (F_X13_feed_L38  n9) a0 x1 x3 w
def F_X13_feed (a0 : Option Nat) (x1 : Int32) (x2 : Int32) (w : cH) : Option (Int32 × cH) :=
  if tg w a0 = some 13 then (if ¬ (F_X13_within x2 1 4) = 0 then ((fI w a0 13 14).bind fun i17 =>if (i17 + x2) ≤ 120 then (F_X13_feed_L38  fu a0 x1 (x2 - 1) w) else (cb (F_X13_finding a0 (-1000002) w) fun i30 w30 => some (i30, w30))) else (cb (F_X13_finding a0 (-1000001) w) fun i12 w12 => some (i12, w12))) else none
abbrev rm_X13_feed : Room := { frames := 1, cells := 0, slots := 0, locals := 22 }
set_option maxHeartbeats 4000000 in
set_option maxRecDepth 100000 in
theorem ct_X13_feed {l : Launch} {g : Gt} (G : Gok g) {a0 : Option Nat} {x1 : Int32} {x2 : Int32} {w : cH} {r9 : Int32} {w9 : cH} (hF : F_X13_feed a0 x1 x2 w = some (r9, w9)) : tg w a0 = some 13 ∧ Mx l yX13_feed (ws_ yX13_feed cX13_feed 4 (some .int)) rm_X13_feed g [va_rf a0, .int x1, .int x2] w (.returned (some (.int r9))) w9 0 0 := by
  unfold F_X13_feed at hF
  obtain ⟨ht, hF⟩ := bg hF
  refine ⟨ht, mk_ct cX13_feed 4 (some .int) "CarryFairModel" (plainFor_of_name (by decide)) rfl (lg_le ⟨cr _, rfl, rfl, trivial⟩ (Nat.le_of_ble_eq_true rfl)) (av_ok ⟨cr _, rfl, rfl, trivial⟩) G (fun x B hl hR hin hh => ?_)⟩
  show J g x _ _ 0 0 w 0 0 0 [some (va_rf a0), some (.int x1), some (.int x2), none] []
  have lp38 : ∀ (n9 : Nat) (a0 : Option Nat) (x1 : Int32) (x3 : Int32) (w : cH), F_X13_feed_L38  n9 a0 x1 x3 w = some (r9, w9) → J g x (.returned (some (.int r9))) w9 0 0 w 0 0 38 [some (va_rf a0), some (.int x1), none, some (.int x3)] [] := by
    intro n9
    induction n9 with
    | zero => intro a0 x1 x3 w hF; cases hF
    | succ n38 ih38 =>
      intro a0 x1 x3 w hF
      have hF : F_X13_feed_B38  (F_X13_feed_L38  n38) a0 x1 x3 w = some (r9, w9) := hF
      unfold F_X13_feed_B38 at hF
      refine j_iload_n B dX13_feed_38 rfl ?_
      refine j_if_lt (tgt := 77) B dX13_feed_39 (by decide) hF (fun h39 hF => ?_) (fun h39 hF => ?_)
      · refine j_aload_n B dX13_feed_77 rfl ?_
        refine j_getI B fl_X13_276 dX13_feed_78 hF (fun i78 hF => ?_)
        exact j_lIw B rfl dX13_feed_81 hF (by decide) (by decide)
      · refine j_aload_n B dX13_feed_42 rfl ?_
        refine j_getA B fl_X13_34 dX13_feed_43 hF (fun a43p hF => ?_)
        refine j_aload_n B dX13_feed_46 rfl ?_
        refine j_getI B fl_X13_276 dX13_feed_47 hF (fun i47 hF => ?_)
        refine j_iload_n B dX13_feed_50 rfl ?_
        refine j_bipush (v := 8) B dX13_feed_51 (by decide) ?_
        refine j_iload_n B dX13_feed_53 rfl ?_
        refine j_imul B dX13_feed_54 ?_
        refine j_ishr B dX13_feed_55 ?_
        refine j_sipush (v := 255) B dX13_feed_56 (by decide) ?_
        refine j_iand B dX13_feed_59 ?_
        refine j_iastore B dX13_feed_60 hF (fun w60 hF => ?_)
        refine j_aload_n B dX13_feed_61 rfl ?_
        refine j_dup B dX13_feed_62 (cr _) ?_
        refine j_getI B fl_X13_276 dX13_feed_63 hF (fun i63 hF => ?_)
        refine j_iconst (v := 1) B dX13_feed_66 (by decide) ?_
        refine j_iadd B dX13_feed_67 ?_
        refine j_putV B fp_X13_276 (fun h => by cases h) rfl rfl dX13_feed_68 hF (fun w68 hF => ?_)
        refine j_iinc (v := x3 + (-1)) (vs' := [some (va_rf a0), some (.int x1), none, some (.int (x3 + (-1)))]) B dX13_feed_71 (by decide) rfl rfl rfl ?_
        refine j_goto (tgt := 38) B dX13_feed_74 (by decide) ?_
        exact ih38 a0 x1 (x3 + (-1)) w68 hF
  refine j_iload_n B dX13_feed_0 rfl ?_
  refine j_iconst (v := 1) B dX13_feed_1 (by decide) ?_
  refine j_iconst (v := 4) B dX13_feed_2 (by decide) ?_
  refine j_rS (st2 := [.int (F_X13_within x2 1 4)]) B [.int x2, .int 1, .int 4] [] cs_X13_77 dX13_feed_3 hl hR (ct_X13_within G) rfl rfl rfl rfl trivial (Nat.le_of_ble_eq_true rfl) ?_
  refine j_if_ne (tgt := 16) B dX13_feed_6 (by decide) hF (fun h6 hF => ?_) (fun h6 hF => ?_)
  · refine j_aload_n B dX13_feed_16 rfl ?_
    refine j_getI B fl_X13_276 dX13_feed_17 hF (fun i17 hF => ?_)
    refine j_iload_n B dX13_feed_20 rfl ?_
    refine j_iadd B dX13_feed_21 ?_
    refine j_bipush (v := 120) B dX13_feed_22 (by decide) ?_
    refine j_icmp_le (tgt := 34) B dX13_feed_24 (by decide) hF (fun h24 hF => ?_) (fun h24 hF => ?_)
    · refine j_iload_n B dX13_feed_34 rfl ?_
      refine j_iconst (v := 1) B dX13_feed_35 (by decide) ?_
      refine j_isub B dX13_feed_36 ?_
      refine j_istore_n (vs' := [some (va_rf a0), some (.int x1), some (.int x2), some (.int (x2 - 1))]) B dX13_feed_37 (by decide) rfl ?_
      refine j_msk [true, true, false, true] rfl ?_
      exact lp38 fu a0 x1 (x2 - 1) w hF
    · refine j_aload_n B dX13_feed_27 rfl ?_
      refine j_ldc (v := (-1000002)) B q1441 dX13_feed_28 ?_
      obtain ⟨i30, w30, e30, hF⟩ := bc hF
      refine j_rV (st2 := [.int i30]) B [.int (-1000002)] [] cv_X13_92 dX13_feed_30 hl hR (ct_X13_finding G e30) rfl rfl rfl rfl trivial (Nat.le_of_ble_eq_true rfl) ?_
      exact j_lIw B rfl dX13_feed_33 hF (by decide) (by decide)
  · refine j_aload_n B dX13_feed_9 rfl ?_
    refine j_ldc (v := (-1000001)) B q1436 dX13_feed_10 ?_
    obtain ⟨i12, w12, e12, hF⟩ := bc hF
    refine j_rV (st2 := [.int i12]) B [.int (-1000001)] [] cv_X13_92 dX13_feed_12 hl hR (ct_X13_finding G e12) rfl rfl rfl rfl trivial (Nat.le_of_ble_eq_true rfl) ?_
    exact j_lIw B rfl dX13_feed_15 hF (by decide) (by decide)
def F_X13_wipe (a0 : Option Nat) (w : cH) : Option (Int32 × cH) :=
  if tg w a0 = some 13 then ((fI w a0 13 14).bind fun i1 => (pV w a0 13 14 (.int 0)).bind fun w7 => some (i1, w7)) else none
abbrev rm_X13_wipe : Room := { frames := 0, cells := 0, slots := 0, locals := 0 }
set_option maxHeartbeats 4000000 in
set_option maxRecDepth 100000 in
theorem ct_X13_wipe {l : Launch} {g : Gt} (G : Gok g) {a0 : Option Nat} {w : cH} {r9 : Int32} {w9 : cH} (hF : F_X13_wipe a0 w = some (r9, w9)) : tg w a0 = some 13 ∧ Mx l yX13_wipe (ws_ yX13_wipe cX13_wipe 2 (some .int)) rm_X13_wipe g [va_rf a0] w (.returned (some (.int r9))) w9 0 0 := by
  unfold F_X13_wipe at hF
  obtain ⟨ht, hF⟩ := bg hF
  refine ⟨ht, mk_ct cX13_wipe 2 (some .int) "CarryFairModel" (plainFor_of_name (by decide)) rfl (lg_le ⟨cr _, trivial⟩ (Nat.le_of_ble_eq_true rfl)) (av_ok ⟨cr _, trivial⟩) G (fun x B hl hR hin hh => ?_)⟩
  show J g x _ _ 0 0 w 0 0 0 [some (va_rf a0), none] []
  refine j_aload_n B dX13_wipe_0 rfl ?_
  refine j_getI B fl_X13_276 dX13_wipe_1 hF (fun i1 hF => ?_)
  refine j_istore_n (vs' := [some (va_rf a0), some (.int i1)]) B dX13_wipe_4 (by decide) rfl ?_
  refine j_aload_n B dX13_wipe_5 rfl ?_
  refine j_iconst (v := 0) B dX13_wipe_6 (by decide) ?_
  refine j_putV B fp_X13_276 (fun h => by cases h) rfl rfl dX13_wipe_7 hF (fun w7 hF => ?_)
  refine j_iload_n B dX13_wipe_10 rfl ?_
  exact j_lIw B rfl dX13_wipe_11 hF (by decide) (by decide)
def F_X13_byteAt (a0 : Option Nat) (x1 : Int32) (w : cH) : Option Int32 :=
  if tg w a0 = some 13 then ((fI w a0 13 14).bind fun i2 =>if i2 ≤ x1 then (some ((-1))) else ((fA w a0 13 13).bind fun a9p => (aI w a9p 100 x1).bind fun i13 => some (i13))) else none
abbrev rm_X13_byteAt : Room := { frames := 0, cells := 0, slots := 0, locals := 0 }
set_option maxHeartbeats 4000000 in
set_option maxRecDepth 100000 in
theorem ct_X13_byteAt {l : Launch} {g : Gt} (G : Gok g) {a0 : Option Nat} {x1 : Int32} {w : cH} {r9 : Int32} (hF : F_X13_byteAt a0 x1 w = some r9) : tg w a0 = some 13 ∧ Mx l yX13_byteAt (ws_ yX13_byteAt cX13_byteAt 2 (some .int)) rm_X13_byteAt g [va_rf a0, .int x1] w (.returned (some (.int r9))) w 0 0 := by
  unfold F_X13_byteAt at hF
  obtain ⟨ht, hF⟩ := bg hF
  refine ⟨ht, mk_ct cX13_byteAt 2 (some .int) "CarryFairModel" (plainFor_of_name (by decide)) rfl (lg_le ⟨cr _, rfl, trivial⟩ (Nat.le_of_ble_eq_true rfl)) (av_ok ⟨cr _, rfl, trivial⟩) G (fun x B hl hR hin hh => ?_)⟩
  show J g x _ _ 0 0 w 0 0 0 [some (va_rf a0), some (.int x1)] []
  refine j_iload_n B dX13_byteAt_0 rfl ?_
  refine j_aload_n B dX13_byteAt_1 rfl ?_
  refine j_getI B fl_X13_276 dX13_byteAt_2 hF (fun i2 hF => ?_)
  refine j_icmp_ge (tgt := 17) B dX13_byteAt_5 (by decide) hF (fun h5 hF => ?_) (fun h5 hF => ?_)
  · refine j_iconst (v := (-1)) B dX13_byteAt_17 (by decide) ?_
    exact j_lI B rfl dX13_byteAt_18 hF (by decide) (by decide)
  · refine j_aload_n B dX13_byteAt_8 rfl ?_
    refine j_getA B fl_X13_34 dX13_byteAt_9 hF (fun a9p hF => ?_)
    refine j_iload_n B dX13_byteAt_12 rfl ?_
    refine j_iaload B dX13_byteAt_13 hF (fun i13 hF => ?_)
    refine j_goto (tgt := 18) B dX13_byteAt_14 (by decide) ?_
    exact j_lI B rfl dX13_byteAt_18 hF (by decide) (by decide)
theorem fl_X13_279 : FL "CarryFairModel" 279 13 16 := ⟨RX13, TX13, 30, rfl, by decide, in_X13, Or.inl q1351⟩
theorem fl_X13_282 : FL "CarryFairModel" 282 13 15 := ⟨RX13, TX13, 30, rfl, by decide, in_X13, Or.inl q1350⟩
theorem fl_X13_288 : FL "CarryFairModel" 288 13 18 := ⟨RX13, TX13, 30, rfl, by decide, in_X13, Or.inl q1353⟩
theorem fp_X13_282 : FP "CarryFairModel" 282 13 15 .int false := ⟨RX13, TX13, 30, rfl, by decide, in_X13, Or.inl q1350, rfl, (fun h => by cases h), by decide +kernel, ap_X13, tyX13, tyX13_ok⟩
theorem fp_X13_279 : FP "CarryFairModel" 279 13 16 .int false := ⟨RX13, TX13, 30, rfl, by decide, in_X13, Or.inl q1351, rfl, (fun h => by cases h), by decide +kernel, ap_X13, tyX13, tyX13_ok⟩
theorem fp_X13_288 : FP "CarryFairModel" 288 13 18 .int false := ⟨RX13, TX13, 30, rfl, by decide, in_X13, Or.inl q1353, rfl, (fun h => by cases h), by decide +kernel, ap_X13, tyX13, tyX13_ok⟩
theorem fp_X13_291 : FP "CarryFairModel" 291 13 17 .int false := ⟨RX13, TX13, 30, rfl, by decide, in_X13, Or.inl q1352, rfl, (fun h => by cases h), by decide +kernel, ap_X13, tyX13, tyX13_ok⟩
theorem cv_X13_285 : CV "CarryFairModel" 285 13 yX13_byteAt cX13_byteAt 2 (some .int) 1 := ⟨_, _, rfl, lw_V q1795 q1797 qs115 q142 q1798, by decide +kernel⟩
def F_X13_next_B131 (rc131 : Option Nat → cH → Option cH) (a0 : Option Nat) (w : cH) : Option cH :=
  (fI w a0 13 16).bind fun i133 => (F_X13_byteAt a0 i133 w).bind fun i136 =>if (F_X13_within i136 48 57) = 0 then (some w) else ((fI w a0 13 18).bind fun i156 => (fI w a0 13 16).bind fun i162 => (F_X13_byteAt a0 i162 w).bind fun i165 => (pV w a0 13 18 (.int (F_J3_min 10000 (((10 * i156) + i165) - 48)))).bind fun w175 => (fI w175 a0 13 16).bind fun i180 => (pV w175 a0 13 16 (.int (i180 + 1))).bind fun w185 => rc131 a0 w185)
def F_X13_next_L131 : Nat → Option Nat → cH → Option cH
  | 0, _, _ => none
  | n9 + 1, a0, w => F_X13_next_B131  (F_X13_next_L131  n9) a0 w
def F_X13_next_B84 (rc84 : Option Nat → cH → Option cH) (a0 : Option Nat) (w : cH) : Option cH :=
  (fI w a0 13 16).bind fun i86 => (F_X13_byteAt a0 i86 w).bind fun i89 =>if (F_X13_within i89 97 122) = 0 then (some w) else ((fI w a0 13 16).bind fun i104 => (pV w a0 13 16 (.int (i104 + 1))).bind fun w109 => rc84 a0 w109)
def F_X13_next_L84 : Nat → Option Nat → cH → Option cH
  | 0, _, _ => none
  | n9 + 1, a0, w => F_X13_next_B84  (F_X13_next_L84  n9) a0 w
def F_X13_next_B8 (rc8 : Option Nat → cH → Option cH) (a0 : Option Nat) (w : cH) : Option cH :=
  (fI w a0 13 15).bind fun i10 => (F_X13_byteAt a0 i10 w).bind fun i13 =>if ¬ i13 = 32 then ((fI w a0 13 15).bind fun i36 => (F_X13_byteAt a0 i36 w).bind fun i39 => (fI w a0 13 15).bind fun i45 => (pV w a0 13 16 (.int i45)).bind fun w48 => (pV w48 a0 13 18 (.int 0)).bind fun w53 =>if 0 ≤ i39 then (if (F_X13_within i39 97 122) = 0 then (if (F_X13_within i39 48 57) = 0 then ((pV w53 a0 13 17 (.int 3)).bind fun w193 => (fI w193 a0 13 16).bind fun i198 => (pV w193 a0 13 16 (.int (i198 + 1))).bind fun w203 => some w203) else ((pV w53 a0 13 17 (.int 2)).bind fun w128 => F_X13_next_L131  fu a0 w128)) else ((pV w53 a0 13 17 (.int 1)).bind fun w81 => F_X13_next_L84  fu a0 w81)) else ((pV w53 a0 13 17 (.int 0)).bind fun w62 => some w62)) else ((fI w a0 13 15).bind fun i23 => (pV w a0 13 15 (.int (i23 + 1))).bind fun w28 => rc8 a0 w28)
def F_X13_next_L8 : Nat → Option Nat → cH → Option cH
  | 0, _, _ => none
  | n9 + 1, a0, w => F_X13_next_B8  (F_X13_next_L8  n9) a0 w
def F_X13_next (a0 : Option Nat) (w : cH) : Option cH :=
  if tg w a0 = some 13 then ((fI w a0 13 16).bind fun i2 => (pV w a0 13 15 (.int i2)).bind fun w5 => F_X13_next_L8  fu a0 w5) else none
abbrev rm_X13_next : Room := { frames := 1, cells := 0, slots := 0, locals := 22 }
set_option maxHeartbeats 4000000 in
set_option maxRecDepth 100000 in
theorem ct_X13_next {l : Launch} {g : Gt} (G : Gok g) {a0 : Option Nat} {w : cH}  {w9 : cH} (hF : F_X13_next a0 w = some w9) : tg w a0 = some 13 ∧ Mx l yX13_next (ws_ yX13_next cX13_next 2 none) rm_X13_next g [va_rf a0] w (.returned none) w9 0 0 := by
  unfold F_X13_next at hF
  obtain ⟨ht, hF⟩ := bg hF
  refine ⟨ht, mk_ct cX13_next 2 none "CarryFairModel" (plainFor_of_name (by decide)) rfl (lg_le ⟨cr _, trivial⟩ (Nat.le_of_ble_eq_true rfl)) (av_ok ⟨cr _, trivial⟩) G (fun x B hl hR hin hh => ?_)⟩
  show J g x _ _ 0 0 w 0 0 0 [some (va_rf a0), none] []
  have lp131 : ∀ (n9 : Nat) (a0 : Option Nat) (w : cH), F_X13_next_L131  n9 a0 w = some w9 → J g x (.returned none) w9 0 0 w 0 0 131 [some (va_rf a0), none] [] := by
    intro n9
    induction n9 with
    | zero => intro a0 w hF; cases hF
    | succ n131 ih131 =>
      intro a0 w hF
      have hF : F_X13_next_B131  (F_X13_next_L131  n131) a0 w = some w9 := hF
      unfold F_X13_next_B131 at hF
      refine j_aload_n B dX13_next_131 rfl ?_
      refine j_aload_n B dX13_next_132 rfl ?_
      refine j_getI B fl_X13_279 dX13_next_133 hF (fun i133 hF => ?_)
      obtain ⟨i136, e136, hF⟩ := bo hF
      refine j_rV (st2 := [.int i136]) B [.int i133] [] cv_X13_285 dX13_next_136 hl hR (ct_X13_byteAt G e136) rfl rfl rfl rfl trivial (Nat.le_of_ble_eq_true rfl) ?_
      refine j_bipush (v := 48) B dX13_next_139 (by decide) ?_
      refine j_bipush (v := 57) B dX13_next_141 (by decide) ?_
      refine j_rS (st2 := [.int (F_X13_within i136 48 57)]) B [.int i136, .int 48, .int 57] [] cs_X13_77 dX13_next_143 hl hR (ct_X13_within G) rfl rfl rfl rfl trivial (Nat.le_of_ble_eq_true rfl) ?_
      refine j_if_eq (tgt := 206) B dX13_next_146 (by decide) hF (fun h146 hF => ?_) (fun h146 hF => ?_)
      · exact j_lV B rfl dX13_next_206 hF (by decide) (by decide)
      · refine j_aload_n B dX13_next_149 rfl ?_
        refine j_sipush (v := 10000) B dX13_next_150 (by decide) ?_
        refine j_bipush (v := 10) B dX13_next_153 (by decide) ?_
        refine j_aload_n B dX13_next_155 rfl ?_
        refine j_getI B fl_X13_288 dX13_next_156 hF (fun i156 hF => ?_)
        refine j_imul B dX13_next_159 ?_
        refine j_aload_n B dX13_next_160 rfl ?_
        refine j_aload_n B dX13_next_161 rfl ?_
        refine j_getI B fl_X13_279 dX13_next_162 hF (fun i162 hF => ?_)
        obtain ⟨i165, e165, hF⟩ := bo hF
        refine j_rV (st2 := [.int i165, .int (10 * i156), .int 10000, va_rf a0]) B [.int i162] [.int (10 * i156), .int 10000, va_rf a0] cv_X13_285 dX13_next_165 hl hR (ct_X13_byteAt G e165) rfl rfl rfl rfl ⟨rfl, rfl, cr _, trivial⟩ (Nat.le_of_ble_eq_true rfl) ?_
        refine j_iadd B dX13_next_168 ?_
        refine j_bipush (v := 48) B dX13_next_169 (by decide) ?_
        refine j_isub B dX13_next_171 ?_
        refine j_rS (st2 := [.int (F_J3_min 10000 (((10 * i156) + i165) - 48)), va_rf a0]) B [.int 10000, .int (((10 * i156) + i165) - 48)] [va_rf a0] cs_X13_136 dX13_next_172 hl hR (ct_J3_min G) rfl rfl rfl rfl ⟨cr _, trivial⟩ (Nat.le_of_ble_eq_true rfl) ?_
        refine j_putV B fp_X13_288 (fun h => by cases h) rfl rfl dX13_next_175 hF (fun w175 hF => ?_)
        refine j_aload_n B dX13_next_178 rfl ?_
        refine j_dup B dX13_next_179 (cr _) ?_
        refine j_getI B fl_X13_279 dX13_next_180 hF (fun i180 hF => ?_)
        refine j_iconst (v := 1) B dX13_next_183 (by decide) ?_
        refine j_iadd B dX13_next_184 ?_
        refine j_putV B fp_X13_279 (fun h => by cases h) rfl rfl dX13_next_185 hF (fun w185 hF => ?_)
        refine j_goto (tgt := 131) B dX13_next_188 (by decide) ?_
        exact ih131 a0 w185 hF
  have lp84 : ∀ (n9 : Nat) (a0 : Option Nat) (w : cH), F_X13_next_L84  n9 a0 w = some w9 → J g x (.returned none) w9 0 0 w 0 0 84 [some (va_rf a0), none] [] := by
    intro n9
    induction n9 with
    | zero => intro a0 w hF; cases hF
    | succ n84 ih84 =>
      intro a0 w hF
      have hF : F_X13_next_B84  (F_X13_next_L84  n84) a0 w = some w9 := hF
      unfold F_X13_next_B84 at hF
      refine j_aload_n B dX13_next_84 rfl ?_
      refine j_aload_n B dX13_next_85 rfl ?_
      refine j_getI B fl_X13_279 dX13_next_86 hF (fun i86 hF => ?_)
      obtain ⟨i89, e89, hF⟩ := bo hF
      refine j_rV (st2 := [.int i89]) B [.int i86] [] cv_X13_285 dX13_next_89 hl hR (ct_X13_byteAt G e89) rfl rfl rfl rfl trivial (Nat.le_of_ble_eq_true rfl) ?_
      refine j_bipush (v := 97) B dX13_next_92 (by decide) ?_
      refine j_bipush (v := 122) B dX13_next_94 (by decide) ?_
      refine j_rS (st2 := [.int (F_X13_within i89 97 122)]) B [.int i89, .int 97, .int 122] [] cs_X13_77 dX13_next_96 hl hR (ct_X13_within G) rfl rfl rfl rfl trivial (Nat.le_of_ble_eq_true rfl) ?_
      refine j_if_eq (tgt := 206) B dX13_next_99 (by decide) hF (fun h99 hF => ?_) (fun h99 hF => ?_)
      · exact j_lV B rfl dX13_next_206 hF (by decide) (by decide)
      · refine j_aload_n B dX13_next_102 rfl ?_
        refine j_dup B dX13_next_103 (cr _) ?_
        refine j_getI B fl_X13_279 dX13_next_104 hF (fun i104 hF => ?_)
        refine j_iconst (v := 1) B dX13_next_107 (by decide) ?_
        refine j_iadd B dX13_next_108 ?_
        refine j_putV B fp_X13_279 (fun h => by cases h) rfl rfl dX13_next_109 hF (fun w109 hF => ?_)
        refine j_goto (tgt := 84) B dX13_next_112 (by decide) ?_
        exact ih84 a0 w109 hF
  have lp8 : ∀ (n9 : Nat) (a0 : Option Nat) (w : cH), F_X13_next_L8  n9 a0 w = some w9 → J g x (.returned none) w9 0 0 w 0 0 8 [some (va_rf a0), none] [] := by
    intro n9
    induction n9 with
    | zero => intro a0 w hF; cases hF
    | succ n8 ih8 =>
      intro a0 w hF
      have hF : F_X13_next_B8  (F_X13_next_L8  n8) a0 w = some w9 := hF
      unfold F_X13_next_B8 at hF
      refine j_aload_n B dX13_next_8 rfl ?_
      refine j_aload_n B dX13_next_9 rfl ?_
      refine j_getI B fl_X13_282 dX13_next_10 hF (fun i10 hF => ?_)
      obtain ⟨i13, e13, hF⟩ := bo hF
      refine j_rV (st2 := [.int i13]) B [.int i10] [] cv_X13_285 dX13_next_13 hl hR (ct_X13_byteAt G e13) rfl rfl rfl rfl trivial (Nat.le_of_ble_eq_true rfl) ?_
      refine j_bipush (v := 32) B dX13_next_16 (by decide) ?_
      refine j_icmp_ne (tgt := 34) B dX13_next_18 (by decide) hF (fun h18 hF => ?_) (fun h18 hF => ?_)
      · refine j_aload_n B dX13_next_34 rfl ?_
        refine j_aload_n B dX13_next_35 rfl ?_
        refine j_getI B fl_X13_282 dX13_next_36 hF (fun i36 hF => ?_)
        obtain ⟨i39, e39, hF⟩ := bo hF
        refine j_rV (st2 := [.int i39]) B [.int i36] [] cv_X13_285 dX13_next_39 hl hR (ct_X13_byteAt G e39) rfl rfl rfl rfl trivial (Nat.le_of_ble_eq_true rfl) ?_
        refine j_istore_n (vs' := [some (va_rf a0), some (.int i39)]) B dX13_next_42 (by decide) rfl ?_
        refine j_aload_n B dX13_next_43 rfl ?_
        refine j_aload_n B dX13_next_44 rfl ?_
        refine j_getI B fl_X13_282 dX13_next_45 hF (fun i45 hF => ?_)
        refine j_putV B fp_X13_279 (fun h => by cases h) rfl rfl dX13_next_48 hF (fun w48 hF => ?_)
        refine j_aload_n B dX13_next_51 rfl ?_
        refine j_iconst (v := 0) B dX13_next_52 (by decide) ?_
        refine j_putV B fp_X13_288 (fun h => by cases h) rfl rfl dX13_next_53 hF (fun w53 hF => ?_)
        refine j_iload_n B dX13_next_56 rfl ?_
        refine j_if_ge (tgt := 68) B dX13_next_57 (by decide) hF (fun h57 hF => ?_) (fun h57 hF => ?_)
        · refine j_iload_n B dX13_next_68 rfl ?_
          refine j_bipush (v := 97) B dX13_next_69 (by decide) ?_
          refine j_bipush (v := 122) B dX13_next_71 (by decide) ?_
          refine j_rS (st2 := [.int (F_X13_within i39 97 122)]) B [.int i39, .int 97, .int 122] [] cs_X13_77 dX13_next_73 hl hR (ct_X13_within G) rfl rfl rfl rfl trivial (Nat.le_of_ble_eq_true rfl) ?_
          refine j_if_eq (tgt := 115) B dX13_next_76 (by decide) hF (fun h76 hF => ?_) (fun h76 hF => ?_)
          · refine j_iload_n B dX13_next_115 rfl ?_
            refine j_bipush (v := 48) B dX13_next_116 (by decide) ?_
            refine j_bipush (v := 57) B dX13_next_118 (by decide) ?_
            refine j_rS (st2 := [.int (F_X13_within i39 48 57)]) B [.int i39, .int 48, .int 57] [] cs_X13_77 dX13_next_120 hl hR (ct_X13_within G) rfl rfl rfl rfl trivial (Nat.le_of_ble_eq_true rfl) ?_
            refine j_if_eq (tgt := 191) B dX13_next_123 (by decide) hF (fun h123 hF => ?_) (fun h123 hF => ?_)
            · refine j_aload_n B dX13_next_191 rfl ?_
              refine j_iconst (v := 3) B dX13_next_192 (by decide) ?_
              refine j_putV B fp_X13_291 (fun h => by cases h) rfl rfl dX13_next_193 hF (fun w193 hF => ?_)
              refine j_aload_n B dX13_next_196 rfl ?_
              refine j_dup B dX13_next_197 (cr _) ?_
              refine j_getI B fl_X13_279 dX13_next_198 hF (fun i198 hF => ?_)
              refine j_iconst (v := 1) B dX13_next_201 (by decide) ?_
              refine j_iadd B dX13_next_202 ?_
              refine j_putV B fp_X13_279 (fun h => by cases h) rfl rfl dX13_next_203 hF (fun w203 hF => ?_)
              exact j_lV B rfl dX13_next_206 hF (by decide) (by decide)
            · refine j_aload_n B dX13_next_126 rfl ?_
              refine j_iconst (v := 2) B dX13_next_127 (by decide) ?_
              refine j_putV B fp_X13_291 (fun h => by cases h) rfl rfl dX13_next_128 hF (fun w128 hF => ?_)
              refine j_msk [true, false] rfl ?_
              exact lp131 fu a0 w128 hF
          · refine j_aload_n B dX13_next_79 rfl ?_
            refine j_iconst (v := 1) B dX13_next_80 (by decide) ?_
            refine j_putV B fp_X13_291 (fun h => by cases h) rfl rfl dX13_next_81 hF (fun w81 hF => ?_)
            refine j_msk [true, false] rfl ?_
            exact lp84 fu a0 w81 hF
        · refine j_aload_n B dX13_next_60 rfl ?_
          refine j_iconst (v := 0) B dX13_next_61 (by decide) ?_
          refine j_putV B fp_X13_291 (fun h => by cases h) rfl rfl dX13_next_62 hF (fun w62 hF => ?_)
          refine j_goto (tgt := 206) B dX13_next_65 (by decide) ?_
          exact j_lV B rfl dX13_next_206 hF (by decide) (by decide)
      · refine j_aload_n B dX13_next_21 rfl ?_
        refine j_dup B dX13_next_22 (cr _) ?_
        refine j_getI B fl_X13_282 dX13_next_23 hF (fun i23 hF => ?_)
        refine j_iconst (v := 1) B dX13_next_26 (by decide) ?_
        refine j_iadd B dX13_next_27 ?_
        refine j_putV B fp_X13_282 (fun h => by cases h) rfl rfl dX13_next_28 hF (fun w28 hF => ?_)
        refine j_goto (tgt := 8) B dX13_next_31 (by decide) ?_
        exact ih8 a0 w28 hF
  refine j_aload_n B dX13_next_0 rfl ?_
  refine j_aload_n B dX13_next_1 rfl ?_
  refine j_getI B fl_X13_279 dX13_next_2 hF (fun i2 hF => ?_)
  refine j_putV B fp_X13_282 (fun h => by cases h) rfl rfl dX13_next_5 hF (fun w5 hF => ?_)
  exact lp8 fu a0 w5 hF
theorem fl_X13_291 : FL "CarryFairModel" 291 13 17 := ⟨RX13, TX13, 30, rfl, by decide, in_X13, Or.inl q1352⟩
def F_X13_isWord_J68 (rc32 : (Option Nat) → (Option Nat) → Int32 → Int32 → cH → Option Int32) (a0 : Option Nat) (a1 : Option Nat) (x3 : Int32) (s0 : Int32) (w : cH) : Option Int32 :=
  rc32 a0 a1 s0 (x3 + 1) w
def F_X13_isWord_B32 (rc32 : Option Nat → Option Nat → Int32 → Int32 → cH → Option Int32) (a0 : Option Nat) (a1 : Option Nat) (x2 : Int32) (x3 : Int32) (w : cH) : Option Int32 :=
  (sln w a1).bind fun i34 =>if i34 ≤ x3 then (some (x2 &&& 1)) else (if x2 = 0 then (some (x2 &&& 1)) else ((fA w a0 13 13).bind fun a45p => (fI w a0 13 15).bind fun i49 => (aI w a45p 100 (i49 + x3)).bind fun i54 => (chr w a1 x3).bind fun i57 =>if ¬ i54 = i57 then (F_X13_isWord_J68  rc32 a0 a1 x3 0 w) else (F_X13_isWord_J68  rc32 a0 a1 x3 1 w)))
def F_X13_isWord_L32 : Nat → Option Nat → Option Nat → Int32 → Int32 → cH → Option Int32
  | 0, _, _, _, _, _ => none
  | n9 + 1, a0, a1, x2, x3, w => F_X13_isWord_B32  (F_X13_isWord_L32  n9) a0 a1 x2 x3 w
def F_X13_isWord_J29 (a0 : Option Nat) (a1 : Option Nat) (s0 : Int32) (w : cH) : Option Int32 :=
  F_X13_isWord_L32  fu a0 a1 s0 0 w
def F_X13_isWord_J28 (a0 : Option Nat) (a1 : Option Nat) (w : cH) : Option Int32 :=
  F_X13_isWord_J29  a0 a1 0 w
def F_X13_isWord (a0 : Option Nat) (a1 : Option Nat) (w : cH) : Option Int32 :=
  if tg w a0 = some 13 then ((fI w a0 13 17).bind fun i1 =>if ¬ i1 = 1 then (F_X13_isWord_J28  a0 a1 w) else ((fI w a0 13 16).bind fun i9 => (fI w a0 13 15).bind fun i13 => (sln w a1).bind fun i18 =>if ¬ (i9 - i13) = i18 then (F_X13_isWord_J28  a0 a1 w) else (F_X13_isWord_J29  a0 a1 1 w))) else none
abbrev rm_X13_isWord : Room := { frames := 5, cells := 0, slots := 0, locals := 121 }
set_option maxHeartbeats 4000000 in
set_option maxRecDepth 100000 in
theorem ct_X13_isWord {l : Launch} {g : Gt} (G : Gok g) {a0 : Option Nat} {a1 : Option Nat} {w : cH} {r9 : Int32} (hF : F_X13_isWord a0 a1 w = some r9) : tg w a0 = some 13 ∧ Mx l yX13_isWord (ws_ yX13_isWord cX13_isWord 4 (some .boolean)) rm_X13_isWord g [va_rf a0, va_rf a1] w (.returned (some (.int r9))) w 0 0 := by
  unfold F_X13_isWord at hF
  obtain ⟨ht, hF⟩ := bg hF
  refine ⟨ht, mk_ct cX13_isWord 4 (some .boolean) "CarryFairModel" (plainFor_of_name (by decide)) rfl (lg_le ⟨cr _, cr _, trivial⟩ (Nat.le_of_ble_eq_true rfl)) (av_ok ⟨cr _, cr _, trivial⟩) G (fun x B hl hR hin hh => ?_)⟩
  show J g x _ _ 0 0 w 0 0 0 [some (va_rf a0), some (va_rf a1), none, none] []
  have lp32 : ∀ (n9 : Nat) (a0 : Option Nat) (a1 : Option Nat) (x2 : Int32) (x3 : Int32), F_X13_isWord_L32  n9 a0 a1 x2 x3 w = some r9 → J g x (.returned (some (.int r9))) w 0 0 w 0 0 32 [some (va_rf a0), some (va_rf a1), some (.int x2), some (.int x3)] [] := by
    intro n9
    induction n9 with
    | zero => intro a0 a1 x2 x3 hF; cases hF
    | succ n32 ih32 =>
      intro a0 a1 x2 x3 hF
      have hF : F_X13_isWord_B32  (F_X13_isWord_L32  n32) a0 a1 x2 x3 w = some r9 := hF
      unfold F_X13_isWord_B32 at hF
      have jb68 : ∀ (a0 : Option Nat) (a1 : Option Nat) (x3 : Int32) (s0 : Int32), F_X13_isWord_J68  (F_X13_isWord_L32  n32) a0 a1 x3 s0 w = some r9 → J g x (.returned (some (.int r9))) w 0 0 w 0 0 68 [some (va_rf a0), some (va_rf a1), none, some (.int x3)] [.int s0] := by
        intro a0 a1 x3 s0 hF
        unfold F_X13_isWord_J68 at hF
        refine j_istore_n (vs' := [some (va_rf a0), some (va_rf a1), some (.int s0), some (.int x3)]) B dX13_isWord_68 (by decide) rfl ?_
        refine j_iinc (v := x3 + 1) (vs' := [some (va_rf a0), some (va_rf a1), some (.int s0), some (.int (x3 + 1))]) B dX13_isWord_69 (by decide) rfl rfl rfl ?_
        refine j_goto (tgt := 32) B dX13_isWord_72 (by decide) ?_
        exact ih32 a0 a1 s0 (x3 + 1) hF
      refine j_iload_n B dX13_isWord_32 rfl ?_
      refine j_aload_n B dX13_isWord_33 rfl ?_
      obtain ⟨i34, e34, hF⟩ := bo hF
      refine j_rStr (st2 := [.int i34, .int x3]) B [] [.int x3] (cstr_length q1811) dX13_isWord_34 hl hR (ct_str_length G e34) rfl rfl rfl rfl ⟨rfl, trivial⟩ (Nat.le_of_ble_eq_true rfl) ?_
      refine j_icmp_ge (tgt := 75) B dX13_isWord_37 (by decide) hF (fun h37 hF => ?_) (fun h37 hF => ?_)
      · refine j_iload_n B dX13_isWord_75 rfl ?_
        exact j_lB B rfl dX13_isWord_76 hF (by decide) (by decide)
      · refine j_iload_n B dX13_isWord_40 rfl ?_
        refine j_if_eq (tgt := 75) B dX13_isWord_41 (by decide) hF (fun h41 hF => ?_) (fun h41 hF => ?_)
        · refine j_iload_n B dX13_isWord_75 rfl ?_
          exact j_lB B rfl dX13_isWord_76 hF (by decide) (by decide)
        · refine j_aload_n B dX13_isWord_44 rfl ?_
          refine j_getA B fl_X13_34 dX13_isWord_45 hF (fun a45p hF => ?_)
          refine j_aload_n B dX13_isWord_48 rfl ?_
          refine j_getI B fl_X13_282 dX13_isWord_49 hF (fun i49 hF => ?_)
          refine j_iload_n B dX13_isWord_52 rfl ?_
          refine j_iadd B dX13_isWord_53 ?_
          refine j_iaload B dX13_isWord_54 hF (fun i54 hF => ?_)
          refine j_aload_n B dX13_isWord_55 rfl ?_
          refine j_iload_n B dX13_isWord_56 rfl ?_
          obtain ⟨i57, e57, hF⟩ := bo hF
          refine j_rStr (st2 := [.int i57, .int i54]) B [.int x3] [.int i54] (cstr_charAt q1819) dX13_isWord_57 hl hR (ct_str_charAt G e57) rfl rfl rfl rfl ⟨rfl, trivial⟩ (Nat.le_of_ble_eq_true rfl) ?_
          refine j_icmp_ne (tgt := 67) B dX13_isWord_60 (by decide) hF (fun h60 hF => ?_) (fun h60 hF => ?_)
          · refine j_iconst (v := 0) B dX13_isWord_67 (by decide) ?_
            refine j_msk [true, true, false, true] rfl ?_
            exact jb68 a0 a1 x3 0 hF
          · refine j_iconst (v := 1) B dX13_isWord_63 (by decide) ?_
            refine j_goto (tgt := 68) B dX13_isWord_64 (by decide) ?_
            refine j_msk [true, true, false, true] rfl ?_
            exact jb68 a0 a1 x3 1 hF
  have jb29 : ∀ (a0 : Option Nat) (a1 : Option Nat) (s0 : Int32), F_X13_isWord_J29  a0 a1 s0 w = some r9 → J g x (.returned (some (.int r9))) w 0 0 w 0 0 29 [some (va_rf a0), some (va_rf a1), none, none] [.int s0] := by
    intro a0 a1 s0 hF
    unfold F_X13_isWord_J29 at hF
    refine j_istore_n (vs' := [some (va_rf a0), some (va_rf a1), some (.int s0), none]) B dX13_isWord_29 (by decide) rfl ?_
    refine j_iconst (v := 0) B dX13_isWord_30 (by decide) ?_
    refine j_istore_n (vs' := [some (va_rf a0), some (va_rf a1), some (.int s0), some (.int 0)]) B dX13_isWord_31 (by decide) rfl ?_
    exact lp32 fu a0 a1 s0 0 hF
  have jb28 : ∀ (a0 : Option Nat) (a1 : Option Nat), F_X13_isWord_J28  a0 a1 w = some r9 → J g x (.returned (some (.int r9))) w 0 0 w 0 0 28 [some (va_rf a0), some (va_rf a1), none, none] [] := by
    intro a0 a1 hF
    unfold F_X13_isWord_J28 at hF
    refine j_iconst (v := 0) B dX13_isWord_28 (by decide) ?_
    exact jb29 a0 a1 0 hF
  refine j_aload_n B dX13_isWord_0 rfl ?_
  refine j_getI B fl_X13_291 dX13_isWord_1 hF (fun i1 hF => ?_)
  refine j_iconst (v := 1) B dX13_isWord_4 (by decide) ?_
  refine j_icmp_ne (tgt := 28) B dX13_isWord_5 (by decide) hF (fun h5 hF => ?_) (fun h5 hF => ?_)
  · exact jb28 a0 a1 hF
  · refine j_aload_n B dX13_isWord_8 rfl ?_
    refine j_getI B fl_X13_279 dX13_isWord_9 hF (fun i9 hF => ?_)
    refine j_aload_n B dX13_isWord_12 rfl ?_
    refine j_getI B fl_X13_282 dX13_isWord_13 hF (fun i13 hF => ?_)
    refine j_isub B dX13_isWord_16 ?_
    refine j_aload_n B dX13_isWord_17 rfl ?_
    obtain ⟨i18, e18, hF⟩ := bo hF
    refine j_rStr (st2 := [.int i18, .int (i9 - i13)]) B [] [.int (i9 - i13)] (cstr_length q1811) dX13_isWord_18 hl hR (ct_str_length G e18) rfl rfl rfl rfl ⟨rfl, trivial⟩ (Nat.le_of_ble_eq_true rfl) ?_
    refine j_icmp_ne (tgt := 28) B dX13_isWord_21 (by decide) hF (fun h21 hF => ?_) (fun h21 hF => ?_)
    · exact jb28 a0 a1 hF
    · refine j_iconst (v := 1) B dX13_isWord_24 (by decide) ?_
      refine j_goto (tgt := 29) B dX13_isWord_25 (by decide) ?_
      exact jb29 a0 a1 1 hF
theorem fl_X13_53 : FL "CarryFairModel" 53 13 20 := ⟨RX13, TX13, 30, rfl, by decide, in_X13, Or.inl q1355⟩
theorem cv_X13_316 : CV "CarryFairModel" 316 13 yX13_isWord cX13_isWord 4 (some .boolean) 1 := ⟨_, _, rfl, lw_V q1807 q1809 qs118 q142 q1810, by decide +kernel⟩
def F_X13_kindTold_J31 (rc4 : (Option Nat) → Int32 → Int32 → cH → Option Int32) (a0 : Option Nat) (x2 : Int32) (s0 : Int32) (w : cH) : Option Int32 :=
  rc4 a0 s0 (x2 + 1) w
def F_X13_kindTold_B4 (rc4 : Option Nat → Int32 → Int32 → cH → Option Int32) (a0 : Option Nat) (x1 : Int32) (x2 : Int32) (w : cH) : Option Int32 :=
  (fA w a0 13 20).bind fun a6p => (aL w a6p).bind fun i9 =>if i9 ≤ x2 then (some (x1)) else ((fA w a0 13 20).bind fun a15p => (aA w a15p 105 x2).bind fun a19p => (F_X13_isWord a0 a19p w).bind fun i20 =>if i20 = 0 then (F_X13_kindTold_J31  rc4 a0 x2 x1 w) else (F_X13_kindTold_J31  rc4 a0 x2 x2 w))
def F_X13_kindTold_L4 : Nat → Option Nat → Int32 → Int32 → cH → Option Int32
  | 0, _, _, _, _ => none
  | n9 + 1, a0, x1, x2, w => F_X13_kindTold_B4  (F_X13_kindTold_L4  n9) a0 x1 x2 w
def F_X13_kindTold (a0 : Option Nat) (w : cH) : Option Int32 :=
  if tg w a0 = some 13 then (F_X13_kindTold_L4  fu a0 (-1) 0 w) else none
abbrev rm_X13_kindTold : Room := { frames := 6, cells := 0, slots := 0, locals := 144 }
set_option maxHeartbeats 4000000 in
set_option maxRecDepth 100000 in
theorem ct_X13_kindTold {l : Launch} {g : Gt} (G : Gok g) {a0 : Option Nat} {w : cH} {r9 : Int32} (hF : F_X13_kindTold a0 w = some r9) : tg w a0 = some 13 ∧ Mx l yX13_kindTold (ws_ yX13_kindTold cX13_kindTold 3 (some .int)) rm_X13_kindTold g [va_rf a0] w (.returned (some (.int r9))) w 0 0 := by
  unfold F_X13_kindTold at hF
  obtain ⟨ht, hF⟩ := bg hF
  refine ⟨ht, mk_ct cX13_kindTold 3 (some .int) "CarryFairModel" (plainFor_of_name (by decide)) rfl (lg_le ⟨cr _, trivial⟩ (Nat.le_of_ble_eq_true rfl)) (av_ok ⟨cr _, trivial⟩) G (fun x B hl hR hin hh => ?_)⟩
  show J g x _ _ 0 0 w 0 0 0 [some (va_rf a0), none, none] []
  have lp4 : ∀ (n9 : Nat) (a0 : Option Nat) (x1 : Int32) (x2 : Int32), F_X13_kindTold_L4  n9 a0 x1 x2 w = some r9 → J g x (.returned (some (.int r9))) w 0 0 w 0 0 4 [some (va_rf a0), some (.int x1), some (.int x2)] [] := by
    intro n9
    induction n9 with
    | zero => intro a0 x1 x2 hF; cases hF
    | succ n4 ih4 =>
      intro a0 x1 x2 hF
      have hF : F_X13_kindTold_B4  (F_X13_kindTold_L4  n4) a0 x1 x2 w = some r9 := hF
      unfold F_X13_kindTold_B4 at hF
      have jb31 : ∀ (a0 : Option Nat) (x2 : Int32) (s0 : Int32), F_X13_kindTold_J31  (F_X13_kindTold_L4  n4) a0 x2 s0 w = some r9 → J g x (.returned (some (.int r9))) w 0 0 w 0 0 31 [some (va_rf a0), none, some (.int x2)] [.int s0] := by
        intro a0 x2 s0 hF
        unfold F_X13_kindTold_J31 at hF
        refine j_istore_n (vs' := [some (va_rf a0), some (.int s0), some (.int x2)]) B dX13_kindTold_31 (by decide) rfl ?_
        refine j_iinc (v := x2 + 1) (vs' := [some (va_rf a0), some (.int s0), some (.int (x2 + 1))]) B dX13_kindTold_32 (by decide) rfl rfl rfl ?_
        refine j_goto (tgt := 4) B dX13_kindTold_35 (by decide) ?_
        exact ih4 a0 s0 (x2 + 1) hF
      refine j_iload_n B dX13_kindTold_4 rfl ?_
      refine j_aload_n B dX13_kindTold_5 rfl ?_
      refine j_getA B fl_X13_53 dX13_kindTold_6 hF (fun a6p hF => ?_)
      refine j_alen B dX13_kindTold_9 hF (fun i9 hF => ?_)
      refine j_icmp_ge (tgt := 38) B dX13_kindTold_10 (by decide) hF (fun h10 hF => ?_) (fun h10 hF => ?_)
      · refine j_iload_n B dX13_kindTold_38 rfl ?_
        exact j_lI B rfl dX13_kindTold_39 hF (by decide) (by decide)
      · refine j_aload_n B dX13_kindTold_13 rfl ?_
        refine j_aload_n B dX13_kindTold_14 rfl ?_
        refine j_getA B fl_X13_53 dX13_kindTold_15 hF (fun a15p hF => ?_)
        refine j_iload_n B dX13_kindTold_18 rfl ?_
        refine j_aaload B 105 rfl rfl dX13_kindTold_19 hF (fun a19p hF => ?_)
        obtain ⟨i20, e20, hF⟩ := bo hF
        refine j_rV (st2 := [.int i20]) B [va_rf a19p] [] cv_X13_316 dX13_kindTold_20 hl hR (ct_X13_isWord G e20) rfl rfl rfl rfl trivial (Nat.le_of_ble_eq_true rfl) ?_
        refine j_if_eq (tgt := 30) B dX13_kindTold_23 (by decide) hF (fun h23 hF => ?_) (fun h23 hF => ?_)
        · refine j_iload_n B dX13_kindTold_30 rfl ?_
          refine j_msk [true, false, true] rfl ?_
          exact jb31 a0 x2 x1 hF
        · refine j_iload_n B dX13_kindTold_26 rfl ?_
          refine j_goto (tgt := 31) B dX13_kindTold_27 (by decide) ?_
          refine j_msk [true, false, true] rfl ?_
          exact jb31 a0 x2 x2 hF
  refine j_iconst (v := (-1)) B dX13_kindTold_0 (by decide) ?_
  refine j_istore_n (vs' := [some (va_rf a0), some (.int (-1)), none]) B dX13_kindTold_1 (by decide) rfl ?_
  refine j_iconst (v := 0) B dX13_kindTold_2 (by decide) ?_
  refine j_istore_n (vs' := [some (va_rf a0), some (.int (-1)), some (.int 0)]) B dX13_kindTold_3 (by decide) rfl ?_
  exact lp4 fu a0 (-1) 0 hF
theorem fl_X13_302 : FL "CarryFairModel" 302 13 19 := ⟨RX13, TX13, 30, rfl, by decide, in_X13, Or.inl q1354⟩
theorem fp_X13_302 : FP "CarryFairModel" 302 13 19 .boolean false := ⟨RX13, TX13, 30, rfl, by decide, in_X13, Or.inl q1354, rfl, (fun h => by cases h), by decide +kernel, ap_X13, tyX13, tyX13_ok⟩
theorem cv_X13_306 : CV "CarryFairModel" 306 13 yX13_next cX13_next 2 none 0 := ⟨_, _, rfl, lw_V q1791 q1793 qs114 q142 q1794, by decide +kernel⟩
def F_X13_must_J17 (a0 : Option Nat) (s0 : Int32) (s1 : Option Nat) (w : cH) : Option cH :=
  if s0 &&& 1 = s0 then ((pV w s1 13 19 (.int s0)).bind fun w17 => (fI w17 a0 13 19).bind fun i21 =>if ¬ i21 = 0 then (some w17) else ((F_X13_next a0 w17).bind fun w28 => some w28)) else none
def F_X13_must_J12 (a0 : Option Nat) (s0 : Option Nat) (w : cH) : Option cH :=
  F_X13_must_J17  a0 1 s0 w
def F_X13_must (a0 : Option Nat) (x1 : Int32) (w : cH) : Option cH :=
  if tg w a0 = some 13 then ((fI w a0 13 19).bind fun i2 =>if ¬ i2 = 0 then (F_X13_must_J12  a0 a0 w) else (if ¬ x1 = 0 then (F_X13_must_J17  a0 0 a0 w) else (F_X13_must_J12  a0 a0 w))) else none
abbrev rm_X13_must : Room := { frames := 2, cells := 0, slots := 0, locals := 43 }
set_option maxHeartbeats 4000000 in
set_option maxRecDepth 100000 in
theorem ct_X13_must {l : Launch} {g : Gt} (G : Gok g) {a0 : Option Nat} {x1 : Int32} {w : cH}  {w9 : cH} (hF : F_X13_must a0 x1 w = some w9) : tg w a0 = some 13 ∧ Mx l yX13_must (ws_ yX13_must cX13_must 2 none) rm_X13_must g [va_rf a0, .int x1] w (.returned none) w9 0 0 := by
  unfold F_X13_must at hF
  obtain ⟨ht, hF⟩ := bg hF
  refine ⟨ht, mk_ct cX13_must 2 none "CarryFairModel" (plainFor_of_name (by decide)) rfl (lg_le ⟨cr _, rfl, trivial⟩ (Nat.le_of_ble_eq_true rfl)) (av_ok ⟨cr _, rfl, trivial⟩) G (fun x B hl hR hin hh => ?_)⟩
  show J g x _ _ 0 0 w 0 0 0 [some (va_rf a0), some (.int x1)] []
  have jb17 : ∀ (a0 : Option Nat) (s0 : Int32) (s1 : Option Nat) (w : cH), F_X13_must_J17  a0 s0 s1 w = some w9 → J g x (.returned none) w9 0 0 w 0 0 17 [some (va_rf a0), none] [.int s0, va_rf s1] := by
    intro a0 s0 s1 w hF
    unfold F_X13_must_J17 at hF
    obtain ⟨hz, hF⟩ := bg hF
    refine j_putV B fp_X13_302 (fun h => by cases h) (nar_b hz) (fit_b hz) dX13_must_17 hF (fun w17 hF => ?_)
    refine j_aload_n B dX13_must_20 rfl ?_
    refine j_getI B fl_X13_302 dX13_must_21 hF (fun i21 hF => ?_)
    refine j_if_ne (tgt := 31) B dX13_must_24 (by decide) hF (fun h24 hF => ?_) (fun h24 hF => ?_)
    · exact j_lV B rfl dX13_must_31 hF (by decide) (by decide)
    · refine j_aload_n B dX13_must_27 rfl ?_
      obtain ⟨w28, e28, hF⟩ := bo hF
      refine j_rV (st2 := []) B [] [] cv_X13_306 dX13_must_28 hl hR (ct_X13_next G e28) rfl rfl rfl rfl trivial (Nat.le_of_ble_eq_true rfl) ?_
      exact j_lV B rfl dX13_must_31 hF (by decide) (by decide)
  have jb12 : ∀ (a0 : Option Nat) (s0 : Option Nat) (w : cH), F_X13_must_J12  a0 s0 w = some w9 → J g x (.returned none) w9 0 0 w 0 0 12 [some (va_rf a0), none] [va_rf s0] := by
    intro a0 s0 w hF
    unfold F_X13_must_J12 at hF
    refine j_iconst (v := 1) B dX13_must_12 (by decide) ?_
    refine j_goto (tgt := 17) B dX13_must_13 (by decide) ?_
    exact jb17 a0 1 s0 w hF
  refine j_aload_n B dX13_must_0 rfl ?_
  refine j_aload_n B dX13_must_1 rfl ?_
  refine j_getI B fl_X13_302 dX13_must_2 hF (fun i2 hF => ?_)
  refine j_if_ne (tgt := 12) B dX13_must_5 (by decide) hF (fun h5 hF => ?_) (fun h5 hF => ?_)
  · refine j_msk [true, false] rfl ?_
    exact jb12 a0 a0 w hF
  · refine j_iload_n B dX13_must_8 rfl ?_
    refine j_if_ne (tgt := 16) B dX13_must_9 (by decide) hF (fun h9 hF => ?_) (fun h9 hF => ?_)
    · refine j_iconst (v := 0) B dX13_must_16 (by decide) ?_
      refine j_msk [true, false] rfl ?_
      exact jb17 a0 0 a0 w hF
    · refine j_msk [true, false] rfl ?_
      exact jb12 a0 a0 w hF
theorem cv_X13_309 : CV "CarryFairModel" 309 13 yX13_must cX13_must 2 none 1 := ⟨_, _, rfl, lw_V q1820 q1822 qs119 q142 q1823, by decide +kernel⟩
def F_X13_isNext_J20 (a0 : Option Nat) (s0 : Int32) (w : cH) : Option (Int32 × cH) :=
  if s0 = 0 then (some (s0 &&& 1, w)) else ((F_X13_must a0 1 w).bind fun w27 => some (s0 &&& 1, w27))
def F_X13_isNext_J19 (a0 : Option Nat) (w : cH) : Option (Int32 × cH) :=
  F_X13_isNext_J20  a0 0 w
def F_X13_isNext (a0 : Option Nat) (a1 : Option Nat) (w : cH) : Option (Int32 × cH) :=
  if tg w a0 = some 13 then ((fI w a0 13 19).bind fun i1 =>if ¬ i1 = 0 then (F_X13_isNext_J19  a0 w) else ((F_X13_isWord a0 a1 w).bind fun i9 =>if i9 = 0 then (F_X13_isNext_J19  a0 w) else (F_X13_isNext_J20  a0 1 w))) else none
abbrev rm_X13_isNext : Room := { frames := 6, cells := 0, slots := 0, locals := 144 }
set_option maxHeartbeats 4000000 in
set_option maxRecDepth 100000 in
theorem ct_X13_isNext {l : Launch} {g : Gt} (G : Gok g) {a0 : Option Nat} {a1 : Option Nat} {w : cH} {r9 : Int32} {w9 : cH} (hF : F_X13_isNext a0 a1 w = some (r9, w9)) : tg w a0 = some 13 ∧ Mx l yX13_isNext (ws_ yX13_isNext cX13_isNext 3 (some .boolean)) rm_X13_isNext g [va_rf a0, va_rf a1] w (.returned (some (.int r9))) w9 0 0 := by
  unfold F_X13_isNext at hF
  obtain ⟨ht, hF⟩ := bg hF
  refine ⟨ht, mk_ct cX13_isNext 3 (some .boolean) "CarryFairModel" (plainFor_of_name (by decide)) rfl (lg_le ⟨cr _, cr _, trivial⟩ (Nat.le_of_ble_eq_true rfl)) (av_ok ⟨cr _, cr _, trivial⟩) G (fun x B hl hR hin hh => ?_)⟩
  show J g x _ _ 0 0 w 0 0 0 [some (va_rf a0), some (va_rf a1), none] []
  have jb20 : ∀ (a0 : Option Nat) (s0 : Int32) (w : cH), F_X13_isNext_J20  a0 s0 w = some (r9, w9) → J g x (.returned (some (.int r9))) w9 0 0 w 0 0 20 [some (va_rf a0), none, none] [.int s0] := by
    intro a0 s0 w hF
    unfold F_X13_isNext_J20 at hF
    refine j_istore_n (vs' := [some (va_rf a0), none, some (.int s0)]) B dX13_isNext_20 (by decide) rfl ?_
    refine j_iload_n B dX13_isNext_21 rfl ?_
    refine j_if_eq (tgt := 30) B dX13_isNext_22 (by decide) hF (fun h22 hF => ?_) (fun h22 hF => ?_)
    · refine j_iload_n B dX13_isNext_30 rfl ?_
      exact j_lBw B rfl dX13_isNext_31 hF (by decide) (by decide)
    · refine j_aload_n B dX13_isNext_25 rfl ?_
      refine j_iconst (v := 1) B dX13_isNext_26 (by decide) ?_
      obtain ⟨w27, e27, hF⟩ := bo hF
      refine j_rV (st2 := []) B [.int 1] [] cv_X13_309 dX13_isNext_27 hl hR (ct_X13_must G e27) rfl rfl rfl rfl trivial (Nat.le_of_ble_eq_true rfl) ?_
      refine j_iload_n B dX13_isNext_30 rfl ?_
      exact j_lBw B rfl dX13_isNext_31 hF (by decide) (by decide)
  have jb19 : ∀ (a0 : Option Nat) (w : cH), F_X13_isNext_J19  a0 w = some (r9, w9) → J g x (.returned (some (.int r9))) w9 0 0 w 0 0 19 [some (va_rf a0), none, none] [] := by
    intro a0 w hF
    unfold F_X13_isNext_J19 at hF
    refine j_iconst (v := 0) B dX13_isNext_19 (by decide) ?_
    exact jb20 a0 0 w hF
  refine j_aload_n B dX13_isNext_0 rfl ?_
  refine j_getI B fl_X13_302 dX13_isNext_1 hF (fun i1 hF => ?_)
  refine j_if_ne (tgt := 19) B dX13_isNext_4 (by decide) hF (fun h4 hF => ?_) (fun h4 hF => ?_)
  · refine j_msk [true, false, false] rfl ?_
    exact jb19 a0 w hF
  · refine j_aload_n B dX13_isNext_7 rfl ?_
    refine j_aload_n B dX13_isNext_8 rfl ?_
    obtain ⟨i9, e9, hF⟩ := bo hF
    refine j_rV (st2 := [.int i9]) B [va_rf a1] [] cv_X13_316 dX13_isNext_9 hl hR (ct_X13_isWord G e9) rfl rfl rfl rfl trivial (Nat.le_of_ble_eq_true rfl) ?_
    refine j_if_eq (tgt := 19) B dX13_isNext_12 (by decide) hF (fun h12 hF => ?_) (fun h12 hF => ?_)
    · refine j_msk [true, false, false] rfl ?_
      exact jb19 a0 w hF
    · refine j_iconst (v := 1) B dX13_isNext_15 (by decide) ?_
      refine j_goto (tgt := 20) B dX13_isNext_16 (by decide) ?_
      refine j_msk [true, false, false] rfl ?_
      exact jb20 a0 1 w hF
def F_X13_number_J28 (x3 : Int32) (s0 : Int32) (s1 : Option Nat) (w : cH) : Option (Int32 × cH) :=
  (F_X13_must s1 s0 w).bind fun w28 => some (x3, w28)
def F_X13_number_J27 (x3 : Int32) (s0 : Option Nat) (w : cH) : Option (Int32 × cH) :=
  F_X13_number_J28  x3 0 s0 w
def F_X13_number (a0 : Option Nat) (x1 : Int32) (x2 : Int32) (w : cH) : Option (Int32 × cH) :=
  if tg w a0 = some 13 then ((fI w a0 13 18).bind fun i1 => (fI w a0 13 17).bind fun i7 =>if ¬ i7 = 2 then (F_X13_number_J27  i1 a0 w) else (if (F_X13_within i1 x1 x2) = 0 then (F_X13_number_J27  i1 a0 w) else (F_X13_number_J28  i1 1 a0 w))) else none
abbrev rm_X13_number : Room := { frames := 3, cells := 0, slots := 0, locals := 64 }
set_option maxHeartbeats 4000000 in
set_option maxRecDepth 100000 in
theorem ct_X13_number {l : Launch} {g : Gt} (G : Gok g) {a0 : Option Nat} {x1 : Int32} {x2 : Int32} {w : cH} {r9 : Int32} {w9 : cH} (hF : F_X13_number a0 x1 x2 w = some (r9, w9)) : tg w a0 = some 13 ∧ Mx l yX13_number (ws_ yX13_number cX13_number 4 (some .int)) rm_X13_number g [va_rf a0, .int x1, .int x2] w (.returned (some (.int r9))) w9 0 0 := by
  unfold F_X13_number at hF
  obtain ⟨ht, hF⟩ := bg hF
  refine ⟨ht, mk_ct cX13_number 4 (some .int) "CarryFairModel" (plainFor_of_name (by decide)) rfl (lg_le ⟨cr _, rfl, rfl, trivial⟩ (Nat.le_of_ble_eq_true rfl)) (av_ok ⟨cr _, rfl, rfl, trivial⟩) G (fun x B hl hR hin hh => ?_)⟩
  show J g x _ _ 0 0 w 0 0 0 [some (va_rf a0), some (.int x1), some (.int x2), none] []
  have jb28 : ∀ (x3 : Int32) (s0 : Int32) (s1 : Option Nat) (w : cH), F_X13_number_J28  x3 s0 s1 w = some (r9, w9) → J g x (.returned (some (.int r9))) w9 0 0 w 0 0 28 [none, none, none, some (.int x3)] [.int s0, va_rf s1] := by
    intro x3 s0 s1 w hF
    unfold F_X13_number_J28 at hF
    obtain ⟨w28, e28, hF⟩ := bo hF
    refine j_rV (st2 := []) B [.int s0] [] cv_X13_309 dX13_number_28 hl hR (ct_X13_must G e28) rfl rfl rfl rfl trivial (Nat.le_of_ble_eq_true rfl) ?_
    refine j_iload_n B dX13_number_31 rfl ?_
    exact j_lIw B rfl dX13_number_32 hF (by decide) (by decide)
  have jb27 : ∀ (x3 : Int32) (s0 : Option Nat) (w : cH), F_X13_number_J27  x3 s0 w = some (r9, w9) → J g x (.returned (some (.int r9))) w9 0 0 w 0 0 27 [none, none, none, some (.int x3)] [va_rf s0] := by
    intro x3 s0 w hF
    unfold F_X13_number_J27 at hF
    refine j_iconst (v := 0) B dX13_number_27 (by decide) ?_
    exact jb28 x3 0 s0 w hF
  refine j_aload_n B dX13_number_0 rfl ?_
  refine j_getI B fl_X13_288 dX13_number_1 hF (fun i1 hF => ?_)
  refine j_istore_n (vs' := [some (va_rf a0), some (.int x1), some (.int x2), some (.int i1)]) B dX13_number_4 (by decide) rfl ?_
  refine j_aload_n B dX13_number_5 rfl ?_
  refine j_aload_n B dX13_number_6 rfl ?_
  refine j_getI B fl_X13_291 dX13_number_7 hF (fun i7 hF => ?_)
  refine j_iconst (v := 2) B dX13_number_10 (by decide) ?_
  refine j_icmp_ne (tgt := 27) B dX13_number_11 (by decide) hF (fun h11 hF => ?_) (fun h11 hF => ?_)
  · refine j_msk [false, false, false, true] rfl ?_
    exact jb27 i1 a0 w hF
  · refine j_iload_n B dX13_number_14 rfl ?_
    refine j_iload_n B dX13_number_15 rfl ?_
    refine j_iload_n B dX13_number_16 rfl ?_
    refine j_rS (st2 := [.int (F_X13_within i1 x1 x2), va_rf a0]) B [.int i1, .int x1, .int x2] [va_rf a0] cs_X13_77 dX13_number_17 hl hR (ct_X13_within G) rfl rfl rfl rfl ⟨cr _, trivial⟩ (Nat.le_of_ble_eq_true rfl) ?_
    refine j_if_eq (tgt := 27) B dX13_number_20 (by decide) hF (fun h20 hF => ?_) (fun h20 hF => ?_)
    · refine j_msk [false, false, false, true] rfl ?_
      exact jb27 i1 a0 w hF
    · refine j_iconst (v := 1) B dX13_number_23 (by decide) ?_
      refine j_goto (tgt := 28) B dX13_number_24 (by decide) ?_
      refine j_msk [false, false, false, true] rfl ?_
      exact jb28 i1 1 a0 w hF
theorem fl_X13_313 : FL "CarryFairModel" 313 13 22 := ⟨RX13, TX13, 30, rfl, by decide, in_X13, Or.inl q1357⟩
theorem fl_X13_57 : FL "CarryFairModel" 57 13 21 := ⟨RX13, TX13, 30, rfl, by decide, in_X13, Or.inl q1356⟩
theorem fp_X13_313 : FP "CarryFairModel" 313 13 22 .int false := ⟨RX13, TX13, 30, rfl, by decide, in_X13, Or.inl q1357, rfl, (fun h => by cases h), by decide +kernel, ap_X13, tyX13, tyX13_ok⟩
def F_X13_item (a0 : Option Nat) (x1 : Int32) (x2 : Int32) (x3 : Int32) (x4 : Int32) (x5 : Int32) (w : cH) : Option cH :=
  if tg w a0 = some 13 then ((fI w a0 13 22).bind fun i2 => (fA w a0 13 21).bind fun a9p => (aS w a9p 100 (5 * i2) (.int x1)).bind fun w15 => (fA w15 a0 13 21).bind fun a17p => (aS w15 a17p 100 ((5 * i2) + 1) (.int x2)).bind fun w25 => (fA w25 a0 13 21).bind fun a27p => (aS w25 a27p 100 ((5 * i2) + 2) (.int x3)).bind fun w35 => (fA w35 a0 13 21).bind fun a37p => (aS w35 a37p 100 ((5 * i2) + 3) (.int x4)).bind fun w46 => (fA w46 a0 13 21).bind fun a48p => (aS w46 a48p 100 ((5 * i2) + 4) (.int x5)).bind fun w57 => (fI w57 a0 13 22).bind fun i60 => (pV w57 a0 13 22 (.int (i60 + 1))).bind fun w65 => some w65) else none
abbrev rm_X13_item : Room := { frames := 0, cells := 0, slots := 0, locals := 0 }
set_option maxHeartbeats 4000000 in
set_option maxRecDepth 100000 in
theorem ct_X13_item {l : Launch} {g : Gt} (G : Gok g) {a0 : Option Nat} {x1 : Int32} {x2 : Int32} {x3 : Int32} {x4 : Int32} {x5 : Int32} {w : cH}  {w9 : cH} (hF : F_X13_item a0 x1 x2 x3 x4 x5 w = some w9) : tg w a0 = some 13 ∧ Mx l yX13_item (ws_ yX13_item cX13_item 7 none) rm_X13_item g [va_rf a0, .int x1, .int x2, .int x3, .int x4, .int x5] w (.returned none) w9 0 0 := by
  unfold F_X13_item at hF
  obtain ⟨ht, hF⟩ := bg hF
  refine ⟨ht, mk_ct cX13_item 7 none "CarryFairModel" (plainFor_of_name (by decide)) rfl (lg_le ⟨cr _, rfl, rfl, rfl, rfl, rfl, trivial⟩ (Nat.le_of_ble_eq_true rfl)) (av_ok ⟨cr _, rfl, rfl, rfl, rfl, rfl, trivial⟩) G (fun x B hl hR hin hh => ?_)⟩
  show J g x _ _ 0 0 w 0 0 0 [some (va_rf a0), some (.int x1), some (.int x2), some (.int x3), some (.int x4), some (.int x5), none] []
  refine j_iconst (v := 5) B dX13_item_0 (by decide) ?_
  refine j_aload_n B dX13_item_1 rfl ?_
  refine j_getI B fl_X13_313 dX13_item_2 hF (fun i2 hF => ?_)
  refine j_imul B dX13_item_5 ?_
  refine j_istore (vs' := [some (va_rf a0), some (.int x1), some (.int x2), some (.int x3), some (.int x4), some (.int x5), some (.int (5 * i2))]) B dX13_item_6 (by decide) rfl ?_
  refine j_aload_n B dX13_item_8 rfl ?_
  refine j_getA B fl_X13_57 dX13_item_9 hF (fun a9p hF => ?_)
  refine j_iload B dX13_item_12 rfl ?_
  refine j_iload_n B dX13_item_14 rfl ?_
  refine j_iastore B dX13_item_15 hF (fun w15 hF => ?_)
  refine j_aload_n B dX13_item_16 rfl ?_
  refine j_getA B fl_X13_57 dX13_item_17 hF (fun a17p hF => ?_)
  refine j_iload B dX13_item_20 rfl ?_
  refine j_iconst (v := 1) B dX13_item_22 (by decide) ?_
  refine j_iadd B dX13_item_23 ?_
  refine j_iload_n B dX13_item_24 rfl ?_
  refine j_iastore B dX13_item_25 hF (fun w25 hF => ?_)
  refine j_aload_n B dX13_item_26 rfl ?_
  refine j_getA B fl_X13_57 dX13_item_27 hF (fun a27p hF => ?_)
  refine j_iload B dX13_item_30 rfl ?_
  refine j_iconst (v := 2) B dX13_item_32 (by decide) ?_
  refine j_iadd B dX13_item_33 ?_
  refine j_iload_n B dX13_item_34 rfl ?_
  refine j_iastore B dX13_item_35 hF (fun w35 hF => ?_)
  refine j_aload_n B dX13_item_36 rfl ?_
  refine j_getA B fl_X13_57 dX13_item_37 hF (fun a37p hF => ?_)
  refine j_iload B dX13_item_40 rfl ?_
  refine j_iconst (v := 3) B dX13_item_42 (by decide) ?_
  refine j_iadd B dX13_item_43 ?_
  refine j_iload B dX13_item_44 rfl ?_
  refine j_iastore B dX13_item_46 hF (fun w46 hF => ?_)
  refine j_aload_n B dX13_item_47 rfl ?_
  refine j_getA B fl_X13_57 dX13_item_48 hF (fun a48p hF => ?_)
  refine j_iload B dX13_item_51 rfl ?_
  refine j_iconst (v := 4) B dX13_item_53 (by decide) ?_
  refine j_iadd B dX13_item_54 ?_
  refine j_iload B dX13_item_55 rfl ?_
  refine j_iastore B dX13_item_57 hF (fun w57 hF => ?_)
  refine j_aload_n B dX13_item_58 rfl ?_
  refine j_dup B dX13_item_59 (cr _) ?_
  refine j_getI B fl_X13_313 dX13_item_60 hF (fun i60 hF => ?_)
  refine j_iconst (v := 1) B dX13_item_63 (by decide) ?_
  refine j_iadd B dX13_item_64 ?_
  refine j_putV B fp_X13_313 (fun h => by cases h) rfl rfl dX13_item_65 hF (fun w65 hF => ?_)
  exact j_lV B rfl dX13_item_68 hF (by decide) (by decide)
def F_X13_unlike_J38 (x2 : Int32) (s0 : Int32) (s1 : Option Nat) (w : cH) : Option (Int32 × cH) :=
  (F_X13_must s1 s0 w).bind fun w38 => some (x2, w38)
def F_X13_unlike_J37 (x2 : Int32) (s0 : Option Nat) (w : cH) : Option (Int32 × cH) :=
  F_X13_unlike_J38  x2 0 s0 w
def F_X13_unlike (a0 : Option Nat) (x1 : Int32) (w : cH) : Option (Int32 × cH) :=
  if tg w a0 = some 13 then ((fI w a0 13 18).bind fun i1 => (fI w a0 13 19).bind fun i7 =>if ¬ i7 = 0 then (F_X13_unlike_J37  i1 a0 w) else ((fI w a0 13 17).bind fun i14 =>if ¬ i14 = 2 then (F_X13_unlike_J37  i1 a0 w) else (if (F_X13_isPlace i1) = 0 then (F_X13_unlike_J37  i1 a0 w) else (if i1 = x1 then (F_X13_unlike_J37  i1 a0 w) else (F_X13_unlike_J38  i1 1 a0 w))))) else none
abbrev rm_X13_unlike : Room := { frames := 3, cells := 0, slots := 0, locals := 64 }
set_option maxHeartbeats 4000000 in
set_option maxRecDepth 100000 in
theorem ct_X13_unlike {l : Launch} {g : Gt} (G : Gok g) {a0 : Option Nat} {x1 : Int32} {w : cH} {r9 : Int32} {w9 : cH} (hF : F_X13_unlike a0 x1 w = some (r9, w9)) : tg w a0 = some 13 ∧ Mx l yX13_unlike (ws_ yX13_unlike cX13_unlike 3 (some .int)) rm_X13_unlike g [va_rf a0, .int x1] w (.returned (some (.int r9))) w9 0 0 := by
  unfold F_X13_unlike at hF
  obtain ⟨ht, hF⟩ := bg hF
  refine ⟨ht, mk_ct cX13_unlike 3 (some .int) "CarryFairModel" (plainFor_of_name (by decide)) rfl (lg_le ⟨cr _, rfl, trivial⟩ (Nat.le_of_ble_eq_true rfl)) (av_ok ⟨cr _, rfl, trivial⟩) G (fun x B hl hR hin hh => ?_)⟩
  show J g x _ _ 0 0 w 0 0 0 [some (va_rf a0), some (.int x1), none] []
  have jb38 : ∀ (x2 : Int32) (s0 : Int32) (s1 : Option Nat) (w : cH), F_X13_unlike_J38  x2 s0 s1 w = some (r9, w9) → J g x (.returned (some (.int r9))) w9 0 0 w 0 0 38 [none, none, some (.int x2)] [.int s0, va_rf s1] := by
    intro x2 s0 s1 w hF
    unfold F_X13_unlike_J38 at hF
    obtain ⟨w38, e38, hF⟩ := bo hF
    refine j_rV (st2 := []) B [.int s0] [] cv_X13_309 dX13_unlike_38 hl hR (ct_X13_must G e38) rfl rfl rfl rfl trivial (Nat.le_of_ble_eq_true rfl) ?_
    refine j_iload_n B dX13_unlike_41 rfl ?_
    exact j_lIw B rfl dX13_unlike_42 hF (by decide) (by decide)
  have jb37 : ∀ (x2 : Int32) (s0 : Option Nat) (w : cH), F_X13_unlike_J37  x2 s0 w = some (r9, w9) → J g x (.returned (some (.int r9))) w9 0 0 w 0 0 37 [none, none, some (.int x2)] [va_rf s0] := by
    intro x2 s0 w hF
    unfold F_X13_unlike_J37 at hF
    refine j_iconst (v := 0) B dX13_unlike_37 (by decide) ?_
    exact jb38 x2 0 s0 w hF
  refine j_aload_n B dX13_unlike_0 rfl ?_
  refine j_getI B fl_X13_288 dX13_unlike_1 hF (fun i1 hF => ?_)
  refine j_istore_n (vs' := [some (va_rf a0), some (.int x1), some (.int i1)]) B dX13_unlike_4 (by decide) rfl ?_
  refine j_aload_n B dX13_unlike_5 rfl ?_
  refine j_aload_n B dX13_unlike_6 rfl ?_
  refine j_getI B fl_X13_302 dX13_unlike_7 hF (fun i7 hF => ?_)
  refine j_if_ne (tgt := 37) B dX13_unlike_10 (by decide) hF (fun h10 hF => ?_) (fun h10 hF => ?_)
  · refine j_msk [false, false, true] rfl ?_
    exact jb37 i1 a0 w hF
  · refine j_aload_n B dX13_unlike_13 rfl ?_
    refine j_getI B fl_X13_291 dX13_unlike_14 hF (fun i14 hF => ?_)
    refine j_iconst (v := 2) B dX13_unlike_17 (by decide) ?_
    refine j_icmp_ne (tgt := 37) B dX13_unlike_18 (by decide) hF (fun h18 hF => ?_) (fun h18 hF => ?_)
    · refine j_msk [false, false, true] rfl ?_
      exact jb37 i1 a0 w hF
    · refine j_iload_n B dX13_unlike_21 rfl ?_
      refine j_rS (st2 := [.int (F_X13_isPlace i1), va_rf a0]) B [.int i1] [va_rf a0] cs_X13_129 dX13_unlike_22 hl hR (ct_X13_isPlace G) rfl rfl rfl rfl ⟨cr _, trivial⟩ (Nat.le_of_ble_eq_true rfl) ?_
      refine j_if_eq (tgt := 37) B dX13_unlike_25 (by decide) hF (fun h25 hF => ?_) (fun h25 hF => ?_)
      · refine j_msk [false, false, true] rfl ?_
        exact jb37 i1 a0 w hF
      · refine j_iload_n B dX13_unlike_28 rfl ?_
        refine j_iload_n B dX13_unlike_29 rfl ?_
        refine j_icmp_eq (tgt := 37) B dX13_unlike_30 (by decide) hF (fun h30 hF => ?_) (fun h30 hF => ?_)
        · refine j_msk [false, false, true] rfl ?_
          exact jb37 i1 a0 w hF
        · refine j_iconst (v := 1) B dX13_unlike_33 (by decide) ?_
          refine j_goto (tgt := 38) B dX13_unlike_34 (by decide) ?_
          refine j_msk [false, false, true] rfl ?_
          exact jb38 i1 1 a0 w hF
theorem fl_X13_351 : FL "CarryFairModel" 351 13 24 := ⟨RX13, TX13, 30, rfl, by decide, in_X13, Or.inl q1359⟩
theorem fl_X13_323 : FL "CarryFairModel" 323 13 23 := ⟨RX13, TX13, 30, rfl, by decide, in_X13, Or.inl q1358⟩
theorem fl_X13_360 : FL "CarryFairModel" 360 13 25 := ⟨RX13, TX13, 30, rfl, by decide, in_X13, Or.inl q1360⟩
theorem fp_X13_323 : FP "CarryFairModel" 323 13 23 .int false := ⟨RX13, TX13, 30, rfl, by decide, in_X13, Or.inl q1358, rfl, (fun h => by cases h), by decide +kernel, ap_X13, tyX13, tyX13_ok⟩
theorem fp_X13_351 : FP "CarryFairModel" 351 13 24 .int false := ⟨RX13, TX13, 30, rfl, by decide, in_X13, Or.inl q1359, rfl, (fun h => by cases h), by decide +kernel, ap_X13, tyX13, tyX13_ok⟩
theorem fp_X13_360 : FP "CarryFairModel" 360 13 25 .int false := ⟨RX13, TX13, 30, rfl, by decide, in_X13, Or.inl q1360, rfl, (fun h => by cases h), by decide +kernel, ap_X13, tyX13, tyX13_ok⟩
theorem cv_X13_320 : CV "CarryFairModel" 320 13 yX13_kindTold cX13_kindTold 3 (some .int) 0 := ⟨_, _, rfl, lw_V q1803 q1805 qs117 q142 q1806, by decide +kernel⟩
theorem cv_X13_328 : CV "CarryFairModel" 328 13 yX13_isNext cX13_isNext 3 (some .boolean) 1 := ⟨_, _, rfl, lw_V q1825 q1827 qs120 q142 q1828, by decide +kernel⟩
theorem cv_X13_331 : CV "CarryFairModel" 331 13 yX13_number cX13_number 4 (some .int) 2 := ⟨_, _, rfl, lw_V q1829 q1831 qs121 q142 q1832, by decide +kernel⟩
theorem cv_X13_342 : CV "CarryFairModel" 342 13 yX13_unlike cX13_unlike 3 (some .int) 1 := ⟨_, _, rfl, lw_V q1839 q1841 qs123 q142 q1842, by decide +kernel⟩
theorem cv_X13_336 : CV "CarryFairModel" 336 13 yX13_item cX13_item 7 none 5 := ⟨_, _, rfl, lw_V q1834 q1836 qs122 q142 q1837, by decide +kernel⟩
def F_X13_readItem_J289 (g : Gt) (a0 : Option Nat) (s0 : Int32) (s1 : Option Nat) (w : cH) : Option cH :=
  (F_X13_must s1 s0 w).bind fun w289 => (fI w289 a0 13 25).bind fun i294 => (pV w289 a0 13 25 (.int (i294 + 1))).bind fun w299 => cb (F_X13_number a0 1 9999 w299) fun i310 w310 => (F_X13_item a0 12 i310 0 0 0 w310).bind fun w316 => some w316
def F_X13_readItem_J288 (g : Gt) (a0 : Option Nat) (s0 : Option Nat) (w : cH) : Option cH :=
  F_X13_readItem_J289 g  a0 0 s0 w
def F_X13_readItem_J264 (g : Gt) (a0 : Option Nat) (w : cH) : Option cH :=
  (F_X13_isWord a0 (some (g.2.2.2.2 16)) w).bind fun i269 =>if i269 = 0 then (F_X13_readItem_J288 g  a0 a0 w) else ((fI w a0 13 25).bind fun i276 =>if 6 ≤ i276 then (F_X13_readItem_J288 g  a0 a0 w) else (F_X13_readItem_J289 g  a0 1 a0 w))
def F_X13_readItem_J196 (g : Gt) (a0 : Option Nat) (s0 : Int32) (s1 : Option Nat) (w : cH) : Option cH :=
  (F_X13_must s1 s0 w).bind fun w196 => (fI w196 a0 13 24).bind fun i201 => (pV w196 a0 13 24 (.int (i201 + 1))).bind fun w206 => cb (F_X13_number a0 1 60 w206) fun i213 w213 => (F_X13_isWord a0 (some (g.2.2.2.2 14)) w213).bind fun i222 => (F_X13_must a0 i222 w213).bind fun w225 => cb (F_X13_number a0 0 6 w225) fun i232 w232 => (F_X13_isWord a0 (some (g.2.2.2.2 15)) w232).bind fun i241 => (F_X13_must a0 i241 w232).bind fun w244 => cb (F_X13_unlike a0 i232 w244) fun i254 w254 => (F_X13_item a0 11 i213 i232 i254 0 w254).bind fun w258 => some w258
def F_X13_readItem_J158 (g : Gt) (s0 : Int32) (s1 : Int32) (s2 : Int32) (s3 : Int32) (s4 : Int32) (s5 : Option Nat) (w : cH) : Option cH :=
  (F_X13_item s5 s4 s3 s2 s1 s0 w).bind fun w158 => some w158
def F_X13_readItem_J84 (g : Gt) (s0 : Int32) (s1 : Int32) (s2 : Int32) (s3 : Option Nat) (w : cH) : Option cH :=
  (F_X13_item s3 s2 s1 s0 0 0 w).bind fun w86 => some w86
def F_X13_readItem_J58 (g : Gt) (a0 : Option Nat) (x1 : Int32) (s0 : Int32) (w : cH) : Option cH :=
  cb (F_X13_isNext a0 (some (g.2.2.2.2 9)) w) fun i66 w66 =>if i66 = 0 then (F_X13_readItem_J84 g  20 s0 x1 a0 w66) else (cb (F_X13_number a0 1 99 w66) fun i76 w76 => F_X13_readItem_J84 g  i76 s0 x1 a0 w76)
def F_X13_readItem_J24 (g : Gt) (a0 : Option Nat) (x1 : Int32) (s0 : Int32) (s1 : Option Nat) (w : cH) : Option cH :=
  (F_X13_must s1 s0 w).bind fun w24 => (fI w24 a0 13 23).bind fun i29 => (pV w24 a0 13 23 (.int (i29 + 1))).bind fun w34 => cb (F_X13_isNext a0 (some (g.2.2.2.2 8)) w34) fun i41 w41 =>if i41 = 0 then (F_X13_readItem_J58 g  a0 x1 0 w41) else (cb (F_X13_number a0 0 6 w41) fun i51 w51 => F_X13_readItem_J58 g  a0 x1 i51 w51)
def F_X13_readItem (g : Gt) (a0 : Option Nat) (w : cH) : Option cH :=
  if tg w a0 = some 13 then ((F_X13_kindTold a0 w).bind fun i1 =>if i1 < 0 then (cb (F_X13_isNext a0 (some (g.2.2.2.2 10)) w) fun i96 w96 =>if i96 = 0 then ((fI w96 a0 13 19).bind fun i165 =>if ¬ i165 = 0 then (F_X13_readItem_J264 g  a0 w96) else ((F_X13_isWord a0 (some (g.2.2.2.2 13)) w96).bind fun i175 =>if i175 = 0 then (F_X13_readItem_J264 g  a0 w96) else ((fI w96 a0 13 24).bind fun i183 =>if 8 ≤ i183 then (F_X13_readItem_J196 g  a0 0 a0 w96) else (F_X13_readItem_J196 g  a0 1 a0 w96)))) else (cb (F_X13_number a0 0 6 w96) fun i106 w106 => cb (F_X13_unlike a0 i106 w106) fun i112 w112 => (F_X13_isWord a0 (some (g.2.2.2.2 11)) w112).bind fun i121 => (F_X13_must a0 i121 w112).bind fun w124 => cb (F_X13_number a0 0 99 w124) fun i131 w131 => cb (F_X13_isNext a0 (some (g.2.2.2.2 12)) w131) fun i147 w147 =>if i147 = 0 then (F_X13_readItem_J158 g  0 i131 i112 i106 10 a0 w147) else (F_X13_readItem_J158 g  1 i131 i112 i106 10 a0 w147))) else ((fI w a0 13 23).bind fun i11 =>if 6 ≤ i11 then (F_X13_readItem_J24 g  a0 i1 0 a0 w) else (F_X13_readItem_J24 g  a0 i1 1 a0 w))) else none
abbrev rm_X13_readItem : Room := { frames := 7, cells := 0, slots := 0, locals := 166 }
set_option maxHeartbeats 4000000 in
set_option maxRecDepth 100000 in
theorem ct_X13_readItem {l : Launch} {g : Gt} (G : Gok g) {a0 : Option Nat} {w : cH}  {w9 : cH} (hF : F_X13_readItem g a0 w = some w9) : tg w a0 = some 13 ∧ Mx l yX13_readItem (ws_ yX13_readItem cX13_readItem 5 none) rm_X13_readItem g [va_rf a0] w (.returned none) w9 0 0 := by
  unfold F_X13_readItem at hF
  obtain ⟨ht, hF⟩ := bg hF
  refine ⟨ht, mk_ct cX13_readItem 5 none "CarryFairModel" (plainFor_of_name (by decide)) rfl (lg_le ⟨cr _, trivial⟩ (Nat.le_of_ble_eq_true rfl)) (av_ok ⟨cr _, trivial⟩) G (fun x B hl hR hin hh => ?_)⟩
  show J g x _ _ 0 0 w 0 0 0 [some (va_rf a0), none, none, none, none] []
  have jb289 : ∀ (a0 : Option Nat) (s0 : Int32) (s1 : Option Nat) (w : cH), F_X13_readItem_J289 g  a0 s0 s1 w = some w9 → J g x (.returned none) w9 0 0 w 0 0 289 [some (va_rf a0), none, none, none, none] [.int s0, va_rf s1] := by
    intro a0 s0 s1 w hF
    unfold F_X13_readItem_J289 at hF
    obtain ⟨w289, e289, hF⟩ := bo hF
    refine j_rV (st2 := []) B [.int s0] [] cv_X13_309 dX13_readItem_289 hl hR (ct_X13_must G e289) rfl rfl rfl rfl trivial (Nat.le_of_ble_eq_true rfl) ?_
    refine j_aload_n B dX13_readItem_292 rfl ?_
    refine j_dup B dX13_readItem_293 (cr _) ?_
    refine j_getI B fl_X13_360 dX13_readItem_294 hF (fun i294 hF => ?_)
    refine j_iconst (v := 1) B dX13_readItem_297 (by decide) ?_
    refine j_iadd B dX13_readItem_298 ?_
    refine j_putV B fp_X13_360 (fun h => by cases h) rfl rfl dX13_readItem_299 hF (fun w299 hF => ?_)
    refine j_aload_n B dX13_readItem_302 rfl ?_
    refine j_bipush (v := 12) B dX13_readItem_303 (by decide) ?_
    refine j_aload_n B dX13_readItem_305 rfl ?_
    refine j_iconst (v := 1) B dX13_readItem_306 (by decide) ?_
    refine j_sipush (v := 9999) B dX13_readItem_307 (by decide) ?_
    obtain ⟨i310, w310, e310, hF⟩ := bc hF
    refine j_rV (st2 := [.int i310, .int 12, va_rf a0]) B [.int 1, .int 9999] [.int 12, va_rf a0] cv_X13_331 dX13_readItem_310 hl hR (ct_X13_number G e310) rfl rfl rfl rfl ⟨rfl, cr _, trivial⟩ (Nat.le_of_ble_eq_true rfl) ?_
    refine j_iconst (v := 0) B dX13_readItem_313 (by decide) ?_
    refine j_iconst (v := 0) B dX13_readItem_314 (by decide) ?_
    refine j_iconst (v := 0) B dX13_readItem_315 (by decide) ?_
    obtain ⟨w316, e316, hF⟩ := bo hF
    refine j_rV (st2 := []) B [.int 12, .int i310, .int 0, .int 0, .int 0] [] cv_X13_336 dX13_readItem_316 hl hR (ct_X13_item G e316) rfl rfl rfl rfl trivial (Nat.le_of_ble_eq_true rfl) ?_
    exact j_lV B rfl dX13_readItem_319 hF (by decide) (by decide)
  have jb288 : ∀ (a0 : Option Nat) (s0 : Option Nat) (w : cH), F_X13_readItem_J288 g  a0 s0 w = some w9 → J g x (.returned none) w9 0 0 w 0 0 288 [some (va_rf a0), none, none, none, none] [va_rf s0] := by
    intro a0 s0 w hF
    unfold F_X13_readItem_J288 at hF
    refine j_iconst (v := 0) B dX13_readItem_288 (by decide) ?_
    exact jb289 a0 0 s0 w hF
  have jb264 : ∀ (a0 : Option Nat) (w : cH), F_X13_readItem_J264 g  a0 w = some w9 → J g x (.returned none) w9 0 0 w 0 0 264 [some (va_rf a0), none, none, none, none] [] := by
    intro a0 w hF
    unfold F_X13_readItem_J264 at hF
    refine j_aload_n B dX13_readItem_264 rfl ?_
    refine j_aload_n B dX13_readItem_265 rfl ?_
    refine j_ldcSw (i := 16) B (by decide) (by decide) (by decide) dX13_readItem_266 ?_
    obtain ⟨i269, e269, hF⟩ := bo hF
    refine j_rV (st2 := [.int i269, va_rf a0]) B [va_rf (some (g.2.2.2.2 16))] [va_rf a0] cv_X13_316 dX13_readItem_269 hl hR (ct_X13_isWord G e269) rfl rfl rfl rfl ⟨cr _, trivial⟩ (Nat.le_of_ble_eq_true rfl) ?_
    refine j_if_eq (tgt := 288) B dX13_readItem_272 (by decide) hF (fun h272 hF => ?_) (fun h272 hF => ?_)
    · exact jb288 a0 a0 w hF
    · refine j_aload_n B dX13_readItem_275 rfl ?_
      refine j_getI B fl_X13_360 dX13_readItem_276 hF (fun i276 hF => ?_)
      refine j_bipush (v := 6) B dX13_readItem_279 (by decide) ?_
      refine j_icmp_ge (tgt := 288) B dX13_readItem_281 (by decide) hF (fun h281 hF => ?_) (fun h281 hF => ?_)
      · exact jb288 a0 a0 w hF
      · refine j_iconst (v := 1) B dX13_readItem_284 (by decide) ?_
        refine j_goto (tgt := 289) B dX13_readItem_285 (by decide) ?_
        exact jb289 a0 1 a0 w hF
  have jb196 : ∀ (a0 : Option Nat) (s0 : Int32) (s1 : Option Nat) (w : cH), F_X13_readItem_J196 g  a0 s0 s1 w = some w9 → J g x (.returned none) w9 0 0 w 0 0 196 [some (va_rf a0), none, none, none, none] [.int s0, va_rf s1] := by
    intro a0 s0 s1 w hF
    unfold F_X13_readItem_J196 at hF
    obtain ⟨w196, e196, hF⟩ := bo hF
    refine j_rV (st2 := []) B [.int s0] [] cv_X13_309 dX13_readItem_196 hl hR (ct_X13_must G e196) rfl rfl rfl rfl trivial (Nat.le_of_ble_eq_true rfl) ?_
    refine j_aload_n B dX13_readItem_199 rfl ?_
    refine j_dup B dX13_readItem_200 (cr _) ?_
    refine j_getI B fl_X13_351 dX13_readItem_201 hF (fun i201 hF => ?_)
    refine j_iconst (v := 1) B dX13_readItem_204 (by decide) ?_
    refine j_iadd B dX13_readItem_205 ?_
    refine j_putV B fp_X13_351 (fun h => by cases h) rfl rfl dX13_readItem_206 hF (fun w206 hF => ?_)
    refine j_aload_n B dX13_readItem_209 rfl ?_
    refine j_iconst (v := 1) B dX13_readItem_210 (by decide) ?_
    refine j_bipush (v := 60) B dX13_readItem_211 (by decide) ?_
    obtain ⟨i213, w213, e213, hF⟩ := bc hF
    refine j_rV (st2 := [.int i213]) B [.int 1, .int 60] [] cv_X13_331 dX13_readItem_213 hl hR (ct_X13_number G e213) rfl rfl rfl rfl trivial (Nat.le_of_ble_eq_true rfl) ?_
    refine j_istore_n (vs' := [some (va_rf a0), none, some (.int i213), none, none]) B dX13_readItem_216 (by decide) rfl ?_
    refine j_aload_n B dX13_readItem_217 rfl ?_
    refine j_aload_n B dX13_readItem_218 rfl ?_
    refine j_ldcSw (i := 14) B (by decide) (by decide) (by decide) dX13_readItem_219 ?_
    obtain ⟨i222, e222, hF⟩ := bo hF
    refine j_rV (st2 := [.int i222, va_rf a0]) B [va_rf (some (g.2.2.2.2 14))] [va_rf a0] cv_X13_316 dX13_readItem_222 hl hR (ct_X13_isWord G e222) rfl rfl rfl rfl ⟨cr _, trivial⟩ (Nat.le_of_ble_eq_true rfl) ?_
    obtain ⟨w225, e225, hF⟩ := bo hF
    refine j_rV (st2 := []) B [.int i222] [] cv_X13_309 dX13_readItem_225 hl hR (ct_X13_must G e225) rfl rfl rfl rfl trivial (Nat.le_of_ble_eq_true rfl) ?_
    refine j_aload_n B dX13_readItem_228 rfl ?_
    refine j_iconst (v := 0) B dX13_readItem_229 (by decide) ?_
    refine j_bipush (v := 6) B dX13_readItem_230 (by decide) ?_
    obtain ⟨i232, w232, e232, hF⟩ := bc hF
    refine j_rV (st2 := [.int i232]) B [.int 0, .int 6] [] cv_X13_331 dX13_readItem_232 hl hR (ct_X13_number G e232) rfl rfl rfl rfl trivial (Nat.le_of_ble_eq_true rfl) ?_
    refine j_istore_n (vs' := [some (va_rf a0), none, some (.int i213), some (.int i232), none]) B dX13_readItem_235 (by decide) rfl ?_
    refine j_aload_n B dX13_readItem_236 rfl ?_
    refine j_aload_n B dX13_readItem_237 rfl ?_
    refine j_ldcSw (i := 15) B (by decide) (by decide) (by decide) dX13_readItem_238 ?_
    obtain ⟨i241, e241, hF⟩ := bo hF
    refine j_rV (st2 := [.int i241, va_rf a0]) B [va_rf (some (g.2.2.2.2 15))] [va_rf a0] cv_X13_316 dX13_readItem_241 hl hR (ct_X13_isWord G e241) rfl rfl rfl rfl ⟨cr _, trivial⟩ (Nat.le_of_ble_eq_true rfl) ?_
    obtain ⟨w244, e244, hF⟩ := bo hF
    refine j_rV (st2 := []) B [.int i241] [] cv_X13_309 dX13_readItem_244 hl hR (ct_X13_must G e244) rfl rfl rfl rfl trivial (Nat.le_of_ble_eq_true rfl) ?_
    refine j_aload_n B dX13_readItem_247 rfl ?_
    refine j_bipush (v := 11) B dX13_readItem_248 (by decide) ?_
    refine j_iload_n B dX13_readItem_250 rfl ?_
    refine j_iload_n B dX13_readItem_251 rfl ?_
    refine j_aload_n B dX13_readItem_252 rfl ?_
    refine j_iload_n B dX13_readItem_253 rfl ?_
    obtain ⟨i254, w254, e254, hF⟩ := bc hF
    refine j_rV (st2 := [.int i254, .int i232, .int i213, .int 11, va_rf a0]) B [.int i232] [.int i232, .int i213, .int 11, va_rf a0] cv_X13_342 dX13_readItem_254 hl hR (ct_X13_unlike G e254) rfl rfl rfl rfl ⟨rfl, rfl, rfl, cr _, trivial⟩ (Nat.le_of_ble_eq_true rfl) ?_
    refine j_iconst (v := 0) B dX13_readItem_257 (by decide) ?_
    obtain ⟨w258, e258, hF⟩ := bo hF
    refine j_rV (st2 := []) B [.int 11, .int i213, .int i232, .int i254, .int 0] [] cv_X13_336 dX13_readItem_258 hl hR (ct_X13_item G e258) rfl rfl rfl rfl trivial (Nat.le_of_ble_eq_true rfl) ?_
    refine j_goto (tgt := 319) B dX13_readItem_261 (by decide) ?_
    exact j_lV B rfl dX13_readItem_319 hF (by decide) (by decide)
  have jb158 : ∀ (s0 : Int32) (s1 : Int32) (s2 : Int32) (s3 : Int32) (s4 : Int32) (s5 : Option Nat) (w : cH), F_X13_readItem_J158 g  s0 s1 s2 s3 s4 s5 w = some w9 → J g x (.returned none) w9 0 0 w 0 0 158 [none, none, none, none, none] [.int s0, .int s1, .int s2, .int s3, .int s4, va_rf s5] := by
    intro s0 s1 s2 s3 s4 s5 w hF
    unfold F_X13_readItem_J158 at hF
    obtain ⟨w158, e158, hF⟩ := bo hF
    refine j_rV (st2 := []) B [.int s4, .int s3, .int s2, .int s1, .int s0] [] cv_X13_336 dX13_readItem_158 hl hR (ct_X13_item G e158) rfl rfl rfl rfl trivial (Nat.le_of_ble_eq_true rfl) ?_
    refine j_goto (tgt := 319) B dX13_readItem_161 (by decide) ?_
    exact j_lV B rfl dX13_readItem_319 hF (by decide) (by decide)
  have jb84 : ∀ (s0 : Int32) (s1 : Int32) (s2 : Int32) (s3 : Option Nat) (w : cH), F_X13_readItem_J84 g  s0 s1 s2 s3 w = some w9 → J g x (.returned none) w9 0 0 w 0 0 84 [none, none, none, none, none] [.int s0, .int s1, .int s2, va_rf s3] := by
    intro s0 s1 s2 s3 w hF
    unfold F_X13_readItem_J84 at hF
    refine j_iconst (v := 0) B dX13_readItem_84 (by decide) ?_
    refine j_iconst (v := 0) B dX13_readItem_85 (by decide) ?_
    obtain ⟨w86, e86, hF⟩ := bo hF
    refine j_rV (st2 := []) B [.int s2, .int s1, .int s0, .int 0, .int 0] [] cv_X13_336 dX13_readItem_86 hl hR (ct_X13_item G e86) rfl rfl rfl rfl trivial (Nat.le_of_ble_eq_true rfl) ?_
    refine j_goto (tgt := 319) B dX13_readItem_89 (by decide) ?_
    exact j_lV B rfl dX13_readItem_319 hF (by decide) (by decide)
  have jb58 : ∀ (a0 : Option Nat) (x1 : Int32) (s0 : Int32) (w : cH), F_X13_readItem_J58 g  a0 x1 s0 w = some w9 → J g x (.returned none) w9 0 0 w 0 0 58 [some (va_rf a0), some (.int x1), none, none, none] [.int s0] := by
    intro a0 x1 s0 w hF
    unfold F_X13_readItem_J58 at hF
    refine j_istore_n (vs' := [some (va_rf a0), some (.int x1), some (.int s0), none, none]) B dX13_readItem_58 (by decide) rfl ?_
    refine j_aload_n B dX13_readItem_59 rfl ?_
    refine j_iload_n B dX13_readItem_60 rfl ?_
    refine j_iload_n B dX13_readItem_61 rfl ?_
    refine j_aload_n B dX13_readItem_62 rfl ?_
    refine j_ldcSw (i := 9) B (by decide) (by decide) (by decide) dX13_readItem_63 ?_
    obtain ⟨i66, w66, e66, hF⟩ := bc hF
    refine j_rV (st2 := [.int i66, .int s0, .int x1, va_rf a0]) B [va_rf (some (g.2.2.2.2 9))] [.int s0, .int x1, va_rf a0] cv_X13_328 dX13_readItem_66 hl hR (ct_X13_isNext G e66) rfl rfl rfl rfl ⟨rfl, rfl, cr _, trivial⟩ (Nat.le_of_ble_eq_true rfl) ?_
    refine j_if_eq (tgt := 82) B dX13_readItem_69 (by decide) hF (fun h69 hF => ?_) (fun h69 hF => ?_)
    · refine j_bipush (v := 20) B dX13_readItem_82 (by decide) ?_
      refine j_msk [false, false, false, false, false] rfl ?_
      exact jb84 20 s0 x1 a0 w66 hF
    · refine j_aload_n B dX13_readItem_72 rfl ?_
      refine j_iconst (v := 1) B dX13_readItem_73 (by decide) ?_
      refine j_bipush (v := 99) B dX13_readItem_74 (by decide) ?_
      obtain ⟨i76, w76, e76, hF⟩ := bc hF
      refine j_rV (st2 := [.int i76, .int s0, .int x1, va_rf a0]) B [.int 1, .int 99] [.int s0, .int x1, va_rf a0] cv_X13_331 dX13_readItem_76 hl hR (ct_X13_number G e76) rfl rfl rfl rfl ⟨rfl, rfl, cr _, trivial⟩ (Nat.le_of_ble_eq_true rfl) ?_
      refine j_goto (tgt := 84) B dX13_readItem_79 (by decide) ?_
      refine j_msk [false, false, false, false, false] rfl ?_
      exact jb84 i76 s0 x1 a0 w76 hF
  have jb24 : ∀ (a0 : Option Nat) (x1 : Int32) (s0 : Int32) (s1 : Option Nat) (w : cH), F_X13_readItem_J24 g  a0 x1 s0 s1 w = some w9 → J g x (.returned none) w9 0 0 w 0 0 24 [some (va_rf a0), some (.int x1), none, none, none] [.int s0, va_rf s1] := by
    intro a0 x1 s0 s1 w hF
    unfold F_X13_readItem_J24 at hF
    obtain ⟨w24, e24, hF⟩ := bo hF
    refine j_rV (st2 := []) B [.int s0] [] cv_X13_309 dX13_readItem_24 hl hR (ct_X13_must G e24) rfl rfl rfl rfl trivial (Nat.le_of_ble_eq_true rfl) ?_
    refine j_aload_n B dX13_readItem_27 rfl ?_
    refine j_dup B dX13_readItem_28 (cr _) ?_
    refine j_getI B fl_X13_323 dX13_readItem_29 hF (fun i29 hF => ?_)
    refine j_iconst (v := 1) B dX13_readItem_32 (by decide) ?_
    refine j_iadd B dX13_readItem_33 ?_
    refine j_putV B fp_X13_323 (fun h => by cases h) rfl rfl dX13_readItem_34 hF (fun w34 hF => ?_)
    refine j_aload_n B dX13_readItem_37 rfl ?_
    refine j_ldcSw (i := 8) B (by decide) (by decide) (by decide) dX13_readItem_38 ?_
    obtain ⟨i41, w41, e41, hF⟩ := bc hF
    refine j_rV (st2 := [.int i41]) B [va_rf (some (g.2.2.2.2 8))] [] cv_X13_328 dX13_readItem_41 hl hR (ct_X13_isNext G e41) rfl rfl rfl rfl trivial (Nat.le_of_ble_eq_true rfl) ?_
    refine j_if_eq (tgt := 57) B dX13_readItem_44 (by decide) hF (fun h44 hF => ?_) (fun h44 hF => ?_)
    · refine j_iconst (v := 0) B dX13_readItem_57 (by decide) ?_
      exact jb58 a0 x1 0 w41 hF
    · refine j_aload_n B dX13_readItem_47 rfl ?_
      refine j_iconst (v := 0) B dX13_readItem_48 (by decide) ?_
      refine j_bipush (v := 6) B dX13_readItem_49 (by decide) ?_
      obtain ⟨i51, w51, e51, hF⟩ := bc hF
      refine j_rV (st2 := [.int i51]) B [.int 0, .int 6] [] cv_X13_331 dX13_readItem_51 hl hR (ct_X13_number G e51) rfl rfl rfl rfl trivial (Nat.le_of_ble_eq_true rfl) ?_
      refine j_goto (tgt := 58) B dX13_readItem_54 (by decide) ?_
      exact jb58 a0 x1 i51 w51 hF
  refine j_aload_n B dX13_readItem_0 rfl ?_
  obtain ⟨i1, e1, hF⟩ := bo hF
  refine j_rV (st2 := [.int i1]) B [] [] cv_X13_320 dX13_readItem_1 hl hR (ct_X13_kindTold G e1) rfl rfl rfl rfl trivial (Nat.le_of_ble_eq_true rfl) ?_
  refine j_istore_n (vs' := [some (va_rf a0), some (.int i1), none, none, none]) B dX13_readItem_4 (by decide) rfl ?_
  refine j_iload_n B dX13_readItem_5 rfl ?_
  refine j_if_lt (tgt := 92) B dX13_readItem_6 (by decide) hF (fun h6 hF => ?_) (fun h6 hF => ?_)
  · refine j_aload_n B dX13_readItem_92 rfl ?_
    refine j_ldcSw (i := 10) B (by decide) (by decide) (by decide) dX13_readItem_93 ?_
    obtain ⟨i96, w96, e96, hF⟩ := bc hF
    refine j_rV (st2 := [.int i96]) B [va_rf (some (g.2.2.2.2 10))] [] cv_X13_328 dX13_readItem_96 hl hR (ct_X13_isNext G e96) rfl rfl rfl rfl trivial (Nat.le_of_ble_eq_true rfl) ?_
    refine j_if_eq (tgt := 164) B dX13_readItem_99 (by decide) hF (fun h99 hF => ?_) (fun h99 hF => ?_)
    · refine j_aload_n B dX13_readItem_164 rfl ?_
      refine j_getI B fl_X13_302 dX13_readItem_165 hF (fun i165 hF => ?_)
      refine j_if_ne (tgt := 264) B dX13_readItem_168 (by decide) hF (fun h168 hF => ?_) (fun h168 hF => ?_)
      · refine j_msk [true, false, false, false, false] rfl ?_
        exact jb264 a0 w96 hF
      · refine j_aload_n B dX13_readItem_171 rfl ?_
        refine j_ldcSw (i := 13) B (by decide) (by decide) (by decide) dX13_readItem_172 ?_
        obtain ⟨i175, e175, hF⟩ := bo hF
        refine j_rV (st2 := [.int i175]) B [va_rf (some (g.2.2.2.2 13))] [] cv_X13_316 dX13_readItem_175 hl hR (ct_X13_isWord G e175) rfl rfl rfl rfl trivial (Nat.le_of_ble_eq_true rfl) ?_
        refine j_if_eq (tgt := 264) B dX13_readItem_178 (by decide) hF (fun h178 hF => ?_) (fun h178 hF => ?_)
        · refine j_msk [true, false, false, false, false] rfl ?_
          exact jb264 a0 w96 hF
        · refine j_aload_n B dX13_readItem_181 rfl ?_
          refine j_aload_n B dX13_readItem_182 rfl ?_
          refine j_getI B fl_X13_351 dX13_readItem_183 hF (fun i183 hF => ?_)
          refine j_bipush (v := 8) B dX13_readItem_186 (by decide) ?_
          refine j_icmp_ge (tgt := 195) B dX13_readItem_188 (by decide) hF (fun h188 hF => ?_) (fun h188 hF => ?_)
          · refine j_iconst (v := 0) B dX13_readItem_195 (by decide) ?_
            refine j_msk [true, false, false, false, false] rfl ?_
            exact jb196 a0 0 a0 w96 hF
          · refine j_iconst (v := 1) B dX13_readItem_191 (by decide) ?_
            refine j_goto (tgt := 196) B dX13_readItem_192 (by decide) ?_
            refine j_msk [true, false, false, false, false] rfl ?_
            exact jb196 a0 1 a0 w96 hF
    · refine j_aload_n B dX13_readItem_102 rfl ?_
      refine j_iconst (v := 0) B dX13_readItem_103 (by decide) ?_
      refine j_bipush (v := 6) B dX13_readItem_104 (by decide) ?_
      obtain ⟨i106, w106, e106, hF⟩ := bc hF
      refine j_rV (st2 := [.int i106]) B [.int 0, .int 6] [] cv_X13_331 dX13_readItem_106 hl hR (ct_X13_number G e106) rfl rfl rfl rfl trivial (Nat.le_of_ble_eq_true rfl) ?_
      refine j_istore_n (vs' := [some (va_rf a0), some (.int i1), some (.int i106), none, none]) B dX13_readItem_109 (by decide) rfl ?_
      refine j_aload_n B dX13_readItem_110 rfl ?_
      refine j_iload_n B dX13_readItem_111 rfl ?_
      obtain ⟨i112, w112, e112, hF⟩ := bc hF
      refine j_rV (st2 := [.int i112]) B [.int i106] [] cv_X13_342 dX13_readItem_112 hl hR (ct_X13_unlike G e112) rfl rfl rfl rfl trivial (Nat.le_of_ble_eq_true rfl) ?_
      refine j_istore_n (vs' := [some (va_rf a0), some (.int i1), some (.int i106), some (.int i112), none]) B dX13_readItem_115 (by decide) rfl ?_
      refine j_aload_n B dX13_readItem_116 rfl ?_
      refine j_aload_n B dX13_readItem_117 rfl ?_
      refine j_ldcSw (i := 11) B (by decide) (by decide) (by decide) dX13_readItem_118 ?_
      obtain ⟨i121, e121, hF⟩ := bo hF
      refine j_rV (st2 := [.int i121, va_rf a0]) B [va_rf (some (g.2.2.2.2 11))] [va_rf a0] cv_X13_316 dX13_readItem_121 hl hR (ct_X13_isWord G e121) rfl rfl rfl rfl ⟨cr _, trivial⟩ (Nat.le_of_ble_eq_true rfl) ?_
      obtain ⟨w124, e124, hF⟩ := bo hF
      refine j_rV (st2 := []) B [.int i121] [] cv_X13_309 dX13_readItem_124 hl hR (ct_X13_must G e124) rfl rfl rfl rfl trivial (Nat.le_of_ble_eq_true rfl) ?_
      refine j_aload_n B dX13_readItem_127 rfl ?_
      refine j_iconst (v := 0) B dX13_readItem_128 (by decide) ?_
      refine j_bipush (v := 99) B dX13_readItem_129 (by decide) ?_
      obtain ⟨i131, w131, e131, hF⟩ := bc hF
      refine j_rV (st2 := [.int i131]) B [.int 0, .int 99] [] cv_X13_331 dX13_readItem_131 hl hR (ct_X13_number G e131) rfl rfl rfl rfl trivial (Nat.le_of_ble_eq_true rfl) ?_
      refine j_istore (vs' := [some (va_rf a0), some (.int i1), some (.int i106), some (.int i112), some (.int i131)]) B dX13_readItem_134 (by decide) rfl ?_
      refine j_aload_n B dX13_readItem_136 rfl ?_
      refine j_bipush (v := 10) B dX13_readItem_137 (by decide) ?_
      refine j_iload_n B dX13_readItem_139 rfl ?_
      refine j_iload_n B dX13_readItem_140 rfl ?_
      refine j_iload B dX13_readItem_141 rfl ?_
      refine j_aload_n B dX13_readItem_143 rfl ?_
      refine j_ldcSw (i := 12) B (by decide) (by decide) (by decide) dX13_readItem_144 ?_
      obtain ⟨i147, w147, e147, hF⟩ := bc hF
      refine j_rV (st2 := [.int i147, .int i131, .int i112, .int i106, .int 10, va_rf a0]) B [va_rf (some (g.2.2.2.2 12))] [.int i131, .int i112, .int i106, .int 10, va_rf a0] cv_X13_328 dX13_readItem_147 hl hR (ct_X13_isNext G e147) rfl rfl rfl rfl ⟨rfl, rfl, rfl, rfl, cr _, trivial⟩ (Nat.le_of_ble_eq_true rfl) ?_
      refine j_if_eq (tgt := 157) B dX13_readItem_150 (by decide) hF (fun h150 hF => ?_) (fun h150 hF => ?_)
      · refine j_iconst (v := 0) B dX13_readItem_157 (by decide) ?_
        refine j_msk [false, false, false, false, false] rfl ?_
        exact jb158 0 i131 i112 i106 10 a0 w147 hF
      · refine j_iconst (v := 1) B dX13_readItem_153 (by decide) ?_
        refine j_goto (tgt := 158) B dX13_readItem_154 (by decide) ?_
        refine j_msk [false, false, false, false, false] rfl ?_
        exact jb158 1 i131 i112 i106 10 a0 w147 hF
  · refine j_aload_n B dX13_readItem_9 rfl ?_
    refine j_aload_n B dX13_readItem_10 rfl ?_
    refine j_getI B fl_X13_323 dX13_readItem_11 hF (fun i11 hF => ?_)
    refine j_bipush (v := 6) B dX13_readItem_14 (by decide) ?_
    refine j_icmp_ge (tgt := 23) B dX13_readItem_16 (by decide) hF (fun h16 hF => ?_) (fun h16 hF => ?_)
    · refine j_iconst (v := 0) B dX13_readItem_23 (by decide) ?_
      exact jb24 a0 i1 0 a0 w hF
    · refine j_iconst (v := 1) B dX13_readItem_19 (by decide) ?_
      refine j_goto (tgt := 24) B dX13_readItem_20 (by decide) ?_
      exact jb24 a0 i1 1 a0 w hF
def F_X13_isSo (a0 : Option Nat) (x1 : Int32) (w : cH) : Option (Int32 × cH) :=
  if tg w a0 = some 13 then ((fA w a0 13 21).bind fun a1p => (aI w a1p 100 (x1 + 1)).bind fun i7 => (fA w a0 13 21).bind fun a10p => (aI w a10p 100 (x1 + 2)).bind fun i16 => (fA w a0 13 21).bind fun a19p => (aI w a19p 100 (x1 + 3)).bind fun i25 => (fA w a0 13 21).bind fun a29p => (aI w a29p 100 x1).bind fun i33 => if i33 = 10 then ((fA w a0 13 21).bind fun a66p => (aI w a66p 100 (x1 + 4)).bind fun i72 => cb (F_X13_wayIs a0 i7 i16 i25 i72 w) fun i73 w73 => some (i73, w73)) else if i33 = 11 then (cb (F_X13_newErrand a0 i7 i16 i25 w) fun i82 w82 => some (i82, w82)) else if i33 = 12 then (cb (F_X13_newWare a0 i7 w) fun i88 w88 => some (i88, w88)) else ((fA w a0 13 21).bind fun a94p => (aI w a94p 100 x1).bind fun i98 => cb (F_X13_newCarrier a0 i98 i7 i16 w) fun i101 w101 => some (i101, w101))) else none
abbrev rm_X13_isSo : Room := { frames := 3, cells := 0, slots := 0, locals := 68 }
set_option maxHeartbeats 4000000 in
set_option maxRecDepth 100000 in
theorem ct_X13_isSo {l : Launch} {g : Gt} (G : Gok g) {a0 : Option Nat} {x1 : Int32} {w : cH} {r9 : Int32} {w9 : cH} (hF : F_X13_isSo a0 x1 w = some (r9, w9)) : tg w a0 = some 13 ∧ Mx l yX13_isSo (ws_ yX13_isSo cX13_isSo 5 (some .int)) rm_X13_isSo g [va_rf a0, .int x1] w (.returned (some (.int r9))) w9 0 0 := by
  unfold F_X13_isSo at hF
  obtain ⟨ht, hF⟩ := bg hF
  refine ⟨ht, mk_ct cX13_isSo 5 (some .int) "CarryFairModel" (plainFor_of_name (by decide)) rfl (lg_le ⟨cr _, rfl, trivial⟩ (Nat.le_of_ble_eq_true rfl)) (av_ok ⟨cr _, rfl, trivial⟩) G (fun x B hl hR hin hh => ?_)⟩
  show J g x _ _ 0 0 w 0 0 0 [some (va_rf a0), some (.int x1), none, none, none] []
  refine j_aload_n B dX13_isSo_0 rfl ?_
  refine j_getA B fl_X13_57 dX13_isSo_1 hF (fun a1p hF => ?_)
  refine j_iload_n B dX13_isSo_4 rfl ?_
  refine j_iconst (v := 1) B dX13_isSo_5 (by decide) ?_
  refine j_iadd B dX13_isSo_6 ?_
  refine j_iaload B dX13_isSo_7 hF (fun i7 hF => ?_)
  refine j_istore_n (vs' := [some (va_rf a0), some (.int x1), some (.int i7), none, none]) B dX13_isSo_8 (by decide) rfl ?_
  refine j_aload_n B dX13_isSo_9 rfl ?_
  refine j_getA B fl_X13_57 dX13_isSo_10 hF (fun a10p hF => ?_)
  refine j_iload_n B dX13_isSo_13 rfl ?_
  refine j_iconst (v := 2) B dX13_isSo_14 (by decide) ?_
  refine j_iadd B dX13_isSo_15 ?_
  refine j_iaload B dX13_isSo_16 hF (fun i16 hF => ?_)
  refine j_istore_n (vs' := [some (va_rf a0), some (.int x1), some (.int i7), some (.int i16), none]) B dX13_isSo_17 (by decide) rfl ?_
  refine j_aload_n B dX13_isSo_18 rfl ?_
  refine j_getA B fl_X13_57 dX13_isSo_19 hF (fun a19p hF => ?_)
  refine j_iload_n B dX13_isSo_22 rfl ?_
  refine j_iconst (v := 3) B dX13_isSo_23 (by decide) ?_
  refine j_iadd B dX13_isSo_24 ?_
  refine j_iaload B dX13_isSo_25 hF (fun i25 hF => ?_)
  refine j_istore (vs' := [some (va_rf a0), some (.int x1), some (.int i7), some (.int i16), some (.int i25)]) B dX13_isSo_26 (by decide) rfl ?_
  refine j_aload_n B dX13_isSo_28 rfl ?_
  refine j_getA B fl_X13_57 dX13_isSo_29 hF (fun a29p hF => ?_)
  refine j_iload_n B dX13_isSo_32 rfl ?_
  refine j_iaload B dX13_isSo_33 hF (fun i33 hF => ?_)
  by_cases t34_0 : i33 = 10
  · rw [if_pos t34_0] at hF
    refine j_tblIn (tgt := 60) B 10 dX13_isSo_34 t34_0 (by decide) rfl (by decide) ?_
    refine j_aload_n B dX13_isSo_60 rfl ?_
    refine j_iload_n B dX13_isSo_61 rfl ?_
    refine j_iload_n B dX13_isSo_62 rfl ?_
    refine j_iload B dX13_isSo_63 rfl ?_
    refine j_aload_n B dX13_isSo_65 rfl ?_
    refine j_getA B fl_X13_57 dX13_isSo_66 hF (fun a66p hF => ?_)
    refine j_iload_n B dX13_isSo_69 rfl ?_
    refine j_iconst (v := 4) B dX13_isSo_70 (by decide) ?_
    refine j_iadd B dX13_isSo_71 ?_
    refine j_iaload B dX13_isSo_72 hF (fun i72 hF => ?_)
    obtain ⟨i73, w73, e73, hF⟩ := bc hF
    refine j_rV (st2 := [.int i73]) B [.int i7, .int i16, .int i25, .int i72] [] cv_X13_147 dX13_isSo_73 hl hR (ct_X13_wayIs G e73) rfl rfl rfl rfl trivial (Nat.le_of_ble_eq_true rfl) ?_
    exact j_lIw B rfl dX13_isSo_76 hF (by decide) (by decide)
  rw [if_neg t34_0] at hF
  by_cases t34_1 : i33 = 11
  · rw [if_pos t34_1] at hF
    refine j_tblIn (tgt := 77) B 11 dX13_isSo_34 t34_1 (by decide) rfl (by decide) ?_
    refine j_aload_n B dX13_isSo_77 rfl ?_
    refine j_iload_n B dX13_isSo_78 rfl ?_
    refine j_iload_n B dX13_isSo_79 rfl ?_
    refine j_iload B dX13_isSo_80 rfl ?_
    obtain ⟨i82, w82, e82, hF⟩ := bc hF
    refine j_rV (st2 := [.int i82]) B [.int i7, .int i16, .int i25] [] cv_X13_151 dX13_isSo_82 hl hR (ct_X13_newErrand G e82) rfl rfl rfl rfl trivial (Nat.le_of_ble_eq_true rfl) ?_
    exact j_lIw B rfl dX13_isSo_85 hF (by decide) (by decide)
  rw [if_neg t34_1] at hF
  by_cases t34_2 : i33 = 12
  · rw [if_pos t34_2] at hF
    refine j_tblIn (tgt := 86) B 12 dX13_isSo_34 t34_2 (by decide) rfl (by decide) ?_
    refine j_aload_n B dX13_isSo_86 rfl ?_
    refine j_iload_n B dX13_isSo_87 rfl ?_
    obtain ⟨i88, w88, e88, hF⟩ := bc hF
    refine j_rV (st2 := [.int i88]) B [.int i7] [] cv_X13_164 dX13_isSo_88 hl hR (ct_X13_newWare G e88) rfl rfl rfl rfl trivial (Nat.le_of_ble_eq_true rfl) ?_
    exact j_lIw B rfl dX13_isSo_91 hF (by decide) (by decide)
  rw [if_neg t34_2] at hF
  refine j_tblOut (tgt := 92) B dX13_isSo_34 (tbl_out 10 12 (fun z h1 h2 => ?_)) (by decide) ?_
  · rcases (show z = 10 ∨ z = 11 ∨ z = 12 by omega) with h | h | h
    · rw [h]; exact lv_neT t34_0 (by decide)
    · rw [h]; exact lv_neT t34_1 (by decide)
    · rw [h]; exact lv_neT t34_2 (by decide)
  refine j_aload_n B dX13_isSo_92 rfl ?_
  refine j_aload_n B dX13_isSo_93 rfl ?_
  refine j_getA B fl_X13_57 dX13_isSo_94 hF (fun a94p hF => ?_)
  refine j_iload_n B dX13_isSo_97 rfl ?_
  refine j_iaload B dX13_isSo_98 hF (fun i98 hF => ?_)
  refine j_iload_n B dX13_isSo_99 rfl ?_
  refine j_iload_n B dX13_isSo_100 rfl ?_
  obtain ⟨i101, w101, e101, hF⟩ := bc hF
  refine j_rV (st2 := [.int i101]) B [.int i98, .int i7, .int i16] [] cv_X13_97 dX13_isSo_101 hl hR (ct_X13_newCarrier G e101) rfl rfl rfl rfl trivial (Nat.le_of_ble_eq_true rfl) ?_
  exact j_lIw B rfl dX13_isSo_104 hF (by decide) (by decide)
theorem cv_X13_363 : CV "CarryFairModel" 363 13 yX13_readItem cX13_readItem 5 none 0 := ⟨_, _, rfl, lw_V q1799 q1801 qs116 q142 q1802, by decide +kernel⟩
theorem cv_X13_366 : CV "CarryFairModel" 366 13 yX13_isSo cX13_isSo 5 (some .int) 1 := ⟨_, _, rfl, lw_V q1849 q1851 qs124 q142 q1852, by decide +kernel⟩
def F_X13_text_J160 (g : Gt) (rc136 : (Option Nat) → Int32 → Int32 → cH → Option (Int32 × cH)) (a0 : Option Nat) (x2 : Int32) (s0 : Int32) (s1 : Int32) (w : cH) : Option (Int32 × cH) :=
  rc136 a0 (s1 + s0) (x2 + 1) w
def F_X13_text_B136 (g : Gt) (rc136 : Option Nat → Int32 → Int32 → cH → Option (Int32 × cH)) (a0 : Option Nat) (x1 : Int32) (x2 : Int32) (w : cH) : Option (Int32 × cH) :=
  (fI w a0 13 22).bind fun i138 =>if i138 ≤ x2 then (some (x1, w)) else (cb (F_X13_isSo a0 (5 * x2) w) fun i149 w149 =>if 0 ≤ i149 then (F_X13_text_J160 g  rc136 a0 x2 1 x1 w149) else (F_X13_text_J160 g  rc136 a0 x2 0 x1 w149))
def F_X13_text_L136 (g : Gt) : Nat → Option Nat → Int32 → Int32 → cH → Option (Int32 × cH)
  | 0, _, _, _, _ => none
  | n9 + 1, a0, x1, x2, w => F_X13_text_B136 g  (F_X13_text_L136 g  n9) a0 x1 x2 w
def F_X13_text_J110 (g : Gt) (a0 : Option Nat) (s0 : Int32) (s1 : Option Nat) (w : cH) : Option (Int32 × cH) :=
  (F_X13_must s1 s0 w).bind fun w110 => (pV w110 a0 13 14 (.int 0)).bind fun w115 => (fI w115 a0 13 19).bind fun i119 =>if i119 = 0 then (F_X13_text_L136 g  fu a0 0 0 w115) else ((fI w115 a0 13 15).bind fun i127 => some ((-1) - i127, w115))
def F_X13_text_J97 (g : Gt) (a0 : Option Nat) (w : cH) : Option (Int32 × cH) :=
  (fI w a0 13 17).bind fun i99 =>if ¬ i99 = 0 then (F_X13_text_J110 g  a0 0 a0 w) else (F_X13_text_J110 g  a0 1 a0 w)
def F_X13_text_B56 (g : Gt) (rc56 : Option Nat → cH → Option (Int32 × cH)) (a0 : Option Nat) (w : cH) : Option (Int32 × cH) :=
  (fI w a0 13 19).bind fun i57 =>if ¬ i57 = 0 then (F_X13_text_J97 g  a0 w) else ((fI w a0 13 17).bind fun i64 =>if ¬ i64 = 3 then (F_X13_text_J97 g  a0 w) else ((fA w a0 13 13).bind fun a72p => (fI w a0 13 15).bind fun i76 => (aI w a72p 100 i76).bind fun i79 =>if ¬ i79 = 59 then (F_X13_text_J97 g  a0 w) else ((F_X13_must a0 1 w).bind fun w87 => (F_X13_readItem g a0 w87).bind fun w91 => rc56 a0 w91)))
def F_X13_text_L56 (g : Gt) : Nat → Option Nat → cH → Option (Int32 × cH)
  | 0, _, _ => none
  | n9 + 1, a0, w => F_X13_text_B56 g  (F_X13_text_L56 g  n9) a0 w
def F_X13_text (g : Gt) (a0 : Option Nat) (w : cH) : Option (Int32 × cH) :=
  if tg w a0 = some 13 then ((pV w a0 13 16 (.int 0)).bind fun w2 => (pV w2 a0 13 19 (.int 0)).bind fun w7 => (pV w7 a0 13 22 (.int 0)).bind fun w12 => (fA w12 a0 13 0).bind fun a17p => (aI w12 a17p 100 42).bind fun i22 => (pV w12 a0 13 23 (.int i22)).bind fun w23 => (fA w23 a0 13 0).bind fun a28p => (aI w23 a28p 100 43).bind fun i33 => (pV w23 a0 13 24 (.int i33)).bind fun w34 => (fA w34 a0 13 0).bind fun a39p => (aI w34 a39p 100 44).bind fun i44 => (pV w34 a0 13 25 (.int i44)).bind fun w45 => (F_X13_next a0 w45).bind fun w49 => (F_X13_readItem g a0 w49).bind fun w53 => F_X13_text_L56 g  fu a0 w53) else none
abbrev rm_X13_text : Room := { frames := 8, cells := 0, slots := 0, locals := 190 }
set_option maxHeartbeats 4000000 in
set_option maxRecDepth 100000 in
theorem ct_X13_text {l : Launch} {g : Gt} (G : Gok g) {a0 : Option Nat} {w : cH} {r9 : Int32} {w9 : cH} (hF : F_X13_text g a0 w = some (r9, w9)) : tg w a0 = some 13 ∧ Mx l yX13_text (ws_ yX13_text cX13_text 3 (some .int)) rm_X13_text g [va_rf a0] w (.returned (some (.int r9))) w9 0 0 := by
  unfold F_X13_text at hF
  obtain ⟨ht, hF⟩ := bg hF
  refine ⟨ht, mk_ct cX13_text 3 (some .int) "CarryFairModel" (plainFor_of_name (by decide)) rfl (lg_le ⟨cr _, trivial⟩ (Nat.le_of_ble_eq_true rfl)) (av_ok ⟨cr _, trivial⟩) G (fun x B hl hR hin hh => ?_)⟩
  show J g x _ _ 0 0 w 0 0 0 [some (va_rf a0), none, none] []
  have lp136 : ∀ (n9 : Nat) (a0 : Option Nat) (x1 : Int32) (x2 : Int32) (w : cH), F_X13_text_L136 g  n9 a0 x1 x2 w = some (r9, w9) → J g x (.returned (some (.int r9))) w9 0 0 w 0 0 136 [some (va_rf a0), some (.int x1), some (.int x2)] [] := by
    intro n9
    induction n9 with
    | zero => intro a0 x1 x2 w hF; cases hF
    | succ n136 ih136 =>
      intro a0 x1 x2 w hF
      have hF : F_X13_text_B136 g  (F_X13_text_L136 g  n136) a0 x1 x2 w = some (r9, w9) := hF
      unfold F_X13_text_B136 at hF
      have jb160 : ∀ (a0 : Option Nat) (x2 : Int32) (s0 : Int32) (s1 : Int32) (w : cH), F_X13_text_J160 g  (F_X13_text_L136 g  n136) a0 x2 s0 s1 w = some (r9, w9) → J g x (.returned (some (.int r9))) w9 0 0 w 0 0 160 [some (va_rf a0), none, some (.int x2)] [.int s0, .int s1] := by
        intro a0 x2 s0 s1 w hF
        unfold F_X13_text_J160 at hF
        refine j_iadd B dX13_text_160 ?_
        refine j_istore_n (vs' := [some (va_rf a0), some (.int (s1 + s0)), some (.int x2)]) B dX13_text_161 (by decide) rfl ?_
        refine j_iinc (v := x2 + 1) (vs' := [some (va_rf a0), some (.int (s1 + s0)), some (.int (x2 + 1))]) B dX13_text_162 (by decide) rfl rfl rfl ?_
        refine j_goto (tgt := 136) B dX13_text_165 (by decide) ?_
        exact ih136 a0 (s1 + s0) (x2 + 1) w hF
      refine j_iload_n B dX13_text_136 rfl ?_
      refine j_aload_n B dX13_text_137 rfl ?_
      refine j_getI B fl_X13_313 dX13_text_138 hF (fun i138 hF => ?_)
      refine j_icmp_ge (tgt := 168) B dX13_text_141 (by decide) hF (fun h141 hF => ?_) (fun h141 hF => ?_)
      · refine j_iload_n B dX13_text_168 rfl ?_
        exact j_lIw B rfl dX13_text_169 hF (by decide) (by decide)
      · refine j_iload_n B dX13_text_144 rfl ?_
        refine j_aload_n B dX13_text_145 rfl ?_
        refine j_iconst (v := 5) B dX13_text_146 (by decide) ?_
        refine j_iload_n B dX13_text_147 rfl ?_
        refine j_imul B dX13_text_148 ?_
        obtain ⟨i149, w149, e149, hF⟩ := bc hF
        refine j_rV (st2 := [.int i149, .int x1]) B [.int (5 * x2)] [.int x1] cv_X13_366 dX13_text_149 hl hR (ct_X13_isSo G e149) rfl rfl rfl rfl ⟨rfl, trivial⟩ (Nat.le_of_ble_eq_true rfl) ?_
        refine j_if_ge (tgt := 159) B dX13_text_152 (by decide) hF (fun h152 hF => ?_) (fun h152 hF => ?_)
        · refine j_iconst (v := 1) B dX13_text_159 (by decide) ?_
          refine j_msk [true, false, true] rfl ?_
          exact jb160 a0 x2 1 x1 w149 hF
        · refine j_iconst (v := 0) B dX13_text_155 (by decide) ?_
          refine j_goto (tgt := 160) B dX13_text_156 (by decide) ?_
          refine j_msk [true, false, true] rfl ?_
          exact jb160 a0 x2 0 x1 w149 hF
  have jb110 : ∀ (a0 : Option Nat) (s0 : Int32) (s1 : Option Nat) (w : cH), F_X13_text_J110 g  a0 s0 s1 w = some (r9, w9) → J g x (.returned (some (.int r9))) w9 0 0 w 0 0 110 [some (va_rf a0), none, none] [.int s0, va_rf s1] := by
    intro a0 s0 s1 w hF
    unfold F_X13_text_J110 at hF
    obtain ⟨w110, e110, hF⟩ := bo hF
    refine j_rV (st2 := []) B [.int s0] [] cv_X13_309 dX13_text_110 hl hR (ct_X13_must G e110) rfl rfl rfl rfl trivial (Nat.le_of_ble_eq_true rfl) ?_
    refine j_aload_n B dX13_text_113 rfl ?_
    refine j_iconst (v := 0) B dX13_text_114 (by decide) ?_
    refine j_putV B fp_X13_276 (fun h => by cases h) rfl rfl dX13_text_115 hF (fun w115 hF => ?_)
    refine j_aload_n B dX13_text_118 rfl ?_
    refine j_getI B fl_X13_302 dX13_text_119 hF (fun i119 hF => ?_)
    refine j_if_eq (tgt := 132) B dX13_text_122 (by decide) hF (fun h122 hF => ?_) (fun h122 hF => ?_)
    · refine j_iconst (v := 0) B dX13_text_132 (by decide) ?_
      refine j_istore_n (vs' := [some (va_rf a0), some (.int 0), none]) B dX13_text_133 (by decide) rfl ?_
      refine j_iconst (v := 0) B dX13_text_134 (by decide) ?_
      refine j_istore_n (vs' := [some (va_rf a0), some (.int 0), some (.int 0)]) B dX13_text_135 (by decide) rfl ?_
      exact lp136 fu a0 0 0 w115 hF
    · refine j_iconst (v := (-1)) B dX13_text_125 (by decide) ?_
      refine j_aload_n B dX13_text_126 rfl ?_
      refine j_getI B fl_X13_282 dX13_text_127 hF (fun i127 hF => ?_)
      refine j_isub B dX13_text_130 ?_
      exact j_lIw B rfl dX13_text_131 hF (by decide) (by decide)
  have jb97 : ∀ (a0 : Option Nat) (w : cH), F_X13_text_J97 g  a0 w = some (r9, w9) → J g x (.returned (some (.int r9))) w9 0 0 w 0 0 97 [some (va_rf a0), none, none] [] := by
    intro a0 w hF
    unfold F_X13_text_J97 at hF
    refine j_aload_n B dX13_text_97 rfl ?_
    refine j_aload_n B dX13_text_98 rfl ?_
    refine j_getI B fl_X13_291 dX13_text_99 hF (fun i99 hF => ?_)
    refine j_if_ne (tgt := 109) B dX13_text_102 (by decide) hF (fun h102 hF => ?_) (fun h102 hF => ?_)
    · refine j_iconst (v := 0) B dX13_text_109 (by decide) ?_
      exact jb110 a0 0 a0 w hF
    · refine j_iconst (v := 1) B dX13_text_105 (by decide) ?_
      refine j_goto (tgt := 110) B dX13_text_106 (by decide) ?_
      exact jb110 a0 1 a0 w hF
  have lp56 : ∀ (n9 : Nat) (a0 : Option Nat) (w : cH), F_X13_text_L56 g  n9 a0 w = some (r9, w9) → J g x (.returned (some (.int r9))) w9 0 0 w 0 0 56 [some (va_rf a0), none, none] [] := by
    intro n9
    induction n9 with
    | zero => intro a0 w hF; cases hF
    | succ n56 ih56 =>
      intro a0 w hF
      have hF : F_X13_text_B56 g  (F_X13_text_L56 g  n56) a0 w = some (r9, w9) := hF
      unfold F_X13_text_B56 at hF
      refine j_aload_n B dX13_text_56 rfl ?_
      refine j_getI B fl_X13_302 dX13_text_57 hF (fun i57 hF => ?_)
      refine j_if_ne (tgt := 97) B dX13_text_60 (by decide) hF (fun h60 hF => ?_) (fun h60 hF => ?_)
      · exact jb97 a0 w hF
      · refine j_aload_n B dX13_text_63 rfl ?_
        refine j_getI B fl_X13_291 dX13_text_64 hF (fun i64 hF => ?_)
        refine j_iconst (v := 3) B dX13_text_67 (by decide) ?_
        refine j_icmp_ne (tgt := 97) B dX13_text_68 (by decide) hF (fun h68 hF => ?_) (fun h68 hF => ?_)
        · exact jb97 a0 w hF
        · refine j_aload_n B dX13_text_71 rfl ?_
          refine j_getA B fl_X13_34 dX13_text_72 hF (fun a72p hF => ?_)
          refine j_aload_n B dX13_text_75 rfl ?_
          refine j_getI B fl_X13_282 dX13_text_76 hF (fun i76 hF => ?_)
          refine j_iaload B dX13_text_79 hF (fun i79 hF => ?_)
          refine j_bipush (v := 59) B dX13_text_80 (by decide) ?_
          refine j_icmp_ne (tgt := 97) B dX13_text_82 (by decide) hF (fun h82 hF => ?_) (fun h82 hF => ?_)
          · exact jb97 a0 w hF
          · refine j_aload_n B dX13_text_85 rfl ?_
            refine j_iconst (v := 1) B dX13_text_86 (by decide) ?_
            obtain ⟨w87, e87, hF⟩ := bo hF
            refine j_rV (st2 := []) B [.int 1] [] cv_X13_309 dX13_text_87 hl hR (ct_X13_must G e87) rfl rfl rfl rfl trivial (Nat.le_of_ble_eq_true rfl) ?_
            refine j_aload_n B dX13_text_90 rfl ?_
            obtain ⟨w91, e91, hF⟩ := bo hF
            refine j_rV (st2 := []) B [] [] cv_X13_363 dX13_text_91 hl hR (ct_X13_readItem G e91) rfl rfl rfl rfl trivial (Nat.le_of_ble_eq_true rfl) ?_
            refine j_goto (tgt := 56) B dX13_text_94 (by decide) ?_
            exact ih56 a0 w91 hF
  refine j_aload_n B dX13_text_0 rfl ?_
  refine j_iconst (v := 0) B dX13_text_1 (by decide) ?_
  refine j_putV B fp_X13_279 (fun h => by cases h) rfl rfl dX13_text_2 hF (fun w2 hF => ?_)
  refine j_aload_n B dX13_text_5 rfl ?_
  refine j_iconst (v := 0) B dX13_text_6 (by decide) ?_
  refine j_putV B fp_X13_302 (fun h => by cases h) rfl rfl dX13_text_7 hF (fun w7 hF => ?_)
  refine j_aload_n B dX13_text_10 rfl ?_
  refine j_iconst (v := 0) B dX13_text_11 (by decide) ?_
  refine j_putV B fp_X13_313 (fun h => by cases h) rfl rfl dX13_text_12 hF (fun w12 hF => ?_)
  refine j_aload_n B dX13_text_15 rfl ?_
  refine j_aload_n B dX13_text_16 rfl ?_
  refine j_getA B fl_X13_9 dX13_text_17 hF (fun a17p hF => ?_)
  refine j_bipush (v := 42) B dX13_text_20 (by decide) ?_
  refine j_iaload B dX13_text_22 hF (fun i22 hF => ?_)
  refine j_putV B fp_X13_323 (fun h => by cases h) rfl rfl dX13_text_23 hF (fun w23 hF => ?_)
  refine j_aload_n B dX13_text_26 rfl ?_
  refine j_aload_n B dX13_text_27 rfl ?_
  refine j_getA B fl_X13_9 dX13_text_28 hF (fun a28p hF => ?_)
  refine j_bipush (v := 43) B dX13_text_31 (by decide) ?_
  refine j_iaload B dX13_text_33 hF (fun i33 hF => ?_)
  refine j_putV B fp_X13_351 (fun h => by cases h) rfl rfl dX13_text_34 hF (fun w34 hF => ?_)
  refine j_aload_n B dX13_text_37 rfl ?_
  refine j_aload_n B dX13_text_38 rfl ?_
  refine j_getA B fl_X13_9 dX13_text_39 hF (fun a39p hF => ?_)
  refine j_bipush (v := 44) B dX13_text_42 (by decide) ?_
  refine j_iaload B dX13_text_44 hF (fun i44 hF => ?_)
  refine j_putV B fp_X13_360 (fun h => by cases h) rfl rfl dX13_text_45 hF (fun w45 hF => ?_)
  refine j_aload_n B dX13_text_48 rfl ?_
  obtain ⟨w49, e49, hF⟩ := bo hF
  refine j_rV (st2 := []) B [] [] cv_X13_306 dX13_text_49 hl hR (ct_X13_next G e49) rfl rfl rfl rfl trivial (Nat.le_of_ble_eq_true rfl) ?_
  refine j_aload_n B dX13_text_52 rfl ?_
  obtain ⟨w53, e53, hF⟩ := bo hF
  refine j_rV (st2 := []) B [] [] cv_X13_363 dX13_text_53 hl hR (ct_X13_readItem G e53) rfl rfl rfl rfl trivial (Nat.le_of_ble_eq_true rfl) ?_
  exact lp56 fu a0 w53 hF
def F_X13_isSpot (x0 : Int32) : Int32 :=
  (F_X13_within x0 0 9) &&& 1
abbrev rm_X13_isSpot : Room := { frames := 1, cells := 0, slots := 0, locals := 22 }
set_option maxHeartbeats 4000000 in
set_option maxRecDepth 100000 in
theorem ct_X13_isSpot {l : Launch} {g : Gt} (G : Gok g) {x0 : Int32} {w : cH} : Mx l yX13_isSpot (ws_ yX13_isSpot cX13_isSpot 1 (some .boolean)) rm_X13_isSpot g [.int x0] w (.returned (some (.int (F_X13_isSpot x0)))) w 0 0 := by
  generalize hF : F_X13_isSpot x0 = r9
  unfold F_X13_isSpot at hF
  refine mk_ct cX13_isSpot 1 (some .boolean) "CarryFairModel" (plainFor_of_name (by decide)) rfl (lg_le ⟨rfl, trivial⟩ (Nat.le_of_ble_eq_true rfl)) (av_ok ⟨rfl, trivial⟩) G (fun x B hl hR hin hh => ?_)
  show J g x _ _ 0 0 w 0 0 0 [some (.int x0)] []
  refine j_iload_n B dX13_isSpot_0 rfl ?_
  refine j_iconst (v := 0) B dX13_isSpot_1 (by decide) ?_
  refine j_bipush (v := 9) B dX13_isSpot_2 (by decide) ?_
  refine j_rS (st2 := [.int (F_X13_within x0 0 9)]) B [.int x0, .int 0, .int 9] [] cs_X13_77 dX13_isSpot_4 hl hR (ct_X13_within G) rfl rfl rfl rfl trivial (Nat.le_of_ble_eq_true rfl) ?_
  exact j_lBp B rfl dX13_isSpot_7 hF (by decide) (by decide)
theorem cs_X13_369 : CS "CarryFairModel" 369 yX13_isSpot cX13_isSpot 1 (some .boolean) 1 := ⟨Or.inl (lw_S q1857 q1858 q142 q1859), by decide +kernel⟩
def F_X13_hold_J27 (a0 : Option Nat) (x1 : Int32) (x2 : Int32) (w : cH) : Option (Int32 × cH) :=
  (fA w a0 13 0).bind fun a28p => (aS w a28p 100 (46 + x1) (.int x2)).bind fun w36 => some (1, w36)
def F_X13_hold_J20 (a0 : Option Nat) (w : cH) : Option (Int32 × cH) :=
  cb (F_X13_finding a0 (-1000001) w) fun i23 w23 => some (i23, w23)
def F_X13_hold (a0 : Option Nat) (x1 : Int32) (x2 : Int32) (w : cH) : Option (Int32 × cH) :=
  if tg w a0 = some 13 then (if (F_X13_isSpot x1) = 0 then (F_X13_hold_J20  a0 w) else (if x2 = (-1) then (F_X13_hold_J27  a0 x1 x2 w) else ((F_X13_isCarrier a0 x2 w).bind fun i14 =>if ¬ i14 = 0 then (F_X13_hold_J27  a0 x1 x2 w) else (F_X13_hold_J20  a0 w)))) else none
abbrev rm_X13_hold : Room := { frames := 2, cells := 0, slots := 0, locals := 43 }
set_option maxHeartbeats 4000000 in
set_option maxRecDepth 100000 in
theorem ct_X13_hold {l : Launch} {g : Gt} (G : Gok g) {a0 : Option Nat} {x1 : Int32} {x2 : Int32} {w : cH} {r9 : Int32} {w9 : cH} (hF : F_X13_hold a0 x1 x2 w = some (r9, w9)) : tg w a0 = some 13 ∧ Mx l yX13_hold (ws_ yX13_hold cX13_hold 3 (some .int)) rm_X13_hold g [va_rf a0, .int x1, .int x2] w (.returned (some (.int r9))) w9 0 0 := by
  unfold F_X13_hold at hF
  obtain ⟨ht, hF⟩ := bg hF
  refine ⟨ht, mk_ct cX13_hold 3 (some .int) "CarryFairModel" (plainFor_of_name (by decide)) rfl (lg_le ⟨cr _, rfl, rfl, trivial⟩ (Nat.le_of_ble_eq_true rfl)) (av_ok ⟨cr _, rfl, rfl, trivial⟩) G (fun x B hl hR hin hh => ?_)⟩
  show J g x _ _ 0 0 w 0 0 0 [some (va_rf a0), some (.int x1), some (.int x2)] []
  have jb27 : ∀ (a0 : Option Nat) (x1 : Int32) (x2 : Int32) (w : cH), F_X13_hold_J27  a0 x1 x2 w = some (r9, w9) → J g x (.returned (some (.int r9))) w9 0 0 w 0 0 27 [some (va_rf a0), some (.int x1), some (.int x2)] [] := by
    intro a0 x1 x2 w hF
    unfold F_X13_hold_J27 at hF
    refine j_aload_n B dX13_hold_27 rfl ?_
    refine j_getA B fl_X13_9 dX13_hold_28 hF (fun a28p hF => ?_)
    refine j_bipush (v := 46) B dX13_hold_31 (by decide) ?_
    refine j_iload_n B dX13_hold_33 rfl ?_
    refine j_iadd B dX13_hold_34 ?_
    refine j_iload_n B dX13_hold_35 rfl ?_
    refine j_iastore B dX13_hold_36 hF (fun w36 hF => ?_)
    refine j_iconst (v := 1) B dX13_hold_37 (by decide) ?_
    exact j_lIw B rfl dX13_hold_38 hF (by decide) (by decide)
  have jb20 : ∀ (a0 : Option Nat) (w : cH), F_X13_hold_J20  a0 w = some (r9, w9) → J g x (.returned (some (.int r9))) w9 0 0 w 0 0 20 [some (va_rf a0), none, none] [] := by
    intro a0 w hF
    unfold F_X13_hold_J20 at hF
    refine j_aload_n B dX13_hold_20 rfl ?_
    refine j_ldc (v := (-1000001)) B q1436 dX13_hold_21 ?_
    obtain ⟨i23, w23, e23, hF⟩ := bc hF
    refine j_rV (st2 := [.int i23]) B [.int (-1000001)] [] cv_X13_92 dX13_hold_23 hl hR (ct_X13_finding G e23) rfl rfl rfl rfl trivial (Nat.le_of_ble_eq_true rfl) ?_
    exact j_lIw B rfl dX13_hold_26 hF (by decide) (by decide)
  refine j_iload_n B dX13_hold_0 rfl ?_
  refine j_rS (st2 := [.int (F_X13_isSpot x1)]) B [.int x1] [] cs_X13_369 dX13_hold_1 hl hR (ct_X13_isSpot G) rfl rfl rfl rfl trivial (Nat.le_of_ble_eq_true rfl) ?_
  refine j_if_eq (tgt := 20) B dX13_hold_4 (by decide) hF (fun h4 hF => ?_) (fun h4 hF => ?_)
  · refine j_msk [true, false, false] rfl ?_
    exact jb20 a0 w hF
  · refine j_iload_n B dX13_hold_7 rfl ?_
    refine j_iconst (v := (-1)) B dX13_hold_8 (by decide) ?_
    refine j_icmp_eq (tgt := 27) B dX13_hold_9 (by decide) hF (fun h9 hF => ?_) (fun h9 hF => ?_)
    · exact jb27 a0 x1 x2 w hF
    · refine j_aload_n B dX13_hold_12 rfl ?_
      refine j_iload_n B dX13_hold_13 rfl ?_
      obtain ⟨i14, e14, hF⟩ := bo hF
      refine j_rV (st2 := [.int i14]) B [.int x2] [] cv_X13_117 dX13_hold_14 hl hR (ct_X13_isCarrier G e14) rfl rfl rfl rfl trivial (Nat.le_of_ble_eq_true rfl) ?_
      refine j_if_ne (tgt := 27) B dX13_hold_17 (by decide) hF (fun h17 hF => ?_) (fun h17 hF => ?_)
      · exact jb27 a0 x1 x2 w hF
      · refine j_msk [true, false, false] rfl ?_
        exact jb20 a0 w hF
def F_X13_as_J14 (a0 : Option Nat) (w : cH) : Option (Int32 × cH) :=
  cb (F_X13_finding a0 (-1000001) w) fun i17 w17 => some (i17, w17)
def F_X13_as (a0 : Option Nat) (x1 : Int32) (x2 : Int32) (w : cH) : Option (Int32 × cH) :=
  if tg w a0 = some 13 then (if (F_X13_isSpot x1) = 0 then (F_X13_as_J14  a0 w) else (if ¬ (F_X13_isKind x2) = 0 then ((fA w a0 13 0).bind fun a22p => (aI w a22p 100 (46 + x1)).bind fun i29 =>if 0 ≤ i29 then ((F_X13_cIs a0 i29 0 w).bind fun i46 => (F_X13_isUnder i46 x2 w).bind fun i50 =>if i50 = 0 then (cb (F_X13_finding a0 (-1000003) w) fun i64 w64 => some (i64, w64)) else (some (i29, w))) else (cb (F_X13_finding a0 (-1000006) w) fun i39 w39 => some (i39, w39))) else (F_X13_as_J14  a0 w))) else none
abbrev rm_X13_as : Room := { frames := 2, cells := 0, slots := 0, locals := 43 }
set_option maxHeartbeats 4000000 in
set_option maxRecDepth 100000 in
theorem ct_X13_as {l : Launch} {g : Gt} (G : Gok g) {a0 : Option Nat} {x1 : Int32} {x2 : Int32} {w : cH} {r9 : Int32} {w9 : cH} (hF : F_X13_as a0 x1 x2 w = some (r9, w9)) : tg w a0 = some 13 ∧ Mx l yX13_as (ws_ yX13_as cX13_as 4 (some .int)) rm_X13_as g [va_rf a0, .int x1, .int x2] w (.returned (some (.int r9))) w9 0 0 := by
  unfold F_X13_as at hF
  obtain ⟨ht, hF⟩ := bg hF
  refine ⟨ht, mk_ct cX13_as 4 (some .int) "CarryFairModel" (plainFor_of_name (by decide)) rfl (lg_le ⟨cr _, rfl, rfl, trivial⟩ (Nat.le_of_ble_eq_true rfl)) (av_ok ⟨cr _, rfl, rfl, trivial⟩) G (fun x B hl hR hin hh => ?_)⟩
  show J g x _ _ 0 0 w 0 0 0 [some (va_rf a0), some (.int x1), some (.int x2), none] []
  have jb14 : ∀ (a0 : Option Nat) (w : cH), F_X13_as_J14  a0 w = some (r9, w9) → J g x (.returned (some (.int r9))) w9 0 0 w 0 0 14 [some (va_rf a0), none, none, none] [] := by
    intro a0 w hF
    unfold F_X13_as_J14 at hF
    refine j_aload_n B dX13_as_14 rfl ?_
    refine j_ldc (v := (-1000001)) B q1436 dX13_as_15 ?_
    obtain ⟨i17, w17, e17, hF⟩ := bc hF
    refine j_rV (st2 := [.int i17]) B [.int (-1000001)] [] cv_X13_92 dX13_as_17 hl hR (ct_X13_finding G e17) rfl rfl rfl rfl trivial (Nat.le_of_ble_eq_true rfl) ?_
    exact j_lIw B rfl dX13_as_20 hF (by decide) (by decide)
  refine j_iload_n B dX13_as_0 rfl ?_
  refine j_rS (st2 := [.int (F_X13_isSpot x1)]) B [.int x1] [] cs_X13_369 dX13_as_1 hl hR (ct_X13_isSpot G) rfl rfl rfl rfl trivial (Nat.le_of_ble_eq_true rfl) ?_
  refine j_if_eq (tgt := 14) B dX13_as_4 (by decide) hF (fun h4 hF => ?_) (fun h4 hF => ?_)
  · refine j_msk [true, false, false, false] rfl ?_
    exact jb14 a0 w hF
  · refine j_iload_n B dX13_as_7 rfl ?_
    refine j_rS (st2 := [.int (F_X13_isKind x2)]) B [.int x2] [] cs_X13_88 dX13_as_8 hl hR (ct_X13_isKind G) rfl rfl rfl rfl trivial (Nat.le_of_ble_eq_true rfl) ?_
    refine j_if_ne (tgt := 21) B dX13_as_11 (by decide) hF (fun h11 hF => ?_) (fun h11 hF => ?_)
    · refine j_aload_n B dX13_as_21 rfl ?_
      refine j_getA B fl_X13_9 dX13_as_22 hF (fun a22p hF => ?_)
      refine j_bipush (v := 46) B dX13_as_25 (by decide) ?_
      refine j_iload_n B dX13_as_27 rfl ?_
      refine j_iadd B dX13_as_28 ?_
      refine j_iaload B dX13_as_29 hF (fun i29 hF => ?_)
      refine j_istore_n (vs' := [some (va_rf a0), some (.int x1), some (.int x2), some (.int i29)]) B dX13_as_30 (by decide) rfl ?_
      refine j_iload_n B dX13_as_31 rfl ?_
      refine j_if_ge (tgt := 43) B dX13_as_32 (by decide) hF (fun h32 hF => ?_) (fun h32 hF => ?_)
      · refine j_aload_n B dX13_as_43 rfl ?_
        refine j_iload_n B dX13_as_44 rfl ?_
        refine j_iconst (v := 0) B dX13_as_45 (by decide) ?_
        obtain ⟨i46, e46, hF⟩ := bo hF
        refine j_rV (st2 := [.int i46]) B [.int i29, .int 0] [] cv_X13_104 dX13_as_46 hl hR (ct_X13_cIs G e46) rfl rfl rfl rfl trivial (Nat.le_of_ble_eq_true rfl) ?_
        refine j_iload_n B dX13_as_49 rfl ?_
        obtain ⟨i50, e50, hF⟩ := bo hF
        refine j_rS (st2 := [.int i50]) B [.int i46, .int x2] [] cs_X13_107 dX13_as_50 hl hR (ct_X13_isUnder G e50) rfl rfl rfl rfl trivial (Nat.le_of_ble_eq_true rfl) ?_
        refine j_if_eq (tgt := 60) B dX13_as_53 (by decide) hF (fun h53 hF => ?_) (fun h53 hF => ?_)
        · refine j_aload_n B dX13_as_60 rfl ?_
          refine j_ldcw (v := (-1000003)) B q1865 dX13_as_61 ?_
          obtain ⟨i64, w64, e64, hF⟩ := bc hF
          refine j_rV (st2 := [.int i64]) B [.int (-1000003)] [] cv_X13_92 dX13_as_64 hl hR (ct_X13_finding G e64) rfl rfl rfl rfl trivial (Nat.le_of_ble_eq_true rfl) ?_
          exact j_lIw B rfl dX13_as_67 hF (by decide) (by decide)
        · refine j_iload_n B dX13_as_56 rfl ?_
          refine j_goto (tgt := 67) B dX13_as_57 (by decide) ?_
          exact j_lIw B rfl dX13_as_67 hF (by decide) (by decide)
      · refine j_aload_n B dX13_as_35 rfl ?_
        refine j_ldcw (v := (-1000006)) B q1864 dX13_as_36 ?_
        obtain ⟨i39, w39, e39, hF⟩ := bc hF
        refine j_rV (st2 := [.int i39]) B [.int (-1000006)] [] cv_X13_92 dX13_as_39 hl hR (ct_X13_finding G e39) rfl rfl rfl rfl trivial (Nat.le_of_ble_eq_true rfl) ?_
        exact j_lIw B rfl dX13_as_42 hF (by decide) (by decide)
    · refine j_msk [true, false, false, false] rfl ?_
      exact jb14 a0 w hF
