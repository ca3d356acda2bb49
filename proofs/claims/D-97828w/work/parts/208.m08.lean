theorem cv_X13_199 : CV "CarryFairModel" 199 13 yX13_walked cX13_walked 7 (some .int) 2 := ⟨_, _, rfl, lw_V q1604 q1606 qs92 q142 q1607, by decide +kernel⟩
def F_X13_walk_J15 (a0 : Option Nat) (w : cH) : Option (Int32 × cH) :=
  cb (F_X13_finding a0 (-1000001) w) fun i18 w18 => some (i18, w18)
def F_X13_walk (a0 : Option Nat) (x1 : Int32) (x2 : Int32) (w : cH) : Option (Int32 × cH) :=
  if tg w a0 = some 13 then ((F_X13_isCarrier a0 x1 w).bind fun i2 =>if i2 = 0 then (F_X13_walk_J15  a0 w) else (if ¬ (F_X13_isPlace x2) = 0 then (cb (F_X13_walked a0 x1 x2 w) fun i25 w25 =>if 0 ≤ i25 then (some (i25, w25)) else (cb (F_X13_finding a0 (-1000004) w25) fun i36 w36 => some (i36, w36))) else (F_X13_walk_J15  a0 w))) else none
abbrev rm_X13_walk : Room := { frames := 7, cells := 0, slots := 0, locals := 164 }
set_option maxHeartbeats 4000000 in
set_option maxRecDepth 100000 in
theorem ct_X13_walk {l : Launch} {g : Gt} (G : Gok g) {a0 : Option Nat} {x1 : Int32} {x2 : Int32} {w : cH} {r9 : Int32} {w9 : cH} (hF : F_X13_walk a0 x1 x2 w = some (r9, w9)) : tg w a0 = some 13 ∧ Mx l yX13_walk (ws_ yX13_walk cX13_walk 4 (some .int)) rm_X13_walk g [va_rf a0, .int x1, .int x2] w (.returned (some (.int r9))) w9 0 0 := by
  unfold F_X13_walk at hF
  obtain ⟨ht, hF⟩ := bg hF
  refine ⟨ht, mk_ct cX13_walk 4 (some .int) "CarryFairModel" (plainFor_of_name (by decide)) rfl (lg_le ⟨cr _, rfl, rfl, trivial⟩ (Nat.le_of_ble_eq_true rfl)) (av_ok ⟨cr _, rfl, rfl, trivial⟩) G (fun x B hl hR hin hh => ?_)⟩
  show J g x _ _ 0 0 w 0 0 0 [some (va_rf a0), some (.int x1), some (.int x2), none] []
  have jb15 : ∀ (a0 : Option Nat) (w : cH), F_X13_walk_J15  a0 w = some (r9, w9) → J g x (.returned (some (.int r9))) w9 0 0 w 0 0 15 [some (va_rf a0), none, none, none] [] := by
    intro a0 w hF
    unfold F_X13_walk_J15 at hF
    refine j_aload_n B dX13_walk_15 rfl ?_
    refine j_ldc (v := (-1000001)) B q1436 dX13_walk_16 ?_
    obtain ⟨i18, w18, e18, hF⟩ := bc hF
    refine j_rV (st2 := [.int i18]) B [.int (-1000001)] [] cv_X13_92 dX13_walk_18 hl hR (ct_X13_finding G e18) rfl rfl rfl rfl trivial (Nat.le_of_ble_eq_true rfl) ?_
    exact j_lIw B rfl dX13_walk_21 hF (by decide) (by decide)
  refine j_aload_n B dX13_walk_0 rfl ?_
  refine j_iload_n B dX13_walk_1 rfl ?_
  obtain ⟨i2, e2, hF⟩ := bo hF
  refine j_rV (st2 := [.int i2]) B [.int x1] [] cv_X13_117 dX13_walk_2 hl hR (ct_X13_isCarrier G e2) rfl rfl rfl rfl trivial (Nat.le_of_ble_eq_true rfl) ?_
  refine j_if_eq (tgt := 15) B dX13_walk_5 (by decide) hF (fun h5 hF => ?_) (fun h5 hF => ?_)
  · refine j_msk [true, false, false, false] rfl ?_
    exact jb15 a0 w hF
  · refine j_iload_n B dX13_walk_8 rfl ?_
    refine j_rS (st2 := [.int (F_X13_isPlace x2)]) B [.int x2] [] cs_X13_129 dX13_walk_9 hl hR (ct_X13_isPlace G) rfl rfl rfl rfl trivial (Nat.le_of_ble_eq_true rfl) ?_
    refine j_if_ne (tgt := 22) B dX13_walk_12 (by decide) hF (fun h12 hF => ?_) (fun h12 hF => ?_)
    · refine j_aload_n B dX13_walk_22 rfl ?_
      refine j_iload_n B dX13_walk_23 rfl ?_
      refine j_iload_n B dX13_walk_24 rfl ?_
      obtain ⟨i25, w25, e25, hF⟩ := bc hF
      refine j_rV (st2 := [.int i25]) B [.int x1, .int x2] [] cv_X13_199 dX13_walk_25 hl hR (ct_X13_walked G e25) rfl rfl rfl rfl trivial (Nat.le_of_ble_eq_true rfl) ?_
      refine j_istore_n (vs' := [some (va_rf a0), some (.int x1), some (.int x2), some (.int i25)]) B dX13_walk_28 (by decide) rfl ?_
      refine j_iload_n B dX13_walk_29 rfl ?_
      refine j_if_ge (tgt := 42) B dX13_walk_30 (by decide) hF (fun h30 hF => ?_) (fun h30 hF => ?_)
      · refine j_iload_n B dX13_walk_42 rfl ?_
        exact j_lIw B rfl dX13_walk_43 hF (by decide) (by decide)
      · refine j_aload_n B dX13_walk_33 rfl ?_
        refine j_ldc (v := (-1000004)) B q1551 dX13_walk_34 ?_
        obtain ⟨i36, w36, e36, hF⟩ := bc hF
        refine j_rV (st2 := [.int i36]) B [.int (-1000004)] [] cv_X13_92 dX13_walk_36 hl hR (ct_X13_finding G e36) rfl rfl rfl rfl trivial (Nat.le_of_ble_eq_true rfl) ?_
        refine j_goto (tgt := 43) B dX13_walk_39 (by decide) ?_
        exact j_lIw B rfl dX13_walk_43 hF (by decide) (by decide)
    · refine j_msk [true, false, false, false] rfl ?_
      exact jb15 a0 w hF
def F_X13_buy_J55 (a0 : Option Nat) (w : cH) : Option (Int32 × cH) :=
  cb (F_X13_finding a0 (-1000005) w) fun i58 w58 => some (i58, w58)
def F_X13_buy_J16 (a0 : Option Nat) (w : cH) : Option (Int32 × cH) :=
  cb (F_X13_finding a0 (-1000001) w) fun i19 w19 => some (i19, w19)
def F_X13_buy (a0 : Option Nat) (x1 : Int32) (x2 : Int32) (w : cH) : Option (Int32 × cH) :=
  if tg w a0 = some 13 then ((F_X13_isCarrier a0 x1 w).bind fun i2 =>if i2 = 0 then (F_X13_buy_J16  a0 w) else ((F_X13_isWare a0 x2 w).bind fun i10 =>if ¬ i10 = 0 then ((fA w a0 13 0).bind fun a24p => (aI w a24p 100 (F_X13_wAt x2 1)).bind fun i32 =>if 0 ≤ i32 then (F_X13_buy_J55  a0 w) else ((F_X13_cIs a0 x1 3 w).bind fun i39 => (fA w a0 13 0).bind fun a43p => (aI w a43p 100 (F_X13_wAt x2 0)).bind fun i51 =>if i51 ≤ i39 then ((fA w a0 13 0).bind fun a63p => (aS w a63p 100 (F_X13_wAt x2 1) (.int x1)).bind fun w72 => (fA w72 a0 13 0).bind fun a74p => (aI w72 a74p 100 (F_X13_cAt x1 3)).bind fun i83 => (fA w72 a0 13 0).bind fun a85p => (aI w72 a85p 100 (F_X13_wAt x2 0)).bind fun i93 => (aS w72 a74p 100 (F_X13_cAt x1 3) (.int (i83 - i93))).bind fun w95 => (F_X13_cIs a0 x1 3 w95).bind fun i99 => some (i99, w95)) else (F_X13_buy_J55  a0 w))) else (F_X13_buy_J16  a0 w))) else none
abbrev rm_X13_buy : Room := { frames := 2, cells := 0, slots := 0, locals := 43 }
set_option maxHeartbeats 4000000 in
set_option maxRecDepth 100000 in
theorem ct_X13_buy {l : Launch} {g : Gt} (G : Gok g) {a0 : Option Nat} {x1 : Int32} {x2 : Int32} {w : cH} {r9 : Int32} {w9 : cH} (hF : F_X13_buy a0 x1 x2 w = some (r9, w9)) : tg w a0 = some 13 ∧ Mx l yX13_buy (ws_ yX13_buy cX13_buy 3 (some .int)) rm_X13_buy g [va_rf a0, .int x1, .int x2] w (.returned (some (.int r9))) w9 0 0 := by
  unfold F_X13_buy at hF
  obtain ⟨ht, hF⟩ := bg hF
  refine ⟨ht, mk_ct cX13_buy 3 (some .int) "CarryFairModel" (plainFor_of_name (by decide)) rfl (lg_le ⟨cr _, rfl, rfl, trivial⟩ (Nat.le_of_ble_eq_true rfl)) (av_ok ⟨cr _, rfl, rfl, trivial⟩) G (fun x B hl hR hin hh => ?_)⟩
  show J g x _ _ 0 0 w 0 0 0 [some (va_rf a0), some (.int x1), some (.int x2)] []
  have jb55 : ∀ (a0 : Option Nat) (w : cH), F_X13_buy_J55  a0 w = some (r9, w9) → J g x (.returned (some (.int r9))) w9 0 0 w 0 0 55 [some (va_rf a0), none, none] [] := by
    intro a0 w hF
    unfold F_X13_buy_J55 at hF
    refine j_aload_n B dX13_buy_55 rfl ?_
    refine j_ldc (v := (-1000005)) B q1587 dX13_buy_56 ?_
    obtain ⟨i58, w58, e58, hF⟩ := bc hF
    refine j_rV (st2 := [.int i58]) B [.int (-1000005)] [] cv_X13_92 dX13_buy_58 hl hR (ct_X13_finding G e58) rfl rfl rfl rfl trivial (Nat.le_of_ble_eq_true rfl) ?_
    exact j_lIw B rfl dX13_buy_61 hF (by decide) (by decide)
  have jb16 : ∀ (a0 : Option Nat) (w : cH), F_X13_buy_J16  a0 w = some (r9, w9) → J g x (.returned (some (.int r9))) w9 0 0 w 0 0 16 [some (va_rf a0), none, none] [] := by
    intro a0 w hF
    unfold F_X13_buy_J16 at hF
    refine j_aload_n B dX13_buy_16 rfl ?_
    refine j_ldc (v := (-1000001)) B q1436 dX13_buy_17 ?_
    obtain ⟨i19, w19, e19, hF⟩ := bc hF
    refine j_rV (st2 := [.int i19]) B [.int (-1000001)] [] cv_X13_92 dX13_buy_19 hl hR (ct_X13_finding G e19) rfl rfl rfl rfl trivial (Nat.le_of_ble_eq_true rfl) ?_
    exact j_lIw B rfl dX13_buy_22 hF (by decide) (by decide)
  refine j_aload_n B dX13_buy_0 rfl ?_
  refine j_iload_n B dX13_buy_1 rfl ?_
  obtain ⟨i2, e2, hF⟩ := bo hF
  refine j_rV (st2 := [.int i2]) B [.int x1] [] cv_X13_117 dX13_buy_2 hl hR (ct_X13_isCarrier G e2) rfl rfl rfl rfl trivial (Nat.le_of_ble_eq_true rfl) ?_
  refine j_if_eq (tgt := 16) B dX13_buy_5 (by decide) hF (fun h5 hF => ?_) (fun h5 hF => ?_)
  · refine j_msk [true, false, false] rfl ?_
    exact jb16 a0 w hF
  · refine j_aload_n B dX13_buy_8 rfl ?_
    refine j_iload_n B dX13_buy_9 rfl ?_
    obtain ⟨i10, e10, hF⟩ := bo hF
    refine j_rV (st2 := [.int i10]) B [.int x2] [] cv_X13_167 dX13_buy_10 hl hR (ct_X13_isWare G e10) rfl rfl rfl rfl trivial (Nat.le_of_ble_eq_true rfl) ?_
    refine j_if_ne (tgt := 23) B dX13_buy_13 (by decide) hF (fun h13 hF => ?_) (fun h13 hF => ?_)
    · refine j_aload_n B dX13_buy_23 rfl ?_
      refine j_getA B fl_X13_9 dX13_buy_24 hF (fun a24p hF => ?_)
      refine j_iload_n B dX13_buy_27 rfl ?_
      refine j_iconst (v := 1) B dX13_buy_28 (by decide) ?_
      refine j_rS (st2 := [.int (F_X13_wAt x2 1), va_rf a24p]) B [.int x2, .int 1] [va_rf a24p] cs_X13_161 dX13_buy_29 hl hR (ct_X13_wAt G) rfl rfl rfl rfl ⟨cr _, trivial⟩ (Nat.le_of_ble_eq_true rfl) ?_
      refine j_iaload B dX13_buy_32 hF (fun i32 hF => ?_)
      refine j_if_ge (tgt := 55) B dX13_buy_33 (by decide) hF (fun h33 hF => ?_) (fun h33 hF => ?_)
      · refine j_msk [true, false, false] rfl ?_
        exact jb55 a0 w hF
      · refine j_aload_n B dX13_buy_36 rfl ?_
        refine j_iload_n B dX13_buy_37 rfl ?_
        refine j_iconst (v := 3) B dX13_buy_38 (by decide) ?_
        obtain ⟨i39, e39, hF⟩ := bo hF
        refine j_rV (st2 := [.int i39]) B [.int x1, .int 3] [] cv_X13_104 dX13_buy_39 hl hR (ct_X13_cIs G e39) rfl rfl rfl rfl trivial (Nat.le_of_ble_eq_true rfl) ?_
        refine j_aload_n B dX13_buy_42 rfl ?_
        refine j_getA B fl_X13_9 dX13_buy_43 hF (fun a43p hF => ?_)
        refine j_iload_n B dX13_buy_46 rfl ?_
        refine j_iconst (v := 0) B dX13_buy_47 (by decide) ?_
        refine j_rS (st2 := [.int (F_X13_wAt x2 0), va_rf a43p, .int i39]) B [.int x2, .int 0] [va_rf a43p, .int i39] cs_X13_161 dX13_buy_48 hl hR (ct_X13_wAt G) rfl rfl rfl rfl ⟨cr _, rfl, trivial⟩ (Nat.le_of_ble_eq_true rfl) ?_
        refine j_iaload B dX13_buy_51 hF (fun i51 hF => ?_)
        refine j_icmp_ge (tgt := 62) B dX13_buy_52 (by decide) hF (fun h52 hF => ?_) (fun h52 hF => ?_)
        · refine j_aload_n B dX13_buy_62 rfl ?_
          refine j_getA B fl_X13_9 dX13_buy_63 hF (fun a63p hF => ?_)
          refine j_iload_n B dX13_buy_66 rfl ?_
          refine j_iconst (v := 1) B dX13_buy_67 (by decide) ?_
          refine j_rS (st2 := [.int (F_X13_wAt x2 1), va_rf a63p]) B [.int x2, .int 1] [va_rf a63p] cs_X13_161 dX13_buy_68 hl hR (ct_X13_wAt G) rfl rfl rfl rfl ⟨cr _, trivial⟩ (Nat.le_of_ble_eq_true rfl) ?_
          refine j_iload_n B dX13_buy_71 rfl ?_
          refine j_iastore B dX13_buy_72 hF (fun w72 hF => ?_)
          refine j_aload_n B dX13_buy_73 rfl ?_
          refine j_getA B fl_X13_9 dX13_buy_74 hF (fun a74p hF => ?_)
          refine j_iload_n B dX13_buy_77 rfl ?_
          refine j_iconst (v := 3) B dX13_buy_78 (by decide) ?_
          refine j_rS (st2 := [.int (F_X13_cAt x1 3), va_rf a74p]) B [.int x1, .int 3] [va_rf a74p] cs_X13_81 dX13_buy_79 hl hR (ct_X13_cAt G) rfl rfl rfl rfl ⟨cr _, trivial⟩ (Nat.le_of_ble_eq_true rfl) ?_
          refine j_dup2 B dX13_buy_82 rfl (cr _) ?_
          refine j_iaload B dX13_buy_83 hF (fun i83 hF => ?_)
          refine j_aload_n B dX13_buy_84 rfl ?_
          refine j_getA B fl_X13_9 dX13_buy_85 hF (fun a85p hF => ?_)
          refine j_iload_n B dX13_buy_88 rfl ?_
          refine j_iconst (v := 0) B dX13_buy_89 (by decide) ?_
          refine j_rS (st2 := [.int (F_X13_wAt x2 0), va_rf a85p, .int i83, .int (F_X13_cAt x1 3), va_rf a74p]) B [.int x2, .int 0] [va_rf a85p, .int i83, .int (F_X13_cAt x1 3), va_rf a74p] cs_X13_161 dX13_buy_90 hl hR (ct_X13_wAt G) rfl rfl rfl rfl ⟨cr _, rfl, rfl, cr _, trivial⟩ (Nat.le_of_ble_eq_true rfl) ?_
          refine j_iaload B dX13_buy_93 hF (fun i93 hF => ?_)
          refine j_isub B dX13_buy_94 ?_
          refine j_iastore B dX13_buy_95 hF (fun w95 hF => ?_)
          refine j_aload_n B dX13_buy_96 rfl ?_
          refine j_iload_n B dX13_buy_97 rfl ?_
          refine j_iconst (v := 3) B dX13_buy_98 (by decide) ?_
          obtain ⟨i99, e99, hF⟩ := bo hF
          refine j_rV (st2 := [.int i99]) B [.int x1, .int 3] [] cv_X13_104 dX13_buy_99 hl hR (ct_X13_cIs G e99) rfl rfl rfl rfl trivial (Nat.le_of_ble_eq_true rfl) ?_
          exact j_lIw B rfl dX13_buy_102 hF (by decide) (by decide)
        · refine j_msk [true, false, false] rfl ?_
          exact jb55 a0 w hF
    · refine j_msk [true, false, false] rfl ?_
      exact jb16 a0 w hF
def F_X13_errandsThat_J33 (rc4 : (Option Nat) → Int32 → Int32 → Int32 → cH → Option Int32) (a0 : Option Nat) (x1 : Int32) (x3 : Int32) (s0 : Int32) (s1 : Int32) (w : cH) : Option Int32 :=
  rc4 a0 x1 (s1 ||| s0) (x3 + 1) w
def F_X13_errandsThat_B4 (rc4 : Option Nat → Int32 → Int32 → Int32 → cH → Option Int32) (a0 : Option Nat) (x1 : Int32) (x2 : Int32) (x3 : Int32) (w : cH) : Option Int32 :=
  (fA w a0 13 0).bind fun a6p => (aI w a6p 100 43).bind fun i11 =>if i11 ≤ x3 then (some (x2)) else ((F_X13_eIs a0 x3 3 w).bind fun i19 =>if ¬ i19 = x1 then (F_X13_errandsThat_J33  rc4 a0 x1 x3 0 x2 w) else (F_X13_errandsThat_J33  rc4 a0 x1 x3 (1 <<< (x3 &&& 31)) x2 w))
def F_X13_errandsThat_L4 : Nat → Option Nat → Int32 → Int32 → Int32 → cH → Option Int32
  | 0, _, _, _, _, _ => none
  | n9 + 1, a0, x1, x2, x3, w => F_X13_errandsThat_B4  (F_X13_errandsThat_L4  n9) a0 x1 x2 x3 w
def F_X13_errandsThat (a0 : Option Nat) (x1 : Int32) (w : cH) : Option Int32 :=
  if tg w a0 = some 13 then (F_X13_errandsThat_L4  fu a0 x1 0 0 w) else none
abbrev rm_X13_errandsThat : Room := { frames := 2, cells := 0, slots := 0, locals := 43 }
set_option maxHeartbeats 4000000 in
set_option maxRecDepth 100000 in
theorem ct_X13_errandsThat {l : Launch} {g : Gt} (G : Gok g) {a0 : Option Nat} {x1 : Int32} {w : cH} {r9 : Int32} (hF : F_X13_errandsThat a0 x1 w = some r9) : tg w a0 = some 13 ∧ Mx l yX13_errandsThat (ws_ yX13_errandsThat cX13_errandsThat 4 (some .int)) rm_X13_errandsThat g [va_rf a0, .int x1] w (.returned (some (.int r9))) w 0 0 := by
  unfold F_X13_errandsThat at hF
  obtain ⟨ht, hF⟩ := bg hF
  refine ⟨ht, mk_ct cX13_errandsThat 4 (some .int) "CarryFairModel" (plainFor_of_name (by decide)) rfl (lg_le ⟨cr _, rfl, trivial⟩ (Nat.le_of_ble_eq_true rfl)) (av_ok ⟨cr _, rfl, trivial⟩) G (fun x B hl hR hin hh => ?_)⟩
  show J g x _ _ 0 0 w 0 0 0 [some (va_rf a0), some (.int x1), none, none] []
  have lp4 : ∀ (n9 : Nat) (a0 : Option Nat) (x1 : Int32) (x2 : Int32) (x3 : Int32), F_X13_errandsThat_L4  n9 a0 x1 x2 x3 w = some r9 → J g x (.returned (some (.int r9))) w 0 0 w 0 0 4 [some (va_rf a0), some (.int x1), some (.int x2), some (.int x3)] [] := by
    intro n9
    induction n9 with
    | zero => intro a0 x1 x2 x3 hF; cases hF
    | succ n4 ih4 =>
      intro a0 x1 x2 x3 hF
      have hF : F_X13_errandsThat_B4  (F_X13_errandsThat_L4  n4) a0 x1 x2 x3 w = some r9 := hF
      unfold F_X13_errandsThat_B4 at hF
      have jb33 : ∀ (a0 : Option Nat) (x1 : Int32) (x3 : Int32) (s0 : Int32) (s1 : Int32), F_X13_errandsThat_J33  (F_X13_errandsThat_L4  n4) a0 x1 x3 s0 s1 w = some r9 → J g x (.returned (some (.int r9))) w 0 0 w 0 0 33 [some (va_rf a0), some (.int x1), none, some (.int x3)] [.int s0, .int s1] := by
        intro a0 x1 x3 s0 s1 hF
        unfold F_X13_errandsThat_J33 at hF
        refine j_ior B dX13_errandsThat_33 ?_
        refine j_istore_n (vs' := [some (va_rf a0), some (.int x1), some (.int (s1 ||| s0)), some (.int x3)]) B dX13_errandsThat_34 (by decide) rfl ?_
        refine j_iinc (v := x3 + 1) (vs' := [some (va_rf a0), some (.int x1), some (.int (s1 ||| s0)), some (.int (x3 + 1))]) B dX13_errandsThat_35 (by decide) rfl rfl rfl ?_
        refine j_goto (tgt := 4) B dX13_errandsThat_38 (by decide) ?_
        exact ih4 a0 x1 (s1 ||| s0) (x3 + 1) hF
      refine j_iload_n B dX13_errandsThat_4 rfl ?_
      refine j_aload_n B dX13_errandsThat_5 rfl ?_
      refine j_getA B fl_X13_9 dX13_errandsThat_6 hF (fun a6p hF => ?_)
      refine j_bipush (v := 43) B dX13_errandsThat_9 (by decide) ?_
      refine j_iaload B dX13_errandsThat_11 hF (fun i11 hF => ?_)
      refine j_icmp_ge (tgt := 41) B dX13_errandsThat_12 (by decide) hF (fun h12 hF => ?_) (fun h12 hF => ?_)
      · refine j_iload_n B dX13_errandsThat_41 rfl ?_
        exact j_lI B rfl dX13_errandsThat_42 hF (by decide) (by decide)
      · refine j_iload_n B dX13_errandsThat_15 rfl ?_
        refine j_aload_n B dX13_errandsThat_16 rfl ?_
        refine j_iload_n B dX13_errandsThat_17 rfl ?_
        refine j_iconst (v := 3) B dX13_errandsThat_18 (by decide) ?_
        obtain ⟨i19, e19, hF⟩ := bo hF
        refine j_rV (st2 := [.int i19, .int x2]) B [.int x3, .int 3] [.int x2] cv_X13_111 dX13_errandsThat_19 hl hR (ct_X13_eIs G e19) rfl rfl rfl rfl ⟨rfl, trivial⟩ (Nat.le_of_ble_eq_true rfl) ?_
        refine j_iload_n B dX13_errandsThat_22 rfl ?_
        refine j_icmp_ne (tgt := 32) B dX13_errandsThat_23 (by decide) hF (fun h23 hF => ?_) (fun h23 hF => ?_)
        · refine j_iconst (v := 0) B dX13_errandsThat_32 (by decide) ?_
          refine j_msk [true, true, false, true] rfl ?_
          exact jb33 a0 x1 x3 0 x2 hF
        · refine j_iconst (v := 1) B dX13_errandsThat_26 (by decide) ?_
          refine j_iload_n B dX13_errandsThat_27 rfl ?_
          refine j_ishl B dX13_errandsThat_28 ?_
          refine j_goto (tgt := 33) B dX13_errandsThat_29 (by decide) ?_
          refine j_msk [true, true, false, true] rfl ?_
          exact jb33 a0 x1 x3 (1 <<< (x3 &&& 31)) x2 hF
  refine j_iconst (v := 0) B dX13_errandsThat_0 (by decide) ?_
  refine j_istore_n (vs' := [some (va_rf a0), some (.int x1), some (.int 0), none]) B dX13_errandsThat_1 (by decide) rfl ?_
  refine j_iconst (v := 0) B dX13_errandsThat_2 (by decide) ?_
  refine j_istore_n (vs' := [some (va_rf a0), some (.int x1), some (.int 0), some (.int 0)]) B dX13_errandsThat_3 (by decide) rfl ?_
  exact lp4 fu a0 x1 0 0 hF
def F_X13_ofAll_B4 (rc4 : Option Nat → Int32 → Int32 → Int32 → cH → Option Int32) (a0 : Option Nat) (x1 : Int32) (x2 : Int32) (x3 : Int32) (w : cH) : Option Int32 :=
  (fA w a0 13 0).bind fun a6p => (aI w a6p 100 42).bind fun i11 =>if i11 ≤ x3 then (some (x2)) else ((F_X13_cIs a0 x3 x1 w).bind fun i19 => rc4 a0 x1 (x2 + i19) (x3 + 1) w)
def F_X13_ofAll_L4 : Nat → Option Nat → Int32 → Int32 → Int32 → cH → Option Int32
  | 0, _, _, _, _, _ => none
  | n9 + 1, a0, x1, x2, x3, w => F_X13_ofAll_B4  (F_X13_ofAll_L4  n9) a0 x1 x2 x3 w
def F_X13_ofAll (a0 : Option Nat) (x1 : Int32) (w : cH) : Option Int32 :=
  if tg w a0 = some 13 then (F_X13_ofAll_L4  fu a0 x1 0 0 w) else none
abbrev rm_X13_ofAll : Room := { frames := 2, cells := 0, slots := 0, locals := 43 }
set_option maxHeartbeats 4000000 in
set_option maxRecDepth 100000 in
theorem ct_X13_ofAll {l : Launch} {g : Gt} (G : Gok g) {a0 : Option Nat} {x1 : Int32} {w : cH} {r9 : Int32} (hF : F_X13_ofAll a0 x1 w = some r9) : tg w a0 = some 13 ∧ Mx l yX13_ofAll (ws_ yX13_ofAll cX13_ofAll 4 (some .int)) rm_X13_ofAll g [va_rf a0, .int x1] w (.returned (some (.int r9))) w 0 0 := by
  unfold F_X13_ofAll at hF
  obtain ⟨ht, hF⟩ := bg hF
  refine ⟨ht, mk_ct cX13_ofAll 4 (some .int) "CarryFairModel" (plainFor_of_name (by decide)) rfl (lg_le ⟨cr _, rfl, trivial⟩ (Nat.le_of_ble_eq_true rfl)) (av_ok ⟨cr _, rfl, trivial⟩) G (fun x B hl hR hin hh => ?_)⟩
  show J g x _ _ 0 0 w 0 0 0 [some (va_rf a0), some (.int x1), none, none] []
  have lp4 : ∀ (n9 : Nat) (a0 : Option Nat) (x1 : Int32) (x2 : Int32) (x3 : Int32), F_X13_ofAll_L4  n9 a0 x1 x2 x3 w = some r9 → J g x (.returned (some (.int r9))) w 0 0 w 0 0 4 [some (va_rf a0), some (.int x1), some (.int x2), some (.int x3)] [] := by
    intro n9
    induction n9 with
    | zero => intro a0 x1 x2 x3 hF; cases hF
    | succ n4 ih4 =>
      intro a0 x1 x2 x3 hF
      have hF : F_X13_ofAll_B4  (F_X13_ofAll_L4  n4) a0 x1 x2 x3 w = some r9 := hF
      unfold F_X13_ofAll_B4 at hF
      refine j_iload_n B dX13_ofAll_4 rfl ?_
      refine j_aload_n B dX13_ofAll_5 rfl ?_
      refine j_getA B fl_X13_9 dX13_ofAll_6 hF (fun a6p hF => ?_)
      refine j_bipush (v := 42) B dX13_ofAll_9 (by decide) ?_
      refine j_iaload B dX13_ofAll_11 hF (fun i11 hF => ?_)
      refine j_icmp_ge (tgt := 30) B dX13_ofAll_12 (by decide) hF (fun h12 hF => ?_) (fun h12 hF => ?_)
      · refine j_iload_n B dX13_ofAll_30 rfl ?_
        exact j_lI B rfl dX13_ofAll_31 hF (by decide) (by decide)
      · refine j_iload_n B dX13_ofAll_15 rfl ?_
        refine j_aload_n B dX13_ofAll_16 rfl ?_
        refine j_iload_n B dX13_ofAll_17 rfl ?_
        refine j_iload_n B dX13_ofAll_18 rfl ?_
        obtain ⟨i19, e19, hF⟩ := bo hF
        refine j_rV (st2 := [.int i19, .int x2]) B [.int x3, .int x1] [.int x2] cv_X13_104 dX13_ofAll_19 hl hR (ct_X13_cIs G e19) rfl rfl rfl rfl ⟨rfl, trivial⟩ (Nat.le_of_ble_eq_true rfl) ?_
        refine j_iadd B dX13_ofAll_22 ?_
        refine j_istore_n (vs' := [some (va_rf a0), some (.int x1), some (.int (x2 + i19)), some (.int x3)]) B dX13_ofAll_23 (by decide) rfl ?_
        refine j_iinc (v := x3 + 1) (vs' := [some (va_rf a0), some (.int x1), some (.int (x2 + i19)), some (.int (x3 + 1))]) B dX13_ofAll_24 (by decide) rfl rfl rfl ?_
        refine j_goto (tgt := 4) B dX13_ofAll_27 (by decide) ?_
        exact ih4 a0 x1 (x2 + i19) (x3 + 1) hF
  refine j_iconst (v := 0) B dX13_ofAll_0 (by decide) ?_
  refine j_istore_n (vs' := [some (va_rf a0), some (.int x1), some (.int 0), none]) B dX13_ofAll_1 (by decide) rfl ?_
  refine j_iconst (v := 0) B dX13_ofAll_2 (by decide) ?_
  refine j_istore_n (vs' := [some (va_rf a0), some (.int x1), some (.int 0), some (.int 0)]) B dX13_ofAll_3 (by decide) rfl ?_
  exact lp4 fu a0 x1 0 0 hF
theorem cv_X13_202 : CV "CarryFairModel" 202 13 yX13_errandsThat cX13_errandsThat 4 (some .int) 1 := ⟨_, _, rfl, lw_V q1620 q1622 qs94 q142 q1623, by decide +kernel⟩
theorem cv_X13_205 : CV "CarryFairModel" 205 13 yX13_ofAll cX13_ofAll 4 (some .int) 1 := ⟨_, _, rfl, lw_V q1624 q1626 qs95 q142 q1627, by decide +kernel⟩
def F_X13_now_J82 (rc50 : (Option Nat) → Int32 → Int32 → cH → Option (Int32 × cH)) (a0 : Option Nat) (x3 : Int32) (s0 : Int32) (s1 : Int32) (w : cH) : Option (Int32 × cH) :=
  rc50 a0 (s1 ||| s0) (x3 + 1) w
def F_X13_now_B50 (rc50 : Option Nat → Int32 → Int32 → cH → Option (Int32 × cH)) (a0 : Option Nat) (x2 : Int32) (x3 : Int32) (w : cH) : Option (Int32 × cH) :=
  (fA w a0 13 0).bind fun a52p => (aI w a52p 100 44).bind fun i57 =>if i57 ≤ x3 then (some (x2, w)) else ((fA w a0 13 0).bind fun a63p => (aI w a63p 100 (F_X13_wAt x3 1)).bind fun i71 =>if i71 < 0 then (F_X13_now_J82  rc50 a0 x3 0 x2 w) else (F_X13_now_J82  rc50 a0 x3 (1 <<< (x3 &&& 31)) x2 w))
def F_X13_now_L50 : Nat → Option Nat → Int32 → Int32 → cH → Option (Int32 × cH)
  | 0, _, _, _, _ => none
  | n9 + 1, a0, x2, x3, w => F_X13_now_B50  (F_X13_now_L50  n9) a0 x2 x3 w
def F_X13_now (a0 : Option Nat) (x1 : Int32) (w : cH) : Option (Int32 × cH) :=
  if tg w a0 = some 13 then (if x1 = 0 then ((F_X13_errandsThat a0 0 w).bind fun i38 => some (i38, w)) else if x1 = 1 then ((F_X13_errandsThat a0 2 w).bind fun i44 => some (i44, w)) else if x1 = 2 then (F_X13_now_L50  fu a0 0 0 w) else if x1 = 3 then ((F_X13_ofAll a0 3 w).bind fun i94 => some (i94, w)) else if x1 = 4 then ((F_X13_ofAll a0 4 w).bind fun i100 => some (i100, w)) else (cb (F_X13_finding a0 (-1000001) w) fun i107 w107 => some (i107, w107))) else none
abbrev rm_X13_now : Room := { frames := 3, cells := 0, slots := 0, locals := 66 }
set_option maxHeartbeats 4000000 in
set_option maxRecDepth 100000 in
theorem ct_X13_now {l : Launch} {g : Gt} (G : Gok g) {a0 : Option Nat} {x1 : Int32} {w : cH} {r9 : Int32} {w9 : cH} (hF : F_X13_now a0 x1 w = some (r9, w9)) : tg w a0 = some 13 ∧ Mx l yX13_now (ws_ yX13_now cX13_now 4 (some .int)) rm_X13_now g [va_rf a0, .int x1] w (.returned (some (.int r9))) w9 0 0 := by
  unfold F_X13_now at hF
  obtain ⟨ht, hF⟩ := bg hF
  refine ⟨ht, mk_ct cX13_now 4 (some .int) "CarryFairModel" (plainFor_of_name (by decide)) rfl (lg_le ⟨cr _, rfl, trivial⟩ (Nat.le_of_ble_eq_true rfl)) (av_ok ⟨cr _, rfl, trivial⟩) G (fun x B hl hR hin hh => ?_)⟩
  show J g x _ _ 0 0 w 0 0 0 [some (va_rf a0), some (.int x1), none, none] []
  have lp50 : ∀ (n9 : Nat) (a0 : Option Nat) (x2 : Int32) (x3 : Int32) (w : cH), F_X13_now_L50  n9 a0 x2 x3 w = some (r9, w9) → J g x (.returned (some (.int r9))) w9 0 0 w 0 0 50 [some (va_rf a0), none, some (.int x2), some (.int x3)] [] := by
    intro n9
    induction n9 with
    | zero => intro a0 x2 x3 w hF; cases hF
    | succ n50 ih50 =>
      intro a0 x2 x3 w hF
      have hF : F_X13_now_B50  (F_X13_now_L50  n50) a0 x2 x3 w = some (r9, w9) := hF
      unfold F_X13_now_B50 at hF
      have jb82 : ∀ (a0 : Option Nat) (x3 : Int32) (s0 : Int32) (s1 : Int32) (w : cH), F_X13_now_J82  (F_X13_now_L50  n50) a0 x3 s0 s1 w = some (r9, w9) → J g x (.returned (some (.int r9))) w9 0 0 w 0 0 82 [some (va_rf a0), none, none, some (.int x3)] [.int s0, .int s1] := by
        intro a0 x3 s0 s1 w hF
        unfold F_X13_now_J82 at hF
        refine j_ior B dX13_now_82 ?_
        refine j_istore_n (vs' := [some (va_rf a0), none, some (.int (s1 ||| s0)), some (.int x3)]) B dX13_now_83 (by decide) rfl ?_
        refine j_iinc (v := x3 + 1) (vs' := [some (va_rf a0), none, some (.int (s1 ||| s0)), some (.int (x3 + 1))]) B dX13_now_84 (by decide) rfl rfl rfl ?_
        refine j_goto (tgt := 50) B dX13_now_87 (by decide) ?_
        exact ih50 a0 (s1 ||| s0) (x3 + 1) w hF
      refine j_iload_n B dX13_now_50 rfl ?_
      refine j_aload_n B dX13_now_51 rfl ?_
      refine j_getA B fl_X13_9 dX13_now_52 hF (fun a52p hF => ?_)
      refine j_bipush (v := 44) B dX13_now_55 (by decide) ?_
      refine j_iaload B dX13_now_57 hF (fun i57 hF => ?_)
      refine j_icmp_ge (tgt := 90) B dX13_now_58 (by decide) hF (fun h58 hF => ?_) (fun h58 hF => ?_)
      · refine j_iload_n B dX13_now_90 rfl ?_
        exact j_lIw B rfl dX13_now_91 hF (by decide) (by decide)
      · refine j_iload_n B dX13_now_61 rfl ?_
        refine j_aload_n B dX13_now_62 rfl ?_
        refine j_getA B fl_X13_9 dX13_now_63 hF (fun a63p hF => ?_)
        refine j_iload_n B dX13_now_66 rfl ?_
        refine j_iconst (v := 1) B dX13_now_67 (by decide) ?_
        refine j_rS (st2 := [.int (F_X13_wAt x3 1), va_rf a63p, .int x2]) B [.int x3, .int 1] [va_rf a63p, .int x2] cs_X13_161 dX13_now_68 hl hR (ct_X13_wAt G) rfl rfl rfl rfl ⟨cr _, rfl, trivial⟩ (Nat.le_of_ble_eq_true rfl) ?_
        refine j_iaload B dX13_now_71 hF (fun i71 hF => ?_)
        refine j_if_lt (tgt := 81) B dX13_now_72 (by decide) hF (fun h72 hF => ?_) (fun h72 hF => ?_)
        · refine j_iconst (v := 0) B dX13_now_81 (by decide) ?_
          refine j_msk [true, false, false, true] rfl ?_
          exact jb82 a0 x3 0 x2 w hF
        · refine j_iconst (v := 1) B dX13_now_75 (by decide) ?_
          refine j_iload_n B dX13_now_76 rfl ?_
          refine j_ishl B dX13_now_77 ?_
          refine j_goto (tgt := 82) B dX13_now_78 (by decide) ?_
          refine j_msk [true, false, false, true] rfl ?_
          exact jb82 a0 x3 (1 <<< (x3 &&& 31)) x2 w hF
  refine j_iconst (v := 0) B dX13_now_0 (by decide) ?_
  refine j_istore_n (vs' := [some (va_rf a0), some (.int x1), some (.int 0), none]) B dX13_now_1 (by decide) rfl ?_
  refine j_iload_n B dX13_now_2 rfl ?_
  by_cases t3_0 : x1 = 0
  · rw [if_pos t3_0] at hF
    refine j_tblIn (tgt := 36) B 0 dX13_now_3 t3_0 (by decide) rfl (by decide) ?_
    refine j_aload_n B dX13_now_36 rfl ?_
    refine j_iconst (v := 0) B dX13_now_37 (by decide) ?_
    obtain ⟨i38, e38, hF⟩ := bo hF
    refine j_rV (st2 := [.int i38]) B [.int 0] [] cv_X13_202 dX13_now_38 hl hR (ct_X13_errandsThat G e38) rfl rfl rfl rfl trivial (Nat.le_of_ble_eq_true rfl) ?_
    exact j_lIw B rfl dX13_now_41 hF (by decide) (by decide)
  rw [if_neg t3_0] at hF
  by_cases t3_1 : x1 = 1
  · rw [if_pos t3_1] at hF
    refine j_tblIn (tgt := 42) B 1 dX13_now_3 t3_1 (by decide) rfl (by decide) ?_
    refine j_aload_n B dX13_now_42 rfl ?_
    refine j_iconst (v := 2) B dX13_now_43 (by decide) ?_
    obtain ⟨i44, e44, hF⟩ := bo hF
    refine j_rV (st2 := [.int i44]) B [.int 2] [] cv_X13_202 dX13_now_44 hl hR (ct_X13_errandsThat G e44) rfl rfl rfl rfl trivial (Nat.le_of_ble_eq_true rfl) ?_
    exact j_lIw B rfl dX13_now_47 hF (by decide) (by decide)
  rw [if_neg t3_1] at hF
  by_cases t3_2 : x1 = 2
  · rw [if_pos t3_2] at hF
    refine j_tblIn (tgt := 48) B 2 dX13_now_3 t3_2 (by decide) rfl (by decide) ?_
    refine j_iconst (v := 0) B dX13_now_48 (by decide) ?_
    refine j_istore_n (vs' := [some (va_rf a0), some (.int x1), some (.int 0), some (.int 0)]) B dX13_now_49 (by decide) rfl ?_
    refine j_msk [true, false, true, true] rfl ?_
    exact lp50 fu a0 0 0 w hF
  rw [if_neg t3_2] at hF
  by_cases t3_3 : x1 = 3
  · rw [if_pos t3_3] at hF
    refine j_tblIn (tgt := 92) B 3 dX13_now_3 t3_3 (by decide) rfl (by decide) ?_
    refine j_aload_n B dX13_now_92 rfl ?_
    refine j_iconst (v := 3) B dX13_now_93 (by decide) ?_
    obtain ⟨i94, e94, hF⟩ := bo hF
    refine j_rV (st2 := [.int i94]) B [.int 3] [] cv_X13_205 dX13_now_94 hl hR (ct_X13_ofAll G e94) rfl rfl rfl rfl trivial (Nat.le_of_ble_eq_true rfl) ?_
    exact j_lIw B rfl dX13_now_97 hF (by decide) (by decide)
  rw [if_neg t3_3] at hF
  by_cases t3_4 : x1 = 4
  · rw [if_pos t3_4] at hF
    refine j_tblIn (tgt := 98) B 4 dX13_now_3 t3_4 (by decide) rfl (by decide) ?_
    refine j_aload_n B dX13_now_98 rfl ?_
    refine j_iconst (v := 4) B dX13_now_99 (by decide) ?_
    obtain ⟨i100, e100, hF⟩ := bo hF
    refine j_rV (st2 := [.int i100]) B [.int 4] [] cv_X13_205 dX13_now_100 hl hR (ct_X13_ofAll G e100) rfl rfl rfl rfl trivial (Nat.le_of_ble_eq_true rfl) ?_
    exact j_lIw B rfl dX13_now_103 hF (by decide) (by decide)
  rw [if_neg t3_4] at hF
  refine j_tblOut (tgt := 104) B dX13_now_3 (tbl_out 0 4 (fun z h1 h2 => ?_)) (by decide) ?_
  · rcases (show z = 0 ∨ z = 1 ∨ z = 2 ∨ z = 3 ∨ z = 4 by omega) with h | h | h | h | h
    · rw [h]; exact lv_neT t3_0 (by decide)
    · rw [h]; exact lv_neT t3_1 (by decide)
    · rw [h]; exact lv_neT t3_2 (by decide)
    · rw [h]; exact lv_neT t3_3 (by decide)
    · rw [h]; exact lv_neT t3_4 (by decide)
  refine j_aload_n B dX13_now_104 rfl ?_
  refine j_ldc (v := (-1000001)) B q1436 dX13_now_105 ?_
  obtain ⟨i107, w107, e107, hF⟩ := bc hF
  refine j_rV (st2 := [.int i107]) B [.int (-1000001)] [] cv_X13_92 dX13_now_107 hl hR (ct_X13_finding G e107) rfl rfl rfl rfl trivial (Nat.le_of_ble_eq_true rfl) ?_
  exact j_lIw B rfl dX13_now_110 hF (by decide) (by decide)
def F_X13_bits_B4 (rc4 : Int32 → Int32 → cH → Option Int32) (x1 : Int32) (x2 : Int32) (w : cH) : Option Int32 :=
  if x2 = 0 then (some (x1)) else (rc4 (x1 + 1) (x2 &&& (x2 - 1)) w)
def F_X13_bits_L4 : Nat → Int32 → Int32 → cH → Option Int32
  | 0, _, _, _ => none
  | n9 + 1, x1, x2, w => F_X13_bits_B4  (F_X13_bits_L4  n9) x1 x2 w
def F_X13_bits (x0 : Int32) (w : cH) : Option Int32 :=
  F_X13_bits_L4  fu 0 x0 w
abbrev rm_X13_bits : Room := { frames := 0, cells := 0, slots := 0, locals := 0 }
set_option maxHeartbeats 4000000 in
set_option maxRecDepth 100000 in
theorem ct_X13_bits {l : Launch} {g : Gt} (G : Gok g) {x0 : Int32} {w : cH} {r9 : Int32} (hF : F_X13_bits x0 w = some r9) : Mx l yX13_bits (ws_ yX13_bits cX13_bits 3 (some .int)) rm_X13_bits g [.int x0] w (.returned (some (.int r9))) w 0 0 := by
  unfold F_X13_bits at hF
  refine mk_ct cX13_bits 3 (some .int) "CarryFairModel" (plainFor_of_name (by decide)) rfl (lg_le ⟨rfl, trivial⟩ (Nat.le_of_ble_eq_true rfl)) (av_ok ⟨rfl, trivial⟩) G (fun x B hl hR hin hh => ?_)
  show J g x _ _ 0 0 w 0 0 0 [some (.int x0), none, none] []
  have lp4 : ∀ (n9 : Nat) (x1 : Int32) (x2 : Int32), F_X13_bits_L4  n9 x1 x2 w = some r9 → J g x (.returned (some (.int r9))) w 0 0 w 0 0 4 [none, some (.int x1), some (.int x2)] [] := by
    intro n9
    induction n9 with
    | zero => intro x1 x2 hF; cases hF
    | succ n4 ih4 =>
      intro x1 x2 hF
      have hF : F_X13_bits_B4  (F_X13_bits_L4  n4) x1 x2 w = some r9 := hF
      unfold F_X13_bits_B4 at hF
      refine j_iload_n B dX13_bits_4 rfl ?_
      refine j_if_eq (tgt := 20) B dX13_bits_5 (by decide) hF (fun h5 hF => ?_) (fun h5 hF => ?_)
      · refine j_iload_n B dX13_bits_20 rfl ?_
        exact j_lI B rfl dX13_bits_21 hF (by decide) (by decide)
      · refine j_iinc (v := x1 + 1) (vs' := [none, some (.int (x1 + 1)), some (.int x2)]) B dX13_bits_8 (by decide) rfl rfl rfl ?_
        refine j_iload_n B dX13_bits_11 rfl ?_
        refine j_iload_n B dX13_bits_12 rfl ?_
        refine j_iconst (v := 1) B dX13_bits_13 (by decide) ?_
        refine j_isub B dX13_bits_14 ?_
        refine j_iand B dX13_bits_15 ?_
        refine j_istore_n (vs' := [none, some (.int (x1 + 1)), some (.int (x2 &&& (x2 - 1)))]) B dX13_bits_16 (by decide) rfl ?_
        refine j_goto (tgt := 4) B dX13_bits_17 (by decide) ?_
        exact ih4 (x1 + 1) (x2 &&& (x2 - 1)) hF
  refine j_iconst (v := 0) B dX13_bits_0 (by decide) ?_
  refine j_istore_n (vs' := [some (.int x0), some (.int 0), none]) B dX13_bits_1 (by decide) rfl ?_
  refine j_iload_n B dX13_bits_2 rfl ?_
  refine j_istore_n (vs' := [some (.int x0), some (.int 0), some (.int x0)]) B dX13_bits_3 (by decide) rfl ?_
  refine j_msk [false, true, true] rfl ?_
  exact lp4 fu 0 x0 hF
theorem cs_X13_221 : CS "CarryFairModel" 221 yX13_bits cX13_bits 3 (some .int) 1 := ⟨Or.inl (lw_S q1640 q1641 q142 q1642), by decide +kernel⟩
def F_X13_isSet (a0 : Option Nat) (x1 : Int32) (x2 : Int32) (w : cH) : Option Int32 :=
  if tg w a0 = some 13 then ((fA w a0 13 0).bind fun a4p => (aI w a4p 100 43).bind fun i9 =>if (F_X13_within x1 0 ((1 <<< (i9 &&& 31)) - 1)) = 0 then (some (0)) else ((F_X13_bits x1 w).bind fun i20 =>if x2 < i20 then (some (0)) else (some (1)))) else none
abbrev rm_X13_isSet : Room := { frames := 1, cells := 0, slots := 0, locals := 22 }
set_option maxHeartbeats 4000000 in
set_option maxRecDepth 100000 in
theorem ct_X13_isSet {l : Launch} {g : Gt} (G : Gok g) {a0 : Option Nat} {x1 : Int32} {x2 : Int32} {w : cH} {r9 : Int32} (hF : F_X13_isSet a0 x1 x2 w = some r9) : tg w a0 = some 13 ∧ Mx l yX13_isSet (ws_ yX13_isSet cX13_isSet 3 (some .boolean)) rm_X13_isSet g [va_rf a0, .int x1, .int x2] w (.returned (some (.int r9))) w 0 0 := by
  unfold F_X13_isSet at hF
  obtain ⟨ht, hF⟩ := bg hF
  refine ⟨ht, mk_ct cX13_isSet 3 (some .boolean) "CarryFairModel" (plainFor_of_name (by decide)) rfl (lg_le ⟨cr _, rfl, rfl, trivial⟩ (Nat.le_of_ble_eq_true rfl)) (av_ok ⟨cr _, rfl, rfl, trivial⟩) G (fun x B hl hR hin hh => ?_)⟩
  show J g x _ _ 0 0 w 0 0 0 [some (va_rf a0), some (.int x1), some (.int x2)] []
  refine j_iload_n B dX13_isSet_0 rfl ?_
  refine j_iconst (v := 0) B dX13_isSet_1 (by decide) ?_
  refine j_iconst (v := 1) B dX13_isSet_2 (by decide) ?_
  refine j_aload_n B dX13_isSet_3 rfl ?_
  refine j_getA B fl_X13_9 dX13_isSet_4 hF (fun a4p hF => ?_)
  refine j_bipush (v := 43) B dX13_isSet_7 (by decide) ?_
  refine j_iaload B dX13_isSet_9 hF (fun i9 hF => ?_)
  refine j_ishl B dX13_isSet_10 ?_
  refine j_iconst (v := 1) B dX13_isSet_11 (by decide) ?_
  refine j_isub B dX13_isSet_12 ?_
  refine j_rS (st2 := [.int (F_X13_within x1 0 ((1 <<< (i9 &&& 31)) - 1))]) B [.int x1, .int 0, .int ((1 <<< (i9 &&& 31)) - 1)] [] cs_X13_77 dX13_isSet_13 hl hR (ct_X13_within G) rfl rfl rfl rfl trivial (Nat.le_of_ble_eq_true rfl) ?_
  refine j_if_eq (tgt := 31) B dX13_isSet_16 (by decide) hF (fun h16 hF => ?_) (fun h16 hF => ?_)
  · refine j_iconst (v := 0) B dX13_isSet_31 (by decide) ?_
    exact j_lZ B (by decide) rfl dX13_isSet_32 hF (by decide) (by decide)
  · refine j_iload_n B dX13_isSet_19 rfl ?_
    obtain ⟨i20, e20, hF⟩ := bo hF
    refine j_rS (st2 := [.int i20]) B [.int x1] [] cs_X13_221 dX13_isSet_20 hl hR (ct_X13_bits G e20) rfl rfl rfl rfl trivial (Nat.le_of_ble_eq_true rfl) ?_
    refine j_iload_n B dX13_isSet_23 rfl ?_
    refine j_icmp_gt (tgt := 31) B dX13_isSet_24 (by decide) hF (fun h24 hF => ?_) (fun h24 hF => ?_)
    · refine j_iconst (v := 0) B dX13_isSet_31 (by decide) ?_
      exact j_lZ B (by decide) rfl dX13_isSet_32 hF (by decide) (by decide)
    · refine j_iconst (v := 1) B dX13_isSet_27 (by decide) ?_
      refine j_goto (tgt := 32) B dX13_isSet_28 (by decide) ?_
      exact j_lZ B (by decide) rfl dX13_isSet_32 hF (by decide) (by decide)
def F_X13_allLie (a0 : Option Nat) (x1 : Int32) (w : cH) : Option Int32 :=
  if tg w a0 = some 13 then ((F_X13_errandsThat a0 0 w).bind fun i3 =>if ¬ (x1 &&& (i3 ^^^ (-1))) = 0 then (some (0)) else (some (1))) else none
abbrev rm_X13_allLie : Room := { frames := 3, cells := 0, slots := 0, locals := 66 }
set_option maxHeartbeats 4000000 in
set_option maxRecDepth 100000 in
theorem ct_X13_allLie {l : Launch} {g : Gt} (G : Gok g) {a0 : Option Nat} {x1 : Int32} {w : cH} {r9 : Int32} (hF : F_X13_allLie a0 x1 w = some r9) : tg w a0 = some 13 ∧ Mx l yX13_allLie (ws_ yX13_allLie cX13_allLie 2 (some .boolean)) rm_X13_allLie g [va_rf a0, .int x1] w (.returned (some (.int r9))) w 0 0 := by
  unfold F_X13_allLie at hF
  obtain ⟨ht, hF⟩ := bg hF
  refine ⟨ht, mk_ct cX13_allLie 2 (some .boolean) "CarryFairModel" (plainFor_of_name (by decide)) rfl (lg_le ⟨cr _, rfl, trivial⟩ (Nat.le_of_ble_eq_true rfl)) (av_ok ⟨cr _, rfl, trivial⟩) G (fun x B hl hR hin hh => ?_)⟩
  show J g x _ _ 0 0 w 0 0 0 [some (va_rf a0), some (.int x1)] []
  refine j_iload_n B dX13_allLie_0 rfl ?_
  refine j_aload_n B dX13_allLie_1 rfl ?_
  refine j_iconst (v := 0) B dX13_allLie_2 (by decide) ?_
  obtain ⟨i3, e3, hF⟩ := bo hF
  refine j_rV (st2 := [.int i3, .int x1]) B [.int 0] [.int x1] cv_X13_202 dX13_allLie_3 hl hR (ct_X13_errandsThat G e3) rfl rfl rfl rfl ⟨rfl, trivial⟩ (Nat.le_of_ble_eq_true rfl) ?_
  refine j_iconst (v := (-1)) B dX13_allLie_6 (by decide) ?_
  refine j_ixor B dX13_allLie_7 ?_
  refine j_iand B dX13_allLie_8 ?_
  refine j_if_ne (tgt := 16) B dX13_allLie_9 (by decide) hF (fun h9 hF => ?_) (fun h9 hF => ?_)
  · refine j_iconst (v := 0) B dX13_allLie_16 (by decide) ?_
    exact j_lZ B (by decide) rfl dX13_allLie_17 hF (by decide) (by decide)
  · refine j_iconst (v := 1) B dX13_allLie_12 (by decide) ?_
    refine j_goto (tgt := 17) B dX13_allLie_13 (by decide) ?_
    exact j_lZ B (by decide) rfl dX13_allLie_17 hF (by decide) (by decide)
theorem cv_X13_224 : CV "CarryFairModel" 224 13 yX13_isSet cX13_isSet 3 (some .boolean) 2 := ⟨_, _, rfl, lw_V q1636 q1638 qs97 q142 q1639, by decide +kernel⟩
theorem cv_X13_227 : CV "CarryFairModel" 227 13 yX13_allLie cX13_allLie 2 (some .boolean) 1 := ⟨_, _, rfl, lw_V q1643 q1645 qs98 q142 q1646, by decide +kernel⟩
def F_X13_refuses_J38  (w : cH) : Option Int32 :=
  some ((-1000005))
def F_X13_refuses_J17  (w : cH) : Option Int32 :=
  some ((-1000001))
def F_X13_refuses (a0 : Option Nat) (x1 : Int32) (x2 : Int32) (w : cH) : Option Int32 :=
  if tg w a0 = some 13 then ((F_X13_isCarrier a0 x1 w).bind fun i2 =>if i2 = 0 then (F_X13_refuses_J17   w) else ((F_X13_isSet a0 x2 5 w).bind fun i11 =>if ¬ i11 = 0 then ((F_X13_allLie a0 x2 w).bind fun i24 =>if i24 = 0 then (F_X13_refuses_J38   w) else ((F_X13_carries a0 x1 w).bind fun i32 =>if i32 = 0 then (some (0)) else (F_X13_refuses_J38   w))) else (F_X13_refuses_J17   w))) else none
abbrev rm_X13_refuses : Room := { frames := 4, cells := 0, slots := 0, locals := 87 }
set_option maxHeartbeats 4000000 in
set_option maxRecDepth 100000 in
theorem ct_X13_refuses {l : Launch} {g : Gt} (G : Gok g) {a0 : Option Nat} {x1 : Int32} {x2 : Int32} {w : cH} {r9 : Int32} (hF : F_X13_refuses a0 x1 x2 w = some r9) : tg w a0 = some 13 ∧ Mx l yX13_refuses (ws_ yX13_refuses cX13_refuses 3 (some .int)) rm_X13_refuses g [va_rf a0, .int x1, .int x2] w (.returned (some (.int r9))) w 0 0 := by
  unfold F_X13_refuses at hF
  obtain ⟨ht, hF⟩ := bg hF
  refine ⟨ht, mk_ct cX13_refuses 3 (some .int) "CarryFairModel" (plainFor_of_name (by decide)) rfl (lg_le ⟨cr _, rfl, rfl, trivial⟩ (Nat.le_of_ble_eq_true rfl)) (av_ok ⟨cr _, rfl, rfl, trivial⟩) G (fun x B hl hR hin hh => ?_)⟩
  show J g x _ _ 0 0 w 0 0 0 [some (va_rf a0), some (.int x1), some (.int x2)] []
  have jb38 : F_X13_refuses_J38  w = some r9 → J g x (.returned (some (.int r9))) w 0 0 w 0 0 38 [none, none, none] [] := by
    intro  hF
    unfold F_X13_refuses_J38 at hF
    refine j_ldc (v := (-1000005)) B q1587 dX13_refuses_38 ?_
    refine j_goto (tgt := 44) B dX13_refuses_40 (by decide) ?_
    exact j_lI B rfl dX13_refuses_44 hF (by decide) (by decide)
  have jb17 : F_X13_refuses_J17  w = some r9 → J g x (.returned (some (.int r9))) w 0 0 w 0 0 17 [none, none, none] [] := by
    intro  hF
    unfold F_X13_refuses_J17 at hF
    refine j_ldc (v := (-1000001)) B q1436 dX13_refuses_17 ?_
    refine j_goto (tgt := 44) B dX13_refuses_19 (by decide) ?_
    exact j_lI B rfl dX13_refuses_44 hF (by decide) (by decide)
  refine j_aload_n B dX13_refuses_0 rfl ?_
  refine j_iload_n B dX13_refuses_1 rfl ?_
  obtain ⟨i2, e2, hF⟩ := bo hF
  refine j_rV (st2 := [.int i2]) B [.int x1] [] cv_X13_117 dX13_refuses_2 hl hR (ct_X13_isCarrier G e2) rfl rfl rfl rfl trivial (Nat.le_of_ble_eq_true rfl) ?_
  refine j_if_eq (tgt := 17) B dX13_refuses_5 (by decide) hF (fun h5 hF => ?_) (fun h5 hF => ?_)
  · refine j_msk [false, false, false] rfl ?_
    exact jb17  hF
  · refine j_aload_n B dX13_refuses_8 rfl ?_
    refine j_iload_n B dX13_refuses_9 rfl ?_
    refine j_iconst (v := 5) B dX13_refuses_10 (by decide) ?_
    obtain ⟨i11, e11, hF⟩ := bo hF
    refine j_rV (st2 := [.int i11]) B [.int x2, .int 5] [] cv_X13_224 dX13_refuses_11 hl hR (ct_X13_isSet G e11) rfl rfl rfl rfl trivial (Nat.le_of_ble_eq_true rfl) ?_
    refine j_if_ne (tgt := 22) B dX13_refuses_14 (by decide) hF (fun h14 hF => ?_) (fun h14 hF => ?_)
    · refine j_aload_n B dX13_refuses_22 rfl ?_
      refine j_iload_n B dX13_refuses_23 rfl ?_
      obtain ⟨i24, e24, hF⟩ := bo hF
      refine j_rV (st2 := [.int i24]) B [.int x2] [] cv_X13_227 dX13_refuses_24 hl hR (ct_X13_allLie G e24) rfl rfl rfl rfl trivial (Nat.le_of_ble_eq_true rfl) ?_
      refine j_if_eq (tgt := 38) B dX13_refuses_27 (by decide) hF (fun h27 hF => ?_) (fun h27 hF => ?_)
      · refine j_msk [false, false, false] rfl ?_
        exact jb38  hF
      · refine j_aload_n B dX13_refuses_30 rfl ?_
        refine j_iload_n B dX13_refuses_31 rfl ?_
        obtain ⟨i32, e32, hF⟩ := bo hF
        refine j_rV (st2 := [.int i32]) B [.int x1] [] cv_X13_123 dX13_refuses_32 hl hR (ct_X13_carries G e32) rfl rfl rfl rfl trivial (Nat.le_of_ble_eq_true rfl) ?_
        refine j_if_eq (tgt := 43) B dX13_refuses_35 (by decide) hF (fun h35 hF => ?_) (fun h35 hF => ?_)
        · refine j_iconst (v := 0) B dX13_refuses_43 (by decide) ?_
          exact j_lI B rfl dX13_refuses_44 hF (by decide) (by decide)
        · refine j_msk [false, false, false] rfl ?_
          exact jb38  hF
    · refine j_msk [false, false, false] rfl ?_
      exact jb17  hF
theorem fl_X13_31 : FL "CarryFairModel" 31 13 9 := ⟨RX13, TX13, 30, rfl, by decide, in_X13, Or.inl q1344⟩
def F_X13_digit (a0 : Option Nat) (x1 : Int32) (x2 : Int32) (w : cH) : Option Int32 :=
  if tg w a0 = some 13 then ((fA w a0 13 9).bind fun a2p => (aI w a2p 100 x2).bind fun i6 => if ¬ i6 = 0 then (some ((x1 / i6) - (x1 / i6) / 3 * 3)) else none) else none
abbrev rm_X13_digit : Room := { frames := 0, cells := 0, slots := 0, locals := 0 }
set_option maxHeartbeats 4000000 in
set_option maxRecDepth 100000 in
theorem ct_X13_digit {l : Launch} {g : Gt} (G : Gok g) {a0 : Option Nat} {x1 : Int32} {x2 : Int32} {w : cH} {r9 : Int32} (hF : F_X13_digit a0 x1 x2 w = some r9) : tg w a0 = some 13 ∧ Mx l yX13_digit (ws_ yX13_digit cX13_digit 3 (some .int)) rm_X13_digit g [va_rf a0, .int x1, .int x2] w (.returned (some (.int r9))) w 0 0 := by
  unfold F_X13_digit at hF
  obtain ⟨ht, hF⟩ := bg hF
  refine ⟨ht, mk_ct cX13_digit 3 (some .int) "CarryFairModel" (plainFor_of_name (by decide)) rfl (lg_le ⟨cr _, rfl, rfl, trivial⟩ (Nat.le_of_ble_eq_true rfl)) (av_ok ⟨cr _, rfl, rfl, trivial⟩) G (fun x B hl hR hin hh => ?_)⟩
  show J g x _ _ 0 0 w 0 0 0 [some (va_rf a0), some (.int x1), some (.int x2)] []
  refine j_iload_n B dX13_digit_0 rfl ?_
  refine j_aload_n B dX13_digit_1 rfl ?_
  refine j_getA B fl_X13_31 dX13_digit_2 hF (fun a2p hF => ?_)
  refine j_iload_n B dX13_digit_5 rfl ?_
  refine j_iaload B dX13_digit_6 hF (fun i6 hF => ?_)
  obtain ⟨hne, hF⟩ := bg hF
  refine j_idiv B dX13_digit_7 hne ?_
  refine j_iconst (v := 3) B dX13_digit_8 (by decide) ?_
  refine j_irem B dX13_digit_9 (by decide) ?_
  exact j_lI B rfl dX13_digit_10 hF (by decide) (by decide)
theorem fl_X13_25 : FL "CarryFairModel" 25 13 7 := ⟨RX13, TX13, 30, rfl, by decide, in_X13, Or.inl q1342⟩
def F_X13_shorter (a0 : Option Nat) (x1 : Int32) (x2 : Int32) (x3 : Int32) (w : cH) : Option cH :=
  if tg w a0 = some 13 then ((fA w a0 13 7).bind fun a1p => (fA w a0 13 7).bind fun a11p => (aI w a11p 100 ((7 * x1) + x2)).bind fun i20 => (aS w a1p 100 ((7 * x1) + x2) (.int (F_J3_min i20 x3))).bind fun w25 => some w25) else none
abbrev rm_X13_shorter : Room := { frames := 1, cells := 0, slots := 0, locals := 21 }
set_option maxHeartbeats 4000000 in
set_option maxRecDepth 100000 in
theorem ct_X13_shorter {l : Launch} {g : Gt} (G : Gok g) {a0 : Option Nat} {x1 : Int32} {x2 : Int32} {x3 : Int32} {w : cH}  {w9 : cH} (hF : F_X13_shorter a0 x1 x2 x3 w = some w9) : tg w a0 = some 13 ∧ Mx l yX13_shorter (ws_ yX13_shorter cX13_shorter 4 none) rm_X13_shorter g [va_rf a0, .int x1, .int x2, .int x3] w (.returned none) w9 0 0 := by
  unfold F_X13_shorter at hF
  obtain ⟨ht, hF⟩ := bg hF
  refine ⟨ht, mk_ct cX13_shorter 4 none "CarryFairModel" (plainFor_of_name (by decide)) rfl (lg_le ⟨cr _, rfl, rfl, rfl, trivial⟩ (Nat.le_of_ble_eq_true rfl)) (av_ok ⟨cr _, rfl, rfl, rfl, trivial⟩) G (fun x B hl hR hin hh => ?_)⟩
  show J g x _ _ 0 0 w 0 0 0 [some (va_rf a0), some (.int x1), some (.int x2), some (.int x3)] []
  refine j_aload_n B dX13_shorter_0 rfl ?_
  refine j_getA B fl_X13_25 dX13_shorter_1 hF (fun a1p hF => ?_)
  refine j_bipush (v := 7) B dX13_shorter_4 (by decide) ?_
  refine j_iload_n B dX13_shorter_6 rfl ?_
  refine j_imul B dX13_shorter_7 ?_
  refine j_iload_n B dX13_shorter_8 rfl ?_
  refine j_iadd B dX13_shorter_9 ?_
  refine j_aload_n B dX13_shorter_10 rfl ?_
  refine j_getA B fl_X13_25 dX13_shorter_11 hF (fun a11p hF => ?_)
  refine j_bipush (v := 7) B dX13_shorter_14 (by decide) ?_
  refine j_iload_n B dX13_shorter_16 rfl ?_
  refine j_imul B dX13_shorter_17 ?_
  refine j_iload_n B dX13_shorter_18 rfl ?_
  refine j_iadd B dX13_shorter_19 ?_
  refine j_iaload B dX13_shorter_20 hF (fun i20 hF => ?_)
  refine j_iload_n B dX13_shorter_21 rfl ?_
  refine j_rS (st2 := [.int (F_J3_min i20 x3), .int ((7 * x1) + x2), va_rf a1p]) B [.int i20, .int x3] [.int ((7 * x1) + x2), va_rf a1p] cs_X13_136 dX13_shorter_22 hl hR (ct_J3_min G) rfl rfl rfl rfl ⟨rfl, cr _, trivial⟩ (Nat.le_of_ble_eq_true rfl) ?_
  refine j_iastore B dX13_shorter_25 hF (fun w25 hF => ?_)
  exact j_lV B rfl dX13_shorter_26 hF (by decide) (by decide)
theorem fl_X13_28 : FL "CarryFairModel" 28 13 8 := ⟨RX13, TX13, 30, rfl, by decide, in_X13, Or.inl q1343⟩
theorem cv_X13_218 : CV "CarryFairModel" 218 13 yX13_shorter cX13_shorter 4 none 3 := ⟨_, _, rfl, lw_V q1659 q1661 qs102 q142 q1662, by decide +kernel⟩
theorem cv_X13_215 : CV "CarryFairModel" 215 13 yX13_digit cX13_digit 3 (some .int) 2 := ⟨_, _, rfl, lw_V q1655 q1657 qs101 q142 q1658, by decide +kernel⟩
def F_X13_walkOn_J146 (rc2 : (Option Nat) → Int32 → Int32 → Int32 → cH → Option cH) (a0 : Option Nat) (x1 : Int32) (x2 : Int32) (x3 : Int32) (w : cH) : Option cH :=
  rc2 a0 x1 x2 (x3 + 1) w
def F_X13_walkOn_J140 (rc2 : (Option Nat) → Int32 → Int32 → Int32 → cH → Option cH) (rc24 : (Option Nat) → Int32 → Int32 → Int32 → Int32 → Int32 → cH → Option cH) (a0 : Option Nat) (x1 : Int32) (x2 : Int32) (x3 : Int32) (x4 : Int32) (x5 : Int32) (w : cH) : Option cH :=
  rc24 a0 x1 x2 x3 x4 (x5 + 1) w
def F_X13_walkOn_J91 (rc2 : (Option Nat) → Int32 → Int32 → Int32 → cH → Option cH) (rc24 : (Option Nat) → Int32 → Int32 → Int32 → Int32 → Int32 → cH → Option cH) (rc44 : (Option Nat) → Int32 → Int32 → Int32 → Int32 → Int32 → Int32 → Int32 → cH → Option cH) (a0 : Option Nat) (x1 : Int32) (x2 : Int32) (x3 : Int32) (x4 : Int32) (x5 : Int32) (x7 : Int32) (s0 : Int32) (s1 : Int32) (w : cH) : Option cH :=
  rc44 a0 x1 x2 x3 x4 x5 (s1 + s0) (x7 + 1) w
def F_X13_walkOn_J90 (rc2 : (Option Nat) → Int32 → Int32 → Int32 → cH → Option cH) (rc24 : (Option Nat) → Int32 → Int32 → Int32 → Int32 → Int32 → cH → Option cH) (rc44 : (Option Nat) → Int32 → Int32 → Int32 → Int32 → Int32 → Int32 → Int32 → cH → Option cH) (a0 : Option Nat) (x1 : Int32) (x2 : Int32) (x3 : Int32) (x4 : Int32) (x5 : Int32) (x7 : Int32) (s0 : Int32) (w : cH) : Option cH :=
  F_X13_walkOn_J91  rc2 rc24 rc44 a0 x1 x2 x3 x4 x5 x7 0 s0 w
def F_X13_walkOn_B44 (rc2 : (Option Nat) → Int32 → Int32 → Int32 → cH → Option cH) (rc24 : (Option Nat) → Int32 → Int32 → Int32 → Int32 → Int32 → cH → Option cH) (rc44 : Option Nat → Int32 → Int32 → Int32 → Int32 → Int32 → Int32 → Int32 → cH → Option cH) (a0 : Option Nat) (x1 : Int32) (x2 : Int32) (x3 : Int32) (x4 : Int32) (x5 : Int32) (x6 : Int32) (x7 : Int32) (w : cH) : Option cH :=
  if x2 ≤ x7 then ((fA w a0 13 5).bind fun a101p => (aI w a101p 100 ((7 * x3) + x5)).bind fun i111 =>if 1000000 ≤ i111 then (F_X13_walkOn_J140  rc2 rc24 a0 x1 x2 x3 x4 x5 w) else ((fA w a0 13 5).bind fun a125p => (aI w a125p 100 ((7 * x3) + x5)).bind fun i135 => (F_X13_shorter a0 x6 x5 (x4 + i135) w).bind fun w137 => F_X13_walkOn_J140  rc2 rc24 a0 x1 x2 x3 x4 x5 w137)) else ((F_X13_digit a0 x1 x7 w).bind fun i56 =>if ¬ i56 = 1 then (F_X13_walkOn_J90  rc2 rc24 rc44 a0 x1 x2 x3 x4 x5 x7 x6 w) else ((fA w a0 13 8).bind fun a65p => (aI w a65p 100 x7).bind fun i70 => (F_X13_eIs a0 i70 2 w).bind fun i72 =>if ¬ i72 = x5 then (F_X13_walkOn_J90  rc2 rc24 rc44 a0 x1 x2 x3 x4 x5 x7 x6 w) else ((fA w a0 13 9).bind fun a81p => (aI w a81p 100 x7).bind fun i86 => F_X13_walkOn_J91  rc2 rc24 rc44 a0 x1 x2 x3 x4 x5 x7 i86 x6 w)))
def F_X13_walkOn_L44 (rc2 : (Option Nat) → Int32 → Int32 → Int32 → cH → Option cH) (rc24 : (Option Nat) → Int32 → Int32 → Int32 → Int32 → Int32 → cH → Option cH) : Nat → Option Nat → Int32 → Int32 → Int32 → Int32 → Int32 → Int32 → Int32 → cH → Option cH
  | 0, _, _, _, _, _, _, _, _, _ => none
  | n9 + 1, a0, x1, x2, x3, x4, x5, x6, x7, w => F_X13_walkOn_B44  rc2 rc24 (F_X13_walkOn_L44  rc2 rc24 n9) a0 x1 x2 x3 x4 x5 x6 x7 w
def F_X13_walkOn_B24 (rc2 : (Option Nat) → Int32 → Int32 → Int32 → cH → Option cH) (rc24 : Option Nat → Int32 → Int32 → Int32 → Int32 → Int32 → cH → Option cH) (a0 : Option Nat) (x1 : Int32) (x2 : Int32) (x3 : Int32) (x4 : Int32) (x5 : Int32) (w : cH) : Option cH :=
  if 7 ≤ x5 then (F_X13_walkOn_J146  rc2 a0 x1 x2 x3 w) else (if 1000000 ≤ x4 then (F_X13_walkOn_J146  rc2 a0 x1 x2 x3 w) else (F_X13_walkOn_L44  rc2 rc24 fu a0 x1 x2 x3 x4 x5 x1 0 w))
def F_X13_walkOn_L24 (rc2 : (Option Nat) → Int32 → Int32 → Int32 → cH → Option cH) : Nat → Option Nat → Int32 → Int32 → Int32 → Int32 → Int32 → cH → Option cH
  | 0, _, _, _, _, _, _, _ => none
  | n9 + 1, a0, x1, x2, x3, x4, x5, w => F_X13_walkOn_B24  rc2 (F_X13_walkOn_L24  rc2 n9) a0 x1 x2 x3 x4 x5 w
def F_X13_walkOn_B2 (rc2 : Option Nat → Int32 → Int32 → Int32 → cH → Option cH) (a0 : Option Nat) (x1 : Int32) (x2 : Int32) (x3 : Int32) (w : cH) : Option cH :=
  if 7 ≤ x3 then (some w) else ((fA w a0 13 7).bind fun a9p => (aI w a9p 100 ((7 * x1) + x3)).bind fun i18 => F_X13_walkOn_L24  rc2 fu a0 x1 x2 x3 i18 0 w)
def F_X13_walkOn_L2 : Nat → Option Nat → Int32 → Int32 → Int32 → cH → Option cH
  | 0, _, _, _, _, _ => none
  | n9 + 1, a0, x1, x2, x3, w => F_X13_walkOn_B2  (F_X13_walkOn_L2  n9) a0 x1 x2 x3 w
def F_X13_walkOn (a0 : Option Nat) (x1 : Int32) (x2 : Int32) (w : cH) : Option cH :=
  if tg w a0 = some 13 then (F_X13_walkOn_L2  fu a0 x1 x2 0 w) else none
abbrev rm_X13_walkOn : Room := { frames := 2, cells := 0, slots := 0, locals := 44 }
set_option maxHeartbeats 4000000 in
set_option maxRecDepth 100000 in
theorem ct_X13_walkOn {l : Launch} {g : Gt} (G : Gok g) {a0 : Option Nat} {x1 : Int32} {x2 : Int32} {w : cH}  {w9 : cH} (hF : F_X13_walkOn a0 x1 x2 w = some w9) : tg w a0 = some 13 ∧ Mx l yX13_walkOn (ws_ yX13_walkOn cX13_walkOn 8 none) rm_X13_walkOn g [va_rf a0, .int x1, .int x2] w (.returned none) w9 0 0 := by
  unfold F_X13_walkOn at hF
  obtain ⟨ht, hF⟩ := bg hF
  refine ⟨ht, mk_ct cX13_walkOn 8 none "CarryFairModel" (plainFor_of_name (by decide)) rfl (lg_le ⟨cr _, rfl, rfl, trivial⟩ (Nat.le_of_ble_eq_true rfl)) (av_ok ⟨cr _, rfl, rfl, trivial⟩) G (fun x B hl hR hin hh => ?_)⟩
  show J g x _ _ 0 0 w 0 0 0 [some (va_rf a0), some (.int x1), some (.int x2), none, none, none, none, none] []
  have lp2 : ∀ (n9 : Nat) (a0 : Option Nat) (x1 : Int32) (x2 : Int32) (x3 : Int32) (w : cH), F_X13_walkOn_L2  n9 a0 x1 x2 x3 w = some w9 → J g x (.returned none) w9 0 0 w 0 0 2 [some (va_rf a0), some (.int x1), some (.int x2), some (.int x3), none, none, none, none] [] := by
    intro n9
    induction n9 with
    | zero => intro a0 x1 x2 x3 w hF; cases hF
    | succ n2 ih2 =>
      intro a0 x1 x2 x3 w hF
      have hF : F_X13_walkOn_B2  (F_X13_walkOn_L2  n2) a0 x1 x2 x3 w = some w9 := hF
      unfold F_X13_walkOn_B2 at hF
      have jb146 : ∀ (a0 : Option Nat) (x1 : Int32) (x2 : Int32) (x3 : Int32) (w : cH), F_X13_walkOn_J146  (F_X13_walkOn_L2  n2) a0 x1 x2 x3 w = some w9 → J g x (.returned none) w9 0 0 w 0 0 146 [some (va_rf a0), some (.int x1), some (.int x2), some (.int x3), none, none, none, none] [] := by
        intro a0 x1 x2 x3 w hF
        unfold F_X13_walkOn_J146 at hF
        refine j_iinc (v := x3 + 1) (vs' := [some (va_rf a0), some (.int x1), some (.int x2), some (.int (x3 + 1)), none, none, none, none]) B dX13_walkOn_146 (by decide) rfl rfl rfl ?_
        refine j_goto (tgt := 2) B dX13_walkOn_149 (by decide) ?_
        exact ih2 a0 x1 x2 (x3 + 1) w hF
      have lp24 : ∀ (n9 : Nat) (a0 : Option Nat) (x1 : Int32) (x2 : Int32) (x3 : Int32) (x4 : Int32) (x5 : Int32) (w : cH), F_X13_walkOn_L24  (F_X13_walkOn_L2  n2) n9 a0 x1 x2 x3 x4 x5 w = some w9 → J g x (.returned none) w9 0 0 w 0 0 24 [some (va_rf a0), some (.int x1), some (.int x2), some (.int x3), some (.int x4), some (.int x5), none, none] [] := by
        intro n9
        induction n9 with
        | zero => intro a0 x1 x2 x3 x4 x5 w hF; cases hF
        | succ n24 ih24 =>
          intro a0 x1 x2 x3 x4 x5 w hF
          have hF : F_X13_walkOn_B24  (F_X13_walkOn_L2  n2) (F_X13_walkOn_L24  (F_X13_walkOn_L2  n2) n24) a0 x1 x2 x3 x4 x5 w = some w9 := hF
          unfold F_X13_walkOn_B24 at hF
          have jb140 : ∀ (a0 : Option Nat) (x1 : Int32) (x2 : Int32) (x3 : Int32) (x4 : Int32) (x5 : Int32) (w : cH), F_X13_walkOn_J140  (F_X13_walkOn_L2  n2) (F_X13_walkOn_L24  (F_X13_walkOn_L2  n2) n24) a0 x1 x2 x3 x4 x5 w = some w9 → J g x (.returned none) w9 0 0 w 0 0 140 [some (va_rf a0), some (.int x1), some (.int x2), some (.int x3), some (.int x4), some (.int x5), none, none] [] := by
            intro a0 x1 x2 x3 x4 x5 w hF
            unfold F_X13_walkOn_J140 at hF
            refine j_iinc (v := x5 + 1) (vs' := [some (va_rf a0), some (.int x1), some (.int x2), some (.int x3), some (.int x4), some (.int (x5 + 1)), none, none]) B dX13_walkOn_140 (by decide) rfl rfl rfl ?_
            refine j_goto (tgt := 24) B dX13_walkOn_143 (by decide) ?_
            exact ih24 a0 x1 x2 x3 x4 (x5 + 1) w hF
          have lp44 : ∀ (n9 : Nat) (a0 : Option Nat) (x1 : Int32) (x2 : Int32) (x3 : Int32) (x4 : Int32) (x5 : Int32) (x6 : Int32) (x7 : Int32) (w : cH), F_X13_walkOn_L44  (F_X13_walkOn_L2  n2) (F_X13_walkOn_L24  (F_X13_walkOn_L2  n2) n24) n9 a0 x1 x2 x3 x4 x5 x6 x7 w = some w9 → J g x (.returned none) w9 0 0 w 0 0 44 [some (va_rf a0), some (.int x1), some (.int x2), some (.int x3), some (.int x4), some (.int x5), some (.int x6), some (.int x7)] [] := by
            intro n9
            induction n9 with
            | zero => intro a0 x1 x2 x3 x4 x5 x6 x7 w hF; cases hF
            | succ n44 ih44 =>
              intro a0 x1 x2 x3 x4 x5 x6 x7 w hF
              have hF : F_X13_walkOn_B44  (F_X13_walkOn_L2  n2) (F_X13_walkOn_L24  (F_X13_walkOn_L2  n2) n24) (F_X13_walkOn_L44  (F_X13_walkOn_L2  n2) (F_X13_walkOn_L24  (F_X13_walkOn_L2  n2) n24) n44) a0 x1 x2 x3 x4 x5 x6 x7 w = some w9 := hF
              unfold F_X13_walkOn_B44 at hF
              have jb91 : ∀ (a0 : Option Nat) (x1 : Int32) (x2 : Int32) (x3 : Int32) (x4 : Int32) (x5 : Int32) (x7 : Int32) (s0 : Int32) (s1 : Int32) (w : cH), F_X13_walkOn_J91  (F_X13_walkOn_L2  n2) (F_X13_walkOn_L24  (F_X13_walkOn_L2  n2) n24) (F_X13_walkOn_L44  (F_X13_walkOn_L2  n2) (F_X13_walkOn_L24  (F_X13_walkOn_L2  n2) n24) n44) a0 x1 x2 x3 x4 x5 x7 s0 s1 w = some w9 → J g x (.returned none) w9 0 0 w 0 0 91 [some (va_rf a0), some (.int x1), some (.int x2), some (.int x3), some (.int x4), some (.int x5), none, some (.int x7)] [.int s0, .int s1] := by
                intro a0 x1 x2 x3 x4 x5 x7 s0 s1 w hF
                unfold F_X13_walkOn_J91 at hF
                refine j_iadd B dX13_walkOn_91 ?_
                refine j_istore (vs' := [some (va_rf a0), some (.int x1), some (.int x2), some (.int x3), some (.int x4), some (.int x5), some (.int (s1 + s0)), some (.int x7)]) B dX13_walkOn_92 (by decide) rfl ?_
                refine j_iinc (v := x7 + 1) (vs' := [some (va_rf a0), some (.int x1), some (.int x2), some (.int x3), some (.int x4), some (.int x5), some (.int (s1 + s0)), some (.int (x7 + 1))]) B dX13_walkOn_94 (by decide) rfl rfl rfl ?_
                refine j_goto (tgt := 44) B dX13_walkOn_97 (by decide) ?_
                exact ih44 a0 x1 x2 x3 x4 x5 (s1 + s0) (x7 + 1) w hF
              have jb90 : ∀ (a0 : Option Nat) (x1 : Int32) (x2 : Int32) (x3 : Int32) (x4 : Int32) (x5 : Int32) (x7 : Int32) (s0 : Int32) (w : cH), F_X13_walkOn_J90  (F_X13_walkOn_L2  n2) (F_X13_walkOn_L24  (F_X13_walkOn_L2  n2) n24) (F_X13_walkOn_L44  (F_X13_walkOn_L2  n2) (F_X13_walkOn_L24  (F_X13_walkOn_L2  n2) n24) n44) a0 x1 x2 x3 x4 x5 x7 s0 w = some w9 → J g x (.returned none) w9 0 0 w 0 0 90 [some (va_rf a0), some (.int x1), some (.int x2), some (.int x3), some (.int x4), some (.int x5), none, some (.int x7)] [.int s0] := by
                intro a0 x1 x2 x3 x4 x5 x7 s0 w hF
                unfold F_X13_walkOn_J90 at hF
                refine j_iconst (v := 0) B dX13_walkOn_90 (by decide) ?_
                exact jb91 a0 x1 x2 x3 x4 x5 x7 0 s0 w hF
              refine j_iload B dX13_walkOn_44 rfl ?_
              refine j_iload_n B dX13_walkOn_46 rfl ?_
              refine j_icmp_ge (tgt := 100) B dX13_walkOn_47 (by decide) hF (fun h47 hF => ?_) (fun h47 hF => ?_)
              · refine j_aload_n B dX13_walkOn_100 rfl ?_
                refine j_getA B fl_X13_22 dX13_walkOn_101 hF (fun a101p hF => ?_)
                refine j_bipush (v := 7) B dX13_walkOn_104 (by decide) ?_
                refine j_iload_n B dX13_walkOn_106 rfl ?_
                refine j_imul B dX13_walkOn_107 ?_
                refine j_iload B dX13_walkOn_108 rfl ?_
                refine j_iadd B dX13_walkOn_110 ?_
                refine j_iaload B dX13_walkOn_111 hF (fun i111 hF => ?_)
                refine j_ldc (v := 1000000) B q1546 dX13_walkOn_112 ?_
                refine j_icmp_ge (tgt := 140) B dX13_walkOn_114 (by decide) hF (fun h114 hF => ?_) (fun h114 hF => ?_)
                · refine j_msk [true, true, true, true, true, true, false, false] rfl ?_
                  exact jb140 a0 x1 x2 x3 x4 x5 w hF
                · refine j_aload_n B dX13_walkOn_117 rfl ?_
                  refine j_iload B dX13_walkOn_118 rfl ?_
                  refine j_iload B dX13_walkOn_120 rfl ?_
                  refine j_iload B dX13_walkOn_122 rfl ?_
                  refine j_aload_n B dX13_walkOn_124 rfl ?_
                  refine j_getA B fl_X13_22 dX13_walkOn_125 hF (fun a125p hF => ?_)
                  refine j_bipush (v := 7) B dX13_walkOn_128 (by decide) ?_
                  refine j_iload_n B dX13_walkOn_130 rfl ?_
                  refine j_imul B dX13_walkOn_131 ?_
                  refine j_iload B dX13_walkOn_132 rfl ?_
                  refine j_iadd B dX13_walkOn_134 ?_
                  refine j_iaload B dX13_walkOn_135 hF (fun i135 hF => ?_)
                  refine j_iadd B dX13_walkOn_136 ?_
                  obtain ⟨w137, e137, hF⟩ := bo hF
                  refine j_rV (st2 := []) B [.int x6, .int x5, .int (x4 + i135)] [] cv_X13_218 dX13_walkOn_137 hl hR (ct_X13_shorter G e137) rfl rfl rfl rfl trivial (Nat.le_of_ble_eq_true rfl) ?_
                  refine j_msk [true, true, true, true, true, true, false, false] rfl ?_
                  exact jb140 a0 x1 x2 x3 x4 x5 w137 hF
              · refine j_iload B dX13_walkOn_50 rfl ?_
                refine j_aload_n B dX13_walkOn_52 rfl ?_
                refine j_iload_n B dX13_walkOn_53 rfl ?_
                refine j_iload B dX13_walkOn_54 rfl ?_
                obtain ⟨i56, e56, hF⟩ := bo hF
                refine j_rV (st2 := [.int i56, .int x6]) B [.int x1, .int x7] [.int x6] cv_X13_215 dX13_walkOn_56 hl hR (ct_X13_digit G e56) rfl rfl rfl rfl ⟨rfl, trivial⟩ (Nat.le_of_ble_eq_true rfl) ?_
                refine j_iconst (v := 1) B dX13_walkOn_59 (by decide) ?_
                refine j_icmp_ne (tgt := 90) B dX13_walkOn_60 (by decide) hF (fun h60 hF => ?_) (fun h60 hF => ?_)
                · refine j_msk [true, true, true, true, true, true, false, true] rfl ?_
                  exact jb90 a0 x1 x2 x3 x4 x5 x7 x6 w hF
                · refine j_aload_n B dX13_walkOn_63 rfl ?_
                  refine j_aload_n B dX13_walkOn_64 rfl ?_
                  refine j_getA B fl_X13_28 dX13_walkOn_65 hF (fun a65p hF => ?_)
                  refine j_iload B dX13_walkOn_68 rfl ?_
                  refine j_iaload B dX13_walkOn_70 hF (fun i70 hF => ?_)
                  refine j_iconst (v := 2) B dX13_walkOn_71 (by decide) ?_
                  obtain ⟨i72, e72, hF⟩ := bo hF
                  refine j_rV (st2 := [.int i72, .int x6]) B [.int i70, .int 2] [.int x6] cv_X13_111 dX13_walkOn_72 hl hR (ct_X13_eIs G e72) rfl rfl rfl rfl ⟨rfl, trivial⟩ (Nat.le_of_ble_eq_true rfl) ?_
                  refine j_iload B dX13_walkOn_75 rfl ?_
                  refine j_icmp_ne (tgt := 90) B dX13_walkOn_77 (by decide) hF (fun h77 hF => ?_) (fun h77 hF => ?_)
                  · refine j_msk [true, true, true, true, true, true, false, true] rfl ?_
                    exact jb90 a0 x1 x2 x3 x4 x5 x7 x6 w hF
                  · refine j_aload_n B dX13_walkOn_80 rfl ?_
                    refine j_getA B fl_X13_31 dX13_walkOn_81 hF (fun a81p hF => ?_)
                    refine j_iload B dX13_walkOn_84 rfl ?_
                    refine j_iaload B dX13_walkOn_86 hF (fun i86 hF => ?_)
                    refine j_goto (tgt := 91) B dX13_walkOn_87 (by decide) ?_
                    refine j_msk [true, true, true, true, true, true, false, true] rfl ?_
                    exact jb91 a0 x1 x2 x3 x4 x5 x7 i86 x6 w hF
          refine j_iload B dX13_walkOn_24 rfl ?_
          refine j_bipush (v := 7) B dX13_walkOn_26 (by decide) ?_
          refine j_icmp_ge (tgt := 146) B dX13_walkOn_28 (by decide) hF (fun h28 hF => ?_) (fun h28 hF => ?_)
          · refine j_msk [true, true, true, true, false, false, false, false] rfl ?_
            exact jb146 a0 x1 x2 x3 w hF
          · refine j_iload B dX13_walkOn_31 rfl ?_
            refine j_ldc (v := 1000000) B q1546 dX13_walkOn_33 ?_
            refine j_icmp_ge (tgt := 146) B dX13_walkOn_35 (by decide) hF (fun h35 hF => ?_) (fun h35 hF => ?_)
            · refine j_msk [true, true, true, true, false, false, false, false] rfl ?_
              exact jb146 a0 x1 x2 x3 w hF
            · refine j_iload_n B dX13_walkOn_38 rfl ?_
              refine j_istore (vs' := [some (va_rf a0), some (.int x1), some (.int x2), some (.int x3), some (.int x4), some (.int x5), some (.int x1), none]) B dX13_walkOn_39 (by decide) rfl ?_
              refine j_iconst (v := 0) B dX13_walkOn_41 (by decide) ?_
              refine j_istore (vs' := [some (va_rf a0), some (.int x1), some (.int x2), some (.int x3), some (.int x4), some (.int x5), some (.int x1), some (.int 0)]) B dX13_walkOn_42 (by decide) rfl ?_
              exact lp44 fu a0 x1 x2 x3 x4 x5 x1 0 w hF
      refine j_iload_n B dX13_walkOn_2 rfl ?_
      refine j_bipush (v := 7) B dX13_walkOn_3 (by decide) ?_
      refine j_icmp_ge (tgt := 152) B dX13_walkOn_5 (by decide) hF (fun h5 hF => ?_) (fun h5 hF => ?_)
      · exact j_lV B rfl dX13_walkOn_152 hF (by decide) (by decide)
      · refine j_aload_n B dX13_walkOn_8 rfl ?_
        refine j_getA B fl_X13_25 dX13_walkOn_9 hF (fun a9p hF => ?_)
        refine j_bipush (v := 7) B dX13_walkOn_12 (by decide) ?_
        refine j_iload_n B dX13_walkOn_14 rfl ?_
        refine j_imul B dX13_walkOn_15 ?_
        refine j_iload_n B dX13_walkOn_16 rfl ?_
        refine j_iadd B dX13_walkOn_17 ?_
        refine j_iaload B dX13_walkOn_18 hF (fun i18 hF => ?_)
        refine j_istore (vs' := [some (va_rf a0), some (.int x1), some (.int x2), some (.int x3), some (.int i18), none, none, none]) B dX13_walkOn_19 (by decide) rfl ?_
        refine j_iconst (v := 0) B dX13_walkOn_21 (by decide) ?_
        refine j_istore (vs' := [some (va_rf a0), some (.int x1), some (.int x2), some (.int x3), some (.int i18), some (.int 0), none, none]) B dX13_walkOn_22 (by decide) rfl ?_
        exact lp24 fu a0 x1 x2 x3 i18 0 w hF
  refine j_iconst (v := 0) B dX13_walkOn_0 (by decide) ?_
  refine j_istore_n (vs' := [some (va_rf a0), some (.int x1), some (.int x2), some (.int 0), none, none, none, none]) B dX13_walkOn_1 (by decide) rfl ?_
  exact lp2 fu a0 x1 x2 0 w hF
def F_X13_takeOn_J129 (rc53 : (Option Nat) → Int32 → Int32 → Int32 → Int32 → Int32 → cH → Option cH) (a0 : Option Nat) (x1 : Int32) (x2 : Int32) (x3 : Int32) (x4 : Int32) (x5 : Int32) (w : cH) : Option cH :=
  rc53 a0 x1 x2 x3 x4 (x5 + 1) w
def F_X13_takeOn_B53 (rc53 : Option Nat → Int32 → Int32 → Int32 → Int32 → Int32 → cH → Option cH) (a0 : Option Nat) (x1 : Int32) (x2 : Int32) (x3 : Int32) (x4 : Int32) (x5 : Int32) (w : cH) : Option cH :=
  if x2 ≤ x5 then (some w) else ((fA w a0 13 8).bind fun a61p => (aI w a61p 100 x5).bind fun i66 => (F_X13_eIs a0 i66 1 w).bind fun i68 => (F_X13_digit a0 x1 x5 w).bind fun i77 =>if ¬ i77 = 0 then (F_X13_takeOn_J129  rc53 a0 x1 x2 x3 x4 x5 w) else ((fA w a0 13 8).bind fun a87p => (aI w a87p 100 x5).bind fun i92 => (F_X13_eIs a0 i92 0 w).bind fun i94 =>if x3 < (x4 + i94) then (F_X13_takeOn_J129  rc53 a0 x1 x2 x3 x4 x5 w) else ((fA w a0 13 9).bind fun a105p => (aI w a105p 100 x5).bind fun i110 => (fA w a0 13 7).bind fun a115p => (aI w a115p 100 ((7 * x1) + i68)).bind fun i125 => (F_X13_shorter a0 (x1 + i110) i68 i125 w).bind fun w126 => F_X13_takeOn_J129  rc53 a0 x1 x2 x3 x4 x5 w126)))
def F_X13_takeOn_L53 : Nat → Option Nat → Int32 → Int32 → Int32 → Int32 → Int32 → cH → Option cH
  | 0, _, _, _, _, _, _, _ => none
  | n9 + 1, a0, x1, x2, x3, x4, x5, w => F_X13_takeOn_B53  (F_X13_takeOn_L53  n9) a0 x1 x2 x3 x4 x5 w
def F_X13_takeOn_J41 (rc6 : (Option Nat) → Int32 → Int32 → Int32 → Int32 → Int32 → cH → Option cH) (a0 : Option Nat) (x1 : Int32) (x2 : Int32) (x3 : Int32) (x5 : Int32) (s0 : Int32) (s1 : Int32) (w : cH) : Option cH :=
  rc6 a0 x1 x2 x3 (s1 + s0) (x5 + 1) w
def F_X13_takeOn_B6 (rc6 : Option Nat → Int32 → Int32 → Int32 → Int32 → Int32 → cH → Option cH) (a0 : Option Nat) (x1 : Int32) (x2 : Int32) (x3 : Int32) (x4 : Int32) (x5 : Int32) (w : cH) : Option cH :=
  if x2 ≤ x5 then (F_X13_takeOn_L53  fu a0 x1 x2 x3 x4 0 w) else ((F_X13_digit a0 x1 x5 w).bind fun i18 =>if ¬ i18 = 1 then (F_X13_takeOn_J41  rc6 a0 x1 x2 x3 x5 0 x4 w) else ((fA w a0 13 8).bind fun a27p => (aI w a27p 100 x5).bind fun i32 => (F_X13_eIs a0 i32 0 w).bind fun i34 => F_X13_takeOn_J41  rc6 a0 x1 x2 x3 x5 i34 x4 w))
def F_X13_takeOn_L6 : Nat → Option Nat → Int32 → Int32 → Int32 → Int32 → Int32 → cH → Option cH
  | 0, _, _, _, _, _, _, _ => none
  | n9 + 1, a0, x1, x2, x3, x4, x5, w => F_X13_takeOn_B6  (F_X13_takeOn_L6  n9) a0 x1 x2 x3 x4 x5 w
def F_X13_takeOn (a0 : Option Nat) (x1 : Int32) (x2 : Int32) (x3 : Int32) (w : cH) : Option cH :=
  if tg w a0 = some 13 then (F_X13_takeOn_L6  fu a0 x1 x2 x3 0 0 w) else none
abbrev rm_X13_takeOn : Room := { frames := 2, cells := 0, slots := 0, locals := 44 }
set_option maxHeartbeats 4000000 in
set_option maxRecDepth 100000 in
theorem ct_X13_takeOn {l : Launch} {g : Gt} (G : Gok g) {a0 : Option Nat} {x1 : Int32} {x2 : Int32} {x3 : Int32} {w : cH}  {w9 : cH} (hF : F_X13_takeOn a0 x1 x2 x3 w = some w9) : tg w a0 = some 13 ∧ Mx l yX13_takeOn (ws_ yX13_takeOn cX13_takeOn 7 none) rm_X13_takeOn g [va_rf a0, .int x1, .int x2, .int x3] w (.returned none) w9 0 0 := by
  unfold F_X13_takeOn at hF
  obtain ⟨ht, hF⟩ := bg hF
  refine ⟨ht, mk_ct cX13_takeOn 7 none "CarryFairModel" (plainFor_of_name (by decide)) rfl (lg_le ⟨cr _, rfl, rfl, rfl, trivial⟩ (Nat.le_of_ble_eq_true rfl)) (av_ok ⟨cr _, rfl, rfl, rfl, trivial⟩) G (fun x B hl hR hin hh => ?_)⟩
  show J g x _ _ 0 0 w 0 0 0 [some (va_rf a0), some (.int x1), some (.int x2), some (.int x3), none, none, none] []
  have lp53 : ∀ (n9 : Nat) (a0 : Option Nat) (x1 : Int32) (x2 : Int32) (x3 : Int32) (x4 : Int32) (x5 : Int32) (w : cH), F_X13_takeOn_L53  n9 a0 x1 x2 x3 x4 x5 w = some w9 → J g x (.returned none) w9 0 0 w 0 0 53 [some (va_rf a0), some (.int x1), some (.int x2), some (.int x3), some (.int x4), some (.int x5), none] [] := by
    intro n9
    induction n9 with
    | zero => intro a0 x1 x2 x3 x4 x5 w hF; cases hF
    | succ n53 ih53 =>
      intro a0 x1 x2 x3 x4 x5 w hF
      have hF : F_X13_takeOn_B53  (F_X13_takeOn_L53  n53) a0 x1 x2 x3 x4 x5 w = some w9 := hF
      unfold F_X13_takeOn_B53 at hF
      have jb129 : ∀ (a0 : Option Nat) (x1 : Int32) (x2 : Int32) (x3 : Int32) (x4 : Int32) (x5 : Int32) (w : cH), F_X13_takeOn_J129  (F_X13_takeOn_L53  n53) a0 x1 x2 x3 x4 x5 w = some w9 → J g x (.returned none) w9 0 0 w 0 0 129 [some (va_rf a0), some (.int x1), some (.int x2), some (.int x3), some (.int x4), some (.int x5), none] [] := by
        intro a0 x1 x2 x3 x4 x5 w hF
        unfold F_X13_takeOn_J129 at hF
        refine j_iinc (v := x5 + 1) (vs' := [some (va_rf a0), some (.int x1), some (.int x2), some (.int x3), some (.int x4), some (.int (x5 + 1)), none]) B dX13_takeOn_129 (by decide) rfl rfl rfl ?_
        refine j_goto (tgt := 53) B dX13_takeOn_132 (by decide) ?_
        exact ih53 a0 x1 x2 x3 x4 (x5 + 1) w hF
      refine j_iload B dX13_takeOn_53 rfl ?_
      refine j_iload_n B dX13_takeOn_55 rfl ?_
      refine j_icmp_ge (tgt := 135) B dX13_takeOn_56 (by decide) hF (fun h56 hF => ?_) (fun h56 hF => ?_)
      · exact j_lV B rfl dX13_takeOn_135 hF (by decide) (by decide)
      · refine j_aload_n B dX13_takeOn_59 rfl ?_
        refine j_aload_n B dX13_takeOn_60 rfl ?_
        refine j_getA B fl_X13_28 dX13_takeOn_61 hF (fun a61p hF => ?_)
        refine j_iload B dX13_takeOn_64 rfl ?_
        refine j_iaload B dX13_takeOn_66 hF (fun i66 hF => ?_)
        refine j_iconst (v := 1) B dX13_takeOn_67 (by decide) ?_
        obtain ⟨i68, e68, hF⟩ := bo hF
        refine j_rV (st2 := [.int i68]) B [.int i66, .int 1] [] cv_X13_111 dX13_takeOn_68 hl hR (ct_X13_eIs G e68) rfl rfl rfl rfl trivial (Nat.le_of_ble_eq_true rfl) ?_
        refine j_istore (vs' := [some (va_rf a0), some (.int x1), some (.int x2), some (.int x3), some (.int x4), some (.int x5), some (.int i68)]) B dX13_takeOn_71 (by decide) rfl ?_
        refine j_aload_n B dX13_takeOn_73 rfl ?_
        refine j_iload_n B dX13_takeOn_74 rfl ?_
        refine j_iload B dX13_takeOn_75 rfl ?_
        obtain ⟨i77, e77, hF⟩ := bo hF
        refine j_rV (st2 := [.int i77]) B [.int x1, .int x5] [] cv_X13_215 dX13_takeOn_77 hl hR (ct_X13_digit G e77) rfl rfl rfl rfl trivial (Nat.le_of_ble_eq_true rfl) ?_
        refine j_if_ne (tgt := 129) B dX13_takeOn_80 (by decide) hF (fun h80 hF => ?_) (fun h80 hF => ?_)
        · refine j_msk [true, true, true, true, true, true, false] rfl ?_
          exact jb129 a0 x1 x2 x3 x4 x5 w hF
        · refine j_iload B dX13_takeOn_83 rfl ?_
          refine j_aload_n B dX13_takeOn_85 rfl ?_
          refine j_aload_n B dX13_takeOn_86 rfl ?_
          refine j_getA B fl_X13_28 dX13_takeOn_87 hF (fun a87p hF => ?_)
          refine j_iload B dX13_takeOn_90 rfl ?_
          refine j_iaload B dX13_takeOn_92 hF (fun i92 hF => ?_)
          refine j_iconst (v := 0) B dX13_takeOn_93 (by decide) ?_
          obtain ⟨i94, e94, hF⟩ := bo hF
          refine j_rV (st2 := [.int i94, .int x4]) B [.int i92, .int 0] [.int x4] cv_X13_111 dX13_takeOn_94 hl hR (ct_X13_eIs G e94) rfl rfl rfl rfl ⟨rfl, trivial⟩ (Nat.le_of_ble_eq_true rfl) ?_
          refine j_iadd B dX13_takeOn_97 ?_
          refine j_iload_n B dX13_takeOn_98 rfl ?_
          refine j_icmp_gt (tgt := 129) B dX13_takeOn_99 (by decide) hF (fun h99 hF => ?_) (fun h99 hF => ?_)
          · refine j_msk [true, true, true, true, true, true, false] rfl ?_
            exact jb129 a0 x1 x2 x3 x4 x5 w hF
          · refine j_aload_n B dX13_takeOn_102 rfl ?_
            refine j_iload_n B dX13_takeOn_103 rfl ?_
            refine j_aload_n B dX13_takeOn_104 rfl ?_
            refine j_getA B fl_X13_31 dX13_takeOn_105 hF (fun a105p hF => ?_)
            refine j_iload B dX13_takeOn_108 rfl ?_
            refine j_iaload B dX13_takeOn_110 hF (fun i110 hF => ?_)
            refine j_iadd B dX13_takeOn_111 ?_
            refine j_iload B dX13_takeOn_112 rfl ?_
            refine j_aload_n B dX13_takeOn_114 rfl ?_
            refine j_getA B fl_X13_25 dX13_takeOn_115 hF (fun a115p hF => ?_)
            refine j_bipush (v := 7) B dX13_takeOn_118 (by decide) ?_
            refine j_iload_n B dX13_takeOn_120 rfl ?_
            refine j_imul B dX13_takeOn_121 ?_
            refine j_iload B dX13_takeOn_122 rfl ?_
            refine j_iadd B dX13_takeOn_124 ?_
            refine j_iaload B dX13_takeOn_125 hF (fun i125 hF => ?_)
            obtain ⟨w126, e126, hF⟩ := bo hF
            refine j_rV (st2 := []) B [.int (x1 + i110), .int i68, .int i125] [] cv_X13_218 dX13_takeOn_126 hl hR (ct_X13_shorter G e126) rfl rfl rfl rfl trivial (Nat.le_of_ble_eq_true rfl) ?_
            refine j_msk [true, true, true, true, true, true, false] rfl ?_
            exact jb129 a0 x1 x2 x3 x4 x5 w126 hF
  have lp6 : ∀ (n9 : Nat) (a0 : Option Nat) (x1 : Int32) (x2 : Int32) (x3 : Int32) (x4 : Int32) (x5 : Int32) (w : cH), F_X13_takeOn_L6  n9 a0 x1 x2 x3 x4 x5 w = some w9 → J g x (.returned none) w9 0 0 w 0 0 6 [some (va_rf a0), some (.int x1), some (.int x2), some (.int x3), some (.int x4), some (.int x5), none] [] := by
    intro n9
    induction n9 with
    | zero => intro a0 x1 x2 x3 x4 x5 w hF; cases hF
    | succ n6 ih6 =>
      intro a0 x1 x2 x3 x4 x5 w hF
      have hF : F_X13_takeOn_B6  (F_X13_takeOn_L6  n6) a0 x1 x2 x3 x4 x5 w = some w9 := hF
      unfold F_X13_takeOn_B6 at hF
      have jb41 : ∀ (a0 : Option Nat) (x1 : Int32) (x2 : Int32) (x3 : Int32) (x5 : Int32) (s0 : Int32) (s1 : Int32) (w : cH), F_X13_takeOn_J41  (F_X13_takeOn_L6  n6) a0 x1 x2 x3 x5 s0 s1 w = some w9 → J g x (.returned none) w9 0 0 w 0 0 41 [some (va_rf a0), some (.int x1), some (.int x2), some (.int x3), none, some (.int x5), none] [.int s0, .int s1] := by
        intro a0 x1 x2 x3 x5 s0 s1 w hF
        unfold F_X13_takeOn_J41 at hF
        refine j_iadd B dX13_takeOn_41 ?_
        refine j_istore (vs' := [some (va_rf a0), some (.int x1), some (.int x2), some (.int x3), some (.int (s1 + s0)), some (.int x5), none]) B dX13_takeOn_42 (by decide) rfl ?_
        refine j_iinc (v := x5 + 1) (vs' := [some (va_rf a0), some (.int x1), some (.int x2), some (.int x3), some (.int (s1 + s0)), some (.int (x5 + 1)), none]) B dX13_takeOn_44 (by decide) rfl rfl rfl ?_
        refine j_goto (tgt := 6) B dX13_takeOn_47 (by decide) ?_
        exact ih6 a0 x1 x2 x3 (s1 + s0) (x5 + 1) w hF
      refine j_iload B dX13_takeOn_6 rfl ?_
      refine j_iload_n B dX13_takeOn_8 rfl ?_
      refine j_icmp_ge (tgt := 50) B dX13_takeOn_9 (by decide) hF (fun h9 hF => ?_) (fun h9 hF => ?_)
      · refine j_iconst (v := 0) B dX13_takeOn_50 (by decide) ?_
        refine j_istore (vs' := [some (va_rf a0), some (.int x1), some (.int x2), some (.int x3), some (.int x4), some (.int 0), none]) B dX13_takeOn_51 (by decide) rfl ?_
        exact lp53 fu a0 x1 x2 x3 x4 0 w hF
      · refine j_iload B dX13_takeOn_12 rfl ?_
        refine j_aload_n B dX13_takeOn_14 rfl ?_
        refine j_iload_n B dX13_takeOn_15 rfl ?_
        refine j_iload B dX13_takeOn_16 rfl ?_
        obtain ⟨i18, e18, hF⟩ := bo hF
        refine j_rV (st2 := [.int i18, .int x4]) B [.int x1, .int x5] [.int x4] cv_X13_215 dX13_takeOn_18 hl hR (ct_X13_digit G e18) rfl rfl rfl rfl ⟨rfl, trivial⟩ (Nat.le_of_ble_eq_true rfl) ?_
        refine j_iconst (v := 1) B dX13_takeOn_21 (by decide) ?_
        refine j_icmp_ne (tgt := 40) B dX13_takeOn_22 (by decide) hF (fun h22 hF => ?_) (fun h22 hF => ?_)
        · refine j_iconst (v := 0) B dX13_takeOn_40 (by decide) ?_
          refine j_msk [true, true, true, true, false, true, false] rfl ?_
          exact jb41 a0 x1 x2 x3 x5 0 x4 w hF
        · refine j_aload_n B dX13_takeOn_25 rfl ?_
          refine j_aload_n B dX13_takeOn_26 rfl ?_
          refine j_getA B fl_X13_28 dX13_takeOn_27 hF (fun a27p hF => ?_)
          refine j_iload B dX13_takeOn_30 rfl ?_
          refine j_iaload B dX13_takeOn_32 hF (fun i32 hF => ?_)
          refine j_iconst (v := 0) B dX13_takeOn_33 (by decide) ?_
          obtain ⟨i34, e34, hF⟩ := bo hF
          refine j_rV (st2 := [.int i34, .int x4]) B [.int i32, .int 0] [.int x4] cv_X13_111 dX13_takeOn_34 hl hR (ct_X13_eIs G e34) rfl rfl rfl rfl ⟨rfl, trivial⟩ (Nat.le_of_ble_eq_true rfl) ?_
          refine j_goto (tgt := 41) B dX13_takeOn_37 (by decide) ?_
          refine j_msk [true, true, true, true, false, true, false] rfl ?_
          exact jb41 a0 x1 x2 x3 x5 i34 x4 w hF
  refine j_iconst (v := 0) B dX13_takeOn_0 (by decide) ?_
  refine j_istore (vs' := [some (va_rf a0), some (.int x1), some (.int x2), some (.int x3), some (.int 0), none, none]) B dX13_takeOn_1 (by decide) rfl ?_
  refine j_iconst (v := 0) B dX13_takeOn_3 (by decide) ?_
  refine j_istore (vs' := [some (va_rf a0), some (.int x1), some (.int x2), some (.int x3), some (.int 0), some (.int 0), none]) B dX13_takeOn_4 (by decide) rfl ?_
  exact lp6 fu a0 x1 x2 x3 0 0 w hF
theorem cv_X13_208 : CV "CarryFairModel" 208 13 yX13_walkOn cX13_walkOn 8 none 2 := ⟨_, _, rfl, lw_V q1651 q1653 qs100 q142 q1654, by decide +kernel⟩
theorem cv_X13_211 : CV "CarryFairModel" 211 13 yX13_takeOn cX13_takeOn 7 none 3 := ⟨_, _, rfl, lw_V q1663 q1665 qs103 q142 q1666, by decide +kernel⟩
def F_X13_roundOf_B157 (rc157 : Option Nat → Int32 → Int32 → Int32 → cH → Option (Int32 × cH)) (a0 : Option Nat) (x5 : Int32) (x6 : Int32) (x7 : Int32) (w : cH) : Option (Int32 × cH) :=
  if 7 ≤ x7 then (some (x6, w)) else ((fA w a0 13 7).bind fun a167p => (aI w a167p 100 ((7 * x5) + x7)).bind fun i178 => rc157 a0 x5 (F_J3_min x6 i178) (x7 + 1) w)
def F_X13_roundOf_L157 : Nat → Option Nat → Int32 → Int32 → Int32 → cH → Option (Int32 × cH)
  | 0, _, _, _, _, _ => none
  | n9 + 1, a0, x5, x6, x7, w => F_X13_roundOf_B157  (F_X13_roundOf_L157  n9) a0 x5 x6 x7 w
def F_X13_roundOf_B120 (rc120 : Option Nat → Int32 → Int32 → Int32 → Int32 → cH → Option (Int32 × cH)) (a0 : Option Nat) (x3 : Int32) (x4 : Int32) (x5 : Int32) (x6 : Int32) (w : cH) : Option (Int32 × cH) :=
  if x5 ≤ x6 then (F_X13_roundOf_L157  fu a0 x5 1000000 0 w) else ((F_X13_walkOn a0 x6 x4 w).bind fun w132 => (F_X13_takeOn a0 x6 x4 x3 w132).bind fun w141 => rc120 a0 x3 x4 x5 (x6 + 1) w141)
def F_X13_roundOf_L120 : Nat → Option Nat → Int32 → Int32 → Int32 → Int32 → cH → Option (Int32 × cH)
  | 0, _, _, _, _, _, _ => none
  | n9 + 1, a0, x3, x4, x5, x6, w => F_X13_roundOf_B120  (F_X13_roundOf_L120  n9) a0 x3 x4 x5 x6 w
def F_X13_roundOf_B75 (rc75 : Option Nat → Int32 → Int32 → Int32 → Int32 → Int32 → cH → Option (Int32 × cH)) (a0 : Option Nat) (x1 : Int32) (x3 : Int32) (x4 : Int32) (x5 : Int32) (x6 : Int32) (w : cH) : Option (Int32 × cH) :=
  (fA w a0 13 9).bind fun a80p => (aI w a80p 100 x4).bind fun i85 =>if (7 * i85) ≤ x6 then ((fA w a0 13 7).bind fun a106p => (F_X13_cIs a0 x1 1 w).bind fun i112 => (aS w a106p 100 i112 (.int 0)).bind fun w116 => F_X13_roundOf_L120  fu a0 x3 x4 x5 0 w116) else ((fA w a0 13 7).bind fun a91p => (aS w a91p 100 x6 (.int 1000000)).bind fun w98 => rc75 a0 x1 x3 x4 x5 (x6 + 1) w98)
def F_X13_roundOf_L75 : Nat → Option Nat → Int32 → Int32 → Int32 → Int32 → Int32 → cH → Option (Int32 × cH)
  | 0, _, _, _, _, _, _, _ => none
  | n9 + 1, a0, x1, x3, x4, x5, x6, w => F_X13_roundOf_B75  (F_X13_roundOf_L75  n9) a0 x1 x3 x4 x5 x6 w
def F_X13_roundOf_J55 (rc22 : (Option Nat) → Int32 → Int32 → Int32 → Int32 → Int32 → cH → Option (Int32 × cH)) (a0 : Option Nat) (x1 : Int32) (x2 : Int32) (x3 : Int32) (x4 : Int32) (x5 : Int32) (w : cH) : Option (Int32 × cH) :=
  rc22 a0 x1 x2 x3 x4 (x5 + 1) w
def F_X13_roundOf_B22 (rc22 : Option Nat → Int32 → Int32 → Int32 → Int32 → Int32 → cH → Option (Int32 × cH)) (a0 : Option Nat) (x1 : Int32) (x2 : Int32) (x3 : Int32) (x4 : Int32) (x5 : Int32) (w : cH) : Option (Int32 × cH) :=
  (fA w a0 13 0).bind fun a25p => (aI w a25p 100 43).bind fun i30 =>if i30 ≤ x5 then ((fA w a0 13 9).bind fun a62p => (aI w a62p 100 x4).bind fun i67 => F_X13_roundOf_L75  fu a0 x1 x3 x4 (i67 - 1) 0 w) else (if (F_X13_has x2 x5) = 0 then (F_X13_roundOf_J55  rc22 a0 x1 x2 x3 x4 x5 w) else ((fA w a0 13 8).bind fun a44p => (aS w a44p 100 x4 (.int x5)).bind fun w51 => F_X13_roundOf_J55  rc22 a0 x1 x2 x3 (x4 + 1) x5 w51))
def F_X13_roundOf_L22 : Nat → Option Nat → Int32 → Int32 → Int32 → Int32 → Int32 → cH → Option (Int32 × cH)
  | 0, _, _, _, _, _, _, _ => none
  | n9 + 1, a0, x1, x2, x3, x4, x5, w => F_X13_roundOf_B22  (F_X13_roundOf_L22  n9) a0 x1 x2 x3 x4 x5 w
def F_X13_roundOf (a0 : Option Nat) (x1 : Int32) (x2 : Int32) (w : cH) : Option (Int32 × cH) :=
  if tg w a0 = some 13 then ((F_X13_cIs a0 x1 0 w).bind fun i4 => (F_X13_findFar a0 i4 w).bind fun w7 => (F_X13_bears a0 x1 w7).bind fun i12 => F_X13_roundOf_L22  fu a0 x1 x2 i12 0 0 w7) else none
abbrev rm_X13_roundOf : Room := { frames := 4, cells := 0, slots := 0, locals := 93 }
set_option maxHeartbeats 4000000 in
set_option maxRecDepth 100000 in
theorem ct_X13_roundOf {l : Launch} {g : Gt} (G : Gok g) {a0 : Option Nat} {x1 : Int32} {x2 : Int32} {w : cH} {r9 : Int32} {w9 : cH} (hF : F_X13_roundOf a0 x1 x2 w = some (r9, w9)) : tg w a0 = some 13 ∧ Mx l yX13_roundOf (ws_ yX13_roundOf cX13_roundOf 8 (some .int)) rm_X13_roundOf g [va_rf a0, .int x1, .int x2] w (.returned (some (.int r9))) w9 0 0 := by
  unfold F_X13_roundOf at hF
  obtain ⟨ht, hF⟩ := bg hF
  refine ⟨ht, mk_ct cX13_roundOf 8 (some .int) "CarryFairModel" (plainFor_of_name (by decide)) rfl (lg_le ⟨cr _, rfl, rfl, trivial⟩ (Nat.le_of_ble_eq_true rfl)) (av_ok ⟨cr _, rfl, rfl, trivial⟩) G (fun x B hl hR hin hh => ?_)⟩
  show J g x _ _ 0 0 w 0 0 0 [some (va_rf a0), some (.int x1), some (.int x2), none, none, none, none, none] []
  have lp157 : ∀ (n9 : Nat) (a0 : Option Nat) (x5 : Int32) (x6 : Int32) (x7 : Int32) (w : cH), F_X13_roundOf_L157  n9 a0 x5 x6 x7 w = some (r9, w9) → J g x (.returned (some (.int r9))) w9 0 0 w 0 0 157 [some (va_rf a0), none, none, none, none, some (.int x5), some (.int x6), some (.int x7)] [] := by
    intro n9
    induction n9 with
    | zero => intro a0 x5 x6 x7 w hF; cases hF
    | succ n157 ih157 =>
      intro a0 x5 x6 x7 w hF
      have hF : F_X13_roundOf_B157  (F_X13_roundOf_L157  n157) a0 x5 x6 x7 w = some (r9, w9) := hF
      unfold F_X13_roundOf_B157 at hF
      refine j_iload B dX13_roundOf_157 rfl ?_
      refine j_bipush (v := 7) B dX13_roundOf_159 (by decide) ?_
      refine j_icmp_ge (tgt := 190) B dX13_roundOf_161 (by decide) hF (fun h161 hF => ?_) (fun h161 hF => ?_)
      · refine j_iload B dX13_roundOf_190 rfl ?_
        exact j_lIw B rfl dX13_roundOf_192 hF (by decide) (by decide)
      · refine j_iload B dX13_roundOf_164 rfl ?_
        refine j_aload_n B dX13_roundOf_166 rfl ?_
        refine j_getA B fl_X13_25 dX13_roundOf_167 hF (fun a167p hF => ?_)
        refine j_bipush (v := 7) B dX13_roundOf_170 (by decide) ?_
        refine j_iload B dX13_roundOf_172 rfl ?_
        refine j_imul B dX13_roundOf_174 ?_
        refine j_iload B dX13_roundOf_175 rfl ?_
        refine j_iadd B dX13_roundOf_177 ?_
        refine j_iaload B dX13_roundOf_178 hF (fun i178 hF => ?_)
        refine j_rS (st2 := [.int (F_J3_min x6 i178)]) B [.int x6, .int i178] [] cs_X13_136 dX13_roundOf_179 hl hR (ct_J3_min G) rfl rfl rfl rfl trivial (Nat.le_of_ble_eq_true rfl) ?_
        refine j_istore (vs' := [some (va_rf a0), none, none, none, none, some (.int x5), some (.int (F_J3_min x6 i178)), some (.int x7)]) B dX13_roundOf_182 (by decide) rfl ?_
        refine j_iinc (v := x7 + 1) (vs' := [some (va_rf a0), none, none, none, none, some (.int x5), some (.int (F_J3_min x6 i178)), some (.int (x7 + 1))]) B dX13_roundOf_184 (by decide) rfl rfl rfl ?_
        refine j_goto (tgt := 157) B dX13_roundOf_187 (by decide) ?_
        exact ih157 a0 x5 (F_J3_min x6 i178) (x7 + 1) w hF
  have lp120 : ∀ (n9 : Nat) (a0 : Option Nat) (x3 : Int32) (x4 : Int32) (x5 : Int32) (x6 : Int32) (w : cH), F_X13_roundOf_L120  n9 a0 x3 x4 x5 x6 w = some (r9, w9) → J g x (.returned (some (.int r9))) w9 0 0 w 0 0 120 [some (va_rf a0), none, none, some (.int x3), some (.int x4), some (.int x5), some (.int x6), none] [] := by
    intro n9
    induction n9 with
    | zero => intro a0 x3 x4 x5 x6 w hF; cases hF
    | succ n120 ih120 =>
      intro a0 x3 x4 x5 x6 w hF
      have hF : F_X13_roundOf_B120  (F_X13_roundOf_L120  n120) a0 x3 x4 x5 x6 w = some (r9, w9) := hF
      unfold F_X13_roundOf_B120 at hF
      refine j_iload B dX13_roundOf_120 rfl ?_
      refine j_iload B dX13_roundOf_122 rfl ?_
      refine j_icmp_ge (tgt := 150) B dX13_roundOf_124 (by decide) hF (fun h124 hF => ?_) (fun h124 hF => ?_)
      · refine j_ldc (v := 1000000) B q1546 dX13_roundOf_150 ?_
        refine j_istore (vs' := [some (va_rf a0), none, none, some (.int x3), some (.int x4), some (.int x5), some (.int 1000000), none]) B dX13_roundOf_152 (by decide) rfl ?_
        refine j_iconst (v := 0) B dX13_roundOf_154 (by decide) ?_
        refine j_istore (vs' := [some (va_rf a0), none, none, some (.int x3), some (.int x4), some (.int x5), some (.int 1000000), some (.int 0)]) B dX13_roundOf_155 (by decide) rfl ?_
        refine j_msk [true, false, false, false, false, true, true, true] rfl ?_
        exact lp157 fu a0 x5 1000000 0 w hF
      · refine j_aload_n B dX13_roundOf_127 rfl ?_
        refine j_iload B dX13_roundOf_128 rfl ?_
        refine j_iload B dX13_roundOf_130 rfl ?_
        obtain ⟨w132, e132, hF⟩ := bo hF
        refine j_rV (st2 := []) B [.int x6, .int x4] [] cv_X13_208 dX13_roundOf_132 hl hR (ct_X13_walkOn G e132) rfl rfl rfl rfl trivial (Nat.le_of_ble_eq_true rfl) ?_
        refine j_aload_n B dX13_roundOf_135 rfl ?_
        refine j_iload B dX13_roundOf_136 rfl ?_
        refine j_iload B dX13_roundOf_138 rfl ?_
        refine j_iload_n B dX13_roundOf_140 rfl ?_
        obtain ⟨w141, e141, hF⟩ := bo hF
        refine j_rV (st2 := []) B [.int x6, .int x4, .int x3] [] cv_X13_211 dX13_roundOf_141 hl hR (ct_X13_takeOn G e141) rfl rfl rfl rfl trivial (Nat.le_of_ble_eq_true rfl) ?_
        refine j_iinc (v := x6 + 1) (vs' := [some (va_rf a0), none, none, some (.int x3), some (.int x4), some (.int x5), some (.int (x6 + 1)), none]) B dX13_roundOf_144 (by decide) rfl rfl rfl ?_
        refine j_goto (tgt := 120) B dX13_roundOf_147 (by decide) ?_
        exact ih120 a0 x3 x4 x5 (x6 + 1) w141 hF
  have lp75 : ∀ (n9 : Nat) (a0 : Option Nat) (x1 : Int32) (x3 : Int32) (x4 : Int32) (x5 : Int32) (x6 : Int32) (w : cH), F_X13_roundOf_L75  n9 a0 x1 x3 x4 x5 x6 w = some (r9, w9) → J g x (.returned (some (.int r9))) w9 0 0 w 0 0 75 [some (va_rf a0), some (.int x1), none, some (.int x3), some (.int x4), some (.int x5), some (.int x6), none] [] := by
    intro n9
    induction n9 with
    | zero => intro a0 x1 x3 x4 x5 x6 w hF; cases hF
    | succ n75 ih75 =>
      intro a0 x1 x3 x4 x5 x6 w hF
      have hF : F_X13_roundOf_B75  (F_X13_roundOf_L75  n75) a0 x1 x3 x4 x5 x6 w = some (r9, w9) := hF
      unfold F_X13_roundOf_B75 at hF
      refine j_iload B dX13_roundOf_75 rfl ?_
      refine j_bipush (v := 7) B dX13_roundOf_77 (by decide) ?_
      refine j_aload_n B dX13_roundOf_79 rfl ?_
      refine j_getA B fl_X13_31 dX13_roundOf_80 hF (fun a80p hF => ?_)
      refine j_iload B dX13_roundOf_83 rfl ?_
      refine j_iaload B dX13_roundOf_85 hF (fun i85 hF => ?_)
      refine j_imul B dX13_roundOf_86 ?_
      refine j_icmp_ge (tgt := 105) B dX13_roundOf_87 (by decide) hF (fun h87 hF => ?_) (fun h87 hF => ?_)
      · refine j_aload_n B dX13_roundOf_105 rfl ?_
        refine j_getA B fl_X13_25 dX13_roundOf_106 hF (fun a106p hF => ?_)
        refine j_aload_n B dX13_roundOf_109 rfl ?_
        refine j_iload_n B dX13_roundOf_110 rfl ?_
        refine j_iconst (v := 1) B dX13_roundOf_111 (by decide) ?_
        obtain ⟨i112, e112, hF⟩ := bo hF
        refine j_rV (st2 := [.int i112, va_rf a106p]) B [.int x1, .int 1] [va_rf a106p] cv_X13_104 dX13_roundOf_112 hl hR (ct_X13_cIs G e112) rfl rfl rfl rfl ⟨cr _, trivial⟩ (Nat.le_of_ble_eq_true rfl) ?_
        refine j_iconst (v := 0) B dX13_roundOf_115 (by decide) ?_
        refine j_iastore B dX13_roundOf_116 hF (fun w116 hF => ?_)
        refine j_iconst (v := 0) B dX13_roundOf_117 (by decide) ?_
        refine j_istore (vs' := [some (va_rf a0), some (.int x1), none, some (.int x3), some (.int x4), some (.int x5), some (.int 0), none]) B dX13_roundOf_118 (by decide) rfl ?_
        refine j_msk [true, false, false, true, true, true, true, false] rfl ?_
        exact lp120 fu a0 x3 x4 x5 0 w116 hF
      · refine j_aload_n B dX13_roundOf_90 rfl ?_
        refine j_getA B fl_X13_25 dX13_roundOf_91 hF (fun a91p hF => ?_)
        refine j_iload B dX13_roundOf_94 rfl ?_
        refine j_ldc (v := 1000000) B q1546 dX13_roundOf_96 ?_
        refine j_iastore B dX13_roundOf_98 hF (fun w98 hF => ?_)
        refine j_iinc (v := x6 + 1) (vs' := [some (va_rf a0), some (.int x1), none, some (.int x3), some (.int x4), some (.int x5), some (.int (x6 + 1)), none]) B dX13_roundOf_99 (by decide) rfl rfl rfl ?_
        refine j_goto (tgt := 75) B dX13_roundOf_102 (by decide) ?_
        exact ih75 a0 x1 x3 x4 x5 (x6 + 1) w98 hF
  have lp22 : ∀ (n9 : Nat) (a0 : Option Nat) (x1 : Int32) (x2 : Int32) (x3 : Int32) (x4 : Int32) (x5 : Int32) (w : cH), F_X13_roundOf_L22  n9 a0 x1 x2 x3 x4 x5 w = some (r9, w9) → J g x (.returned (some (.int r9))) w9 0 0 w 0 0 22 [some (va_rf a0), some (.int x1), some (.int x2), some (.int x3), some (.int x4), some (.int x5), none, none] [] := by
    intro n9
    induction n9 with
    | zero => intro a0 x1 x2 x3 x4 x5 w hF; cases hF
    | succ n22 ih22 =>
      intro a0 x1 x2 x3 x4 x5 w hF
      have hF : F_X13_roundOf_B22  (F_X13_roundOf_L22  n22) a0 x1 x2 x3 x4 x5 w = some (r9, w9) := hF
      unfold F_X13_roundOf_B22 at hF
      have jb55 : ∀ (a0 : Option Nat) (x1 : Int32) (x2 : Int32) (x3 : Int32) (x4 : Int32) (x5 : Int32) (w : cH), F_X13_roundOf_J55  (F_X13_roundOf_L22  n22) a0 x1 x2 x3 x4 x5 w = some (r9, w9) → J g x (.returned (some (.int r9))) w9 0 0 w 0 0 55 [some (va_rf a0), some (.int x1), some (.int x2), some (.int x3), some (.int x4), some (.int x5), none, none] [] := by
        intro a0 x1 x2 x3 x4 x5 w hF
        unfold F_X13_roundOf_J55 at hF
        refine j_iinc (v := x5 + 1) (vs' := [some (va_rf a0), some (.int x1), some (.int x2), some (.int x3), some (.int x4), some (.int (x5 + 1)), none, none]) B dX13_roundOf_55 (by decide) rfl rfl rfl ?_
        refine j_goto (tgt := 22) B dX13_roundOf_58 (by decide) ?_
        exact ih22 a0 x1 x2 x3 x4 (x5 + 1) w hF
      refine j_iload B dX13_roundOf_22 rfl ?_
      refine j_aload_n B dX13_roundOf_24 rfl ?_
      refine j_getA B fl_X13_9 dX13_roundOf_25 hF (fun a25p hF => ?_)
      refine j_bipush (v := 43) B dX13_roundOf_28 (by decide) ?_
      refine j_iaload B dX13_roundOf_30 hF (fun i30 hF => ?_)
      refine j_icmp_ge (tgt := 61) B dX13_roundOf_31 (by decide) hF (fun h31 hF => ?_) (fun h31 hF => ?_)
      · refine j_aload_n B dX13_roundOf_61 rfl ?_
        refine j_getA B fl_X13_31 dX13_roundOf_62 hF (fun a62p hF => ?_)
        refine j_iload B dX13_roundOf_65 rfl ?_
        refine j_iaload B dX13_roundOf_67 hF (fun i67 hF => ?_)
        refine j_iconst (v := 1) B dX13_roundOf_68 (by decide) ?_
        refine j_isub B dX13_roundOf_69 ?_
        refine j_istore (vs' := [some (va_rf a0), some (.int x1), some (.int x2), some (.int x3), some (.int x4), some (.int (i67 - 1)), none, none]) B dX13_roundOf_70 (by decide) rfl ?_
        refine j_iconst (v := 0) B dX13_roundOf_72 (by decide) ?_
        refine j_istore (vs' := [some (va_rf a0), some (.int x1), some (.int x2), some (.int x3), some (.int x4), some (.int (i67 - 1)), some (.int 0), none]) B dX13_roundOf_73 (by decide) rfl ?_
        refine j_msk [true, true, false, true, true, true, true, false] rfl ?_
        exact lp75 fu a0 x1 x3 x4 (i67 - 1) 0 w hF
      · refine j_iload_n B dX13_roundOf_34 rfl ?_
        refine j_iload B dX13_roundOf_35 rfl ?_
        refine j_rS (st2 := [.int (F_X13_has x2 x5)]) B [.int x2, .int x5] [] cs_X13_114 dX13_roundOf_37 hl hR (ct_X13_has G) rfl rfl rfl rfl trivial (Nat.le_of_ble_eq_true rfl) ?_
        refine j_if_eq (tgt := 55) B dX13_roundOf_40 (by decide) hF (fun h40 hF => ?_) (fun h40 hF => ?_)
        · exact jb55 a0 x1 x2 x3 x4 x5 w hF
        · refine j_aload_n B dX13_roundOf_43 rfl ?_
          refine j_getA B fl_X13_28 dX13_roundOf_44 hF (fun a44p hF => ?_)
          refine j_iload B dX13_roundOf_47 rfl ?_
          refine j_iload B dX13_roundOf_49 rfl ?_
          refine j_iastore B dX13_roundOf_51 hF (fun w51 hF => ?_)
          refine j_iinc (v := x4 + 1) (vs' := [some (va_rf a0), some (.int x1), some (.int x2), some (.int x3), some (.int (x4 + 1)), some (.int x5), none, none]) B dX13_roundOf_52 (by decide) rfl rfl rfl ?_
          exact jb55 a0 x1 x2 x3 (x4 + 1) x5 w51 hF
  refine j_aload_n B dX13_roundOf_0 rfl ?_
  refine j_aload_n B dX13_roundOf_1 rfl ?_
  refine j_iload_n B dX13_roundOf_2 rfl ?_
  refine j_iconst (v := 0) B dX13_roundOf_3 (by decide) ?_
  obtain ⟨i4, e4, hF⟩ := bo hF
  refine j_rV (st2 := [.int i4, va_rf a0]) B [.int x1, .int 0] [va_rf a0] cv_X13_104 dX13_roundOf_4 hl hR (ct_X13_cIs G e4) rfl rfl rfl rfl ⟨cr _, trivial⟩ (Nat.le_of_ble_eq_true rfl) ?_
  obtain ⟨w7, e7, hF⟩ := bo hF
  refine j_rV (st2 := []) B [.int i4] [] cv_X13_174 dX13_roundOf_7 hl hR (ct_X13_findFar G e7) rfl rfl rfl rfl trivial (Nat.le_of_ble_eq_true rfl) ?_
  refine j_aload_n B dX13_roundOf_10 rfl ?_
  refine j_iload_n B dX13_roundOf_11 rfl ?_
  obtain ⟨i12, e12, hF⟩ := bo hF
  refine j_rV (st2 := [.int i12]) B [.int x1] [] cv_X13_120 dX13_roundOf_12 hl hR (ct_X13_bears G e12) rfl rfl rfl rfl trivial (Nat.le_of_ble_eq_true rfl) ?_
  refine j_istore_n (vs' := [some (va_rf a0), some (.int x1), some (.int x2), some (.int i12), none, none, none, none]) B dX13_roundOf_15 (by decide) rfl ?_
  refine j_iconst (v := 0) B dX13_roundOf_16 (by decide) ?_
  refine j_istore (vs' := [some (va_rf a0), some (.int x1), some (.int x2), some (.int i12), some (.int 0), none, none, none]) B dX13_roundOf_17 (by decide) rfl ?_
  refine j_iconst (v := 0) B dX13_roundOf_19 (by decide) ?_
  refine j_istore (vs' := [some (va_rf a0), some (.int x1), some (.int x2), some (.int i12), some (.int 0), some (.int 0), none, none]) B dX13_roundOf_20 (by decide) rfl ?_
  exact lp22 fu a0 x1 x2 i12 0 0 w7 hF
def F_X13_told (a0 : Option Nat) (x1 : Int32) (w : cH) : Option (Int32 × cH) :=
  if tg w a0 = some 13 then (if x1 < 1000000 then (some (x1, w)) else (cb (F_X13_finding a0 (-1000004) w) fun i9 w9 => some (i9, w9))) else none
abbrev rm_X13_told : Room := { frames := 1, cells := 0, slots := 0, locals := 21 }
set_option maxHeartbeats 4000000 in
set_option maxRecDepth 100000 in
theorem ct_X13_told {l : Launch} {g : Gt} (G : Gok g) {a0 : Option Nat} {x1 : Int32} {w : cH} {r9 : Int32} {w9 : cH} (hF : F_X13_told a0 x1 w = some (r9, w9)) : tg w a0 = some 13 ∧ Mx l yX13_told (ws_ yX13_told cX13_told 2 (some .int)) rm_X13_told g [va_rf a0, .int x1] w (.returned (some (.int r9))) w9 0 0 := by
  unfold F_X13_told at hF
  obtain ⟨ht, hF⟩ := bg hF
  refine ⟨ht, mk_ct cX13_told 2 (some .int) "CarryFairModel" (plainFor_of_name (by decide)) rfl (lg_le ⟨cr _, rfl, trivial⟩ (Nat.le_of_ble_eq_true rfl)) (av_ok ⟨cr _, rfl, trivial⟩) G (fun x B hl hR hin hh => ?_)⟩
  show J g x _ _ 0 0 w 0 0 0 [some (va_rf a0), some (.int x1)] []
  refine j_iload_n B dX13_told_0 rfl ?_
  refine j_ldc (v := 1000000) B q1546 dX13_told_1 ?_
  refine j_icmp_lt (tgt := 15) B dX13_told_3 (by decide) hF (fun h3 hF => ?_) (fun h3 hF => ?_)
  · refine j_iload_n B dX13_told_15 rfl ?_
    exact j_lIw B rfl dX13_told_16 hF (by decide) (by decide)
  · refine j_aload_n B dX13_told_6 rfl ?_
    refine j_ldc (v := (-1000004)) B q1551 dX13_told_7 ?_
    obtain ⟨i9, w9, e9, hF⟩ := bc hF
    refine j_rV (st2 := [.int i9]) B [.int (-1000004)] [] cv_X13_92 dX13_told_9 hl hR (ct_X13_finding G e9) rfl rfl rfl rfl trivial (Nat.le_of_ble_eq_true rfl) ?_
    refine j_goto (tgt := 16) B dX13_told_12 (by decide) ?_
    exact j_lIw B rfl dX13_told_16 hF (by decide) (by decide)
theorem cv_X13_230 : CV "CarryFairModel" 230 13 yX13_refuses cX13_refuses 3 (some .int) 2 := ⟨_, _, rfl, lw_V q1632 q1634 qs96 q142 q1635, by decide +kernel⟩
theorem cv_X13_233 : CV "CarryFairModel" 233 13 yX13_roundOf cX13_roundOf 8 (some .int) 2 := ⟨_, _, rfl, lw_V q1647 q1649 qs99 q142 q1650, by decide +kernel⟩
theorem cv_X13_236 : CV "CarryFairModel" 236 13 yX13_told cX13_told 2 (some .int) 1 := ⟨_, _, rfl, lw_V q1667 q1669 qs104 q142 q1670, by decide +kernel⟩
def F_X13_round (a0 : Option Nat) (x1 : Int32) (x2 : Int32) (w : cH) : Option (Int32 × cH) :=
  if tg w a0 = some 13 then ((F_X13_refuses a0 x1 x2 w).bind fun i3 =>if i3 = 0 then (cb (F_X13_roundOf a0 x1 x2 w) fun i23 w23 => cb (F_X13_told a0 i23 w23) fun i26 w26 => some (i26, w26)) else (cb (F_X13_finding a0 i3 w) fun i13 w13 => some (i13, w13))) else none
abbrev rm_X13_round : Room := { frames := 5, cells := 0, slots := 0, locals := 120 }
set_option maxHeartbeats 4000000 in
set_option maxRecDepth 100000 in
theorem ct_X13_round {l : Launch} {g : Gt} (G : Gok g) {a0 : Option Nat} {x1 : Int32} {x2 : Int32} {w : cH} {r9 : Int32} {w9 : cH} (hF : F_X13_round a0 x1 x2 w = some (r9, w9)) : tg w a0 = some 13 ∧ Mx l yX13_round (ws_ yX13_round cX13_round 4 (some .int)) rm_X13_round g [va_rf a0, .int x1, .int x2] w (.returned (some (.int r9))) w9 0 0 := by
  unfold F_X13_round at hF
  obtain ⟨ht, hF⟩ := bg hF
  refine ⟨ht, mk_ct cX13_round 4 (some .int) "CarryFairModel" (plainFor_of_name (by decide)) rfl (lg_le ⟨cr _, rfl, rfl, trivial⟩ (Nat.le_of_ble_eq_true rfl)) (av_ok ⟨cr _, rfl, rfl, trivial⟩) G (fun x B hl hR hin hh => ?_)⟩
  show J g x _ _ 0 0 w 0 0 0 [some (va_rf a0), some (.int x1), some (.int x2), none] []
  refine j_aload_n B dX13_round_0 rfl ?_
  refine j_iload_n B dX13_round_1 rfl ?_
  refine j_iload_n B dX13_round_2 rfl ?_
  obtain ⟨i3, e3, hF⟩ := bo hF
  refine j_rV (st2 := [.int i3]) B [.int x1, .int x2] [] cv_X13_230 dX13_round_3 hl hR (ct_X13_refuses G e3) rfl rfl rfl rfl trivial (Nat.le_of_ble_eq_true rfl) ?_
  refine j_istore_n (vs' := [some (va_rf a0), some (.int x1), some (.int x2), some (.int i3)]) B dX13_round_6 (by decide) rfl ?_
  refine j_iload_n B dX13_round_7 rfl ?_
  refine j_if_eq (tgt := 19) B dX13_round_8 (by decide) hF (fun h8 hF => ?_) (fun h8 hF => ?_)
  · refine j_aload_n B dX13_round_19 rfl ?_
    refine j_aload_n B dX13_round_20 rfl ?_
    refine j_iload_n B dX13_round_21 rfl ?_
    refine j_iload_n B dX13_round_22 rfl ?_
    obtain ⟨i23, w23, e23, hF⟩ := bc hF
    refine j_rV (st2 := [.int i23, va_rf a0]) B [.int x1, .int x2] [va_rf a0] cv_X13_233 dX13_round_23 hl hR (ct_X13_roundOf G e23) rfl rfl rfl rfl ⟨cr _, trivial⟩ (Nat.le_of_ble_eq_true rfl) ?_
    obtain ⟨i26, w26, e26, hF⟩ := bc hF
    refine j_rV (st2 := [.int i26]) B [.int i23] [] cv_X13_236 dX13_round_26 hl hR (ct_X13_told G e26) rfl rfl rfl rfl trivial (Nat.le_of_ble_eq_true rfl) ?_
    exact j_lIw B rfl dX13_round_29 hF (by decide) (by decide)
  · refine j_aload_n B dX13_round_11 rfl ?_
    refine j_iload_n B dX13_round_12 rfl ?_
    obtain ⟨i13, w13, e13, hF⟩ := bc hF
    refine j_rV (st2 := [.int i13]) B [.int i3] [] cv_X13_92 dX13_round_13 hl hR (ct_X13_finding G e13) rfl rfl rfl rfl trivial (Nat.le_of_ble_eq_true rfl) ?_
    refine j_goto (tgt := 29) B dX13_round_16 (by decide) ?_
    exact j_lIw B rfl dX13_round_29 hF (by decide) (by decide)
def F_X13_getsOf_J51 (rc5 : (Option Nat) → Int32 → Int32 → Int32 → Int32 → cH → Option (Int32 × cH)) (a0 : Option Nat) (x1 : Int32) (x2 : Int32) (x3 : Int32) (x4 : Int32) (w : cH) : Option (Int32 × cH) :=
  rc5 a0 x1 x2 x3 (x4 + 1) w
def F_X13_getsOf_B5 (rc5 : Option Nat → Int32 → Int32 → Int32 → Int32 → cH → Option (Int32 × cH)) (a0 : Option Nat) (x1 : Int32) (x2 : Int32) (x3 : Int32) (x4 : Int32) (w : cH) : Option (Int32 × cH) :=
  (fA w a0 13 0).bind fun a8p => (aI w a8p 100 43).bind fun i13 =>if i13 ≤ x4 then (some (x3, w)) else (if (F_X13_has x2 x4) = 0 then (F_X13_getsOf_J51  rc5 a0 x1 x2 x3 x4 w) else (cb (F_X13_worthOf a0 x4 w) fun i29 w29 =>if 0 ≤ i29 then ((F_X13_getsFor a0 x1 i29 w29).bind fun i46 => F_X13_getsOf_J51  rc5 a0 x1 x2 (x3 + i46) x4 w29) else (some ((-1), w29))))
def F_X13_getsOf_L5 : Nat → Option Nat → Int32 → Int32 → Int32 → Int32 → cH → Option (Int32 × cH)
  | 0, _, _, _, _, _, _ => none
  | n9 + 1, a0, x1, x2, x3, x4, w => F_X13_getsOf_B5  (F_X13_getsOf_L5  n9) a0 x1 x2 x3 x4 w
def F_X13_getsOf (a0 : Option Nat) (x1 : Int32) (x2 : Int32) (w : cH) : Option (Int32 × cH) :=
  if tg w a0 = some 13 then (F_X13_getsOf_L5  fu a0 x1 x2 0 0 w) else none
abbrev rm_X13_getsOf : Room := { frames := 6, cells := 0, slots := 0, locals := 138 }
set_option maxHeartbeats 4000000 in
set_option maxRecDepth 100000 in
theorem ct_X13_getsOf {l : Launch} {g : Gt} (G : Gok g) {a0 : Option Nat} {x1 : Int32} {x2 : Int32} {w : cH} {r9 : Int32} {w9 : cH} (hF : F_X13_getsOf a0 x1 x2 w = some (r9, w9)) : tg w a0 = some 13 ∧ Mx l yX13_getsOf (ws_ yX13_getsOf cX13_getsOf 6 (some .int)) rm_X13_getsOf g [va_rf a0, .int x1, .int x2] w (.returned (some (.int r9))) w9 0 0 := by
  unfold F_X13_getsOf at hF
  obtain ⟨ht, hF⟩ := bg hF
  refine ⟨ht, mk_ct cX13_getsOf 6 (some .int) "CarryFairModel" (plainFor_of_name (by decide)) rfl (lg_le ⟨cr _, rfl, rfl, trivial⟩ (Nat.le_of_ble_eq_true rfl)) (av_ok ⟨cr _, rfl, rfl, trivial⟩) G (fun x B hl hR hin hh => ?_)⟩
  show J g x _ _ 0 0 w 0 0 0 [some (va_rf a0), some (.int x1), some (.int x2), none, none, none] []
  have lp5 : ∀ (n9 : Nat) (a0 : Option Nat) (x1 : Int32) (x2 : Int32) (x3 : Int32) (x4 : Int32) (w : cH), F_X13_getsOf_L5  n9 a0 x1 x2 x3 x4 w = some (r9, w9) → J g x (.returned (some (.int r9))) w9 0 0 w 0 0 5 [some (va_rf a0), some (.int x1), some (.int x2), some (.int x3), some (.int x4), none] [] := by
    intro n9
    induction n9 with
    | zero => intro a0 x1 x2 x3 x4 w hF; cases hF
    | succ n5 ih5 =>
      intro a0 x1 x2 x3 x4 w hF
      have hF : F_X13_getsOf_B5  (F_X13_getsOf_L5  n5) a0 x1 x2 x3 x4 w = some (r9, w9) := hF
      unfold F_X13_getsOf_B5 at hF
      have jb51 : ∀ (a0 : Option Nat) (x1 : Int32) (x2 : Int32) (x3 : Int32) (x4 : Int32) (w : cH), F_X13_getsOf_J51  (F_X13_getsOf_L5  n5) a0 x1 x2 x3 x4 w = some (r9, w9) → J g x (.returned (some (.int r9))) w9 0 0 w 0 0 51 [some (va_rf a0), some (.int x1), some (.int x2), some (.int x3), some (.int x4), none] [] := by
        intro a0 x1 x2 x3 x4 w hF
        unfold F_X13_getsOf_J51 at hF
        refine j_iinc (v := x4 + 1) (vs' := [some (va_rf a0), some (.int x1), some (.int x2), some (.int x3), some (.int (x4 + 1)), none]) B dX13_getsOf_51 (by decide) rfl rfl rfl ?_
        refine j_goto (tgt := 5) B dX13_getsOf_54 (by decide) ?_
        exact ih5 a0 x1 x2 x3 (x4 + 1) w hF
      refine j_iload B dX13_getsOf_5 rfl ?_
      refine j_aload_n B dX13_getsOf_7 rfl ?_
      refine j_getA B fl_X13_9 dX13_getsOf_8 hF (fun a8p hF => ?_)
      refine j_bipush (v := 43) B dX13_getsOf_11 (by decide) ?_
      refine j_iaload B dX13_getsOf_13 hF (fun i13 hF => ?_)
      refine j_icmp_ge (tgt := 57) B dX13_getsOf_14 (by decide) hF (fun h14 hF => ?_) (fun h14 hF => ?_)
      · refine j_iload_n B dX13_getsOf_57 rfl ?_
        exact j_lIw B rfl dX13_getsOf_58 hF (by decide) (by decide)
      · refine j_iload_n B dX13_getsOf_17 rfl ?_
        refine j_iload B dX13_getsOf_18 rfl ?_
        refine j_rS (st2 := [.int (F_X13_has x2 x4)]) B [.int x2, .int x4] [] cs_X13_114 dX13_getsOf_20 hl hR (ct_X13_has G) rfl rfl rfl rfl trivial (Nat.le_of_ble_eq_true rfl) ?_
        refine j_if_eq (tgt := 51) B dX13_getsOf_23 (by decide) hF (fun h23 hF => ?_) (fun h23 hF => ?_)
        · exact jb51 a0 x1 x2 x3 x4 w hF
        · refine j_aload_n B dX13_getsOf_26 rfl ?_
          refine j_iload B dX13_getsOf_27 rfl ?_
          obtain ⟨i29, w29, e29, hF⟩ := bc hF
          refine j_rV (st2 := [.int i29]) B [.int x4] [] cv_X13_157 dX13_getsOf_29 hl hR (ct_X13_worthOf G e29) rfl rfl rfl rfl trivial (Nat.le_of_ble_eq_true rfl) ?_
          refine j_istore (vs' := [some (va_rf a0), some (.int x1), some (.int x2), some (.int x3), some (.int x4), some (.int i29)]) B dX13_getsOf_32 (by decide) rfl ?_
          refine j_iload B dX13_getsOf_34 rfl ?_
          refine j_if_ge (tgt := 41) B dX13_getsOf_36 (by decide) hF (fun h36 hF => ?_) (fun h36 hF => ?_)
          · refine j_iload_n B dX13_getsOf_41 rfl ?_
            refine j_aload_n B dX13_getsOf_42 rfl ?_
            refine j_iload_n B dX13_getsOf_43 rfl ?_
            refine j_iload B dX13_getsOf_44 rfl ?_
            obtain ⟨i46, e46, hF⟩ := bo hF
            refine j_rV (st2 := [.int i46, .int x3]) B [.int x1, .int i29] [.int x3] cv_X13_196 dX13_getsOf_46 hl hR (ct_X13_getsFor G e46) rfl rfl rfl rfl ⟨rfl, trivial⟩ (Nat.le_of_ble_eq_true rfl) ?_
            refine j_iadd B dX13_getsOf_49 ?_
            refine j_istore_n (vs' := [some (va_rf a0), some (.int x1), some (.int x2), some (.int (x3 + i46)), some (.int x4), some (.int i29)]) B dX13_getsOf_50 (by decide) rfl ?_
            refine j_msk [true, true, true, true, true, false] rfl ?_
            exact jb51 a0 x1 x2 (x3 + i46) x4 w29 hF
          · refine j_iconst (v := (-1)) B dX13_getsOf_39 (by decide) ?_
            exact j_lIw B rfl dX13_getsOf_40 hF (by decide) (by decide)
  refine j_iconst (v := 0) B dX13_getsOf_0 (by decide) ?_
  refine j_istore_n (vs' := [some (va_rf a0), some (.int x1), some (.int x2), some (.int 0), none, none]) B dX13_getsOf_1 (by decide) rfl ?_
  refine j_iconst (v := 0) B dX13_getsOf_2 (by decide) ?_
  refine j_istore (vs' := [some (va_rf a0), some (.int x1), some (.int x2), some (.int 0), some (.int 0), none]) B dX13_getsOf_3 (by decide) rfl ?_
  exact lp5 fu a0 x1 x2 0 0 w hF
theorem cv_X13_239 : CV "CarryFairModel" 239 13 yX13_getsOf cX13_getsOf 6 (some .int) 2 := ⟨_, _, rfl, lw_V q1675 q1677 qs105 q142 q1678, by decide +kernel⟩
def F_X13_gets_J17 (a0 : Option Nat) (w : cH) : Option (Int32 × cH) :=
  cb (F_X13_finding a0 (-1000001) w) fun i20 w20 => some (i20, w20)
def F_X13_gets (a0 : Option Nat) (x1 : Int32) (x2 : Int32) (w : cH) : Option (Int32 × cH) :=
  if tg w a0 = some 13 then ((F_X13_isCarrier a0 x1 w).bind fun i2 =>if i2 = 0 then (F_X13_gets_J17  a0 w) else ((F_X13_isSet a0 x2 5 w).bind fun i11 =>if ¬ i11 = 0 then (cb (F_X13_getsOf a0 x1 x2 w) fun i27 w27 =>if 0 ≤ i27 then (some (i27, w27)) else (cb (F_X13_finding a0 (-1000004) w27) fun i38 w38 => some (i38, w38))) else (F_X13_gets_J17  a0 w))) else none
abbrev rm_X13_gets : Room := { frames := 7, cells := 0, slots := 0, locals := 163 }
set_option maxHeartbeats 4000000 in
set_option maxRecDepth 100000 in
theorem ct_X13_gets {l : Launch} {g : Gt} (G : Gok g) {a0 : Option Nat} {x1 : Int32} {x2 : Int32} {w : cH} {r9 : Int32} {w9 : cH} (hF : F_X13_gets a0 x1 x2 w = some (r9, w9)) : tg w a0 = some 13 ∧ Mx l yX13_gets (ws_ yX13_gets cX13_gets 4 (some .int)) rm_X13_gets g [va_rf a0, .int x1, .int x2] w (.returned (some (.int r9))) w9 0 0 := by
  unfold F_X13_gets at hF
  obtain ⟨ht, hF⟩ := bg hF
  refine ⟨ht, mk_ct cX13_gets 4 (some .int) "CarryFairModel" (plainFor_of_name (by decide)) rfl (lg_le ⟨cr _, rfl, rfl, trivial⟩ (Nat.le_of_ble_eq_true rfl)) (av_ok ⟨cr _, rfl, rfl, trivial⟩) G (fun x B hl hR hin hh => ?_)⟩
  show J g x _ _ 0 0 w 0 0 0 [some (va_rf a0), some (.int x1), some (.int x2), none] []
  have jb17 : ∀ (a0 : Option Nat) (w : cH), F_X13_gets_J17  a0 w = some (r9, w9) → J g x (.returned (some (.int r9))) w9 0 0 w 0 0 17 [some (va_rf a0), none, none, none] [] := by
    intro a0 w hF
    unfold F_X13_gets_J17 at hF
    refine j_aload_n B dX13_gets_17 rfl ?_
    refine j_ldc (v := (-1000001)) B q1436 dX13_gets_18 ?_
    obtain ⟨i20, w20, e20, hF⟩ := bc hF
    refine j_rV (st2 := [.int i20]) B [.int (-1000001)] [] cv_X13_92 dX13_gets_20 hl hR (ct_X13_finding G e20) rfl rfl rfl rfl trivial (Nat.le_of_ble_eq_true rfl) ?_
    exact j_lIw B rfl dX13_gets_23 hF (by decide) (by decide)
  refine j_aload_n B dX13_gets_0 rfl ?_
  refine j_iload_n B dX13_gets_1 rfl ?_
  obtain ⟨i2, e2, hF⟩ := bo hF
  refine j_rV (st2 := [.int i2]) B [.int x1] [] cv_X13_117 dX13_gets_2 hl hR (ct_X13_isCarrier G e2) rfl rfl rfl rfl trivial (Nat.le_of_ble_eq_true rfl) ?_
  refine j_if_eq (tgt := 17) B dX13_gets_5 (by decide) hF (fun h5 hF => ?_) (fun h5 hF => ?_)
  · refine j_msk [true, false, false, false] rfl ?_
    exact jb17 a0 w hF
  · refine j_aload_n B dX13_gets_8 rfl ?_
    refine j_iload_n B dX13_gets_9 rfl ?_
    refine j_iconst (v := 5) B dX13_gets_10 (by decide) ?_
    obtain ⟨i11, e11, hF⟩ := bo hF
    refine j_rV (st2 := [.int i11]) B [.int x2, .int 5] [] cv_X13_224 dX13_gets_11 hl hR (ct_X13_isSet G e11) rfl rfl rfl rfl trivial (Nat.le_of_ble_eq_true rfl) ?_
    refine j_if_ne (tgt := 24) B dX13_gets_14 (by decide) hF (fun h14 hF => ?_) (fun h14 hF => ?_)
    · refine j_aload_n B dX13_gets_24 rfl ?_
      refine j_iload_n B dX13_gets_25 rfl ?_
      refine j_iload_n B dX13_gets_26 rfl ?_
      obtain ⟨i27, w27, e27, hF⟩ := bc hF
      refine j_rV (st2 := [.int i27]) B [.int x1, .int x2] [] cv_X13_239 dX13_gets_27 hl hR (ct_X13_getsOf G e27) rfl rfl rfl rfl trivial (Nat.le_of_ble_eq_true rfl) ?_
      refine j_istore_n (vs' := [some (va_rf a0), some (.int x1), some (.int x2), some (.int i27)]) B dX13_gets_30 (by decide) rfl ?_
      refine j_iload_n B dX13_gets_31 rfl ?_
      refine j_if_ge (tgt := 44) B dX13_gets_32 (by decide) hF (fun h32 hF => ?_) (fun h32 hF => ?_)
      · refine j_iload_n B dX13_gets_44 rfl ?_
        exact j_lIw B rfl dX13_gets_45 hF (by decide) (by decide)
      · refine j_aload_n B dX13_gets_35 rfl ?_
        refine j_ldc (v := (-1000004)) B q1551 dX13_gets_36 ?_
        obtain ⟨i38, w38, e38, hF⟩ := bc hF
        refine j_rV (st2 := [.int i38]) B [.int (-1000004)] [] cv_X13_92 dX13_gets_38 hl hR (ct_X13_finding G e38) rfl rfl rfl rfl trivial (Nat.le_of_ble_eq_true rfl) ?_
        refine j_goto (tgt := 45) B dX13_gets_41 (by decide) ?_
        exact j_lIw B rfl dX13_gets_45 hF (by decide) (by decide)
    · refine j_msk [true, false, false, false] rfl ?_
      exact jb17 a0 w hF
theorem fl_X13_242 : FL "CarryFairModel" 242 13 11 := ⟨RX13, TX13, 30, rfl, by decide, in_X13, Or.inl q1346⟩
theorem fp_X13_242 : FP "CarryFairModel" 242 13 11 .int false := ⟨RX13, TX13, 30, rfl, by decide, in_X13, Or.inl q1346, rfl, (fun h => by cases h), by decide +kernel, ap_X13, tyX13, tyX13_ok⟩
theorem fp_X13_245 : FP "CarryFairModel" 245 13 10 .int false := ⟨RX13, TX13, 30, rfl, by decide, in_X13, Or.inl q1345, rfl, (fun h => by cases h), by decide +kernel, ap_X13, tyX13, tyX13_ok⟩
def F_X13_refusesWare_J173 (rc58 : (Option Nat) → Int32 → Int32 → Int32 → Int32 → cH → Option (Int32 × cH)) (a0 : Option Nat) (x1 : Int32) (x2 : Int32) (x3 : Int32) (x4 : Int32) (w : cH) : Option (Int32 × cH) :=
  rc58 a0 x1 x2 x3 (x4 + 1) w
def F_X13_refusesWare_J150 (rc58 : (Option Nat) → Int32 → Int32 → Int32 → Int32 → cH → Option (Int32 × cH)) (a0 : Option Nat) (x1 : Int32) (x2 : Int32) (x3 : Int32) (x4 : Int32) (s0 : Int32) (w : cH) : Option (Int32 × cH) :=
  (fI w a0 13 11).bind fun i155 =>if i155 ≤ s0 then (F_X13_refusesWare_J173  rc58 a0 x1 x2 x3 x4 w) else ((pV w a0 13 11 (.int s0)).bind fun w164 => (pV w164 a0 13 10 (.int x4)).bind fun w170 => F_X13_refusesWare_J173  rc58 a0 x1 x2 x3 x4 w170)
def F_X13_refusesWare_J131 (rc58 : (Option Nat) → Int32 → Int32 → Int32 → Int32 → cH → Option (Int32 × cH)) (a0 : Option Nat) (x1 : Int32) (x2 : Int32) (x3 : Int32) (x4 : Int32) (s0 : Int32) (w : cH) : Option (Int32 × cH) :=
  if s0 = 0 then (F_X13_refusesWare_J150  rc58 a0 x1 x2 x3 x4 1000000 w) else (cb (F_X13_roundOf a0 x1 x4 w) fun i142 w142 => F_X13_refusesWare_J150  rc58 a0 x1 x2 x3 x4 i142 w142)
def F_X13_refusesWare_J130 (rc58 : (Option Nat) → Int32 → Int32 → Int32 → Int32 → cH → Option (Int32 × cH)) (a0 : Option Nat) (x1 : Int32) (x2 : Int32) (x3 : Int32) (x4 : Int32) (w : cH) : Option (Int32 × cH) :=
  F_X13_refusesWare_J131  rc58 a0 x1 x2 x3 x4 0 w
def F_X13_refusesWare_B58 (rc58 : Option Nat → Int32 → Int32 → Int32 → Int32 → cH → Option (Int32 × cH)) (a0 : Option Nat) (x1 : Int32) (x2 : Int32) (x3 : Int32) (x4 : Int32) (w : cH) : Option (Int32 × cH) :=
  (fA w a0 13 0).bind fun a62p => (aI w a62p 100 43).bind fun i67 =>if (1 <<< (i67 &&& 31)) ≤ x4 then ((fI w a0 13 11).bind fun i180 =>if i180 < 1000000 then (some (0, w)) else (some ((-1000004), w))) else (if ¬ (x4 &&& (x3 ^^^ (-1))) = 0 then (F_X13_refusesWare_J173  rc58 a0 x1 x2 x3 x4 w) else ((F_X13_bits x4 w).bind fun i83 =>if 5 < i83 then (F_X13_refusesWare_J173  rc58 a0 x1 x2 x3 x4 w) else (cb (F_X13_getsOf a0 x1 x4 w) fun i94 w94 =>if i94 < 0 then (F_X13_refusesWare_J130  rc58 a0 x1 x2 x3 x4 w94) else ((F_X13_cIs a0 x1 3 w94).bind fun i107 => (fA w94 a0 13 0).bind fun a114p => (aI w94 a114p 100 (F_X13_wAt x2 0)).bind fun i122 =>if (i107 + i94) < i122 then (F_X13_refusesWare_J130  rc58 a0 x1 x2 x3 x4 w94) else (F_X13_refusesWare_J131  rc58 a0 x1 x2 x3 x4 1 w94)))))
def F_X13_refusesWare_L58 : Nat → Option Nat → Int32 → Int32 → Int32 → Int32 → cH → Option (Int32 × cH)
  | 0, _, _, _, _, _, _ => none
  | n9 + 1, a0, x1, x2, x3, x4, w => F_X13_refusesWare_B58  (F_X13_refusesWare_L58  n9) a0 x1 x2 x3 x4 w
def F_X13_refusesWare_J40  (w : cH) : Option (Int32 × cH) :=
  some ((-1000005), w)
def F_X13_refusesWare_J16  (w : cH) : Option (Int32 × cH) :=
  some ((-1000001), w)
def F_X13_refusesWare (a0 : Option Nat) (x1 : Int32) (x2 : Int32) (w : cH) : Option (Int32 × cH) :=
  if tg w a0 = some 13 then ((F_X13_isCarrier a0 x1 w).bind fun i2 =>if i2 = 0 then (F_X13_refusesWare_J16   w) else ((F_X13_isWare a0 x2 w).bind fun i10 =>if ¬ i10 = 0 then ((fA w a0 13 0).bind fun a20p => (aI w a20p 100 (F_X13_wAt x2 1)).bind fun i28 =>if 0 ≤ i28 then (F_X13_refusesWare_J40   w) else ((F_X13_carries a0 x1 w).bind fun i34 =>if i34 = 0 then ((pV w a0 13 11 (.int 1000000)).bind fun w46 => (F_X13_errandsThat a0 0 w46).bind fun i51 => F_X13_refusesWare_L58  fu a0 x1 x2 i51 0 w46) else (F_X13_refusesWare_J40   w))) else (F_X13_refusesWare_J16   w))) else none
abbrev rm_X13_refusesWare : Room := { frames := 7, cells := 0, slots := 0, locals := 163 }
set_option maxHeartbeats 4000000 in
set_option maxRecDepth 100000 in
theorem ct_X13_refusesWare {l : Launch} {g : Gt} (G : Gok g) {a0 : Option Nat} {x1 : Int32} {x2 : Int32} {w : cH} {r9 : Int32} {w9 : cH} (hF : F_X13_refusesWare a0 x1 x2 w = some (r9, w9)) : tg w a0 = some 13 ∧ Mx l yX13_refusesWare (ws_ yX13_refusesWare cX13_refusesWare 8 (some .int)) rm_X13_refusesWare g [va_rf a0, .int x1, .int x2] w (.returned (some (.int r9))) w9 0 0 := by
  unfold F_X13_refusesWare at hF
  obtain ⟨ht, hF⟩ := bg hF
  refine ⟨ht, mk_ct cX13_refusesWare 8 (some .int) "CarryFairModel" (plainFor_of_name (by decide)) rfl (lg_le ⟨cr _, rfl, rfl, trivial⟩ (Nat.le_of_ble_eq_true rfl)) (av_ok ⟨cr _, rfl, rfl, trivial⟩) G (fun x B hl hR hin hh => ?_)⟩
  show J g x _ _ 0 0 w 0 0 0 [some (va_rf a0), some (.int x1), some (.int x2), none, none, none, none, none] []
  have lp58 : ∀ (n9 : Nat) (a0 : Option Nat) (x1 : Int32) (x2 : Int32) (x3 : Int32) (x4 : Int32) (w : cH), F_X13_refusesWare_L58  n9 a0 x1 x2 x3 x4 w = some (r9, w9) → J g x (.returned (some (.int r9))) w9 0 0 w 0 0 58 [some (va_rf a0), some (.int x1), some (.int x2), some (.int x3), some (.int x4), none, none, none] [] := by
    intro n9
    induction n9 with
    | zero => intro a0 x1 x2 x3 x4 w hF; cases hF
    | succ n58 ih58 =>
      intro a0 x1 x2 x3 x4 w hF
      have hF : F_X13_refusesWare_B58  (F_X13_refusesWare_L58  n58) a0 x1 x2 x3 x4 w = some (r9, w9) := hF
      unfold F_X13_refusesWare_B58 at hF
      have jb173 : ∀ (a0 : Option Nat) (x1 : Int32) (x2 : Int32) (x3 : Int32) (x4 : Int32) (w : cH), F_X13_refusesWare_J173  (F_X13_refusesWare_L58  n58) a0 x1 x2 x3 x4 w = some (r9, w9) → J g x (.returned (some (.int r9))) w9 0 0 w 0 0 173 [some (va_rf a0), some (.int x1), some (.int x2), some (.int x3), some (.int x4), none, none, none] [] := by
        intro a0 x1 x2 x3 x4 w hF
        unfold F_X13_refusesWare_J173 at hF
        refine j_iinc (v := x4 + 1) (vs' := [some (va_rf a0), some (.int x1), some (.int x2), some (.int x3), some (.int (x4 + 1)), none, none, none]) B dX13_refusesWare_173 (by decide) rfl rfl rfl ?_
        refine j_goto (tgt := 58) B dX13_refusesWare_176 (by decide) ?_
        exact ih58 a0 x1 x2 x3 (x4 + 1) w hF
      have jb150 : ∀ (a0 : Option Nat) (x1 : Int32) (x2 : Int32) (x3 : Int32) (x4 : Int32) (s0 : Int32) (w : cH), F_X13_refusesWare_J150  (F_X13_refusesWare_L58  n58) a0 x1 x2 x3 x4 s0 w = some (r9, w9) → J g x (.returned (some (.int r9))) w9 0 0 w 0 0 150 [some (va_rf a0), some (.int x1), some (.int x2), some (.int x3), some (.int x4), none, none, none] [.int s0] := by
        intro a0 x1 x2 x3 x4 s0 w hF
        unfold F_X13_refusesWare_J150 at hF
        refine j_istore (vs' := [some (va_rf a0), some (.int x1), some (.int x2), some (.int x3), some (.int x4), none, none, some (.int s0)]) B dX13_refusesWare_150 (by decide) rfl ?_
        refine j_iload B dX13_refusesWare_152 rfl ?_
        refine j_aload_n B dX13_refusesWare_154 rfl ?_
        refine j_getI B fl_X13_242 dX13_refusesWare_155 hF (fun i155 hF => ?_)
        refine j_icmp_ge (tgt := 173) B dX13_refusesWare_158 (by decide) hF (fun h158 hF => ?_) (fun h158 hF => ?_)
        · refine j_msk [true, true, true, true, true, false, false, false] rfl ?_
          exact jb173 a0 x1 x2 x3 x4 w hF
        · refine j_aload_n B dX13_refusesWare_161 rfl ?_
          refine j_iload B dX13_refusesWare_162 rfl ?_
          refine j_putV B fp_X13_242 (fun h => by cases h) rfl rfl dX13_refusesWare_164 hF (fun w164 hF => ?_)
          refine j_aload_n B dX13_refusesWare_167 rfl ?_
          refine j_iload B dX13_refusesWare_168 rfl ?_
          refine j_putV B fp_X13_245 (fun h => by cases h) rfl rfl dX13_refusesWare_170 hF (fun w170 hF => ?_)
          refine j_msk [true, true, true, true, true, false, false, false] rfl ?_
          exact jb173 a0 x1 x2 x3 x4 w170 hF
      have jb131 : ∀ (a0 : Option Nat) (x1 : Int32) (x2 : Int32) (x3 : Int32) (x4 : Int32) (s0 : Int32) (w : cH), F_X13_refusesWare_J131  (F_X13_refusesWare_L58  n58) a0 x1 x2 x3 x4 s0 w = some (r9, w9) → J g x (.returned (some (.int r9))) w9 0 0 w 0 0 131 [some (va_rf a0), some (.int x1), some (.int x2), some (.int x3), some (.int x4), none, none, none] [.int s0] := by
        intro a0 x1 x2 x3 x4 s0 w hF
        unfold F_X13_refusesWare_J131 at hF
        refine j_istore (vs' := [some (va_rf a0), some (.int x1), some (.int x2), some (.int x3), some (.int x4), none, some (.int s0), none]) B dX13_refusesWare_131 (by decide) rfl ?_
        refine j_iload B dX13_refusesWare_133 rfl ?_
        refine j_if_eq (tgt := 148) B dX13_refusesWare_135 (by decide) hF (fun h135 hF => ?_) (fun h135 hF => ?_)
        · refine j_ldc (v := 1000000) B q1546 dX13_refusesWare_148 ?_
          refine j_msk [true, true, true, true, true, false, false, false] rfl ?_
          exact jb150 a0 x1 x2 x3 x4 1000000 w hF
        · refine j_aload_n B dX13_refusesWare_138 rfl ?_
          refine j_iload_n B dX13_refusesWare_139 rfl ?_
          refine j_iload B dX13_refusesWare_140 rfl ?_
          obtain ⟨i142, w142, e142, hF⟩ := bc hF
          refine j_rV (st2 := [.int i142]) B [.int x1, .int x4] [] cv_X13_233 dX13_refusesWare_142 hl hR (ct_X13_roundOf G e142) rfl rfl rfl rfl trivial (Nat.le_of_ble_eq_true rfl) ?_
          refine j_goto (tgt := 150) B dX13_refusesWare_145 (by decide) ?_
          refine j_msk [true, true, true, true, true, false, false, false] rfl ?_
          exact jb150 a0 x1 x2 x3 x4 i142 w142 hF
      have jb130 : ∀ (a0 : Option Nat) (x1 : Int32) (x2 : Int32) (x3 : Int32) (x4 : Int32) (w : cH), F_X13_refusesWare_J130  (F_X13_refusesWare_L58  n58) a0 x1 x2 x3 x4 w = some (r9, w9) → J g x (.returned (some (.int r9))) w9 0 0 w 0 0 130 [some (va_rf a0), some (.int x1), some (.int x2), some (.int x3), some (.int x4), none, none, none] [] := by
        intro a0 x1 x2 x3 x4 w hF
        unfold F_X13_refusesWare_J130 at hF
        refine j_iconst (v := 0) B dX13_refusesWare_130 (by decide) ?_
        exact jb131 a0 x1 x2 x3 x4 0 w hF
      refine j_iload B dX13_refusesWare_58 rfl ?_
      refine j_iconst (v := 1) B dX13_refusesWare_60 (by decide) ?_
      refine j_aload_n B dX13_refusesWare_61 rfl ?_
      refine j_getA B fl_X13_9 dX13_refusesWare_62 hF (fun a62p hF => ?_)
      refine j_bipush (v := 43) B dX13_refusesWare_65 (by decide) ?_
      refine j_iaload B dX13_refusesWare_67 hF (fun i67 hF => ?_)
      refine j_ishl B dX13_refusesWare_68 ?_
      refine j_icmp_ge (tgt := 179) B dX13_refusesWare_69 (by decide) hF (fun h69 hF => ?_) (fun h69 hF => ?_)
      · refine j_aload_n B dX13_refusesWare_179 rfl ?_
        refine j_getI B fl_X13_242 dX13_refusesWare_180 hF (fun i180 hF => ?_)
        refine j_ldc (v := 1000000) B q1546 dX13_refusesWare_183 ?_
        refine j_icmp_lt (tgt := 193) B dX13_refusesWare_185 (by decide) hF (fun h185 hF => ?_) (fun h185 hF => ?_)
        · refine j_iconst (v := 0) B dX13_refusesWare_193 (by decide) ?_
          exact j_lIw B rfl dX13_refusesWare_194 hF (by decide) (by decide)
        · refine j_ldc (v := (-1000004)) B q1551 dX13_refusesWare_188 ?_
          refine j_goto (tgt := 194) B dX13_refusesWare_190 (by decide) ?_
          exact j_lIw B rfl dX13_refusesWare_194 hF (by decide) (by decide)
      · refine j_iload B dX13_refusesWare_72 rfl ?_
        refine j_iload_n B dX13_refusesWare_74 rfl ?_
        refine j_iconst (v := (-1)) B dX13_refusesWare_75 (by decide) ?_
        refine j_ixor B dX13_refusesWare_76 ?_
        refine j_iand B dX13_refusesWare_77 ?_
        refine j_if_ne (tgt := 173) B dX13_refusesWare_78 (by decide) hF (fun h78 hF => ?_) (fun h78 hF => ?_)
        · exact jb173 a0 x1 x2 x3 x4 w hF
        · refine j_iload B dX13_refusesWare_81 rfl ?_
          obtain ⟨i83, e83, hF⟩ := bo hF
          refine j_rS (st2 := [.int i83]) B [.int x4] [] cs_X13_221 dX13_refusesWare_83 hl hR (ct_X13_bits G e83) rfl rfl rfl rfl trivial (Nat.le_of_ble_eq_true rfl) ?_
          refine j_iconst (v := 5) B dX13_refusesWare_86 (by decide) ?_
          refine j_icmp_gt (tgt := 173) B dX13_refusesWare_87 (by decide) hF (fun h87 hF => ?_) (fun h87 hF => ?_)
          · exact jb173 a0 x1 x2 x3 x4 w hF
          · refine j_aload_n B dX13_refusesWare_90 rfl ?_
            refine j_iload_n B dX13_refusesWare_91 rfl ?_
            refine j_iload B dX13_refusesWare_92 rfl ?_
            obtain ⟨i94, w94, e94, hF⟩ := bc hF
            refine j_rV (st2 := [.int i94]) B [.int x1, .int x4] [] cv_X13_239 dX13_refusesWare_94 hl hR (ct_X13_getsOf G e94) rfl rfl rfl rfl trivial (Nat.le_of_ble_eq_true rfl) ?_
            refine j_istore (vs' := [some (va_rf a0), some (.int x1), some (.int x2), some (.int x3), some (.int x4), some (.int i94), none, none]) B dX13_refusesWare_97 (by decide) rfl ?_
            refine j_iload B dX13_refusesWare_99 rfl ?_
            refine j_if_lt (tgt := 130) B dX13_refusesWare_101 (by decide) hF (fun h101 hF => ?_) (fun h101 hF => ?_)
            · refine j_msk [true, true, true, true, true, false, false, false] rfl ?_
              exact jb130 a0 x1 x2 x3 x4 w94 hF
            · refine j_aload_n B dX13_refusesWare_104 rfl ?_
              refine j_iload_n B dX13_refusesWare_105 rfl ?_
              refine j_iconst (v := 3) B dX13_refusesWare_106 (by decide) ?_
              obtain ⟨i107, e107, hF⟩ := bo hF
              refine j_rV (st2 := [.int i107]) B [.int x1, .int 3] [] cv_X13_104 dX13_refusesWare_107 hl hR (ct_X13_cIs G e107) rfl rfl rfl rfl trivial (Nat.le_of_ble_eq_true rfl) ?_
              refine j_iload B dX13_refusesWare_110 rfl ?_
              refine j_iadd B dX13_refusesWare_112 ?_
              refine j_aload_n B dX13_refusesWare_113 rfl ?_
              refine j_getA B fl_X13_9 dX13_refusesWare_114 hF (fun a114p hF => ?_)
              refine j_iload_n B dX13_refusesWare_117 rfl ?_
              refine j_iconst (v := 0) B dX13_refusesWare_118 (by decide) ?_
              refine j_rS (st2 := [.int (F_X13_wAt x2 0), va_rf a114p, .int (i107 + i94)]) B [.int x2, .int 0] [va_rf a114p, .int (i107 + i94)] cs_X13_161 dX13_refusesWare_119 hl hR (ct_X13_wAt G) rfl rfl rfl rfl ⟨cr _, rfl, trivial⟩ (Nat.le_of_ble_eq_true rfl) ?_
              refine j_iaload B dX13_refusesWare_122 hF (fun i122 hF => ?_)
              refine j_icmp_lt (tgt := 130) B dX13_refusesWare_123 (by decide) hF (fun h123 hF => ?_) (fun h123 hF => ?_)
              · refine j_msk [true, true, true, true, true, false, false, false] rfl ?_
                exact jb130 a0 x1 x2 x3 x4 w94 hF
              · refine j_iconst (v := 1) B dX13_refusesWare_126 (by decide) ?_
                refine j_goto (tgt := 131) B dX13_refusesWare_127 (by decide) ?_
                refine j_msk [true, true, true, true, true, false, false, false] rfl ?_
                exact jb131 a0 x1 x2 x3 x4 1 w94 hF
  have jb40 : ∀  (w : cH), F_X13_refusesWare_J40   w = some (r9, w9) → J g x (.returned (some (.int r9))) w9 0 0 w 0 0 40 [none, none, none, none, none, none, none, none] [] := by
    intro  w hF
    unfold F_X13_refusesWare_J40 at hF
    refine j_ldc (v := (-1000005)) B q1587 dX13_refusesWare_40 ?_
    exact j_lIw B rfl dX13_refusesWare_42 hF (by decide) (by decide)
  have jb16 : ∀  (w : cH), F_X13_refusesWare_J16   w = some (r9, w9) → J g x (.returned (some (.int r9))) w9 0 0 w 0 0 16 [none, none, none, none, none, none, none, none] [] := by
    intro  w hF
    unfold F_X13_refusesWare_J16 at hF
    refine j_ldc (v := (-1000001)) B q1436 dX13_refusesWare_16 ?_
    exact j_lIw B rfl dX13_refusesWare_18 hF (by decide) (by decide)
  refine j_aload_n B dX13_refusesWare_0 rfl ?_
  refine j_iload_n B dX13_refusesWare_1 rfl ?_
  obtain ⟨i2, e2, hF⟩ := bo hF
  refine j_rV (st2 := [.int i2]) B [.int x1] [] cv_X13_117 dX13_refusesWare_2 hl hR (ct_X13_isCarrier G e2) rfl rfl rfl rfl trivial (Nat.le_of_ble_eq_true rfl) ?_
  refine j_if_eq (tgt := 16) B dX13_refusesWare_5 (by decide) hF (fun h5 hF => ?_) (fun h5 hF => ?_)
  · refine j_msk [false, false, false, false, false, false, false, false] rfl ?_
    exact jb16  w hF
  · refine j_aload_n B dX13_refusesWare_8 rfl ?_
    refine j_iload_n B dX13_refusesWare_9 rfl ?_
    obtain ⟨i10, e10, hF⟩ := bo hF
    refine j_rV (st2 := [.int i10]) B [.int x2] [] cv_X13_167 dX13_refusesWare_10 hl hR (ct_X13_isWare G e10) rfl rfl rfl rfl trivial (Nat.le_of_ble_eq_true rfl) ?_
    refine j_if_ne (tgt := 19) B dX13_refusesWare_13 (by decide) hF (fun h13 hF => ?_) (fun h13 hF => ?_)
    · refine j_aload_n B dX13_refusesWare_19 rfl ?_
      refine j_getA B fl_X13_9 dX13_refusesWare_20 hF (fun a20p hF => ?_)
      refine j_iload_n B dX13_refusesWare_23 rfl ?_
      refine j_iconst (v := 1) B dX13_refusesWare_24 (by decide) ?_
      refine j_rS (st2 := [.int (F_X13_wAt x2 1), va_rf a20p]) B [.int x2, .int 1] [va_rf a20p] cs_X13_161 dX13_refusesWare_25 hl hR (ct_X13_wAt G) rfl rfl rfl rfl ⟨cr _, trivial⟩ (Nat.le_of_ble_eq_true rfl) ?_
      refine j_iaload B dX13_refusesWare_28 hF (fun i28 hF => ?_)
      refine j_if_ge (tgt := 40) B dX13_refusesWare_29 (by decide) hF (fun h29 hF => ?_) (fun h29 hF => ?_)
      · refine j_msk [false, false, false, false, false, false, false, false] rfl ?_
        exact jb40  w hF
      · refine j_aload_n B dX13_refusesWare_32 rfl ?_
        refine j_iload_n B dX13_refusesWare_33 rfl ?_
        obtain ⟨i34, e34, hF⟩ := bo hF
        refine j_rV (st2 := [.int i34]) B [.int x1] [] cv_X13_123 dX13_refusesWare_34 hl hR (ct_X13_carries G e34) rfl rfl rfl rfl trivial (Nat.le_of_ble_eq_true rfl) ?_
        refine j_if_eq (tgt := 43) B dX13_refusesWare_37 (by decide) hF (fun h37 hF => ?_) (fun h37 hF => ?_)
        · refine j_aload_n B dX13_refusesWare_43 rfl ?_
          refine j_ldc (v := 1000000) B q1546 dX13_refusesWare_44 ?_
          refine j_putV B fp_X13_242 (fun h => by cases h) rfl rfl dX13_refusesWare_46 hF (fun w46 hF => ?_)
          refine j_aload_n B dX13_refusesWare_49 rfl ?_
          refine j_iconst (v := 0) B dX13_refusesWare_50 (by decide) ?_
          obtain ⟨i51, e51, hF⟩ := bo hF
          refine j_rV (st2 := [.int i51]) B [.int 0] [] cv_X13_202 dX13_refusesWare_51 hl hR (ct_X13_errandsThat G e51) rfl rfl rfl rfl trivial (Nat.le_of_ble_eq_true rfl) ?_
          refine j_istore_n (vs' := [some (va_rf a0), some (.int x1), some (.int x2), some (.int i51), none, none, none, none]) B dX13_refusesWare_54 (by decide) rfl ?_
          refine j_iconst (v := 0) B dX13_refusesWare_55 (by decide) ?_
          refine j_istore (vs' := [some (va_rf a0), some (.int x1), some (.int x2), some (.int i51), some (.int 0), none, none, none]) B dX13_refusesWare_56 (by decide) rfl ?_
          exact lp58 fu a0 x1 x2 i51 0 w46 hF
        · refine j_msk [false, false, false, false, false, false, false, false] rfl ?_
          exact jb40  w hF
    · refine j_msk [false, false, false, false, false, false, false, false] rfl ?_
      exact jb16  w hF
theorem cv_X13_248 : CV "CarryFairModel" 248 13 yX13_refusesWare cX13_refusesWare 8 (some .int) 2 := ⟨_, _, rfl, lw_V q1683 q1685 qs106 q142 q1686, by decide +kernel⟩
def F_X13_cheapest (a0 : Option Nat) (x1 : Int32) (x2 : Int32) (w : cH) : Option (Int32 × cH) :=
  if tg w a0 = some 13 then (cb (F_X13_refusesWare a0 x1 x2 w) fun i3 w3 =>if i3 = 0 then ((fI w3 a0 13 11).bind fun i20 => some (i20, w3)) else (cb (F_X13_finding a0 i3 w3) fun i13 w13 => some (i13, w13))) else none
abbrev rm_X13_cheapest : Room := { frames := 8, cells := 0, slots := 0, locals := 190 }
set_option maxHeartbeats 4000000 in
set_option maxRecDepth 100000 in
theorem ct_X13_cheapest {l : Launch} {g : Gt} (G : Gok g) {a0 : Option Nat} {x1 : Int32} {x2 : Int32} {w : cH} {r9 : Int32} {w9 : cH} (hF : F_X13_cheapest a0 x1 x2 w = some (r9, w9)) : tg w a0 = some 13 ∧ Mx l yX13_cheapest (ws_ yX13_cheapest cX13_cheapest 4 (some .int)) rm_X13_cheapest g [va_rf a0, .int x1, .int x2] w (.returned (some (.int r9))) w9 0 0 := by
  unfold F_X13_cheapest at hF
  obtain ⟨ht, hF⟩ := bg hF
  refine ⟨ht, mk_ct cX13_cheapest 4 (some .int) "CarryFairModel" (plainFor_of_name (by decide)) rfl (lg_le ⟨cr _, rfl, rfl, trivial⟩ (Nat.le_of_ble_eq_true rfl)) (av_ok ⟨cr _, rfl, rfl, trivial⟩) G (fun x B hl hR hin hh => ?_)⟩
  show J g x _ _ 0 0 w 0 0 0 [some (va_rf a0), some (.int x1), some (.int x2), none] []
  refine j_aload_n B dX13_cheapest_0 rfl ?_
  refine j_iload_n B dX13_cheapest_1 rfl ?_
  refine j_iload_n B dX13_cheapest_2 rfl ?_
  obtain ⟨i3, w3, e3, hF⟩ := bc hF
  refine j_rV (st2 := [.int i3]) B [.int x1, .int x2] [] cv_X13_248 dX13_cheapest_3 hl hR (ct_X13_refusesWare G e3) rfl rfl rfl rfl trivial (Nat.le_of_ble_eq_true rfl) ?_
  refine j_istore_n (vs' := [some (va_rf a0), some (.int x1), some (.int x2), some (.int i3)]) B dX13_cheapest_6 (by decide) rfl ?_
  refine j_iload_n B dX13_cheapest_7 rfl ?_
  refine j_if_eq (tgt := 19) B dX13_cheapest_8 (by decide) hF (fun h8 hF => ?_) (fun h8 hF => ?_)
  · refine j_aload_n B dX13_cheapest_19 rfl ?_
    refine j_getI B fl_X13_242 dX13_cheapest_20 hF (fun i20 hF => ?_)
    exact j_lIw B rfl dX13_cheapest_23 hF (by decide) (by decide)
  · refine j_aload_n B dX13_cheapest_11 rfl ?_
    refine j_iload_n B dX13_cheapest_12 rfl ?_
    obtain ⟨i13, w13, e13, hF⟩ := bc hF
    refine j_rV (st2 := [.int i13]) B [.int i3] [] cv_X13_92 dX13_cheapest_13 hl hR (ct_X13_finding G e13) rfl rfl rfl rfl trivial (Nat.le_of_ble_eq_true rfl) ?_
    refine j_goto (tgt := 23) B dX13_cheapest_16 (by decide) ?_
    exact j_lIw B rfl dX13_cheapest_23 hF (by decide) (by decide)
theorem fl_X13_245 : FL "CarryFairModel" 245 13 10 := ⟨RX13, TX13, 30, rfl, by decide, in_X13, Or.inl q1345⟩
def F_X13_which (a0 : Option Nat) (x1 : Int32) (x2 : Int32) (w : cH) : Option (Int32 × cH) :=
  if tg w a0 = some 13 then (cb (F_X13_refusesWare a0 x1 x2 w) fun i3 w3 =>if i3 = 0 then ((fI w3 a0 13 10).bind fun i20 => some (i20, w3)) else (cb (F_X13_finding a0 i3 w3) fun i13 w13 => some (i13, w13))) else none
abbrev rm_X13_which : Room := { frames := 8, cells := 0, slots := 0, locals := 190 }
set_option maxHeartbeats 4000000 in
set_option maxRecDepth 100000 in
theorem ct_X13_which {l : Launch} {g : Gt} (G : Gok g) {a0 : Option Nat} {x1 : Int32} {x2 : Int32} {w : cH} {r9 : Int32} {w9 : cH} (hF : F_X13_which a0 x1 x2 w = some (r9, w9)) : tg w a0 = some 13 ∧ Mx l yX13_which (ws_ yX13_which cX13_which 4 (some .int)) rm_X13_which g [va_rf a0, .int x1, .int x2] w (.returned (some (.int r9))) w9 0 0 := by
  unfold F_X13_which at hF
  obtain ⟨ht, hF⟩ := bg hF
  refine ⟨ht, mk_ct cX13_which 4 (some .int) "CarryFairModel" (plainFor_of_name (by decide)) rfl (lg_le ⟨cr _, rfl, rfl, trivial⟩ (Nat.le_of_ble_eq_true rfl)) (av_ok ⟨cr _, rfl, rfl, trivial⟩) G (fun x B hl hR hin hh => ?_)⟩
  show J g x _ _ 0 0 w 0 0 0 [some (va_rf a0), some (.int x1), some (.int x2), none] []
  refine j_aload_n B dX13_which_0 rfl ?_
  refine j_iload_n B dX13_which_1 rfl ?_
  refine j_iload_n B dX13_which_2 rfl ?_
  obtain ⟨i3, w3, e3, hF⟩ := bc hF
  refine j_rV (st2 := [.int i3]) B [.int x1, .int x2] [] cv_X13_248 dX13_which_3 hl hR (ct_X13_refusesWare G e3) rfl rfl rfl rfl trivial (Nat.le_of_ble_eq_true rfl) ?_
  refine j_istore_n (vs' := [some (va_rf a0), some (.int x1), some (.int x2), some (.int i3)]) B dX13_which_6 (by decide) rfl ?_
  refine j_iload_n B dX13_which_7 rfl ?_
  refine j_if_eq (tgt := 19) B dX13_which_8 (by decide) hF (fun h8 hF => ?_) (fun h8 hF => ?_)
  · refine j_aload_n B dX13_which_19 rfl ?_
    refine j_getI B fl_X13_245 dX13_which_20 hF (fun i20 hF => ?_)
    exact j_lIw B rfl dX13_which_23 hF (by decide) (by decide)
  · refine j_aload_n B dX13_which_11 rfl ?_
    refine j_iload_n B dX13_which_12 rfl ?_
    obtain ⟨i13, w13, e13, hF⟩ := bc hF
    refine j_rV (st2 := [.int i13]) B [.int i3] [] cv_X13_92 dX13_which_13 hl hR (ct_X13_finding G e13) rfl rfl rfl rfl trivial (Nat.le_of_ble_eq_true rfl) ?_
    refine j_goto (tgt := 23) B dX13_which_16 (by decide) ?_
    exact j_lIw B rfl dX13_which_23 hF (by decide) (by decide)
def F_X13_who_J86 (rc39 : (Option Nat) → Int32 → Int32 → Int32 → Int32 → cH → Option (Int32 × cH)) (a0 : Option Nat) (x1 : Int32) (x3 : Int32) (x4 : Int32) (x5 : Int32) (s0 : Int32) (w : cH) : Option (Int32 × cH) :=
  rc39 a0 x1 s0 (F_J3_min x3 x5) (x4 + 1) w
def F_X13_who_J72 (rc39 : (Option Nat) → Int32 → Int32 → Int32 → Int32 → cH → Option (Int32 × cH)) (a0 : Option Nat) (x1 : Int32) (x2 : Int32) (x3 : Int32) (x4 : Int32) (s0 : Int32) (w : cH) : Option (Int32 × cH) :=
  if x3 ≤ s0 then (F_X13_who_J86  rc39 a0 x1 x3 x4 s0 x2 w) else (F_X13_who_J86  rc39 a0 x1 x3 x4 s0 x4 w)
def F_X13_who_B39 (rc39 : Option Nat → Int32 → Int32 → Int32 → Int32 → cH → Option (Int32 × cH)) (a0 : Option Nat) (x1 : Int32) (x2 : Int32) (x3 : Int32) (x4 : Int32) (w : cH) : Option (Int32 × cH) :=
  (fA w a0 13 0).bind fun a42p => (aI w a42p 100 42).bind fun i47 =>if i47 ≤ x4 then (if 0 ≤ x2 then (some (x2, w)) else (cb (F_X13_finding a0 (-1000004) w) fun i107 w107 => some (i107, w107))) else ((F_X13_carries a0 x4 w).bind fun i54 =>if ¬ i54 = 0 then (F_X13_who_J72  rc39 a0 x1 x2 x3 x4 1000000 w) else (cb (F_X13_roundOf a0 x4 x1 w) fun i64 w64 => F_X13_who_J72  rc39 a0 x1 x2 x3 x4 i64 w64))
def F_X13_who_L39 : Nat → Option Nat → Int32 → Int32 → Int32 → Int32 → cH → Option (Int32 × cH)
  | 0, _, _, _, _, _, _ => none
  | n9 + 1, a0, x1, x2, x3, x4, w => F_X13_who_B39  (F_X13_who_L39  n9) a0 x1 x2 x3 x4 w
def F_X13_who (a0 : Option Nat) (x1 : Int32) (w : cH) : Option (Int32 × cH) :=
  if tg w a0 = some 13 then ((F_X13_isSet a0 x1 5 w).bind fun i3 =>if ¬ i3 = 0 then ((F_X13_allLie a0 x1 w).bind fun i18 =>if ¬ i18 = 0 then (F_X13_who_L39  fu a0 x1 (-1) 1000000 0 w) else (cb (F_X13_finding a0 (-1000005) w) fun i27 w27 => some (i27, w27))) else (cb (F_X13_finding a0 (-1000001) w) fun i12 w12 => some (i12, w12))) else none
abbrev rm_X13_who : Room := { frames := 5, cells := 0, slots := 0, locals := 120 }
set_option maxHeartbeats 4000000 in
set_option maxRecDepth 100000 in
theorem ct_X13_who {l : Launch} {g : Gt} (G : Gok g) {a0 : Option Nat} {x1 : Int32} {w : cH} {r9 : Int32} {w9 : cH} (hF : F_X13_who a0 x1 w = some (r9, w9)) : tg w a0 = some 13 ∧ Mx l yX13_who (ws_ yX13_who cX13_who 6 (some .int)) rm_X13_who g [va_rf a0, .int x1] w (.returned (some (.int r9))) w9 0 0 := by
  unfold F_X13_who at hF
  obtain ⟨ht, hF⟩ := bg hF
  refine ⟨ht, mk_ct cX13_who 6 (some .int) "CarryFairModel" (plainFor_of_name (by decide)) rfl (lg_le ⟨cr _, rfl, trivial⟩ (Nat.le_of_ble_eq_true rfl)) (av_ok ⟨cr _, rfl, trivial⟩) G (fun x B hl hR hin hh => ?_)⟩
  show J g x _ _ 0 0 w 0 0 0 [some (va_rf a0), some (.int x1), none, none, none, none] []
  have lp39 : ∀ (n9 : Nat) (a0 : Option Nat) (x1 : Int32) (x2 : Int32) (x3 : Int32) (x4 : Int32) (w : cH), F_X13_who_L39  n9 a0 x1 x2 x3 x4 w = some (r9, w9) → J g x (.returned (some (.int r9))) w9 0 0 w 0 0 39 [some (va_rf a0), some (.int x1), some (.int x2), some (.int x3), some (.int x4), none] [] := by
    intro n9
    induction n9 with
    | zero => intro a0 x1 x2 x3 x4 w hF; cases hF
    | succ n39 ih39 =>
      intro a0 x1 x2 x3 x4 w hF
      have hF : F_X13_who_B39  (F_X13_who_L39  n39) a0 x1 x2 x3 x4 w = some (r9, w9) := hF
      unfold F_X13_who_B39 at hF
      have jb86 : ∀ (a0 : Option Nat) (x1 : Int32) (x3 : Int32) (x4 : Int32) (x5 : Int32) (s0 : Int32) (w : cH), F_X13_who_J86  (F_X13_who_L39  n39) a0 x1 x3 x4 x5 s0 w = some (r9, w9) → J g x (.returned (some (.int r9))) w9 0 0 w 0 0 86 [some (va_rf a0), some (.int x1), none, some (.int x3), some (.int x4), some (.int x5)] [.int s0] := by
        intro a0 x1 x3 x4 x5 s0 w hF
        unfold F_X13_who_J86 at hF
        refine j_istore_n (vs' := [some (va_rf a0), some (.int x1), some (.int s0), some (.int x3), some (.int x4), some (.int x5)]) B dX13_who_86 (by decide) rfl ?_
        refine j_iload_n B dX13_who_87 rfl ?_
        refine j_iload B dX13_who_88 rfl ?_
        refine j_rS (st2 := [.int (F_J3_min x3 x5)]) B [.int x3, .int x5] [] cs_X13_136 dX13_who_90 hl hR (ct_J3_min G) rfl rfl rfl rfl trivial (Nat.le_of_ble_eq_true rfl) ?_
        refine j_istore_n (vs' := [some (va_rf a0), some (.int x1), some (.int s0), some (.int (F_J3_min x3 x5)), some (.int x4), some (.int x5)]) B dX13_who_93 (by decide) rfl ?_
        refine j_iinc (v := x4 + 1) (vs' := [some (va_rf a0), some (.int x1), some (.int s0), some (.int (F_J3_min x3 x5)), some (.int (x4 + 1)), some (.int x5)]) B dX13_who_94 (by decide) rfl rfl rfl ?_
        refine j_goto (tgt := 39) B dX13_who_97 (by decide) ?_
        refine j_msk [true, true, true, true, true, false] rfl ?_
        exact ih39 a0 x1 s0 (F_J3_min x3 x5) (x4 + 1) w hF
      have jb72 : ∀ (a0 : Option Nat) (x1 : Int32) (x2 : Int32) (x3 : Int32) (x4 : Int32) (s0 : Int32) (w : cH), F_X13_who_J72  (F_X13_who_L39  n39) a0 x1 x2 x3 x4 s0 w = some (r9, w9) → J g x (.returned (some (.int r9))) w9 0 0 w 0 0 72 [some (va_rf a0), some (.int x1), some (.int x2), some (.int x3), some (.int x4), none] [.int s0] := by
        intro a0 x1 x2 x3 x4 s0 w hF
        unfold F_X13_who_J72 at hF
        refine j_istore (vs' := [some (va_rf a0), some (.int x1), some (.int x2), some (.int x3), some (.int x4), some (.int s0)]) B dX13_who_72 (by decide) rfl ?_
        refine j_iload B dX13_who_74 rfl ?_
        refine j_iload_n B dX13_who_76 rfl ?_
        refine j_icmp_ge (tgt := 85) B dX13_who_77 (by decide) hF (fun h77 hF => ?_) (fun h77 hF => ?_)
        · refine j_iload_n B dX13_who_85 rfl ?_
          refine j_msk [true, true, false, true, true, true] rfl ?_
          exact jb86 a0 x1 x3 x4 s0 x2 w hF
        · refine j_iload B dX13_who_80 rfl ?_
          refine j_goto (tgt := 86) B dX13_who_82 (by decide) ?_
          refine j_msk [true, true, false, true, true, true] rfl ?_
          exact jb86 a0 x1 x3 x4 s0 x4 w hF
      refine j_iload B dX13_who_39 rfl ?_
      refine j_aload_n B dX13_who_41 rfl ?_
      refine j_getA B fl_X13_9 dX13_who_42 hF (fun a42p hF => ?_)
      refine j_bipush (v := 42) B dX13_who_45 (by decide) ?_
      refine j_iaload B dX13_who_47 hF (fun i47 hF => ?_)
      refine j_icmp_ge (tgt := 100) B dX13_who_48 (by decide) hF (fun h48 hF => ?_) (fun h48 hF => ?_)
      · refine j_iload_n B dX13_who_100 rfl ?_
        refine j_if_ge (tgt := 113) B dX13_who_101 (by decide) hF (fun h101 hF => ?_) (fun h101 hF => ?_)
        · refine j_iload_n B dX13_who_113 rfl ?_
          exact j_lIw B rfl dX13_who_114 hF (by decide) (by decide)
        · refine j_aload_n B dX13_who_104 rfl ?_
          refine j_ldc (v := (-1000004)) B q1551 dX13_who_105 ?_
          obtain ⟨i107, w107, e107, hF⟩ := bc hF
          refine j_rV (st2 := [.int i107]) B [.int (-1000004)] [] cv_X13_92 dX13_who_107 hl hR (ct_X13_finding G e107) rfl rfl rfl rfl trivial (Nat.le_of_ble_eq_true rfl) ?_
          refine j_goto (tgt := 114) B dX13_who_110 (by decide) ?_
          exact j_lIw B rfl dX13_who_114 hF (by decide) (by decide)
      · refine j_aload_n B dX13_who_51 rfl ?_
        refine j_iload B dX13_who_52 rfl ?_
        obtain ⟨i54, e54, hF⟩ := bo hF
        refine j_rV (st2 := [.int i54]) B [.int x4] [] cv_X13_123 dX13_who_54 hl hR (ct_X13_carries G e54) rfl rfl rfl rfl trivial (Nat.le_of_ble_eq_true rfl) ?_
        refine j_if_ne (tgt := 70) B dX13_who_57 (by decide) hF (fun h57 hF => ?_) (fun h57 hF => ?_)
        · refine j_ldc (v := 1000000) B q1546 dX13_who_70 ?_
          exact jb72 a0 x1 x2 x3 x4 1000000 w hF
        · refine j_aload_n B dX13_who_60 rfl ?_
          refine j_iload B dX13_who_61 rfl ?_
          refine j_iload_n B dX13_who_63 rfl ?_
          obtain ⟨i64, w64, e64, hF⟩ := bc hF
          refine j_rV (st2 := [.int i64]) B [.int x4, .int x1] [] cv_X13_233 dX13_who_64 hl hR (ct_X13_roundOf G e64) rfl rfl rfl rfl trivial (Nat.le_of_ble_eq_true rfl) ?_
          refine j_goto (tgt := 72) B dX13_who_67 (by decide) ?_
          exact jb72 a0 x1 x2 x3 x4 i64 w64 hF
  refine j_aload_n B dX13_who_0 rfl ?_
  refine j_iload_n B dX13_who_1 rfl ?_
  refine j_iconst (v := 5) B dX13_who_2 (by decide) ?_
  obtain ⟨i3, e3, hF⟩ := bo hF
  refine j_rV (st2 := [.int i3]) B [.int x1, .int 5] [] cv_X13_224 dX13_who_3 hl hR (ct_X13_isSet G e3) rfl rfl rfl rfl trivial (Nat.le_of_ble_eq_true rfl) ?_
  refine j_if_ne (tgt := 16) B dX13_who_6 (by decide) hF (fun h6 hF => ?_) (fun h6 hF => ?_)
  · refine j_aload_n B dX13_who_16 rfl ?_
    refine j_iload_n B dX13_who_17 rfl ?_
    obtain ⟨i18, e18, hF⟩ := bo hF
    refine j_rV (st2 := [.int i18]) B [.int x1] [] cv_X13_227 dX13_who_18 hl hR (ct_X13_allLie G e18) rfl rfl rfl rfl trivial (Nat.le_of_ble_eq_true rfl) ?_
    refine j_if_ne (tgt := 31) B dX13_who_21 (by decide) hF (fun h21 hF => ?_) (fun h21 hF => ?_)
    · refine j_iconst (v := (-1)) B dX13_who_31 (by decide) ?_
      refine j_istore_n (vs' := [some (va_rf a0), some (.int x1), some (.int (-1)), none, none, none]) B dX13_who_32 (by decide) rfl ?_
      refine j_ldc (v := 1000000) B q1546 dX13_who_33 ?_
      refine j_istore_n (vs' := [some (va_rf a0), some (.int x1), some (.int (-1)), some (.int 1000000), none, none]) B dX13_who_35 (by decide) rfl ?_
      refine j_iconst (v := 0) B dX13_who_36 (by decide) ?_
      refine j_istore (vs' := [some (va_rf a0), some (.int x1), some (.int (-1)), some (.int 1000000), some (.int 0), none]) B dX13_who_37 (by decide) rfl ?_
      exact lp39 fu a0 x1 (-1) 1000000 0 w hF
    · refine j_aload_n B dX13_who_24 rfl ?_
      refine j_ldc (v := (-1000005)) B q1587 dX13_who_25 ?_
      obtain ⟨i27, w27, e27, hF⟩ := bc hF
      refine j_rV (st2 := [.int i27]) B [.int (-1000005)] [] cv_X13_92 dX13_who_27 hl hR (ct_X13_finding G e27) rfl rfl rfl rfl trivial (Nat.le_of_ble_eq_true rfl) ?_
      exact j_lIw B rfl dX13_who_30 hF (by decide) (by decide)
  · refine j_aload_n B dX13_who_9 rfl ?_
    refine j_ldc (v := (-1000001)) B q1436 dX13_who_10 ?_
    obtain ⟨i12, w12, e12, hF⟩ := bc hF
    refine j_rV (st2 := [.int i12]) B [.int (-1000001)] [] cv_X13_92 dX13_who_12 hl hR (ct_X13_finding G e12) rfl rfl rfl rfl trivial (Nat.le_of_ble_eq_true rfl) ?_
    exact j_lIw B rfl dX13_who_15 hF (by decide) (by decide)
def F_X13_joined_J106 (a0 : Option Nat) (x4 : Int32) (x5 : Int32) (w : cH) : Option (Int32 × cH) :=
  if x4 < 1000000 then (some (x5 - x4, w)) else (cb (F_X13_finding a0 (-1000004) w) fun i116 w116 => some (i116, w116))
def F_X13_joined_J100 (rc31 : (Option Nat) → Int32 → Int32 → Int32 → Int32 → Int32 → cH → Option (Int32 × cH)) (a0 : Option Nat) (x1 : Int32) (x2 : Int32) (x4 : Int32) (x5 : Int32) (x6 : Int32) (w : cH) : Option (Int32 × cH) :=
  rc31 a0 x1 x2 x4 x5 (x6 + 1) w
def F_X13_joined_B31 (rc31 : Option Nat → Int32 → Int32 → Int32 → Int32 → Int32 → cH → Option (Int32 × cH)) (a0 : Option Nat) (x1 : Int32) (x2 : Int32) (x4 : Int32) (x5 : Int32) (x6 : Int32) (w : cH) : Option (Int32 × cH) :=
  (fA w a0 13 0).bind fun a34p => (aI w a34p 100 43).bind fun i39 =>if i39 ≤ x6 then (F_X13_joined_J106  a0 x4 x5 w) else (if 1000000 ≤ x4 then (F_X13_joined_J106  a0 x4 x5 w) else (if (F_X13_has x2 x6) = 0 then (F_X13_joined_J100  rc31 a0 x1 x2 x4 x5 x6 w) else (cb (F_X13_roundOf a0 x1 (1 <<< (x6 &&& 31)) w) fun i67 w67 => (fA w67 a0 13 5).bind fun a76p => (F_X13_eIs a0 x6 2 w67).bind fun i85 => (F_X13_cIs a0 x1 1 w67).bind fun i92 => (aI w67 a76p 100 ((7 * i85) + i92)).bind fun i96 => F_X13_joined_J100  rc31 a0 x1 x2 x4 ((x5 + i67) + i96) x6 w67)))
def F_X13_joined_L31 : Nat → Option Nat → Int32 → Int32 → Int32 → Int32 → Int32 → cH → Option (Int32 × cH)
  | 0, _, _, _, _, _, _, _ => none
  | n9 + 1, a0, x1, x2, x4, x5, x6, w => F_X13_joined_B31  (F_X13_joined_L31  n9) a0 x1 x2 x4 x5 x6 w
def F_X13_joined (a0 : Option Nat) (x1 : Int32) (x2 : Int32) (w : cH) : Option (Int32 × cH) :=
  if tg w a0 = some 13 then ((F_X13_refuses a0 x1 x2 w).bind fun i3 =>if i3 = 0 then (cb (F_X13_roundOf a0 x1 x2 w) fun i20 w20 => F_X13_joined_L31  fu a0 x1 x2 i20 0 0 w20) else (cb (F_X13_finding a0 i3 w) fun i13 w13 => some (i13, w13))) else none
abbrev rm_X13_joined : Room := { frames := 5, cells := 0, slots := 0, locals := 120 }
set_option maxHeartbeats 4000000 in
set_option maxRecDepth 100000 in
theorem ct_X13_joined {l : Launch} {g : Gt} (G : Gok g) {a0 : Option Nat} {x1 : Int32} {x2 : Int32} {w : cH} {r9 : Int32} {w9 : cH} (hF : F_X13_joined a0 x1 x2 w = some (r9, w9)) : tg w a0 = some 13 ∧ Mx l yX13_joined (ws_ yX13_joined cX13_joined 7 (some .int)) rm_X13_joined g [va_rf a0, .int x1, .int x2] w (.returned (some (.int r9))) w9 0 0 := by
  unfold F_X13_joined at hF
  obtain ⟨ht, hF⟩ := bg hF
  refine ⟨ht, mk_ct cX13_joined 7 (some .int) "CarryFairModel" (plainFor_of_name (by decide)) rfl (lg_le ⟨cr _, rfl, rfl, trivial⟩ (Nat.le_of_ble_eq_true rfl)) (av_ok ⟨cr _, rfl, rfl, trivial⟩) G (fun x B hl hR hin hh => ?_)⟩
  show J g x _ _ 0 0 w 0 0 0 [some (va_rf a0), some (.int x1), some (.int x2), none, none, none, none] []
  have jb106 : ∀ (a0 : Option Nat) (x4 : Int32) (x5 : Int32) (w : cH), F_X13_joined_J106  a0 x4 x5 w = some (r9, w9) → J g x (.returned (some (.int r9))) w9 0 0 w 0 0 106 [some (va_rf a0), none, none, none, some (.int x4), some (.int x5), none] [] := by
    intro a0 x4 x5 w hF
    unfold F_X13_joined_J106 at hF
    refine j_iload B dX13_joined_106 rfl ?_
    refine j_ldc (v := 1000000) B q1546 dX13_joined_108 ?_
    refine j_icmp_lt (tgt := 122) B dX13_joined_110 (by decide) hF (fun h110 hF => ?_) (fun h110 hF => ?_)
    · refine j_iload B dX13_joined_122 rfl ?_
      refine j_iload B dX13_joined_124 rfl ?_
      refine j_isub B dX13_joined_126 ?_
      exact j_lIw B rfl dX13_joined_127 hF (by decide) (by decide)
    · refine j_aload_n B dX13_joined_113 rfl ?_
      refine j_ldc (v := (-1000004)) B q1551 dX13_joined_114 ?_
      obtain ⟨i116, w116, e116, hF⟩ := bc hF
      refine j_rV (st2 := [.int i116]) B [.int (-1000004)] [] cv_X13_92 dX13_joined_116 hl hR (ct_X13_finding G e116) rfl rfl rfl rfl trivial (Nat.le_of_ble_eq_true rfl) ?_
      refine j_goto (tgt := 127) B dX13_joined_119 (by decide) ?_
      exact j_lIw B rfl dX13_joined_127 hF (by decide) (by decide)
  have lp31 : ∀ (n9 : Nat) (a0 : Option Nat) (x1 : Int32) (x2 : Int32) (x4 : Int32) (x5 : Int32) (x6 : Int32) (w : cH), F_X13_joined_L31  n9 a0 x1 x2 x4 x5 x6 w = some (r9, w9) → J g x (.returned (some (.int r9))) w9 0 0 w 0 0 31 [some (va_rf a0), some (.int x1), some (.int x2), none, some (.int x4), some (.int x5), some (.int x6)] [] := by
    intro n9
    induction n9 with
    | zero => intro a0 x1 x2 x4 x5 x6 w hF; cases hF
    | succ n31 ih31 =>
      intro a0 x1 x2 x4 x5 x6 w hF
      have hF : F_X13_joined_B31  (F_X13_joined_L31  n31) a0 x1 x2 x4 x5 x6 w = some (r9, w9) := hF
      unfold F_X13_joined_B31 at hF
      have jb100 : ∀ (a0 : Option Nat) (x1 : Int32) (x2 : Int32) (x4 : Int32) (x5 : Int32) (x6 : Int32) (w : cH), F_X13_joined_J100  (F_X13_joined_L31  n31) a0 x1 x2 x4 x5 x6 w = some (r9, w9) → J g x (.returned (some (.int r9))) w9 0 0 w 0 0 100 [some (va_rf a0), some (.int x1), some (.int x2), none, some (.int x4), some (.int x5), some (.int x6)] [] := by
        intro a0 x1 x2 x4 x5 x6 w hF
        unfold F_X13_joined_J100 at hF
        refine j_iinc (v := x6 + 1) (vs' := [some (va_rf a0), some (.int x1), some (.int x2), none, some (.int x4), some (.int x5), some (.int (x6 + 1))]) B dX13_joined_100 (by decide) rfl rfl rfl ?_
        refine j_goto (tgt := 31) B dX13_joined_103 (by decide) ?_
        exact ih31 a0 x1 x2 x4 x5 (x6 + 1) w hF
      refine j_iload B dX13_joined_31 rfl ?_
      refine j_aload_n B dX13_joined_33 rfl ?_
      refine j_getA B fl_X13_9 dX13_joined_34 hF (fun a34p hF => ?_)
      refine j_bipush (v := 43) B dX13_joined_37 (by decide) ?_
      refine j_iaload B dX13_joined_39 hF (fun i39 hF => ?_)
      refine j_icmp_ge (tgt := 106) B dX13_joined_40 (by decide) hF (fun h40 hF => ?_) (fun h40 hF => ?_)
      · refine j_msk [true, false, false, false, true, true, false] rfl ?_
        exact jb106 a0 x4 x5 w hF
      · refine j_iload B dX13_joined_43 rfl ?_
        refine j_ldc (v := 1000000) B q1546 dX13_joined_45 ?_
        refine j_icmp_ge (tgt := 106) B dX13_joined_47 (by decide) hF (fun h47 hF => ?_) (fun h47 hF => ?_)
        · refine j_msk [true, false, false, false, true, true, false] rfl ?_
          exact jb106 a0 x4 x5 w hF
        · refine j_iload_n B dX13_joined_50 rfl ?_
          refine j_iload B dX13_joined_51 rfl ?_
          refine j_rS (st2 := [.int (F_X13_has x2 x6)]) B [.int x2, .int x6] [] cs_X13_114 dX13_joined_53 hl hR (ct_X13_has G) rfl rfl rfl rfl trivial (Nat.le_of_ble_eq_true rfl) ?_
          refine j_if_eq (tgt := 100) B dX13_joined_56 (by decide) hF (fun h56 hF => ?_) (fun h56 hF => ?_)
          · exact jb100 a0 x1 x2 x4 x5 x6 w hF
          · refine j_iload B dX13_joined_59 rfl ?_
            refine j_aload_n B dX13_joined_61 rfl ?_
            refine j_iload_n B dX13_joined_62 rfl ?_
            refine j_iconst (v := 1) B dX13_joined_63 (by decide) ?_
            refine j_iload B dX13_joined_64 rfl ?_
            refine j_ishl B dX13_joined_66 ?_
            obtain ⟨i67, w67, e67, hF⟩ := bc hF
            refine j_rV (st2 := [.int i67, .int x5]) B [.int x1, .int (1 <<< (x6 &&& 31))] [.int x5] cv_X13_233 dX13_joined_67 hl hR (ct_X13_roundOf G e67) rfl rfl rfl rfl ⟨rfl, trivial⟩ (Nat.le_of_ble_eq_true rfl) ?_
            refine j_iadd B dX13_joined_70 ?_
            refine j_istore (vs' := [some (va_rf a0), some (.int x1), some (.int x2), none, some (.int x4), some (.int (x5 + i67)), some (.int x6)]) B dX13_joined_71 (by decide) rfl ?_
            refine j_iload B dX13_joined_73 rfl ?_
            refine j_aload_n B dX13_joined_75 rfl ?_
            refine j_getA B fl_X13_22 dX13_joined_76 hF (fun a76p hF => ?_)
            refine j_bipush (v := 7) B dX13_joined_79 (by decide) ?_
            refine j_aload_n B dX13_joined_81 rfl ?_
            refine j_iload B dX13_joined_82 rfl ?_
            refine j_iconst (v := 2) B dX13_joined_84 (by decide) ?_
            obtain ⟨i85, e85, hF⟩ := bo hF
            refine j_rV (st2 := [.int i85, .int 7, va_rf a76p, .int (x5 + i67)]) B [.int x6, .int 2] [.int 7, va_rf a76p, .int (x5 + i67)] cv_X13_111 dX13_joined_85 hl hR (ct_X13_eIs G e85) rfl rfl rfl rfl ⟨rfl, cr _, rfl, trivial⟩ (Nat.le_of_ble_eq_true rfl) ?_
            refine j_imul B dX13_joined_88 ?_
            refine j_aload_n B dX13_joined_89 rfl ?_
            refine j_iload_n B dX13_joined_90 rfl ?_
            refine j_iconst (v := 1) B dX13_joined_91 (by decide) ?_
            obtain ⟨i92, e92, hF⟩ := bo hF
            refine j_rV (st2 := [.int i92, .int (7 * i85), va_rf a76p, .int (x5 + i67)]) B [.int x1, .int 1] [.int (7 * i85), va_rf a76p, .int (x5 + i67)] cv_X13_104 dX13_joined_92 hl hR (ct_X13_cIs G e92) rfl rfl rfl rfl ⟨rfl, cr _, rfl, trivial⟩ (Nat.le_of_ble_eq_true rfl) ?_
            refine j_iadd B dX13_joined_95 ?_
            refine j_iaload B dX13_joined_96 hF (fun i96 hF => ?_)
            refine j_iadd B dX13_joined_97 ?_
            refine j_istore (vs' := [some (va_rf a0), some (.int x1), some (.int x2), none, some (.int x4), some (.int ((x5 + i67) + i96)), some (.int x6)]) B dX13_joined_98 (by decide) rfl ?_
            exact jb100 a0 x1 x2 x4 ((x5 + i67) + i96) x6 w67 hF
  refine j_aload_n B dX13_joined_0 rfl ?_
  refine j_iload_n B dX13_joined_1 rfl ?_
  refine j_iload_n B dX13_joined_2 rfl ?_
  obtain ⟨i3, e3, hF⟩ := bo hF
  refine j_rV (st2 := [.int i3]) B [.int x1, .int x2] [] cv_X13_230 dX13_joined_3 hl hR (ct_X13_refuses G e3) rfl rfl rfl rfl trivial (Nat.le_of_ble_eq_true rfl) ?_
  refine j_istore_n (vs' := [some (va_rf a0), some (.int x1), some (.int x2), some (.int i3), none, none, none]) B dX13_joined_6 (by decide) rfl ?_
  refine j_iload_n B dX13_joined_7 rfl ?_
  refine j_if_eq (tgt := 17) B dX13_joined_8 (by decide) hF (fun h8 hF => ?_) (fun h8 hF => ?_)
  · refine j_aload_n B dX13_joined_17 rfl ?_
    refine j_iload_n B dX13_joined_18 rfl ?_
    refine j_iload_n B dX13_joined_19 rfl ?_
    obtain ⟨i20, w20, e20, hF⟩ := bc hF
    refine j_rV (st2 := [.int i20]) B [.int x1, .int x2] [] cv_X13_233 dX13_joined_20 hl hR (ct_X13_roundOf G e20) rfl rfl rfl rfl trivial (Nat.le_of_ble_eq_true rfl) ?_
    refine j_istore (vs' := [some (va_rf a0), some (.int x1), some (.int x2), some (.int i3), some (.int i20), none, none]) B dX13_joined_23 (by decide) rfl ?_
    refine j_iconst (v := 0) B dX13_joined_25 (by decide) ?_
    refine j_istore (vs' := [some (va_rf a0), some (.int x1), some (.int x2), some (.int i3), some (.int i20), some (.int 0), none]) B dX13_joined_26 (by decide) rfl ?_
    refine j_iconst (v := 0) B dX13_joined_28 (by decide) ?_
    refine j_istore (vs' := [some (va_rf a0), some (.int x1), some (.int x2), some (.int i3), some (.int i20), some (.int 0), some (.int 0)]) B dX13_joined_29 (by decide) rfl ?_
    refine j_msk [true, true, true, false, true, true, true] rfl ?_
    exact lp31 fu a0 x1 x2 i20 0 0 w20 hF
  · refine j_aload_n B dX13_joined_11 rfl ?_
    refine j_iload_n B dX13_joined_12 rfl ?_
    obtain ⟨i13, w13, e13, hF⟩ := bc hF
    refine j_rV (st2 := [.int i13]) B [.int i3] [] cv_X13_92 dX13_joined_13 hl hR (ct_X13_finding G e13) rfl rfl rfl rfl trivial (Nat.le_of_ble_eq_true rfl) ?_
    exact j_lIw B rfl dX13_joined_16 hF (by decide) (by decide)
def F_X13_refusesShared_J130 (rc69 : (Option Nat) → Int32 → Int32 → Int32 → Int32 → cH → Option (Int32 × cH)) (a0 : Option Nat) (x1 : Int32) (x2 : Int32) (x3 : Int32) (x4 : Int32) (w : cH) : Option (Int32 × cH) :=
  rc69 a0 x1 x2 x3 (x4 + 1) w
def F_X13_refusesShared_B69 (rc69 : Option Nat → Int32 → Int32 → Int32 → Int32 → cH → Option (Int32 × cH)) (a0 : Option Nat) (x1 : Int32) (x2 : Int32) (x3 : Int32) (x4 : Int32) (w : cH) : Option (Int32 × cH) :=
  if x3 < x4 then ((fI w a0 13 11).bind fun i137 =>if i137 < 1000000 then (some (0, w)) else (some ((-1000004), w))) else (if ¬ (x4 &&& (x3 ^^^ (-1))) = 0 then (F_X13_refusesShared_J130  rc69 a0 x1 x2 x3 x4 w) else (cb (F_X13_roundOf a0 x1 x4 w) fun i88 w88 => cb (F_X13_roundOf a0 x2 (x3 &&& (x4 ^^^ (-1))) w88) fun i103 w103 => (fI w103 a0 13 11).bind fun i112 =>if i112 ≤ (i88 + i103) then (F_X13_refusesShared_J130  rc69 a0 x1 x2 x3 x4 w103) else ((pV w103 a0 13 11 (.int (i88 + i103))).bind fun w121 => (pV w121 a0 13 10 (.int x4)).bind fun w127 => F_X13_refusesShared_J130  rc69 a0 x1 x2 x3 x4 w127)))
def F_X13_refusesShared_L69 : Nat → Option Nat → Int32 → Int32 → Int32 → Int32 → cH → Option (Int32 × cH)
  | 0, _, _, _, _, _, _ => none
  | n9 + 1, a0, x1, x2, x3, x4, w => F_X13_refusesShared_B69  (F_X13_refusesShared_L69  n9) a0 x1 x2 x3 x4 w
def F_X13_refusesShared_J57  (w : cH) : Option (Int32 × cH) :=
  some ((-1000005), w)
def F_X13_refusesShared_J30  (w : cH) : Option (Int32 × cH) :=
  some ((-1000001), w)
def F_X13_refusesShared (a0 : Option Nat) (x1 : Int32) (x2 : Int32) (x3 : Int32) (w : cH) : Option (Int32 × cH) :=
  if tg w a0 = some 13 then ((F_X13_isCarrier a0 x1 w).bind fun i2 =>if i2 = 0 then (F_X13_refusesShared_J30   w) else ((F_X13_isCarrier a0 x2 w).bind fun i10 =>if i10 = 0 then (F_X13_refusesShared_J30   w) else (if x1 = x2 then (F_X13_refusesShared_J30   w) else ((F_X13_isSet a0 x3 5 w).bind fun i24 =>if ¬ i24 = 0 then ((F_X13_allLie a0 x3 w).bind fun i35 =>if i35 = 0 then (F_X13_refusesShared_J57   w) else ((F_X13_carries a0 x1 w).bind fun i43 =>if ¬ i43 = 0 then (F_X13_refusesShared_J57   w) else ((F_X13_carries a0 x2 w).bind fun i51 =>if i51 = 0 then ((pV w a0 13 11 (.int 1000000)).bind fun w63 => F_X13_refusesShared_L69  fu a0 x1 x2 x3 0 w63) else (F_X13_refusesShared_J57   w)))) else (F_X13_refusesShared_J30   w))))) else none
abbrev rm_X13_refusesShared : Room := { frames := 5, cells := 0, slots := 0, locals := 120 }
set_option maxHeartbeats 4000000 in
set_option maxRecDepth 100000 in
theorem ct_X13_refusesShared {l : Launch} {g : Gt} (G : Gok g) {a0 : Option Nat} {x1 : Int32} {x2 : Int32} {x3 : Int32} {w : cH} {r9 : Int32} {w9 : cH} (hF : F_X13_refusesShared a0 x1 x2 x3 w = some (r9, w9)) : tg w a0 = some 13 ∧ Mx l yX13_refusesShared (ws_ yX13_refusesShared cX13_refusesShared 6 (some .int)) rm_X13_refusesShared g [va_rf a0, .int x1, .int x2, .int x3] w (.returned (some (.int r9))) w9 0 0 := by
  unfold F_X13_refusesShared at hF
  obtain ⟨ht, hF⟩ := bg hF
  refine ⟨ht, mk_ct cX13_refusesShared 6 (some .int) "CarryFairModel" (plainFor_of_name (by decide)) rfl (lg_le ⟨cr _, rfl, rfl, rfl, trivial⟩ (Nat.le_of_ble_eq_true rfl)) (av_ok ⟨cr _, rfl, rfl, rfl, trivial⟩) G (fun x B hl hR hin hh => ?_)⟩
  show J g x _ _ 0 0 w 0 0 0 [some (va_rf a0), some (.int x1), some (.int x2), some (.int x3), none, none] []
  have lp69 : ∀ (n9 : Nat) (a0 : Option Nat) (x1 : Int32) (x2 : Int32) (x3 : Int32) (x4 : Int32) (w : cH), F_X13_refusesShared_L69  n9 a0 x1 x2 x3 x4 w = some (r9, w9) → J g x (.returned (some (.int r9))) w9 0 0 w 0 0 69 [some (va_rf a0), some (.int x1), some (.int x2), some (.int x3), some (.int x4), none] [] := by
    intro n9
    induction n9 with
    | zero => intro a0 x1 x2 x3 x4 w hF; cases hF
    | succ n69 ih69 =>
      intro a0 x1 x2 x3 x4 w hF
      have hF : F_X13_refusesShared_B69  (F_X13_refusesShared_L69  n69) a0 x1 x2 x3 x4 w = some (r9, w9) := hF
      unfold F_X13_refusesShared_B69 at hF
      have jb130 : ∀ (a0 : Option Nat) (x1 : Int32) (x2 : Int32) (x3 : Int32) (x4 : Int32) (w : cH), F_X13_refusesShared_J130  (F_X13_refusesShared_L69  n69) a0 x1 x2 x3 x4 w = some (r9, w9) → J g x (.returned (some (.int r9))) w9 0 0 w 0 0 130 [some (va_rf a0), some (.int x1), some (.int x2), some (.int x3), some (.int x4), none] [] := by
        intro a0 x1 x2 x3 x4 w hF
        unfold F_X13_refusesShared_J130 at hF
        refine j_iinc (v := x4 + 1) (vs' := [some (va_rf a0), some (.int x1), some (.int x2), some (.int x3), some (.int (x4 + 1)), none]) B dX13_refusesShared_130 (by decide) rfl rfl rfl ?_
        refine j_goto (tgt := 69) B dX13_refusesShared_133 (by decide) ?_
        exact ih69 a0 x1 x2 x3 (x4 + 1) w hF
      refine j_iload B dX13_refusesShared_69 rfl ?_
      refine j_iload_n B dX13_refusesShared_71 rfl ?_
      refine j_icmp_gt (tgt := 136) B dX13_refusesShared_72 (by decide) hF (fun h72 hF => ?_) (fun h72 hF => ?_)
      · refine j_aload_n B dX13_refusesShared_136 rfl ?_
        refine j_getI B fl_X13_242 dX13_refusesShared_137 hF (fun i137 hF => ?_)
        refine j_ldc (v := 1000000) B q1546 dX13_refusesShared_140 ?_
        refine j_icmp_lt (tgt := 150) B dX13_refusesShared_142 (by decide) hF (fun h142 hF => ?_) (fun h142 hF => ?_)
        · refine j_iconst (v := 0) B dX13_refusesShared_150 (by decide) ?_
          exact j_lIw B rfl dX13_refusesShared_151 hF (by decide) (by decide)
        · refine j_ldc (v := (-1000004)) B q1551 dX13_refusesShared_145 ?_
          refine j_goto (tgt := 151) B dX13_refusesShared_147 (by decide) ?_
          exact j_lIw B rfl dX13_refusesShared_151 hF (by decide) (by decide)
      · refine j_iload B dX13_refusesShared_75 rfl ?_
        refine j_iload_n B dX13_refusesShared_77 rfl ?_
        refine j_iconst (v := (-1)) B dX13_refusesShared_78 (by decide) ?_
        refine j_ixor B dX13_refusesShared_79 ?_
        refine j_iand B dX13_refusesShared_80 ?_
        refine j_if_ne (tgt := 130) B dX13_refusesShared_81 (by decide) hF (fun h81 hF => ?_) (fun h81 hF => ?_)
        · exact jb130 a0 x1 x2 x3 x4 w hF
        · refine j_aload_n B dX13_refusesShared_84 rfl ?_
          refine j_iload_n B dX13_refusesShared_85 rfl ?_
          refine j_iload B dX13_refusesShared_86 rfl ?_
          obtain ⟨i88, w88, e88, hF⟩ := bc hF
          refine j_rV (st2 := [.int i88]) B [.int x1, .int x4] [] cv_X13_233 dX13_refusesShared_88 hl hR (ct_X13_roundOf G e88) rfl rfl rfl rfl trivial (Nat.le_of_ble_eq_true rfl) ?_
          refine j_istore (vs' := [some (va_rf a0), some (.int x1), some (.int x2), some (.int x3), some (.int x4), some (.int i88)]) B dX13_refusesShared_91 (by decide) rfl ?_
          refine j_iload B dX13_refusesShared_93 rfl ?_
          refine j_aload_n B dX13_refusesShared_95 rfl ?_
          refine j_iload_n B dX13_refusesShared_96 rfl ?_
          refine j_iload_n B dX13_refusesShared_97 rfl ?_
          refine j_iload B dX13_refusesShared_98 rfl ?_
          refine j_iconst (v := (-1)) B dX13_refusesShared_100 (by decide) ?_
          refine j_ixor B dX13_refusesShared_101 ?_
          refine j_iand B dX13_refusesShared_102 ?_
          obtain ⟨i103, w103, e103, hF⟩ := bc hF
          refine j_rV (st2 := [.int i103, .int i88]) B [.int x2, .int (x3 &&& (x4 ^^^ (-1)))] [.int i88] cv_X13_233 dX13_refusesShared_103 hl hR (ct_X13_roundOf G e103) rfl rfl rfl rfl ⟨rfl, trivial⟩ (Nat.le_of_ble_eq_true rfl) ?_
          refine j_iadd B dX13_refusesShared_106 ?_
          refine j_istore (vs' := [some (va_rf a0), some (.int x1), some (.int x2), some (.int x3), some (.int x4), some (.int (i88 + i103))]) B dX13_refusesShared_107 (by decide) rfl ?_
          refine j_iload B dX13_refusesShared_109 rfl ?_
          refine j_aload_n B dX13_refusesShared_111 rfl ?_
          refine j_getI B fl_X13_242 dX13_refusesShared_112 hF (fun i112 hF => ?_)
          refine j_icmp_ge (tgt := 130) B dX13_refusesShared_115 (by decide) hF (fun h115 hF => ?_) (fun h115 hF => ?_)
          · refine j_msk [true, true, true, true, true, false] rfl ?_
            exact jb130 a0 x1 x2 x3 x4 w103 hF
          · refine j_aload_n B dX13_refusesShared_118 rfl ?_
            refine j_iload B dX13_refusesShared_119 rfl ?_
            refine j_putV B fp_X13_242 (fun h => by cases h) rfl rfl dX13_refusesShared_121 hF (fun w121 hF => ?_)
            refine j_aload_n B dX13_refusesShared_124 rfl ?_
            refine j_iload B dX13_refusesShared_125 rfl ?_
            refine j_putV B fp_X13_245 (fun h => by cases h) rfl rfl dX13_refusesShared_127 hF (fun w127 hF => ?_)
            refine j_msk [true, true, true, true, true, false] rfl ?_
            exact jb130 a0 x1 x2 x3 x4 w127 hF
  have jb57 : ∀  (w : cH), F_X13_refusesShared_J57   w = some (r9, w9) → J g x (.returned (some (.int r9))) w9 0 0 w 0 0 57 [none, none, none, none, none, none] [] := by
    intro  w hF
    unfold F_X13_refusesShared_J57 at hF
    refine j_ldc (v := (-1000005)) B q1587 dX13_refusesShared_57 ?_
    exact j_lIw B rfl dX13_refusesShared_59 hF (by decide) (by decide)
  have jb30 : ∀  (w : cH), F_X13_refusesShared_J30   w = some (r9, w9) → J g x (.returned (some (.int r9))) w9 0 0 w 0 0 30 [none, none, none, none, none, none] [] := by
    intro  w hF
    unfold F_X13_refusesShared_J30 at hF
    refine j_ldc (v := (-1000001)) B q1436 dX13_refusesShared_30 ?_
    exact j_lIw B rfl dX13_refusesShared_32 hF (by decide) (by decide)
  refine j_aload_n B dX13_refusesShared_0 rfl ?_
  refine j_iload_n B dX13_refusesShared_1 rfl ?_
  obtain ⟨i2, e2, hF⟩ := bo hF
  refine j_rV (st2 := [.int i2]) B [.int x1] [] cv_X13_117 dX13_refusesShared_2 hl hR (ct_X13_isCarrier G e2) rfl rfl rfl rfl trivial (Nat.le_of_ble_eq_true rfl) ?_
  refine j_if_eq (tgt := 30) B dX13_refusesShared_5 (by decide) hF (fun h5 hF => ?_) (fun h5 hF => ?_)
  · refine j_msk [false, false, false, false, false, false] rfl ?_
    exact jb30  w hF
  · refine j_aload_n B dX13_refusesShared_8 rfl ?_
    refine j_iload_n B dX13_refusesShared_9 rfl ?_
    obtain ⟨i10, e10, hF⟩ := bo hF
    refine j_rV (st2 := [.int i10]) B [.int x2] [] cv_X13_117 dX13_refusesShared_10 hl hR (ct_X13_isCarrier G e10) rfl rfl rfl rfl trivial (Nat.le_of_ble_eq_true rfl) ?_
    refine j_if_eq (tgt := 30) B dX13_refusesShared_13 (by decide) hF (fun h13 hF => ?_) (fun h13 hF => ?_)
    · refine j_msk [false, false, false, false, false, false] rfl ?_
      exact jb30  w hF
    · refine j_iload_n B dX13_refusesShared_16 rfl ?_
      refine j_iload_n B dX13_refusesShared_17 rfl ?_
      refine j_icmp_eq (tgt := 30) B dX13_refusesShared_18 (by decide) hF (fun h18 hF => ?_) (fun h18 hF => ?_)
      · refine j_msk [false, false, false, false, false, false] rfl ?_
        exact jb30  w hF
      · refine j_aload_n B dX13_refusesShared_21 rfl ?_
        refine j_iload_n B dX13_refusesShared_22 rfl ?_
        refine j_iconst (v := 5) B dX13_refusesShared_23 (by decide) ?_
        obtain ⟨i24, e24, hF⟩ := bo hF
        refine j_rV (st2 := [.int i24]) B [.int x3, .int 5] [] cv_X13_224 dX13_refusesShared_24 hl hR (ct_X13_isSet G e24) rfl rfl rfl rfl trivial (Nat.le_of_ble_eq_true rfl) ?_
        refine j_if_ne (tgt := 33) B dX13_refusesShared_27 (by decide) hF (fun h27 hF => ?_) (fun h27 hF => ?_)
        · refine j_aload_n B dX13_refusesShared_33 rfl ?_
          refine j_iload_n B dX13_refusesShared_34 rfl ?_
          obtain ⟨i35, e35, hF⟩ := bo hF
          refine j_rV (st2 := [.int i35]) B [.int x3] [] cv_X13_227 dX13_refusesShared_35 hl hR (ct_X13_allLie G e35) rfl rfl rfl rfl trivial (Nat.le_of_ble_eq_true rfl) ?_
          refine j_if_eq (tgt := 57) B dX13_refusesShared_38 (by decide) hF (fun h38 hF => ?_) (fun h38 hF => ?_)
          · refine j_msk [false, false, false, false, false, false] rfl ?_
            exact jb57  w hF
          · refine j_aload_n B dX13_refusesShared_41 rfl ?_
            refine j_iload_n B dX13_refusesShared_42 rfl ?_
            obtain ⟨i43, e43, hF⟩ := bo hF
            refine j_rV (st2 := [.int i43]) B [.int x1] [] cv_X13_123 dX13_refusesShared_43 hl hR (ct_X13_carries G e43) rfl rfl rfl rfl trivial (Nat.le_of_ble_eq_true rfl) ?_
            refine j_if_ne (tgt := 57) B dX13_refusesShared_46 (by decide) hF (fun h46 hF => ?_) (fun h46 hF => ?_)
            · refine j_msk [false, false, false, false, false, false] rfl ?_
              exact jb57  w hF
            · refine j_aload_n B dX13_refusesShared_49 rfl ?_
              refine j_iload_n B dX13_refusesShared_50 rfl ?_
              obtain ⟨i51, e51, hF⟩ := bo hF
              refine j_rV (st2 := [.int i51]) B [.int x2] [] cv_X13_123 dX13_refusesShared_51 hl hR (ct_X13_carries G e51) rfl rfl rfl rfl trivial (Nat.le_of_ble_eq_true rfl) ?_
              refine j_if_eq (tgt := 60) B dX13_refusesShared_54 (by decide) hF (fun h54 hF => ?_) (fun h54 hF => ?_)
              · refine j_aload_n B dX13_refusesShared_60 rfl ?_
                refine j_ldc (v := 1000000) B q1546 dX13_refusesShared_61 ?_
                refine j_putV B fp_X13_242 (fun h => by cases h) rfl rfl dX13_refusesShared_63 hF (fun w63 hF => ?_)
                refine j_iconst (v := 0) B dX13_refusesShared_66 (by decide) ?_
                refine j_istore (vs' := [some (va_rf a0), some (.int x1), some (.int x2), some (.int x3), some (.int 0), none]) B dX13_refusesShared_67 (by decide) rfl ?_
                exact lp69 fu a0 x1 x2 x3 0 w63 hF
              · refine j_msk [false, false, false, false, false, false] rfl ?_
                exact jb57  w hF
        · refine j_msk [false, false, false, false, false, false] rfl ?_
          exact jb30  w hF
theorem cv_X13_251 : CV "CarryFairModel" 251 13 yX13_refusesShared cX13_refusesShared 6 (some .int) 3 := ⟨_, _, rfl, lw_V q1703 q1705 qs107 q142 q1706, by decide +kernel⟩
def F_X13_shared (a0 : Option Nat) (x1 : Int32) (x2 : Int32) (x3 : Int32) (w : cH) : Option (Int32 × cH) :=
  if tg w a0 = some 13 then (cb (F_X13_refusesShared a0 x1 x2 x3 w) fun i4 w4 =>if i4 = 0 then ((fI w4 a0 13 11).bind fun i24 => some (i24, w4)) else (cb (F_X13_finding a0 i4 w4) fun i17 w17 => some (i17, w17))) else none
abbrev rm_X13_shared : Room := { frames := 6, cells := 0, slots := 0, locals := 145 }
set_option maxHeartbeats 4000000 in
set_option maxRecDepth 100000 in
theorem ct_X13_shared {l : Launch} {g : Gt} (G : Gok g) {a0 : Option Nat} {x1 : Int32} {x2 : Int32} {x3 : Int32} {w : cH} {r9 : Int32} {w9 : cH} (hF : F_X13_shared a0 x1 x2 x3 w = some (r9, w9)) : tg w a0 = some 13 ∧ Mx l yX13_shared (ws_ yX13_shared cX13_shared 5 (some .int)) rm_X13_shared g [va_rf a0, .int x1, .int x2, .int x3] w (.returned (some (.int r9))) w9 0 0 := by
  unfold F_X13_shared at hF
  obtain ⟨ht, hF⟩ := bg hF
  refine ⟨ht, mk_ct cX13_shared 5 (some .int) "CarryFairModel" (plainFor_of_name (by decide)) rfl (lg_le ⟨cr _, rfl, rfl, rfl, trivial⟩ (Nat.le_of_ble_eq_true rfl)) (av_ok ⟨cr _, rfl, rfl, rfl, trivial⟩) G (fun x B hl hR hin hh => ?_)⟩
  show J g x _ _ 0 0 w 0 0 0 [some (va_rf a0), some (.int x1), some (.int x2), some (.int x3), none] []
  refine j_aload_n B dX13_shared_0 rfl ?_
  refine j_iload_n B dX13_shared_1 rfl ?_
  refine j_iload_n B dX13_shared_2 rfl ?_
  refine j_iload_n B dX13_shared_3 rfl ?_
  obtain ⟨i4, w4, e4, hF⟩ := bc hF
  refine j_rV (st2 := [.int i4]) B [.int x1, .int x2, .int x3] [] cv_X13_251 dX13_shared_4 hl hR (ct_X13_refusesShared G e4) rfl rfl rfl rfl trivial (Nat.le_of_ble_eq_true rfl) ?_
  refine j_istore (vs' := [some (va_rf a0), some (.int x1), some (.int x2), some (.int x3), some (.int i4)]) B dX13_shared_7 (by decide) rfl ?_
  refine j_iload B dX13_shared_9 rfl ?_
  refine j_if_eq (tgt := 23) B dX13_shared_11 (by decide) hF (fun h11 hF => ?_) (fun h11 hF => ?_)
  · refine j_aload_n B dX13_shared_23 rfl ?_
    refine j_getI B fl_X13_242 dX13_shared_24 hF (fun i24 hF => ?_)
    exact j_lIw B rfl dX13_shared_27 hF (by decide) (by decide)
  · refine j_aload_n B dX13_shared_14 rfl ?_
    refine j_iload B dX13_shared_15 rfl ?_
    obtain ⟨i17, w17, e17, hF⟩ := bc hF
    refine j_rV (st2 := [.int i17]) B [.int i4] [] cv_X13_92 dX13_shared_17 hl hR (ct_X13_finding G e17) rfl rfl rfl rfl trivial (Nat.le_of_ble_eq_true rfl) ?_
    refine j_goto (tgt := 27) B dX13_shared_20 (by decide) ?_
    exact j_lIw B rfl dX13_shared_27 hF (by decide) (by decide)
def F_X13_part (a0 : Option Nat) (x1 : Int32) (x2 : Int32) (x3 : Int32) (w : cH) : Option (Int32 × cH) :=
  if tg w a0 = some 13 then (cb (F_X13_refusesShared a0 x1 x2 x3 w) fun i4 w4 =>if i4 = 0 then ((fI w4 a0 13 10).bind fun i24 => some (i24, w4)) else (cb (F_X13_finding a0 i4 w4) fun i17 w17 => some (i17, w17))) else none
abbrev rm_X13_part : Room := { frames := 6, cells := 0, slots := 0, locals := 145 }
set_option maxHeartbeats 4000000 in
set_option maxRecDepth 100000 in
theorem ct_X13_part {l : Launch} {g : Gt} (G : Gok g) {a0 : Option Nat} {x1 : Int32} {x2 : Int32} {x3 : Int32} {w : cH} {r9 : Int32} {w9 : cH} (hF : F_X13_part a0 x1 x2 x3 w = some (r9, w9)) : tg w a0 = some 13 ∧ Mx l yX13_part (ws_ yX13_part cX13_part 5 (some .int)) rm_X13_part g [va_rf a0, .int x1, .int x2, .int x3] w (.returned (some (.int r9))) w9 0 0 := by
  unfold F_X13_part at hF
  obtain ⟨ht, hF⟩ := bg hF
  refine ⟨ht, mk_ct cX13_part 5 (some .int) "CarryFairModel" (plainFor_of_name (by decide)) rfl (lg_le ⟨cr _, rfl, rfl, rfl, trivial⟩ (Nat.le_of_ble_eq_true rfl)) (av_ok ⟨cr _, rfl, rfl, rfl, trivial⟩) G (fun x B hl hR hin hh => ?_)⟩
  show J g x _ _ 0 0 w 0 0 0 [some (va_rf a0), some (.int x1), some (.int x2), some (.int x3), none] []
  refine j_aload_n B dX13_part_0 rfl ?_
  refine j_iload_n B dX13_part_1 rfl ?_
  refine j_iload_n B dX13_part_2 rfl ?_
  refine j_iload_n B dX13_part_3 rfl ?_
  obtain ⟨i4, w4, e4, hF⟩ := bc hF
  refine j_rV (st2 := [.int i4]) B [.int x1, .int x2, .int x3] [] cv_X13_251 dX13_part_4 hl hR (ct_X13_refusesShared G e4) rfl rfl rfl rfl trivial (Nat.le_of_ble_eq_true rfl) ?_
  refine j_istore (vs' := [some (va_rf a0), some (.int x1), some (.int x2), some (.int x3), some (.int i4)]) B dX13_part_7 (by decide) rfl ?_
  refine j_iload B dX13_part_9 rfl ?_
  refine j_if_eq (tgt := 23) B dX13_part_11 (by decide) hF (fun h11 hF => ?_) (fun h11 hF => ?_)
  · refine j_aload_n B dX13_part_23 rfl ?_
    refine j_getI B fl_X13_245 dX13_part_24 hF (fun i24 hF => ?_)
    exact j_lIw B rfl dX13_part_27 hF (by decide) (by decide)
  · refine j_aload_n B dX13_part_14 rfl ?_
    refine j_iload B dX13_part_15 rfl ?_
    obtain ⟨i17, w17, e17, hF⟩ := bc hF
    refine j_rV (st2 := [.int i17]) B [.int i4] [] cv_X13_92 dX13_part_17 hl hR (ct_X13_finding G e17) rfl rfl rfl rfl trivial (Nat.le_of_ble_eq_true rfl) ?_
    refine j_goto (tgt := 27) B dX13_part_20 (by decide) ?_
    exact j_lIw B rfl dX13_part_27 hF (by decide) (by decide)
def F_X13_strength_J72 (a0 : Option Nat) (x1 : Int32) (x4 : Int32) (x5 : Int32) (x6 : Int32) (w : cH) : Option (Int32 × cH) :=
  (fA w a0 13 0).bind fun a73p => (aS w a73p 100 (F_X13_cAt x1 2) (.int x4)).bind fun w83 =>if x6 < 1000000 then (some (x5, w83)) else (cb (F_X13_finding a0 (-1000004) w83) fun i94 w94 => some (i94, w94))
def F_X13_strength_B32 (rc32 : Option Nat → Int32 → Int32 → Int32 → Int32 → Int32 → cH → Option (Int32 × cH)) (a0 : Option Nat) (x1 : Int32) (x2 : Int32) (x4 : Int32) (x5 : Int32) (x6 : Int32) (w : cH) : Option (Int32 × cH) :=
  if 99 ≤ x5 then (F_X13_strength_J72  a0 x1 x4 x5 x6 w) else (if x6 < 1000000 then (F_X13_strength_J72  a0 x1 x4 x5 x6 w) else ((fA w a0 13 0).bind fun a50p => (aS w a50p 100 (F_X13_cAt x1 2) (.int (x5 + 1))).bind fun w60 => cb (F_X13_roundOf a0 x1 x2 w60) fun i64 w64 => rc32 a0 x1 x2 x4 (x5 + 1) i64 w64))
def F_X13_strength_L32 : Nat → Option Nat → Int32 → Int32 → Int32 → Int32 → Int32 → cH → Option (Int32 × cH)
  | 0, _, _, _, _, _, _, _ => none
  | n9 + 1, a0, x1, x2, x4, x5, x6, w => F_X13_strength_B32  (F_X13_strength_L32  n9) a0 x1 x2 x4 x5 x6 w
def F_X13_strength (a0 : Option Nat) (x1 : Int32) (x2 : Int32) (w : cH) : Option (Int32 × cH) :=
  if tg w a0 = some 13 then ((F_X13_refuses a0 x1 x2 w).bind fun i3 =>if i3 = 0 then ((F_X13_cIs a0 x1 2 w).bind fun i20 => F_X13_strength_L32  fu a0 x1 x2 i20 0 1000000 w) else (cb (F_X13_finding a0 i3 w) fun i13 w13 => some (i13, w13))) else none
abbrev rm_X13_strength : Room := { frames := 5, cells := 0, slots := 0, locals := 120 }
set_option maxHeartbeats 4000000 in
set_option maxRecDepth 100000 in
theorem ct_X13_strength {l : Launch} {g : Gt} (G : Gok g) {a0 : Option Nat} {x1 : Int32} {x2 : Int32} {w : cH} {r9 : Int32} {w9 : cH} (hF : F_X13_strength a0 x1 x2 w = some (r9, w9)) : tg w a0 = some 13 ∧ Mx l yX13_strength (ws_ yX13_strength cX13_strength 7 (some .int)) rm_X13_strength g [va_rf a0, .int x1, .int x2] w (.returned (some (.int r9))) w9 0 0 := by
  unfold F_X13_strength at hF
  obtain ⟨ht, hF⟩ := bg hF
  refine ⟨ht, mk_ct cX13_strength 7 (some .int) "CarryFairModel" (plainFor_of_name (by decide)) rfl (lg_le ⟨cr _, rfl, rfl, trivial⟩ (Nat.le_of_ble_eq_true rfl)) (av_ok ⟨cr _, rfl, rfl, trivial⟩) G (fun x B hl hR hin hh => ?_)⟩
  show J g x _ _ 0 0 w 0 0 0 [some (va_rf a0), some (.int x1), some (.int x2), none, none, none, none] []
  have jb72 : ∀ (a0 : Option Nat) (x1 : Int32) (x4 : Int32) (x5 : Int32) (x6 : Int32) (w : cH), F_X13_strength_J72  a0 x1 x4 x5 x6 w = some (r9, w9) → J g x (.returned (some (.int r9))) w9 0 0 w 0 0 72 [some (va_rf a0), some (.int x1), none, none, some (.int x4), some (.int x5), some (.int x6)] [] := by
    intro a0 x1 x4 x5 x6 w hF
    unfold F_X13_strength_J72 at hF
    refine j_aload_n B dX13_strength_72 rfl ?_
    refine j_getA B fl_X13_9 dX13_strength_73 hF (fun a73p hF => ?_)
    refine j_iload_n B dX13_strength_76 rfl ?_
    refine j_iconst (v := 2) B dX13_strength_77 (by decide) ?_
    refine j_rS (st2 := [.int (F_X13_cAt x1 2), va_rf a73p]) B [.int x1, .int 2] [va_rf a73p] cs_X13_81 dX13_strength_78 hl hR (ct_X13_cAt G) rfl rfl rfl rfl ⟨cr _, trivial⟩ (Nat.le_of_ble_eq_true rfl) ?_
    refine j_iload B dX13_strength_81 rfl ?_
    refine j_iastore B dX13_strength_83 hF (fun w83 hF => ?_)
    refine j_iload B dX13_strength_84 rfl ?_
    refine j_ldc (v := 1000000) B q1546 dX13_strength_86 ?_
    refine j_icmp_lt (tgt := 100) B dX13_strength_88 (by decide) hF (fun h88 hF => ?_) (fun h88 hF => ?_)
    · refine j_iload B dX13_strength_100 rfl ?_
      exact j_lIw B rfl dX13_strength_102 hF (by decide) (by decide)
    · refine j_aload_n B dX13_strength_91 rfl ?_
      refine j_ldc (v := (-1000004)) B q1551 dX13_strength_92 ?_
      obtain ⟨i94, w94, e94, hF⟩ := bc hF
      refine j_rV (st2 := [.int i94]) B [.int (-1000004)] [] cv_X13_92 dX13_strength_94 hl hR (ct_X13_finding G e94) rfl rfl rfl rfl trivial (Nat.le_of_ble_eq_true rfl) ?_
      refine j_goto (tgt := 102) B dX13_strength_97 (by decide) ?_
      exact j_lIw B rfl dX13_strength_102 hF (by decide) (by decide)
  have lp32 : ∀ (n9 : Nat) (a0 : Option Nat) (x1 : Int32) (x2 : Int32) (x4 : Int32) (x5 : Int32) (x6 : Int32) (w : cH), F_X13_strength_L32  n9 a0 x1 x2 x4 x5 x6 w = some (r9, w9) → J g x (.returned (some (.int r9))) w9 0 0 w 0 0 32 [some (va_rf a0), some (.int x1), some (.int x2), none, some (.int x4), some (.int x5), some (.int x6)] [] := by
    intro n9
    induction n9 with
    | zero => intro a0 x1 x2 x4 x5 x6 w hF; cases hF
    | succ n32 ih32 =>
      intro a0 x1 x2 x4 x5 x6 w hF
      have hF : F_X13_strength_B32  (F_X13_strength_L32  n32) a0 x1 x2 x4 x5 x6 w = some (r9, w9) := hF
      unfold F_X13_strength_B32 at hF
      refine j_iload B dX13_strength_32 rfl ?_
      refine j_bipush (v := 99) B dX13_strength_34 (by decide) ?_
      refine j_icmp_ge (tgt := 72) B dX13_strength_36 (by decide) hF (fun h36 hF => ?_) (fun h36 hF => ?_)
      · refine j_msk [true, true, false, false, true, true, true] rfl ?_
        exact jb72 a0 x1 x4 x5 x6 w hF
      · refine j_iload B dX13_strength_39 rfl ?_
        refine j_ldc (v := 1000000) B q1546 dX13_strength_41 ?_
        refine j_icmp_lt (tgt := 72) B dX13_strength_43 (by decide) hF (fun h43 hF => ?_) (fun h43 hF => ?_)
        · refine j_msk [true, true, false, false, true, true, true] rfl ?_
          exact jb72 a0 x1 x4 x5 x6 w hF
        · refine j_iinc (v := x5 + 1) (vs' := [some (va_rf a0), some (.int x1), some (.int x2), none, some (.int x4), some (.int (x5 + 1)), some (.int x6)]) B dX13_strength_46 (by decide) rfl rfl rfl ?_
          refine j_aload_n B dX13_strength_49 rfl ?_
          refine j_getA B fl_X13_9 dX13_strength_50 hF (fun a50p hF => ?_)
          refine j_iload_n B dX13_strength_53 rfl ?_
          refine j_iconst (v := 2) B dX13_strength_54 (by decide) ?_
          refine j_rS (st2 := [.int (F_X13_cAt x1 2), va_rf a50p]) B [.int x1, .int 2] [va_rf a50p] cs_X13_81 dX13_strength_55 hl hR (ct_X13_cAt G) rfl rfl rfl rfl ⟨cr _, trivial⟩ (Nat.le_of_ble_eq_true rfl) ?_
          refine j_iload B dX13_strength_58 rfl ?_
          refine j_iastore B dX13_strength_60 hF (fun w60 hF => ?_)
          refine j_aload_n B dX13_strength_61 rfl ?_
          refine j_iload_n B dX13_strength_62 rfl ?_
          refine j_iload_n B dX13_strength_63 rfl ?_
          obtain ⟨i64, w64, e64, hF⟩ := bc hF
          refine j_rV (st2 := [.int i64]) B [.int x1, .int x2] [] cv_X13_233 dX13_strength_64 hl hR (ct_X13_roundOf G e64) rfl rfl rfl rfl trivial (Nat.le_of_ble_eq_true rfl) ?_
          refine j_istore (vs' := [some (va_rf a0), some (.int x1), some (.int x2), none, some (.int x4), some (.int (x5 + 1)), some (.int i64)]) B dX13_strength_67 (by decide) rfl ?_
          refine j_goto (tgt := 32) B dX13_strength_69 (by decide) ?_
          exact ih32 a0 x1 x2 x4 (x5 + 1) i64 w64 hF
  refine j_aload_n B dX13_strength_0 rfl ?_
  refine j_iload_n B dX13_strength_1 rfl ?_
  refine j_iload_n B dX13_strength_2 rfl ?_
  obtain ⟨i3, e3, hF⟩ := bo hF
  refine j_rV (st2 := [.int i3]) B [.int x1, .int x2] [] cv_X13_230 dX13_strength_3 hl hR (ct_X13_refuses G e3) rfl rfl rfl rfl trivial (Nat.le_of_ble_eq_true rfl) ?_
  refine j_istore_n (vs' := [some (va_rf a0), some (.int x1), some (.int x2), some (.int i3), none, none, none]) B dX13_strength_6 (by decide) rfl ?_
  refine j_iload_n B dX13_strength_7 rfl ?_
  refine j_if_eq (tgt := 17) B dX13_strength_8 (by decide) hF (fun h8 hF => ?_) (fun h8 hF => ?_)
  · refine j_aload_n B dX13_strength_17 rfl ?_
    refine j_iload_n B dX13_strength_18 rfl ?_
    refine j_iconst (v := 2) B dX13_strength_19 (by decide) ?_
    obtain ⟨i20, e20, hF⟩ := bo hF
    refine j_rV (st2 := [.int i20]) B [.int x1, .int 2] [] cv_X13_104 dX13_strength_20 hl hR (ct_X13_cIs G e20) rfl rfl rfl rfl trivial (Nat.le_of_ble_eq_true rfl) ?_
    refine j_istore (vs' := [some (va_rf a0), some (.int x1), some (.int x2), some (.int i3), some (.int i20), none, none]) B dX13_strength_23 (by decide) rfl ?_
    refine j_iconst (v := 0) B dX13_strength_25 (by decide) ?_
    refine j_istore (vs' := [some (va_rf a0), some (.int x1), some (.int x2), some (.int i3), some (.int i20), some (.int 0), none]) B dX13_strength_26 (by decide) rfl ?_
    refine j_ldc (v := 1000000) B q1546 dX13_strength_28 ?_
    refine j_istore (vs' := [some (va_rf a0), some (.int x1), some (.int x2), some (.int i3), some (.int i20), some (.int 0), some (.int 1000000)]) B dX13_strength_30 (by decide) rfl ?_
    refine j_msk [true, true, true, false, true, true, true] rfl ?_
    exact lp32 fu a0 x1 x2 i20 0 1000000 w hF
  · refine j_aload_n B dX13_strength_11 rfl ?_
    refine j_iload_n B dX13_strength_12 rfl ?_
    obtain ⟨i13, w13, e13, hF⟩ := bc hF
    refine j_rV (st2 := [.int i13]) B [.int i3] [] cv_X13_92 dX13_strength_13 hl hR (ct_X13_finding G e13) rfl rfl rfl rfl trivial (Nat.le_of_ble_eq_true rfl) ?_
    exact j_lIw B rfl dX13_strength_16 hF (by decide) (by decide)
def F_X13_kindFor_J76 (rc35 : (Option Nat) → Int32 → Int32 → Int32 → Int32 → Int32 → Int32 → cH → Option (Int32 × cH)) (a0 : Option Nat) (x1 : Int32) (x2 : Int32) (x4 : Int32) (x6 : Int32) (x7 : Int32) (x8 : Int32) (s0 : Int32) (w : cH) : Option (Int32 × cH) :=
  rc35 a0 x1 x2 x4 s0 (F_J3_min x6 x8) (x7 + 1) w
def F_X13_kindFor_B35 (rc35 : Option Nat → Int32 → Int32 → Int32 → Int32 → Int32 → Int32 → cH → Option (Int32 × cH)) (a0 : Option Nat) (x1 : Int32) (x2 : Int32) (x4 : Int32) (x5 : Int32) (x6 : Int32) (x7 : Int32) (w : cH) : Option (Int32 × cH) :=
  if 6 < x7 then ((fA w a0 13 0).bind fun a94p => (aS w a94p 100 (F_X13_cAt x1 0) (.int x4)).bind fun w104 =>if 0 ≤ x5 then (some (x5, w104)) else (cb (F_X13_finding a0 (-1000004) w104) fun i113 w113 => some (i113, w113))) else ((fA w a0 13 0).bind fun a43p => (aS w a43p 100 (F_X13_cAt x1 0) (.int x7)).bind fun w53 => cb (F_X13_roundOf a0 x1 x2 w53) fun i57 w57 =>if x6 ≤ i57 then (F_X13_kindFor_J76  rc35 a0 x1 x2 x4 x6 x7 i57 x5 w57) else (F_X13_kindFor_J76  rc35 a0 x1 x2 x4 x6 x7 i57 x7 w57))
def F_X13_kindFor_L35 : Nat → Option Nat → Int32 → Int32 → Int32 → Int32 → Int32 → Int32 → cH → Option (Int32 × cH)
  | 0, _, _, _, _, _, _, _, _ => none
  | n9 + 1, a0, x1, x2, x4, x5, x6, x7, w => F_X13_kindFor_B35  (F_X13_kindFor_L35  n9) a0 x1 x2 x4 x5 x6 x7 w
def F_X13_kindFor (a0 : Option Nat) (x1 : Int32) (x2 : Int32) (w : cH) : Option (Int32 × cH) :=
  if tg w a0 = some 13 then ((F_X13_refuses a0 x1 x2 w).bind fun i3 =>if i3 = 0 then ((F_X13_cIs a0 x1 0 w).bind fun i20 => F_X13_kindFor_L35  fu a0 x1 x2 i20 (-1) 1000000 0 w) else (cb (F_X13_finding a0 i3 w) fun i13 w13 => some (i13, w13))) else none
abbrev rm_X13_kindFor : Room := { frames := 5, cells := 0, slots := 0, locals := 120 }
set_option maxHeartbeats 4000000 in
set_option maxRecDepth 100000 in
theorem ct_X13_kindFor {l : Launch} {g : Gt} (G : Gok g) {a0 : Option Nat} {x1 : Int32} {x2 : Int32} {w : cH} {r9 : Int32} {w9 : cH} (hF : F_X13_kindFor a0 x1 x2 w = some (r9, w9)) : tg w a0 = some 13 ∧ Mx l yX13_kindFor (ws_ yX13_kindFor cX13_kindFor 9 (some .int)) rm_X13_kindFor g [va_rf a0, .int x1, .int x2] w (.returned (some (.int r9))) w9 0 0 := by
  unfold F_X13_kindFor at hF
  obtain ⟨ht, hF⟩ := bg hF
  refine ⟨ht, mk_ct cX13_kindFor 9 (some .int) "CarryFairModel" (plainFor_of_name (by decide)) rfl (lg_le ⟨cr _, rfl, rfl, trivial⟩ (Nat.le_of_ble_eq_true rfl)) (av_ok ⟨cr _, rfl, rfl, trivial⟩) G (fun x B hl hR hin hh => ?_)⟩
  show J g x _ _ 0 0 w 0 0 0 [some (va_rf a0), some (.int x1), some (.int x2), none, none, none, none, none, none] []
  have lp35 : ∀ (n9 : Nat) (a0 : Option Nat) (x1 : Int32) (x2 : Int32) (x4 : Int32) (x5 : Int32) (x6 : Int32) (x7 : Int32) (w : cH), F_X13_kindFor_L35  n9 a0 x1 x2 x4 x5 x6 x7 w = some (r9, w9) → J g x (.returned (some (.int r9))) w9 0 0 w 0 0 35 [some (va_rf a0), some (.int x1), some (.int x2), none, some (.int x4), some (.int x5), some (.int x6), some (.int x7), none] [] := by
    intro n9
    induction n9 with
    | zero => intro a0 x1 x2 x4 x5 x6 x7 w hF; cases hF
    | succ n35 ih35 =>
      intro a0 x1 x2 x4 x5 x6 x7 w hF
      have hF : F_X13_kindFor_B35  (F_X13_kindFor_L35  n35) a0 x1 x2 x4 x5 x6 x7 w = some (r9, w9) := hF
      unfold F_X13_kindFor_B35 at hF
      have jb76 : ∀ (a0 : Option Nat) (x1 : Int32) (x2 : Int32) (x4 : Int32) (x6 : Int32) (x7 : Int32) (x8 : Int32) (s0 : Int32) (w : cH), F_X13_kindFor_J76  (F_X13_kindFor_L35  n35) a0 x1 x2 x4 x6 x7 x8 s0 w = some (r9, w9) → J g x (.returned (some (.int r9))) w9 0 0 w 0 0 76 [some (va_rf a0), some (.int x1), some (.int x2), none, some (.int x4), none, some (.int x6), some (.int x7), some (.int x8)] [.int s0] := by
        intro a0 x1 x2 x4 x6 x7 x8 s0 w hF
        unfold F_X13_kindFor_J76 at hF
        refine j_istore (vs' := [some (va_rf a0), some (.int x1), some (.int x2), none, some (.int x4), some (.int s0), some (.int x6), some (.int x7), some (.int x8)]) B dX13_kindFor_76 (by decide) rfl ?_
        refine j_iload B dX13_kindFor_78 rfl ?_
        refine j_iload B dX13_kindFor_80 rfl ?_
        refine j_rS (st2 := [.int (F_J3_min x6 x8)]) B [.int x6, .int x8] [] cs_X13_136 dX13_kindFor_82 hl hR (ct_J3_min G) rfl rfl rfl rfl trivial (Nat.le_of_ble_eq_true rfl) ?_
        refine j_istore (vs' := [some (va_rf a0), some (.int x1), some (.int x2), none, some (.int x4), some (.int s0), some (.int (F_J3_min x6 x8)), some (.int x7), some (.int x8)]) B dX13_kindFor_85 (by decide) rfl ?_
        refine j_iinc (v := x7 + 1) (vs' := [some (va_rf a0), some (.int x1), some (.int x2), none, some (.int x4), some (.int s0), some (.int (F_J3_min x6 x8)), some (.int (x7 + 1)), some (.int x8)]) B dX13_kindFor_87 (by decide) rfl rfl rfl ?_
        refine j_goto (tgt := 35) B dX13_kindFor_90 (by decide) ?_
        refine j_msk [true, true, true, false, true, true, true, true, false] rfl ?_
        exact ih35 a0 x1 x2 x4 s0 (F_J3_min x6 x8) (x7 + 1) w hF
      refine j_iload B dX13_kindFor_35 rfl ?_
      refine j_bipush (v := 6) B dX13_kindFor_37 (by decide) ?_
      refine j_icmp_gt (tgt := 93) B dX13_kindFor_39 (by decide) hF (fun h39 hF => ?_) (fun h39 hF => ?_)
      · refine j_aload_n B dX13_kindFor_93 rfl ?_
        refine j_getA B fl_X13_9 dX13_kindFor_94 hF (fun a94p hF => ?_)
        refine j_iload_n B dX13_kindFor_97 rfl ?_
        refine j_iconst (v := 0) B dX13_kindFor_98 (by decide) ?_
        refine j_rS (st2 := [.int (F_X13_cAt x1 0), va_rf a94p]) B [.int x1, .int 0] [va_rf a94p] cs_X13_81 dX13_kindFor_99 hl hR (ct_X13_cAt G) rfl rfl rfl rfl ⟨cr _, trivial⟩ (Nat.le_of_ble_eq_true rfl) ?_
        refine j_iload B dX13_kindFor_102 rfl ?_
        refine j_iastore B dX13_kindFor_104 hF (fun w104 hF => ?_)
        refine j_iload B dX13_kindFor_105 rfl ?_
        refine j_if_ge (tgt := 119) B dX13_kindFor_107 (by decide) hF (fun h107 hF => ?_) (fun h107 hF => ?_)
        · refine j_iload B dX13_kindFor_119 rfl ?_
          exact j_lIw B rfl dX13_kindFor_121 hF (by decide) (by decide)
        · refine j_aload_n B dX13_kindFor_110 rfl ?_
          refine j_ldc (v := (-1000004)) B q1551 dX13_kindFor_111 ?_
          obtain ⟨i113, w113, e113, hF⟩ := bc hF
          refine j_rV (st2 := [.int i113]) B [.int (-1000004)] [] cv_X13_92 dX13_kindFor_113 hl hR (ct_X13_finding G e113) rfl rfl rfl rfl trivial (Nat.le_of_ble_eq_true rfl) ?_
          refine j_goto (tgt := 121) B dX13_kindFor_116 (by decide) ?_
          exact j_lIw B rfl dX13_kindFor_121 hF (by decide) (by decide)
      · refine j_aload_n B dX13_kindFor_42 rfl ?_
        refine j_getA B fl_X13_9 dX13_kindFor_43 hF (fun a43p hF => ?_)
        refine j_iload_n B dX13_kindFor_46 rfl ?_
        refine j_iconst (v := 0) B dX13_kindFor_47 (by decide) ?_
        refine j_rS (st2 := [.int (F_X13_cAt x1 0), va_rf a43p]) B [.int x1, .int 0] [va_rf a43p] cs_X13_81 dX13_kindFor_48 hl hR (ct_X13_cAt G) rfl rfl rfl rfl ⟨cr _, trivial⟩ (Nat.le_of_ble_eq_true rfl) ?_
        refine j_iload B dX13_kindFor_51 rfl ?_
        refine j_iastore B dX13_kindFor_53 hF (fun w53 hF => ?_)
        refine j_aload_n B dX13_kindFor_54 rfl ?_
        refine j_iload_n B dX13_kindFor_55 rfl ?_
        refine j_iload_n B dX13_kindFor_56 rfl ?_
        obtain ⟨i57, w57, e57, hF⟩ := bc hF
        refine j_rV (st2 := [.int i57]) B [.int x1, .int x2] [] cv_X13_233 dX13_kindFor_57 hl hR (ct_X13_roundOf G e57) rfl rfl rfl rfl trivial (Nat.le_of_ble_eq_true rfl) ?_
        refine j_istore (vs' := [some (va_rf a0), some (.int x1), some (.int x2), none, some (.int x4), some (.int x5), some (.int x6), some (.int x7), some (.int i57)]) B dX13_kindFor_60 (by decide) rfl ?_
        refine j_iload B dX13_kindFor_62 rfl ?_
        refine j_iload B dX13_kindFor_64 rfl ?_
        refine j_icmp_ge (tgt := 74) B dX13_kindFor_66 (by decide) hF (fun h66 hF => ?_) (fun h66 hF => ?_)
        · refine j_iload B dX13_kindFor_74 rfl ?_
          refine j_msk [true, true, true, false, true, false, true, true, true] rfl ?_
          exact jb76 a0 x1 x2 x4 x6 x7 i57 x5 w57 hF
        · refine j_iload B dX13_kindFor_69 rfl ?_
          refine j_goto (tgt := 76) B dX13_kindFor_71 (by decide) ?_
          refine j_msk [true, true, true, false, true, false, true, true, true] rfl ?_
          exact jb76 a0 x1 x2 x4 x6 x7 i57 x7 w57 hF
  refine j_aload_n B dX13_kindFor_0 rfl ?_
  refine j_iload_n B dX13_kindFor_1 rfl ?_
  refine j_iload_n B dX13_kindFor_2 rfl ?_
  obtain ⟨i3, e3, hF⟩ := bo hF
  refine j_rV (st2 := [.int i3]) B [.int x1, .int x2] [] cv_X13_230 dX13_kindFor_3 hl hR (ct_X13_refuses G e3) rfl rfl rfl rfl trivial (Nat.le_of_ble_eq_true rfl) ?_
  refine j_istore_n (vs' := [some (va_rf a0), some (.int x1), some (.int x2), some (.int i3), none, none, none, none, none]) B dX13_kindFor_6 (by decide) rfl ?_
  refine j_iload_n B dX13_kindFor_7 rfl ?_
  refine j_if_eq (tgt := 17) B dX13_kindFor_8 (by decide) hF (fun h8 hF => ?_) (fun h8 hF => ?_)
  · refine j_aload_n B dX13_kindFor_17 rfl ?_
    refine j_iload_n B dX13_kindFor_18 rfl ?_
    refine j_iconst (v := 0) B dX13_kindFor_19 (by decide) ?_
    obtain ⟨i20, e20, hF⟩ := bo hF
    refine j_rV (st2 := [.int i20]) B [.int x1, .int 0] [] cv_X13_104 dX13_kindFor_20 hl hR (ct_X13_cIs G e20) rfl rfl rfl rfl trivial (Nat.le_of_ble_eq_true rfl) ?_
    refine j_istore (vs' := [some (va_rf a0), some (.int x1), some (.int x2), some (.int i3), some (.int i20), none, none, none, none]) B dX13_kindFor_23 (by decide) rfl ?_
    refine j_iconst (v := (-1)) B dX13_kindFor_25 (by decide) ?_
    refine j_istore (vs' := [some (va_rf a0), some (.int x1), some (.int x2), some (.int i3), some (.int i20), some (.int (-1)), none, none, none]) B dX13_kindFor_26 (by decide) rfl ?_
    refine j_ldc (v := 1000000) B q1546 dX13_kindFor_28 ?_
    refine j_istore (vs' := [some (va_rf a0), some (.int x1), some (.int x2), some (.int i3), some (.int i20), some (.int (-1)), some (.int 1000000), none, none]) B dX13_kindFor_30 (by decide) rfl ?_
    refine j_iconst (v := 0) B dX13_kindFor_32 (by decide) ?_
    refine j_istore (vs' := [some (va_rf a0), some (.int x1), some (.int x2), some (.int i3), some (.int i20), some (.int (-1)), some (.int 1000000), some (.int 0), none]) B dX13_kindFor_33 (by decide) rfl ?_
    refine j_msk [true, true, true, false, true, true, true, true, false] rfl ?_
    exact lp35 fu a0 x1 x2 i20 (-1) 1000000 0 w hF
  · refine j_aload_n B dX13_kindFor_11 rfl ?_
    refine j_iload_n B dX13_kindFor_12 rfl ?_
    obtain ⟨i13, w13, e13, hF⟩ := bc hF
    refine j_rV (st2 := [.int i13]) B [.int i3] [] cv_X13_92 dX13_kindFor_13 hl hR (ct_X13_finding G e13) rfl rfl rfl rfl trivial (Nat.le_of_ble_eq_true rfl) ?_
    exact j_lIw B rfl dX13_kindFor_16 hF (by decide) (by decide)
theorem fl_X13_254 : FL "CarryFairModel" 254 13 12 := ⟨RX13, TX13, 30, rfl, by decide, in_X13, Or.inl q1347⟩
theorem fp_X13_254 : FP "CarryFairModel" 254 13 12 .int false := ⟨RX13, TX13, 30, rfl, by decide, in_X13, Or.inl q1347, rfl, (fun h => by cases h), by decide +kernel, ap_X13, tyX13, tyX13_ok⟩
def F_X13_refusesBridge_J154 (rc22 : (Option Nat) → Int32 → Int32 → Int32 → cH → Option (Int32 × cH)) (rc35 : (Option Nat) → Int32 → Int32 → Int32 → Int32 → cH → Option (Int32 × cH)) (a0 : Option Nat) (x1 : Int32) (x2 : Int32) (x4 : Int32) (x5 : Int32) (w : cH) : Option (Int32 × cH) :=
  rc35 a0 x1 x2 x4 (x5 + 1) w
def F_X13_refusesBridge_J138 (rc22 : (Option Nat) → Int32 → Int32 → Int32 → cH → Option (Int32 × cH)) (rc35 : (Option Nat) → Int32 → Int32 → Int32 → Int32 → cH → Option (Int32 × cH)) (a0 : Option Nat) (x1 : Int32) (x2 : Int32) (x4 : Int32) (x5 : Int32) (x6 : Int32) (s0 : Int32) (s1 : Option Nat) (w : cH) : Option (Int32 × cH) :=
  (pV w s1 13 12 (.int s0)).bind fun w138 => (fI w138 a0 13 11).bind fun i143 => (pV w138 a0 13 11 (.int (F_J3_min i143 x6))).bind fun w151 => F_X13_refusesBridge_J154  rc22 rc35 a0 x1 x2 x4 x5 w151
def F_X13_refusesBridge_B35 (rc22 : (Option Nat) → Int32 → Int32 → Int32 → cH → Option (Int32 × cH)) (rc35 : Option Nat → Int32 → Int32 → Int32 → Int32 → cH → Option (Int32 × cH)) (a0 : Option Nat) (x1 : Int32) (x2 : Int32) (x4 : Int32) (x5 : Int32) (w : cH) : Option (Int32 × cH) :=
  if 7 ≤ x5 then (rc22 a0 x1 x2 (x4 + 1) w) else ((fA w a0 13 0).bind fun a43p => (aI w a43p 100 (F_X13_wayAt x4 x5)).bind fun i53 =>if i53 ≤ 0 then (F_X13_refusesBridge_J154  rc22 rc35 a0 x1 x2 x4 x5 w) else ((fA w a0 13 0).bind fun a58p => (aI w a58p 100 ((F_X13_wayAt x4 x5) + 1)).bind fun i70 =>if ¬ i70 = 1 then (F_X13_refusesBridge_J154  rc22 rc35 a0 x1 x2 x4 x5 w) else ((fA w a0 13 0).bind fun a76p => (aS w a76p 100 ((F_X13_wayAt x4 x5) + 1) (.int 0)).bind fun w89 => cb (F_X13_roundOf a0 x1 x2 w89) fun i93 w93 => (fA w93 a0 13 0).bind fun a99p => (aS w93 a99p 100 ((F_X13_wayAt x4 x5) + 1) (.int 1)).bind fun w112 => (fI w112 a0 13 11).bind fun i117 =>if i117 ≤ i93 then ((fI w112 a0 13 12).bind fun i135 => F_X13_refusesBridge_J138  rc22 rc35 a0 x1 x2 x4 x5 i93 i135 a0 w112) else (F_X13_refusesBridge_J138  rc22 rc35 a0 x1 x2 x4 x5 i93 ((10 * x4) + x5) a0 w112))))
def F_X13_refusesBridge_L35 (rc22 : (Option Nat) → Int32 → Int32 → Int32 → cH → Option (Int32 × cH)) : Nat → Option Nat → Int32 → Int32 → Int32 → Int32 → cH → Option (Int32 × cH)
  | 0, _, _, _, _, _, _ => none
  | n9 + 1, a0, x1, x2, x4, x5, w => F_X13_refusesBridge_B35  rc22 (F_X13_refusesBridge_L35  rc22 n9) a0 x1 x2 x4 x5 w
def F_X13_refusesBridge_B22 (rc22 : Option Nat → Int32 → Int32 → Int32 → cH → Option (Int32 × cH)) (a0 : Option Nat) (x1 : Int32) (x2 : Int32) (x4 : Int32) (w : cH) : Option (Int32 × cH) :=
  if 7 ≤ x4 then ((fI w a0 13 11).bind fun i167 =>if i167 < 1000000 then (some (0, w)) else (some ((-1000004), w))) else (F_X13_refusesBridge_L35  rc22 fu a0 x1 x2 x4 (x4 + 1) w)
def F_X13_refusesBridge_L22 : Nat → Option Nat → Int32 → Int32 → Int32 → cH → Option (Int32 × cH)
  | 0, _, _, _, _, _ => none
  | n9 + 1, a0, x1, x2, x4, w => F_X13_refusesBridge_B22  (F_X13_refusesBridge_L22  n9) a0 x1 x2 x4 w
def F_X13_refusesBridge (a0 : Option Nat) (x1 : Int32) (x2 : Int32) (w : cH) : Option (Int32 × cH) :=
  if tg w a0 = some 13 then ((F_X13_refuses a0 x1 x2 w).bind fun i3 =>if i3 = 0 then ((pV w a0 13 11 (.int 1000000)).bind fun w16 => F_X13_refusesBridge_L22  fu a0 x1 x2 0 w16) else (some (i3, w))) else none
abbrev rm_X13_refusesBridge : Room := { frames := 5, cells := 0, slots := 0, locals := 120 }
set_option maxHeartbeats 4000000 in
set_option maxRecDepth 100000 in
theorem ct_X13_refusesBridge {l : Launch} {g : Gt} (G : Gok g) {a0 : Option Nat} {x1 : Int32} {x2 : Int32} {w : cH} {r9 : Int32} {w9 : cH} (hF : F_X13_refusesBridge a0 x1 x2 w = some (r9, w9)) : tg w a0 = some 13 ∧ Mx l yX13_refusesBridge (ws_ yX13_refusesBridge cX13_refusesBridge 7 (some .int)) rm_X13_refusesBridge g [va_rf a0, .int x1, .int x2] w (.returned (some (.int r9))) w9 0 0 := by
  unfold F_X13_refusesBridge at hF
  obtain ⟨ht, hF⟩ := bg hF
  refine ⟨ht, mk_ct cX13_refusesBridge 7 (some .int) "CarryFairModel" (plainFor_of_name (by decide)) rfl (lg_le ⟨cr _, rfl, rfl, trivial⟩ (Nat.le_of_ble_eq_true rfl)) (av_ok ⟨cr _, rfl, rfl, trivial⟩) G (fun x B hl hR hin hh => ?_)⟩
  show J g x _ _ 0 0 w 0 0 0 [some (va_rf a0), some (.int x1), some (.int x2), none, none, none, none] []
  have lp22 : ∀ (n9 : Nat) (a0 : Option Nat) (x1 : Int32) (x2 : Int32) (x4 : Int32) (w : cH), F_X13_refusesBridge_L22  n9 a0 x1 x2 x4 w = some (r9, w9) → J g x (.returned (some (.int r9))) w9 0 0 w 0 0 22 [some (va_rf a0), some (.int x1), some (.int x2), none, some (.int x4), none, none] [] := by
    intro n9
    induction n9 with
    | zero => intro a0 x1 x2 x4 w hF; cases hF
    | succ n22 ih22 =>
      intro a0 x1 x2 x4 w hF
      have hF : F_X13_refusesBridge_B22  (F_X13_refusesBridge_L22  n22) a0 x1 x2 x4 w = some (r9, w9) := hF
      unfold F_X13_refusesBridge_B22 at hF
      have lp35 : ∀ (n9 : Nat) (a0 : Option Nat) (x1 : Int32) (x2 : Int32) (x4 : Int32) (x5 : Int32) (w : cH), F_X13_refusesBridge_L35  (F_X13_refusesBridge_L22  n22) n9 a0 x1 x2 x4 x5 w = some (r9, w9) → J g x (.returned (some (.int r9))) w9 0 0 w 0 0 35 [some (va_rf a0), some (.int x1), some (.int x2), none, some (.int x4), some (.int x5), none] [] := by
        intro n9
        induction n9 with
        | zero => intro a0 x1 x2 x4 x5 w hF; cases hF
        | succ n35 ih35 =>
          intro a0 x1 x2 x4 x5 w hF
          have hF : F_X13_refusesBridge_B35  (F_X13_refusesBridge_L22  n22) (F_X13_refusesBridge_L35  (F_X13_refusesBridge_L22  n22) n35) a0 x1 x2 x4 x5 w = some (r9, w9) := hF
          unfold F_X13_refusesBridge_B35 at hF
          have jb154 : ∀ (a0 : Option Nat) (x1 : Int32) (x2 : Int32) (x4 : Int32) (x5 : Int32) (w : cH), F_X13_refusesBridge_J154  (F_X13_refusesBridge_L22  n22) (F_X13_refusesBridge_L35  (F_X13_refusesBridge_L22  n22) n35) a0 x1 x2 x4 x5 w = some (r9, w9) → J g x (.returned (some (.int r9))) w9 0 0 w 0 0 154 [some (va_rf a0), some (.int x1), some (.int x2), none, some (.int x4), some (.int x5), none] [] := by
            intro a0 x1 x2 x4 x5 w hF
            unfold F_X13_refusesBridge_J154 at hF
            refine j_iinc (v := x5 + 1) (vs' := [some (va_rf a0), some (.int x1), some (.int x2), none, some (.int x4), some (.int (x5 + 1)), none]) B dX13_refusesBridge_154 (by decide) rfl rfl rfl ?_
            refine j_goto (tgt := 35) B dX13_refusesBridge_157 (by decide) ?_
            exact ih35 a0 x1 x2 x4 (x5 + 1) w hF
          have jb138 : ∀ (a0 : Option Nat) (x1 : Int32) (x2 : Int32) (x4 : Int32) (x5 : Int32) (x6 : Int32) (s0 : Int32) (s1 : Option Nat) (w : cH), F_X13_refusesBridge_J138  (F_X13_refusesBridge_L22  n22) (F_X13_refusesBridge_L35  (F_X13_refusesBridge_L22  n22) n35) a0 x1 x2 x4 x5 x6 s0 s1 w = some (r9, w9) → J g x (.returned (some (.int r9))) w9 0 0 w 0 0 138 [some (va_rf a0), some (.int x1), some (.int x2), none, some (.int x4), some (.int x5), some (.int x6)] [.int s0, va_rf s1] := by
            intro a0 x1 x2 x4 x5 x6 s0 s1 w hF
            unfold F_X13_refusesBridge_J138 at hF
            refine j_putV B fp_X13_254 (fun h => by cases h) rfl rfl dX13_refusesBridge_138 hF (fun w138 hF => ?_)
            refine j_aload_n B dX13_refusesBridge_141 rfl ?_
            refine j_aload_n B dX13_refusesBridge_142 rfl ?_
            refine j_getI B fl_X13_242 dX13_refusesBridge_143 hF (fun i143 hF => ?_)
            refine j_iload B dX13_refusesBridge_146 rfl ?_
            refine j_rS (st2 := [.int (F_J3_min i143 x6), va_rf a0]) B [.int i143, .int x6] [va_rf a0] cs_X13_136 dX13_refusesBridge_148 hl hR (ct_J3_min G) rfl rfl rfl rfl ⟨cr _, trivial⟩ (Nat.le_of_ble_eq_true rfl) ?_
            refine j_putV B fp_X13_242 (fun h => by cases h) rfl rfl dX13_refusesBridge_151 hF (fun w151 hF => ?_)
            refine j_msk [true, true, true, false, true, true, false] rfl ?_
            exact jb154 a0 x1 x2 x4 x5 w151 hF
          refine j_iload B dX13_refusesBridge_35 rfl ?_
          refine j_bipush (v := 7) B dX13_refusesBridge_37 (by decide) ?_
          refine j_icmp_ge (tgt := 160) B dX13_refusesBridge_39 (by decide) hF (fun h39 hF => ?_) (fun h39 hF => ?_)
          · refine j_iinc (v := x4 + 1) (vs' := [some (va_rf a0), some (.int x1), some (.int x2), none, some (.int (x4 + 1)), some (.int x5), none]) B dX13_refusesBridge_160 (by decide) rfl rfl rfl ?_
            refine j_goto (tgt := 22) B dX13_refusesBridge_163 (by decide) ?_
            refine j_msk [true, true, true, false, true, false, false] rfl ?_
            exact ih22 a0 x1 x2 (x4 + 1) w hF
          · refine j_aload_n B dX13_refusesBridge_42 rfl ?_
            refine j_getA B fl_X13_9 dX13_refusesBridge_43 hF (fun a43p hF => ?_)
            refine j_iload B dX13_refusesBridge_46 rfl ?_
            refine j_iload B dX13_refusesBridge_48 rfl ?_
            refine j_rS (st2 := [.int (F_X13_wayAt x4 x5), va_rf a43p]) B [.int x4, .int x5] [va_rf a43p] cs_X13_144 dX13_refusesBridge_50 hl hR (ct_X13_wayAt G) rfl rfl rfl rfl ⟨cr _, trivial⟩ (Nat.le_of_ble_eq_true rfl) ?_
            refine j_iaload B dX13_refusesBridge_53 hF (fun i53 hF => ?_)
            refine j_if_le (tgt := 154) B dX13_refusesBridge_54 (by decide) hF (fun h54 hF => ?_) (fun h54 hF => ?_)
            · exact jb154 a0 x1 x2 x4 x5 w hF
            · refine j_aload_n B dX13_refusesBridge_57 rfl ?_
              refine j_getA B fl_X13_9 dX13_refusesBridge_58 hF (fun a58p hF => ?_)
              refine j_iload B dX13_refusesBridge_61 rfl ?_
              refine j_iload B dX13_refusesBridge_63 rfl ?_
              refine j_rS (st2 := [.int (F_X13_wayAt x4 x5), va_rf a58p]) B [.int x4, .int x5] [va_rf a58p] cs_X13_144 dX13_refusesBridge_65 hl hR (ct_X13_wayAt G) rfl rfl rfl rfl ⟨cr _, trivial⟩ (Nat.le_of_ble_eq_true rfl) ?_
              refine j_iconst (v := 1) B dX13_refusesBridge_68 (by decide) ?_
              refine j_iadd B dX13_refusesBridge_69 ?_
              refine j_iaload B dX13_refusesBridge_70 hF (fun i70 hF => ?_)
              refine j_iconst (v := 1) B dX13_refusesBridge_71 (by decide) ?_
              refine j_icmp_ne (tgt := 154) B dX13_refusesBridge_72 (by decide) hF (fun h72 hF => ?_) (fun h72 hF => ?_)
              · exact jb154 a0 x1 x2 x4 x5 w hF
              · refine j_aload_n B dX13_refusesBridge_75 rfl ?_
                refine j_getA B fl_X13_9 dX13_refusesBridge_76 hF (fun a76p hF => ?_)
                refine j_iload B dX13_refusesBridge_79 rfl ?_
                refine j_iload B dX13_refusesBridge_81 rfl ?_
                refine j_rS (st2 := [.int (F_X13_wayAt x4 x5), va_rf a76p]) B [.int x4, .int x5] [va_rf a76p] cs_X13_144 dX13_refusesBridge_83 hl hR (ct_X13_wayAt G) rfl rfl rfl rfl ⟨cr _, trivial⟩ (Nat.le_of_ble_eq_true rfl) ?_
                refine j_iconst (v := 1) B dX13_refusesBridge_86 (by decide) ?_
                refine j_iadd B dX13_refusesBridge_87 ?_
                refine j_iconst (v := 0) B dX13_refusesBridge_88 (by decide) ?_
                refine j_iastore B dX13_refusesBridge_89 hF (fun w89 hF => ?_)
                refine j_aload_n B dX13_refusesBridge_90 rfl ?_
                refine j_iload_n B dX13_refusesBridge_91 rfl ?_
                refine j_iload_n B dX13_refusesBridge_92 rfl ?_
                obtain ⟨i93, w93, e93, hF⟩ := bc hF
                refine j_rV (st2 := [.int i93]) B [.int x1, .int x2] [] cv_X13_233 dX13_refusesBridge_93 hl hR (ct_X13_roundOf G e93) rfl rfl rfl rfl trivial (Nat.le_of_ble_eq_true rfl) ?_
                refine j_istore (vs' := [some (va_rf a0), some (.int x1), some (.int x2), none, some (.int x4), some (.int x5), some (.int i93)]) B dX13_refusesBridge_96 (by decide) rfl ?_
                refine j_aload_n B dX13_refusesBridge_98 rfl ?_
                refine j_getA B fl_X13_9 dX13_refusesBridge_99 hF (fun a99p hF => ?_)
                refine j_iload B dX13_refusesBridge_102 rfl ?_
                refine j_iload B dX13_refusesBridge_104 rfl ?_
                refine j_rS (st2 := [.int (F_X13_wayAt x4 x5), va_rf a99p]) B [.int x4, .int x5] [va_rf a99p] cs_X13_144 dX13_refusesBridge_106 hl hR (ct_X13_wayAt G) rfl rfl rfl rfl ⟨cr _, trivial⟩ (Nat.le_of_ble_eq_true rfl) ?_
                refine j_iconst (v := 1) B dX13_refusesBridge_109 (by decide) ?_
                refine j_iadd B dX13_refusesBridge_110 ?_
                refine j_iconst (v := 1) B dX13_refusesBridge_111 (by decide) ?_
                refine j_iastore B dX13_refusesBridge_112 hF (fun w112 hF => ?_)
                refine j_aload_n B dX13_refusesBridge_113 rfl ?_
                refine j_iload B dX13_refusesBridge_114 rfl ?_
                refine j_aload_n B dX13_refusesBridge_116 rfl ?_
                refine j_getI B fl_X13_242 dX13_refusesBridge_117 hF (fun i117 hF => ?_)
                refine j_icmp_ge (tgt := 134) B dX13_refusesBridge_120 (by decide) hF (fun h120 hF => ?_) (fun h120 hF => ?_)
                · refine j_aload_n B dX13_refusesBridge_134 rfl ?_
                  refine j_getI B fl_X13_254 dX13_refusesBridge_135 hF (fun i135 hF => ?_)
                  exact jb138 a0 x1 x2 x4 x5 i93 i135 a0 w112 hF
                · refine j_bipush (v := 10) B dX13_refusesBridge_123 (by decide) ?_
                  refine j_iload B dX13_refusesBridge_125 rfl ?_
                  refine j_imul B dX13_refusesBridge_127 ?_
                  refine j_iload B dX13_refusesBridge_128 rfl ?_
                  refine j_iadd B dX13_refusesBridge_130 ?_
                  refine j_goto (tgt := 138) B dX13_refusesBridge_131 (by decide) ?_
                  exact jb138 a0 x1 x2 x4 x5 i93 ((10 * x4) + x5) a0 w112 hF
      refine j_iload B dX13_refusesBridge_22 rfl ?_
      refine j_bipush (v := 7) B dX13_refusesBridge_24 (by decide) ?_
      refine j_icmp_ge (tgt := 166) B dX13_refusesBridge_26 (by decide) hF (fun h26 hF => ?_) (fun h26 hF => ?_)
      · refine j_aload_n B dX13_refusesBridge_166 rfl ?_
        refine j_getI B fl_X13_242 dX13_refusesBridge_167 hF (fun i167 hF => ?_)
        refine j_ldc (v := 1000000) B q1546 dX13_refusesBridge_170 ?_
        refine j_icmp_lt (tgt := 180) B dX13_refusesBridge_172 (by decide) hF (fun h172 hF => ?_) (fun h172 hF => ?_)
        · refine j_iconst (v := 0) B dX13_refusesBridge_180 (by decide) ?_
          exact j_lIw B rfl dX13_refusesBridge_181 hF (by decide) (by decide)
        · refine j_ldc (v := (-1000004)) B q1551 dX13_refusesBridge_175 ?_
          refine j_goto (tgt := 181) B dX13_refusesBridge_177 (by decide) ?_
          exact j_lIw B rfl dX13_refusesBridge_181 hF (by decide) (by decide)
      · refine j_iload B dX13_refusesBridge_29 rfl ?_
        refine j_iconst (v := 1) B dX13_refusesBridge_31 (by decide) ?_
        refine j_iadd B dX13_refusesBridge_32 ?_
        refine j_istore (vs' := [some (va_rf a0), some (.int x1), some (.int x2), none, some (.int x4), some (.int (x4 + 1)), none]) B dX13_refusesBridge_33 (by decide) rfl ?_
        exact lp35 fu a0 x1 x2 x4 (x4 + 1) w hF
  refine j_aload_n B dX13_refusesBridge_0 rfl ?_
  refine j_iload_n B dX13_refusesBridge_1 rfl ?_
  refine j_iload_n B dX13_refusesBridge_2 rfl ?_
  obtain ⟨i3, e3, hF⟩ := bo hF
  refine j_rV (st2 := [.int i3]) B [.int x1, .int x2] [] cv_X13_230 dX13_refusesBridge_3 hl hR (ct_X13_refuses G e3) rfl rfl rfl rfl trivial (Nat.le_of_ble_eq_true rfl) ?_
  refine j_istore_n (vs' := [some (va_rf a0), some (.int x1), some (.int x2), some (.int i3), none, none, none]) B dX13_refusesBridge_6 (by decide) rfl ?_
  refine j_iload_n B dX13_refusesBridge_7 rfl ?_
  refine j_if_eq (tgt := 13) B dX13_refusesBridge_8 (by decide) hF (fun h8 hF => ?_) (fun h8 hF => ?_)
  · refine j_aload_n B dX13_refusesBridge_13 rfl ?_
    refine j_ldc (v := 1000000) B q1546 dX13_refusesBridge_14 ?_
    refine j_putV B fp_X13_242 (fun h => by cases h) rfl rfl dX13_refusesBridge_16 hF (fun w16 hF => ?_)
    refine j_iconst (v := 0) B dX13_refusesBridge_19 (by decide) ?_
    refine j_istore (vs' := [some (va_rf a0), some (.int x1), some (.int x2), some (.int i3), some (.int 0), none, none]) B dX13_refusesBridge_20 (by decide) rfl ?_
    refine j_msk [true, true, true, false, true, false, false] rfl ?_
    exact lp22 fu a0 x1 x2 0 w16 hF
  · refine j_iload_n B dX13_refusesBridge_11 rfl ?_
    exact j_lIw B rfl dX13_refusesBridge_12 hF (by decide) (by decide)
theorem cv_X13_257 : CV "CarryFairModel" 257 13 yX13_refusesBridge cX13_refusesBridge 7 (some .int) 2 := ⟨_, _, rfl, lw_V q1723 q1725 qs108 q142 q1726, by decide +kernel⟩
def F_X13_bridge (a0 : Option Nat) (x1 : Int32) (x2 : Int32) (w : cH) : Option (Int32 × cH) :=
  if tg w a0 = some 13 then (cb (F_X13_refusesBridge a0 x1 x2 w) fun i3 w3 =>if i3 = 0 then ((fI w3 a0 13 12).bind fun i20 => some (i20, w3)) else (cb (F_X13_finding a0 i3 w3) fun i13 w13 => some (i13, w13))) else none
abbrev rm_X13_bridge : Room := { frames := 6, cells := 0, slots := 0, locals := 146 }
set_option maxHeartbeats 4000000 in
set_option maxRecDepth 100000 in
theorem ct_X13_bridge {l : Launch} {g : Gt} (G : Gok g) {a0 : Option Nat} {x1 : Int32} {x2 : Int32} {w : cH} {r9 : Int32} {w9 : cH} (hF : F_X13_bridge a0 x1 x2 w = some (r9, w9)) : tg w a0 = some 13 ∧ Mx l yX13_bridge (ws_ yX13_bridge cX13_bridge 4 (some .int)) rm_X13_bridge g [va_rf a0, .int x1, .int x2] w (.returned (some (.int r9))) w9 0 0 := by
  unfold F_X13_bridge at hF
  obtain ⟨ht, hF⟩ := bg hF
  refine ⟨ht, mk_ct cX13_bridge 4 (some .int) "CarryFairModel" (plainFor_of_name (by decide)) rfl (lg_le ⟨cr _, rfl, rfl, trivial⟩ (Nat.le_of_ble_eq_true rfl)) (av_ok ⟨cr _, rfl, rfl, trivial⟩) G (fun x B hl hR hin hh => ?_)⟩
  show J g x _ _ 0 0 w 0 0 0 [some (va_rf a0), some (.int x1), some (.int x2), none] []
  refine j_aload_n B dX13_bridge_0 rfl ?_
  refine j_iload_n B dX13_bridge_1 rfl ?_
  refine j_iload_n B dX13_bridge_2 rfl ?_
  obtain ⟨i3, w3, e3, hF⟩ := bc hF
  refine j_rV (st2 := [.int i3]) B [.int x1, .int x2] [] cv_X13_257 dX13_bridge_3 hl hR (ct_X13_refusesBridge G e3) rfl rfl rfl rfl trivial (Nat.le_of_ble_eq_true rfl) ?_
  refine j_istore_n (vs' := [some (va_rf a0), some (.int x1), some (.int x2), some (.int i3)]) B dX13_bridge_6 (by decide) rfl ?_
  refine j_iload_n B dX13_bridge_7 rfl ?_
  refine j_if_eq (tgt := 19) B dX13_bridge_8 (by decide) hF (fun h8 hF => ?_) (fun h8 hF => ?_)
  · refine j_aload_n B dX13_bridge_19 rfl ?_
    refine j_getI B fl_X13_254 dX13_bridge_20 hF (fun i20 hF => ?_)
    exact j_lIw B rfl dX13_bridge_23 hF (by decide) (by decide)
  · refine j_aload_n B dX13_bridge_11 rfl ?_
    refine j_iload_n B dX13_bridge_12 rfl ?_
    obtain ⟨i13, w13, e13, hF⟩ := bc hF
    refine j_rV (st2 := [.int i13]) B [.int i3] [] cv_X13_92 dX13_bridge_13 hl hR (ct_X13_finding G e13) rfl rfl rfl rfl trivial (Nat.le_of_ble_eq_true rfl) ?_
    refine j_goto (tgt := 23) B dX13_bridge_16 (by decide) ?_
    exact j_lIw B rfl dX13_bridge_23 hF (by decide) (by decide)
