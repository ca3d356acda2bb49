theorem cv_X13_117 : CV "CarryFairModel" 117 13 yX13_isCarrier cX13_isCarrier 2 (some .boolean) 1 := ⟨_, _, rfl, lw_V q1453 q1455 qs73 q142 q1456, by decide +kernel⟩
theorem cv_X13_120 : CV "CarryFairModel" 120 13 yX13_bears cX13_bears 4 (some .int) 1 := ⟨_, _, rfl, lw_V q1457 q1459 qs74 q142 q1460, by decide +kernel⟩
theorem cv_X13_123 : CV "CarryFairModel" 123 13 yX13_carries cX13_carries 4 (some .int) 1 := ⟨_, _, rfl, lw_V q1471 q1473 qs76 q142 q1474, by decide +kernel⟩
theorem cv_X13_126 : CV "CarryFairModel" 126 13 yX13_weighs cX13_weighs 4 (some .int) 1 := ⟨_, _, rfl, lw_V q1482 q1484 qs78 q142 q1485, by decide +kernel⟩
def F_X13_of_J18 (a0 : Option Nat) (w : cH) : Option (Int32 × cH) :=
  cb (F_X13_finding a0 (-1000001) w) fun i21 w21 => some (i21, w21)
def F_X13_of (a0 : Option Nat) (x1 : Int32) (x2 : Int32) (w : cH) : Option (Int32 × cH) :=
  if tg w a0 = some 13 then ((F_X13_isCarrier a0 x1 w).bind fun i2 =>if i2 = 0 then (F_X13_of_J18  a0 w) else (if ¬ (F_X13_within x2 0 7) = 0 then (if x2 = 5 then ((F_X13_bears a0 x1 w).bind fun i54 => some (i54, w)) else if x2 = 6 then ((F_X13_carries a0 x1 w).bind fun i60 => some (i60, w)) else if x2 = 7 then ((F_X13_carries a0 x1 w).bind fun i67 => (F_X13_weighs a0 i67 w).bind fun i70 => some (i70, w)) else ((F_X13_cIs a0 x1 x2 w).bind fun i77 => some (i77, w))) else (F_X13_of_J18  a0 w))) else none
abbrev rm_X13_of : Room := { frames := 3, cells := 0, slots := 0, locals := 66 }
set_option maxHeartbeats 4000000 in
set_option maxRecDepth 100000 in
theorem ct_X13_of {l : Launch} {g : Gt} (G : Gok g) {a0 : Option Nat} {x1 : Int32} {x2 : Int32} {w : cH} {r9 : Int32} {w9 : cH} (hF : F_X13_of a0 x1 x2 w = some (r9, w9)) : tg w a0 = some 13 ∧ Mx l yX13_of (ws_ yX13_of cX13_of 3 (some .int)) rm_X13_of g [va_rf a0, .int x1, .int x2] w (.returned (some (.int r9))) w9 0 0 := by
  unfold F_X13_of at hF
  obtain ⟨ht, hF⟩ := bg hF
  refine ⟨ht, mk_ct cX13_of 3 (some .int) "CarryFairModel" (plainFor_of_name (by decide)) rfl (lg_le ⟨cr _, rfl, rfl, trivial⟩ (Nat.le_of_ble_eq_true rfl)) (av_ok ⟨cr _, rfl, rfl, trivial⟩) G (fun x B hl hR hin hh => ?_)⟩
  show J g x _ _ 0 0 w 0 0 0 [some (va_rf a0), some (.int x1), some (.int x2)] []
  have jb18 : ∀ (a0 : Option Nat) (w : cH), F_X13_of_J18  a0 w = some (r9, w9) → J g x (.returned (some (.int r9))) w9 0 0 w 0 0 18 [some (va_rf a0), none, none] [] := by
    intro a0 w hF
    unfold F_X13_of_J18 at hF
    refine j_aload_n B dX13_of_18 rfl ?_
    refine j_ldc (v := (-1000001)) B q1436 dX13_of_19 ?_
    obtain ⟨i21, w21, e21, hF⟩ := bc hF
    refine j_rV (st2 := [.int i21]) B [.int (-1000001)] [] cv_X13_92 dX13_of_21 hl hR (ct_X13_finding G e21) rfl rfl rfl rfl trivial (Nat.le_of_ble_eq_true rfl) ?_
    exact j_lIw B rfl dX13_of_24 hF (by decide) (by decide)
  refine j_aload_n B dX13_of_0 rfl ?_
  refine j_iload_n B dX13_of_1 rfl ?_
  obtain ⟨i2, e2, hF⟩ := bo hF
  refine j_rV (st2 := [.int i2]) B [.int x1] [] cv_X13_117 dX13_of_2 hl hR (ct_X13_isCarrier G e2) rfl rfl rfl rfl trivial (Nat.le_of_ble_eq_true rfl) ?_
  refine j_if_eq (tgt := 18) B dX13_of_5 (by decide) hF (fun h5 hF => ?_) (fun h5 hF => ?_)
  · refine j_msk [true, false, false] rfl ?_
    exact jb18 a0 w hF
  · refine j_iload_n B dX13_of_8 rfl ?_
    refine j_iconst (v := 0) B dX13_of_9 (by decide) ?_
    refine j_bipush (v := 7) B dX13_of_10 (by decide) ?_
    refine j_rS (st2 := [.int (F_X13_within x2 0 7)]) B [.int x2, .int 0, .int 7] [] cs_X13_77 dX13_of_12 hl hR (ct_X13_within G) rfl rfl rfl rfl trivial (Nat.le_of_ble_eq_true rfl) ?_
    refine j_if_ne (tgt := 25) B dX13_of_15 (by decide) hF (fun h15 hF => ?_) (fun h15 hF => ?_)
    · refine j_iload_n B dX13_of_25 rfl ?_
      by_cases t26_0 : x2 = 5
      · rw [if_pos t26_0] at hF
        refine j_tblIn (tgt := 52) B 5 dX13_of_26 t26_0 (by decide) rfl (by decide) ?_
        refine j_aload_n B dX13_of_52 rfl ?_
        refine j_iload_n B dX13_of_53 rfl ?_
        obtain ⟨i54, e54, hF⟩ := bo hF
        refine j_rV (st2 := [.int i54]) B [.int x1] [] cv_X13_120 dX13_of_54 hl hR (ct_X13_bears G e54) rfl rfl rfl rfl trivial (Nat.le_of_ble_eq_true rfl) ?_
        exact j_lIw B rfl dX13_of_57 hF (by decide) (by decide)
      rw [if_neg t26_0] at hF
      by_cases t26_1 : x2 = 6
      · rw [if_pos t26_1] at hF
        refine j_tblIn (tgt := 58) B 6 dX13_of_26 t26_1 (by decide) rfl (by decide) ?_
        refine j_aload_n B dX13_of_58 rfl ?_
        refine j_iload_n B dX13_of_59 rfl ?_
        obtain ⟨i60, e60, hF⟩ := bo hF
        refine j_rV (st2 := [.int i60]) B [.int x1] [] cv_X13_123 dX13_of_60 hl hR (ct_X13_carries G e60) rfl rfl rfl rfl trivial (Nat.le_of_ble_eq_true rfl) ?_
        exact j_lIw B rfl dX13_of_63 hF (by decide) (by decide)
      rw [if_neg t26_1] at hF
      by_cases t26_2 : x2 = 7
      · rw [if_pos t26_2] at hF
        refine j_tblIn (tgt := 64) B 7 dX13_of_26 t26_2 (by decide) rfl (by decide) ?_
        refine j_aload_n B dX13_of_64 rfl ?_
        refine j_aload_n B dX13_of_65 rfl ?_
        refine j_iload_n B dX13_of_66 rfl ?_
        obtain ⟨i67, e67, hF⟩ := bo hF
        refine j_rV (st2 := [.int i67, va_rf a0]) B [.int x1] [va_rf a0] cv_X13_123 dX13_of_67 hl hR (ct_X13_carries G e67) rfl rfl rfl rfl ⟨cr _, trivial⟩ (Nat.le_of_ble_eq_true rfl) ?_
        obtain ⟨i70, e70, hF⟩ := bo hF
        refine j_rV (st2 := [.int i70]) B [.int i67] [] cv_X13_126 dX13_of_70 hl hR (ct_X13_weighs G e70) rfl rfl rfl rfl trivial (Nat.le_of_ble_eq_true rfl) ?_
        exact j_lIw B rfl dX13_of_73 hF (by decide) (by decide)
      rw [if_neg t26_2] at hF
      refine j_tblOut (tgt := 74) B dX13_of_26 (tbl_out 5 7 (fun z h1 h2 => ?_)) (by decide) ?_
      · rcases (show z = 5 ∨ z = 6 ∨ z = 7 by omega) with h | h | h
        · rw [h]; exact lv_neT t26_0 (by decide)
        · rw [h]; exact lv_neT t26_1 (by decide)
        · rw [h]; exact lv_neT t26_2 (by decide)
      refine j_aload_n B dX13_of_74 rfl ?_
      refine j_iload_n B dX13_of_75 rfl ?_
      refine j_iload_n B dX13_of_76 rfl ?_
      obtain ⟨i77, e77, hF⟩ := bo hF
      refine j_rV (st2 := [.int i77]) B [.int x1, .int x2] [] cv_X13_104 dX13_of_77 hl hR (ct_X13_cIs G e77) rfl rfl rfl rfl trivial (Nat.le_of_ble_eq_true rfl) ?_
      exact j_lIw B rfl dX13_of_80 hF (by decide) (by decide)
    · refine j_msk [true, false, false] rfl ?_
      exact jb18 a0 w hF
def F_X13_isPlace (x0 : Int32) : Int32 :=
  (F_X13_within x0 0 6) &&& 1
abbrev rm_X13_isPlace : Room := { frames := 1, cells := 0, slots := 0, locals := 22 }
set_option maxHeartbeats 4000000 in
set_option maxRecDepth 100000 in
theorem ct_X13_isPlace {l : Launch} {g : Gt} (G : Gok g) {x0 : Int32} {w : cH} : Mx l yX13_isPlace (ws_ yX13_isPlace cX13_isPlace 1 (some .boolean)) rm_X13_isPlace g [.int x0] w (.returned (some (.int (F_X13_isPlace x0)))) w 0 0 := by
  generalize hF : F_X13_isPlace x0 = r9
  unfold F_X13_isPlace at hF
  refine mk_ct cX13_isPlace 1 (some .boolean) "CarryFairModel" (plainFor_of_name (by decide)) rfl (lg_le ⟨rfl, trivial⟩ (Nat.le_of_ble_eq_true rfl)) (av_ok ⟨rfl, trivial⟩) G (fun x B hl hR hin hh => ?_)
  show J g x _ _ 0 0 w 0 0 0 [some (.int x0)] []
  refine j_iload_n B dX13_isPlace_0 rfl ?_
  refine j_iconst (v := 0) B dX13_isPlace_1 (by decide) ?_
  refine j_bipush (v := 6) B dX13_isPlace_2 (by decide) ?_
  refine j_rS (st2 := [.int (F_X13_within x0 0 6)]) B [.int x0, .int 0, .int 6] [] cs_X13_77 dX13_isPlace_4 hl hR (ct_X13_within G) rfl rfl rfl rfl trivial (Nat.le_of_ble_eq_true rfl) ?_
  exact j_lBp B rfl dX13_isPlace_7 hF (by decide) (by decide)
def F_X13_become (a0 : Option Nat) (x1 : Int32) (x2 : Int32) (w : cH) : Option (Int32 × cH) :=
  if tg w a0 = some 13 then ((fA w a0 13 0).bind fun a1p => (aI w a1p 100 x1).bind fun i5 => (fA w a0 13 0).bind fun a8p => (aS w a8p 100 x1 (.int x2)).bind fun w13 => some (i5, w13)) else none
abbrev rm_X13_become : Room := { frames := 0, cells := 0, slots := 0, locals := 0 }
set_option maxHeartbeats 4000000 in
set_option maxRecDepth 100000 in
theorem ct_X13_become {l : Launch} {g : Gt} (G : Gok g) {a0 : Option Nat} {x1 : Int32} {x2 : Int32} {w : cH} {r9 : Int32} {w9 : cH} (hF : F_X13_become a0 x1 x2 w = some (r9, w9)) : tg w a0 = some 13 ∧ Mx l yX13_become (ws_ yX13_become cX13_become 4 (some .int)) rm_X13_become g [va_rf a0, .int x1, .int x2] w (.returned (some (.int r9))) w9 0 0 := by
  unfold F_X13_become at hF
  obtain ⟨ht, hF⟩ := bg hF
  refine ⟨ht, mk_ct cX13_become 4 (some .int) "CarryFairModel" (plainFor_of_name (by decide)) rfl (lg_le ⟨cr _, rfl, rfl, trivial⟩ (Nat.le_of_ble_eq_true rfl)) (av_ok ⟨cr _, rfl, rfl, trivial⟩) G (fun x B hl hR hin hh => ?_)⟩
  show J g x _ _ 0 0 w 0 0 0 [some (va_rf a0), some (.int x1), some (.int x2), none] []
  refine j_aload_n B dX13_become_0 rfl ?_
  refine j_getA B fl_X13_9 dX13_become_1 hF (fun a1p hF => ?_)
  refine j_iload_n B dX13_become_4 rfl ?_
  refine j_iaload B dX13_become_5 hF (fun i5 hF => ?_)
  refine j_istore_n (vs' := [some (va_rf a0), some (.int x1), some (.int x2), some (.int i5)]) B dX13_become_6 (by decide) rfl ?_
  refine j_aload_n B dX13_become_7 rfl ?_
  refine j_getA B fl_X13_9 dX13_become_8 hF (fun a8p hF => ?_)
  refine j_iload_n B dX13_become_11 rfl ?_
  refine j_iload_n B dX13_become_12 rfl ?_
  refine j_iastore B dX13_become_13 hF (fun w13 hF => ?_)
  refine j_iload_n B dX13_become_14 rfl ?_
  exact j_lIw B rfl dX13_become_15 hF (by decide) (by decide)
theorem cv_X13_133 : CV "CarryFairModel" 133 13 yX13_become cX13_become 4 (some .int) 2 := ⟨_, _, rfl, lw_V q1497 q1499 qs79 q142 q1500, by decide +kernel⟩
theorem cs_X13_129 : CS "CarryFairModel" 129 yX13_isPlace cX13_isPlace 1 (some .boolean) 1 := ⟨Or.inl (lw_S q1493 q1494 q142 q1495), by decide +kernel⟩
def F_X13_change_J86 (a0 : Option Nat) (w : cH) : Option (Int32 × cH) :=
  cb (F_X13_finding a0 (-1000001) w) fun i89 w89 => some (i89, w89)
def F_X13_change_J58 (a0 : Option Nat) (x1 : Int32) (x2 : Int32) (x3 : Int32) (s0 : Int32) (w : cH) : Option (Int32 × cH) :=
  (F_X13_isCarrier a0 x1 w).bind fun i62 =>if i62 = 0 then (F_X13_change_J86  a0 w) else (if s0 = 0 then (F_X13_change_J86  a0 w) else (cb (F_X13_become a0 (F_X13_cAt x1 x2) x3 w) fun i80 w80 => some (i80, w80)))
def F_X13_change_J57 (a0 : Option Nat) (x1 : Int32) (x2 : Int32) (x3 : Int32) (w : cH) : Option (Int32 × cH) :=
  F_X13_change_J58  a0 x1 x2 x3 0 w
def F_X13_change_J53 (a0 : Option Nat) (x1 : Int32) (x2 : Int32) (x3 : Int32) (w : cH) : Option (Int32 × cH) :=
  F_X13_change_J58  a0 x1 x2 x3 1 w
def F_X13_change_J38 (a0 : Option Nat) (x1 : Int32) (x2 : Int32) (x3 : Int32) (w : cH) : Option (Int32 × cH) :=
  if ¬ x2 = 3 then (F_X13_change_J57  a0 x1 x2 x3 w) else (if (F_X13_within x3 0 999999) = 0 then (F_X13_change_J57  a0 x1 x2 x3 w) else (F_X13_change_J53  a0 x1 x2 x3 w))
def F_X13_change_J23 (a0 : Option Nat) (x1 : Int32) (x2 : Int32) (x3 : Int32) (w : cH) : Option (Int32 × cH) :=
  if ¬ x2 = 2 then (F_X13_change_J38  a0 x1 x2 x3 w) else (if ¬ (F_X13_within x3 1 99) = 0 then (F_X13_change_J53  a0 x1 x2 x3 w) else (F_X13_change_J38  a0 x1 x2 x3 w))
def F_X13_change_J11 (a0 : Option Nat) (x1 : Int32) (x2 : Int32) (x3 : Int32) (w : cH) : Option (Int32 × cH) :=
  if ¬ x2 = 1 then (F_X13_change_J23  a0 x1 x2 x3 w) else (if ¬ (F_X13_isPlace x3) = 0 then (F_X13_change_J53  a0 x1 x2 x3 w) else (F_X13_change_J23  a0 x1 x2 x3 w))
def F_X13_change (a0 : Option Nat) (x1 : Int32) (x2 : Int32) (x3 : Int32) (w : cH) : Option (Int32 × cH) :=
  if tg w a0 = some 13 then (if ¬ x2 = 0 then (F_X13_change_J11  a0 x1 x2 x3 w) else (if ¬ (F_X13_isKind x3) = 0 then (F_X13_change_J53  a0 x1 x2 x3 w) else (F_X13_change_J11  a0 x1 x2 x3 w))) else none
abbrev rm_X13_change : Room := { frames := 2, cells := 0, slots := 0, locals := 43 }
set_option maxHeartbeats 4000000 in
set_option maxRecDepth 100000 in
theorem ct_X13_change {l : Launch} {g : Gt} (G : Gok g) {a0 : Option Nat} {x1 : Int32} {x2 : Int32} {x3 : Int32} {w : cH} {r9 : Int32} {w9 : cH} (hF : F_X13_change a0 x1 x2 x3 w = some (r9, w9)) : tg w a0 = some 13 ∧ Mx l yX13_change (ws_ yX13_change cX13_change 5 (some .int)) rm_X13_change g [va_rf a0, .int x1, .int x2, .int x3] w (.returned (some (.int r9))) w9 0 0 := by
  unfold F_X13_change at hF
  obtain ⟨ht, hF⟩ := bg hF
  refine ⟨ht, mk_ct cX13_change 5 (some .int) "CarryFairModel" (plainFor_of_name (by decide)) rfl (lg_le ⟨cr _, rfl, rfl, rfl, trivial⟩ (Nat.le_of_ble_eq_true rfl)) (av_ok ⟨cr _, rfl, rfl, rfl, trivial⟩) G (fun x B hl hR hin hh => ?_)⟩
  show J g x _ _ 0 0 w 0 0 0 [some (va_rf a0), some (.int x1), some (.int x2), some (.int x3), none] []
  have jb86 : ∀ (a0 : Option Nat) (w : cH), F_X13_change_J86  a0 w = some (r9, w9) → J g x (.returned (some (.int r9))) w9 0 0 w 0 0 86 [some (va_rf a0), none, none, none, none] [] := by
    intro a0 w hF
    unfold F_X13_change_J86 at hF
    refine j_aload_n B dX13_change_86 rfl ?_
    refine j_ldc (v := (-1000001)) B q1436 dX13_change_87 ?_
    obtain ⟨i89, w89, e89, hF⟩ := bc hF
    refine j_rV (st2 := [.int i89]) B [.int (-1000001)] [] cv_X13_92 dX13_change_89 hl hR (ct_X13_finding G e89) rfl rfl rfl rfl trivial (Nat.le_of_ble_eq_true rfl) ?_
    exact j_lIw B rfl dX13_change_92 hF (by decide) (by decide)
  have jb58 : ∀ (a0 : Option Nat) (x1 : Int32) (x2 : Int32) (x3 : Int32) (s0 : Int32) (w : cH), F_X13_change_J58  a0 x1 x2 x3 s0 w = some (r9, w9) → J g x (.returned (some (.int r9))) w9 0 0 w 0 0 58 [some (va_rf a0), some (.int x1), some (.int x2), some (.int x3), none] [.int s0] := by
    intro a0 x1 x2 x3 s0 w hF
    unfold F_X13_change_J58 at hF
    refine j_istore (vs' := [some (va_rf a0), some (.int x1), some (.int x2), some (.int x3), some (.int s0)]) B dX13_change_58 (by decide) rfl ?_
    refine j_aload_n B dX13_change_60 rfl ?_
    refine j_iload_n B dX13_change_61 rfl ?_
    obtain ⟨i62, e62, hF⟩ := bo hF
    refine j_rV (st2 := [.int i62]) B [.int x1] [] cv_X13_117 dX13_change_62 hl hR (ct_X13_isCarrier G e62) rfl rfl rfl rfl trivial (Nat.le_of_ble_eq_true rfl) ?_
    refine j_if_eq (tgt := 86) B dX13_change_65 (by decide) hF (fun h65 hF => ?_) (fun h65 hF => ?_)
    · refine j_msk [true, false, false, false, false] rfl ?_
      exact jb86 a0 w hF
    · refine j_iload B dX13_change_68 rfl ?_
      refine j_if_eq (tgt := 86) B dX13_change_70 (by decide) hF (fun h70 hF => ?_) (fun h70 hF => ?_)
      · refine j_msk [true, false, false, false, false] rfl ?_
        exact jb86 a0 w hF
      · refine j_aload_n B dX13_change_73 rfl ?_
        refine j_iload_n B dX13_change_74 rfl ?_
        refine j_iload_n B dX13_change_75 rfl ?_
        refine j_rS (st2 := [.int (F_X13_cAt x1 x2), va_rf a0]) B [.int x1, .int x2] [va_rf a0] cs_X13_81 dX13_change_76 hl hR (ct_X13_cAt G) rfl rfl rfl rfl ⟨cr _, trivial⟩ (Nat.le_of_ble_eq_true rfl) ?_
        refine j_iload_n B dX13_change_79 rfl ?_
        obtain ⟨i80, w80, e80, hF⟩ := bc hF
        refine j_rV (st2 := [.int i80]) B [.int (F_X13_cAt x1 x2), .int x3] [] cv_X13_133 dX13_change_80 hl hR (ct_X13_become G e80) rfl rfl rfl rfl trivial (Nat.le_of_ble_eq_true rfl) ?_
        refine j_goto (tgt := 92) B dX13_change_83 (by decide) ?_
        exact j_lIw B rfl dX13_change_92 hF (by decide) (by decide)
  have jb57 : ∀ (a0 : Option Nat) (x1 : Int32) (x2 : Int32) (x3 : Int32) (w : cH), F_X13_change_J57  a0 x1 x2 x3 w = some (r9, w9) → J g x (.returned (some (.int r9))) w9 0 0 w 0 0 57 [some (va_rf a0), some (.int x1), some (.int x2), some (.int x3), none] [] := by
    intro a0 x1 x2 x3 w hF
    unfold F_X13_change_J57 at hF
    refine j_iconst (v := 0) B dX13_change_57 (by decide) ?_
    exact jb58 a0 x1 x2 x3 0 w hF
  have jb53 : ∀ (a0 : Option Nat) (x1 : Int32) (x2 : Int32) (x3 : Int32) (w : cH), F_X13_change_J53  a0 x1 x2 x3 w = some (r9, w9) → J g x (.returned (some (.int r9))) w9 0 0 w 0 0 53 [some (va_rf a0), some (.int x1), some (.int x2), some (.int x3), none] [] := by
    intro a0 x1 x2 x3 w hF
    unfold F_X13_change_J53 at hF
    refine j_iconst (v := 1) B dX13_change_53 (by decide) ?_
    refine j_goto (tgt := 58) B dX13_change_54 (by decide) ?_
    exact jb58 a0 x1 x2 x3 1 w hF
  have jb38 : ∀ (a0 : Option Nat) (x1 : Int32) (x2 : Int32) (x3 : Int32) (w : cH), F_X13_change_J38  a0 x1 x2 x3 w = some (r9, w9) → J g x (.returned (some (.int r9))) w9 0 0 w 0 0 38 [some (va_rf a0), some (.int x1), some (.int x2), some (.int x3), none] [] := by
    intro a0 x1 x2 x3 w hF
    unfold F_X13_change_J38 at hF
    refine j_iload_n B dX13_change_38 rfl ?_
    refine j_iconst (v := 3) B dX13_change_39 (by decide) ?_
    refine j_icmp_ne (tgt := 57) B dX13_change_40 (by decide) hF (fun h40 hF => ?_) (fun h40 hF => ?_)
    · exact jb57 a0 x1 x2 x3 w hF
    · refine j_iload_n B dX13_change_43 rfl ?_
      refine j_iconst (v := 0) B dX13_change_44 (by decide) ?_
      refine j_ldc (v := 999999) B q1496 dX13_change_45 ?_
      refine j_rS (st2 := [.int (F_X13_within x3 0 999999)]) B [.int x3, .int 0, .int 999999] [] cs_X13_77 dX13_change_47 hl hR (ct_X13_within G) rfl rfl rfl rfl trivial (Nat.le_of_ble_eq_true rfl) ?_
      refine j_if_eq (tgt := 57) B dX13_change_50 (by decide) hF (fun h50 hF => ?_) (fun h50 hF => ?_)
      · exact jb57 a0 x1 x2 x3 w hF
      · exact jb53 a0 x1 x2 x3 w hF
  have jb23 : ∀ (a0 : Option Nat) (x1 : Int32) (x2 : Int32) (x3 : Int32) (w : cH), F_X13_change_J23  a0 x1 x2 x3 w = some (r9, w9) → J g x (.returned (some (.int r9))) w9 0 0 w 0 0 23 [some (va_rf a0), some (.int x1), some (.int x2), some (.int x3), none] [] := by
    intro a0 x1 x2 x3 w hF
    unfold F_X13_change_J23 at hF
    refine j_iload_n B dX13_change_23 rfl ?_
    refine j_iconst (v := 2) B dX13_change_24 (by decide) ?_
    refine j_icmp_ne (tgt := 38) B dX13_change_25 (by decide) hF (fun h25 hF => ?_) (fun h25 hF => ?_)
    · exact jb38 a0 x1 x2 x3 w hF
    · refine j_iload_n B dX13_change_28 rfl ?_
      refine j_iconst (v := 1) B dX13_change_29 (by decide) ?_
      refine j_bipush (v := 99) B dX13_change_30 (by decide) ?_
      refine j_rS (st2 := [.int (F_X13_within x3 1 99)]) B [.int x3, .int 1, .int 99] [] cs_X13_77 dX13_change_32 hl hR (ct_X13_within G) rfl rfl rfl rfl trivial (Nat.le_of_ble_eq_true rfl) ?_
      refine j_if_ne (tgt := 53) B dX13_change_35 (by decide) hF (fun h35 hF => ?_) (fun h35 hF => ?_)
      · exact jb53 a0 x1 x2 x3 w hF
      · exact jb38 a0 x1 x2 x3 w hF
  have jb11 : ∀ (a0 : Option Nat) (x1 : Int32) (x2 : Int32) (x3 : Int32) (w : cH), F_X13_change_J11  a0 x1 x2 x3 w = some (r9, w9) → J g x (.returned (some (.int r9))) w9 0 0 w 0 0 11 [some (va_rf a0), some (.int x1), some (.int x2), some (.int x3), none] [] := by
    intro a0 x1 x2 x3 w hF
    unfold F_X13_change_J11 at hF
    refine j_iload_n B dX13_change_11 rfl ?_
    refine j_iconst (v := 1) B dX13_change_12 (by decide) ?_
    refine j_icmp_ne (tgt := 23) B dX13_change_13 (by decide) hF (fun h13 hF => ?_) (fun h13 hF => ?_)
    · exact jb23 a0 x1 x2 x3 w hF
    · refine j_iload_n B dX13_change_16 rfl ?_
      refine j_rS (st2 := [.int (F_X13_isPlace x3)]) B [.int x3] [] cs_X13_129 dX13_change_17 hl hR (ct_X13_isPlace G) rfl rfl rfl rfl trivial (Nat.le_of_ble_eq_true rfl) ?_
      refine j_if_ne (tgt := 53) B dX13_change_20 (by decide) hF (fun h20 hF => ?_) (fun h20 hF => ?_)
      · exact jb53 a0 x1 x2 x3 w hF
      · exact jb23 a0 x1 x2 x3 w hF
  refine j_iload_n B dX13_change_0 rfl ?_
  refine j_if_ne (tgt := 11) B dX13_change_1 (by decide) hF (fun h1 hF => ?_) (fun h1 hF => ?_)
  · exact jb11 a0 x1 x2 x3 w hF
  · refine j_iload_n B dX13_change_4 rfl ?_
    refine j_rS (st2 := [.int (F_X13_isKind x3)]) B [.int x3] [] cs_X13_88 dX13_change_5 hl hR (ct_X13_isKind G) rfl rfl rfl rfl trivial (Nat.le_of_ble_eq_true rfl) ?_
    refine j_if_ne (tgt := 53) B dX13_change_8 (by decide) hF (fun h8 hF => ?_) (fun h8 hF => ?_)
    · exact jb53 a0 x1 x2 x3 w hF
    · exact jb11 a0 x1 x2 x3 w hF
theorem cs_X13_136 : CS "CarryFairModel" 136 yJ3_min cJ3_min 2 (some .int) 2 := ⟨Or.inl (lw_S q1512 q705 q143 q706), by decide +kernel⟩
theorem cs_X13_141 : CS "CarryFairModel" 141 yJ3_max cJ3_max 2 (some .int) 2 := ⟨Or.inl (lw_S q1513 q686 q143 q687), by decide +kernel⟩
def F_X13_wayAt (x0 : Int32) (x1 : Int32) : Int32 :=
  0 + (2 * ((((((F_J3_min x0 x1) * (13 - (F_J3_min x0 x1))) / 2) + (F_J3_max x0 x1)) - (F_J3_min x0 x1)) - 1))
abbrev rm_X13_wayAt : Room := { frames := 1, cells := 0, slots := 0, locals := 21 }
set_option maxHeartbeats 4000000 in
set_option maxRecDepth 100000 in
theorem ct_X13_wayAt {l : Launch} {g : Gt} (G : Gok g) {x0 : Int32} {x1 : Int32} {w : cH} : Mx l yX13_wayAt (ws_ yX13_wayAt cX13_wayAt 4 (some .int)) rm_X13_wayAt g [.int x0, .int x1] w (.returned (some (.int (F_X13_wayAt x0 x1)))) w 0 0 := by
  generalize hF : F_X13_wayAt x0 x1 = r9
  unfold F_X13_wayAt at hF
  refine mk_ct cX13_wayAt 4 (some .int) "CarryFairModel" (plainFor_of_name (by decide)) rfl (lg_le ⟨rfl, rfl, trivial⟩ (Nat.le_of_ble_eq_true rfl)) (av_ok ⟨rfl, rfl, trivial⟩) G (fun x B hl hR hin hh => ?_)
  show J g x _ _ 0 0 w 0 0 0 [some (.int x0), some (.int x1), none, none] []
  refine j_iload_n B dX13_wayAt_0 rfl ?_
  refine j_iload_n B dX13_wayAt_1 rfl ?_
  refine j_rS (st2 := [.int (F_J3_min x0 x1)]) B [.int x0, .int x1] [] cs_X13_136 dX13_wayAt_2 hl hR (ct_J3_min G) rfl rfl rfl rfl trivial (Nat.le_of_ble_eq_true rfl) ?_
  refine j_istore_n (vs' := [some (.int x0), some (.int x1), some (.int (F_J3_min x0 x1)), none]) B dX13_wayAt_5 (by decide) rfl ?_
  refine j_iload_n B dX13_wayAt_6 rfl ?_
  refine j_iload_n B dX13_wayAt_7 rfl ?_
  refine j_rS (st2 := [.int (F_J3_max x0 x1)]) B [.int x0, .int x1] [] cs_X13_141 dX13_wayAt_8 hl hR (ct_J3_max G) rfl rfl rfl rfl trivial (Nat.le_of_ble_eq_true rfl) ?_
  refine j_istore_n (vs' := [some (.int x0), some (.int x1), some (.int (F_J3_min x0 x1)), some (.int (F_J3_max x0 x1))]) B dX13_wayAt_11 (by decide) rfl ?_
  refine j_iconst (v := 0) B dX13_wayAt_12 (by decide) ?_
  refine j_iconst (v := 2) B dX13_wayAt_13 (by decide) ?_
  refine j_iload_n B dX13_wayAt_14 rfl ?_
  refine j_bipush (v := 13) B dX13_wayAt_15 (by decide) ?_
  refine j_iload_n B dX13_wayAt_17 rfl ?_
  refine j_isub B dX13_wayAt_18 ?_
  refine j_imul B dX13_wayAt_19 ?_
  refine j_iconst (v := 2) B dX13_wayAt_20 (by decide) ?_
  refine j_idiv B dX13_wayAt_21 (by decide) ?_
  refine j_iload_n B dX13_wayAt_22 rfl ?_
  refine j_iadd B dX13_wayAt_23 ?_
  refine j_iload_n B dX13_wayAt_24 rfl ?_
  refine j_isub B dX13_wayAt_25 ?_
  refine j_iconst (v := 1) B dX13_wayAt_26 (by decide) ?_
  refine j_isub B dX13_wayAt_27 ?_
  refine j_imul B dX13_wayAt_28 ?_
  refine j_iadd B dX13_wayAt_29 ?_
  exact j_lIp B rfl dX13_wayAt_30 hF (by decide) (by decide)
theorem cs_X13_144 : CS "CarryFairModel" 144 yX13_wayAt cX13_wayAt 4 (some .int) 2 := ⟨Or.inl (lw_S q1509 q1510 q142 q1511), by decide +kernel⟩
def F_X13_wayIs (a0 : Option Nat) (x1 : Int32) (x2 : Int32) (x3 : Int32) (x4 : Int32) (w : cH) : Option (Int32 × cH) :=
  if tg w a0 = some 13 then ((fA w a0 13 0).bind fun a1p => (aS w a1p 100 ((F_X13_wayAt x1 x2) + 1) (.int x4)).bind fun w13 => cb (F_X13_become a0 (F_X13_wayAt x1 x2) x3 w13) fun i21 w21 => some (i21, w21)) else none
abbrev rm_X13_wayIs : Room := { frames := 2, cells := 0, slots := 0, locals := 44 }
set_option maxHeartbeats 4000000 in
set_option maxRecDepth 100000 in
theorem ct_X13_wayIs {l : Launch} {g : Gt} (G : Gok g) {a0 : Option Nat} {x1 : Int32} {x2 : Int32} {x3 : Int32} {x4 : Int32} {w : cH} {r9 : Int32} {w9 : cH} (hF : F_X13_wayIs a0 x1 x2 x3 x4 w = some (r9, w9)) : tg w a0 = some 13 ∧ Mx l yX13_wayIs (ws_ yX13_wayIs cX13_wayIs 5 (some .int)) rm_X13_wayIs g [va_rf a0, .int x1, .int x2, .int x3, .int x4] w (.returned (some (.int r9))) w9 0 0 := by
  unfold F_X13_wayIs at hF
  obtain ⟨ht, hF⟩ := bg hF
  refine ⟨ht, mk_ct cX13_wayIs 5 (some .int) "CarryFairModel" (plainFor_of_name (by decide)) rfl (lg_le ⟨cr _, rfl, rfl, rfl, rfl, trivial⟩ (Nat.le_of_ble_eq_true rfl)) (av_ok ⟨cr _, rfl, rfl, rfl, rfl, trivial⟩) G (fun x B hl hR hin hh => ?_)⟩
  show J g x _ _ 0 0 w 0 0 0 [some (va_rf a0), some (.int x1), some (.int x2), some (.int x3), some (.int x4)] []
  refine j_aload_n B dX13_wayIs_0 rfl ?_
  refine j_getA B fl_X13_9 dX13_wayIs_1 hF (fun a1p hF => ?_)
  refine j_iload_n B dX13_wayIs_4 rfl ?_
  refine j_iload_n B dX13_wayIs_5 rfl ?_
  refine j_rS (st2 := [.int (F_X13_wayAt x1 x2), va_rf a1p]) B [.int x1, .int x2] [va_rf a1p] cs_X13_144 dX13_wayIs_6 hl hR (ct_X13_wayAt G) rfl rfl rfl rfl ⟨cr _, trivial⟩ (Nat.le_of_ble_eq_true rfl) ?_
  refine j_iconst (v := 1) B dX13_wayIs_9 (by decide) ?_
  refine j_iadd B dX13_wayIs_10 ?_
  refine j_iload B dX13_wayIs_11 rfl ?_
  refine j_iastore B dX13_wayIs_13 hF (fun w13 hF => ?_)
  refine j_aload_n B dX13_wayIs_14 rfl ?_
  refine j_iload_n B dX13_wayIs_15 rfl ?_
  refine j_iload_n B dX13_wayIs_16 rfl ?_
  refine j_rS (st2 := [.int (F_X13_wayAt x1 x2), va_rf a0]) B [.int x1, .int x2] [va_rf a0] cs_X13_144 dX13_wayIs_17 hl hR (ct_X13_wayAt G) rfl rfl rfl rfl ⟨cr _, trivial⟩ (Nat.le_of_ble_eq_true rfl) ?_
  refine j_iload_n B dX13_wayIs_20 rfl ?_
  obtain ⟨i21, w21, e21, hF⟩ := bc hF
  refine j_rV (st2 := [.int i21]) B [.int (F_X13_wayAt x1 x2), .int x3] [] cv_X13_133 dX13_wayIs_21 hl hR (ct_X13_become G e21) rfl rfl rfl rfl trivial (Nat.le_of_ble_eq_true rfl) ?_
  exact j_lIw B rfl dX13_wayIs_24 hF (by decide) (by decide)
theorem cv_X13_147 : CV "CarryFairModel" 147 13 yX13_wayIs cX13_wayIs 5 (some .int) 4 := ⟨_, _, rfl, lw_V q1505 q1507 qs80 q142 q1508, by decide +kernel⟩
def F_X13_way_J44 (a0 : Option Nat) (x1 : Int32) (x2 : Int32) (x3 : Int32) (x4 : Int32) (s0 : Int32) (w : cH) : Option (Int32 × cH) :=
  if s0 = 0 then (cb (F_X13_finding a0 (-1000001) w) fun i66 w66 => some (i66, w66)) else (cb (F_X13_wayIs a0 x1 x2 x3 x4 w) fun i57 w57 => some (i57, w57))
def F_X13_way_J43 (a0 : Option Nat) (x1 : Int32) (x2 : Int32) (x3 : Int32) (x4 : Int32) (w : cH) : Option (Int32 × cH) :=
  F_X13_way_J44  a0 x1 x2 x3 x4 0 w
def F_X13_way (a0 : Option Nat) (x1 : Int32) (x2 : Int32) (x3 : Int32) (x4 : Int32) (w : cH) : Option (Int32 × cH) :=
  if tg w a0 = some 13 then (if (F_X13_isPlace x1) = 0 then (F_X13_way_J43  a0 x1 x2 x3 x4 w) else (if (F_X13_isPlace x2) = 0 then (F_X13_way_J43  a0 x1 x2 x3 x4 w) else (if x1 = x2 then (F_X13_way_J43  a0 x1 x2 x3 x4 w) else (if (F_X13_within x3 0 99) = 0 then (F_X13_way_J43  a0 x1 x2 x3 x4 w) else (if (F_X13_within x4 0 1) = 0 then (F_X13_way_J43  a0 x1 x2 x3 x4 w) else (F_X13_way_J44  a0 x1 x2 x3 x4 1 w)))))) else none
abbrev rm_X13_way : Room := { frames := 3, cells := 0, slots := 0, locals := 68 }
set_option maxHeartbeats 4000000 in
set_option maxRecDepth 100000 in
theorem ct_X13_way {l : Launch} {g : Gt} (G : Gok g) {a0 : Option Nat} {x1 : Int32} {x2 : Int32} {x3 : Int32} {x4 : Int32} {w : cH} {r9 : Int32} {w9 : cH} (hF : F_X13_way a0 x1 x2 x3 x4 w = some (r9, w9)) : tg w a0 = some 13 ∧ Mx l yX13_way (ws_ yX13_way cX13_way 6 (some .int)) rm_X13_way g [va_rf a0, .int x1, .int x2, .int x3, .int x4] w (.returned (some (.int r9))) w9 0 0 := by
  unfold F_X13_way at hF
  obtain ⟨ht, hF⟩ := bg hF
  refine ⟨ht, mk_ct cX13_way 6 (some .int) "CarryFairModel" (plainFor_of_name (by decide)) rfl (lg_le ⟨cr _, rfl, rfl, rfl, rfl, trivial⟩ (Nat.le_of_ble_eq_true rfl)) (av_ok ⟨cr _, rfl, rfl, rfl, rfl, trivial⟩) G (fun x B hl hR hin hh => ?_)⟩
  show J g x _ _ 0 0 w 0 0 0 [some (va_rf a0), some (.int x1), some (.int x2), some (.int x3), some (.int x4), none] []
  have jb44 : ∀ (a0 : Option Nat) (x1 : Int32) (x2 : Int32) (x3 : Int32) (x4 : Int32) (s0 : Int32) (w : cH), F_X13_way_J44  a0 x1 x2 x3 x4 s0 w = some (r9, w9) → J g x (.returned (some (.int r9))) w9 0 0 w 0 0 44 [some (va_rf a0), some (.int x1), some (.int x2), some (.int x3), some (.int x4), none] [.int s0] := by
    intro a0 x1 x2 x3 x4 s0 w hF
    unfold F_X13_way_J44 at hF
    refine j_istore (vs' := [some (va_rf a0), some (.int x1), some (.int x2), some (.int x3), some (.int x4), some (.int s0)]) B dX13_way_44 (by decide) rfl ?_
    refine j_iload B dX13_way_46 rfl ?_
    refine j_if_eq (tgt := 63) B dX13_way_48 (by decide) hF (fun h48 hF => ?_) (fun h48 hF => ?_)
    · refine j_aload_n B dX13_way_63 rfl ?_
      refine j_ldc (v := (-1000001)) B q1436 dX13_way_64 ?_
      obtain ⟨i66, w66, e66, hF⟩ := bc hF
      refine j_rV (st2 := [.int i66]) B [.int (-1000001)] [] cv_X13_92 dX13_way_66 hl hR (ct_X13_finding G e66) rfl rfl rfl rfl trivial (Nat.le_of_ble_eq_true rfl) ?_
      exact j_lIw B rfl dX13_way_69 hF (by decide) (by decide)
    · refine j_aload_n B dX13_way_51 rfl ?_
      refine j_iload_n B dX13_way_52 rfl ?_
      refine j_iload_n B dX13_way_53 rfl ?_
      refine j_iload_n B dX13_way_54 rfl ?_
      refine j_iload B dX13_way_55 rfl ?_
      obtain ⟨i57, w57, e57, hF⟩ := bc hF
      refine j_rV (st2 := [.int i57]) B [.int x1, .int x2, .int x3, .int x4] [] cv_X13_147 dX13_way_57 hl hR (ct_X13_wayIs G e57) rfl rfl rfl rfl trivial (Nat.le_of_ble_eq_true rfl) ?_
      refine j_goto (tgt := 69) B dX13_way_60 (by decide) ?_
      exact j_lIw B rfl dX13_way_69 hF (by decide) (by decide)
  have jb43 : ∀ (a0 : Option Nat) (x1 : Int32) (x2 : Int32) (x3 : Int32) (x4 : Int32) (w : cH), F_X13_way_J43  a0 x1 x2 x3 x4 w = some (r9, w9) → J g x (.returned (some (.int r9))) w9 0 0 w 0 0 43 [some (va_rf a0), some (.int x1), some (.int x2), some (.int x3), some (.int x4), none] [] := by
    intro a0 x1 x2 x3 x4 w hF
    unfold F_X13_way_J43 at hF
    refine j_iconst (v := 0) B dX13_way_43 (by decide) ?_
    exact jb44 a0 x1 x2 x3 x4 0 w hF
  refine j_iload_n B dX13_way_0 rfl ?_
  refine j_rS (st2 := [.int (F_X13_isPlace x1)]) B [.int x1] [] cs_X13_129 dX13_way_1 hl hR (ct_X13_isPlace G) rfl rfl rfl rfl trivial (Nat.le_of_ble_eq_true rfl) ?_
  refine j_if_eq (tgt := 43) B dX13_way_4 (by decide) hF (fun h4 hF => ?_) (fun h4 hF => ?_)
  · exact jb43 a0 x1 x2 x3 x4 w hF
  · refine j_iload_n B dX13_way_7 rfl ?_
    refine j_rS (st2 := [.int (F_X13_isPlace x2)]) B [.int x2] [] cs_X13_129 dX13_way_8 hl hR (ct_X13_isPlace G) rfl rfl rfl rfl trivial (Nat.le_of_ble_eq_true rfl) ?_
    refine j_if_eq (tgt := 43) B dX13_way_11 (by decide) hF (fun h11 hF => ?_) (fun h11 hF => ?_)
    · exact jb43 a0 x1 x2 x3 x4 w hF
    · refine j_iload_n B dX13_way_14 rfl ?_
      refine j_iload_n B dX13_way_15 rfl ?_
      refine j_icmp_eq (tgt := 43) B dX13_way_16 (by decide) hF (fun h16 hF => ?_) (fun h16 hF => ?_)
      · exact jb43 a0 x1 x2 x3 x4 w hF
      · refine j_iload_n B dX13_way_19 rfl ?_
        refine j_iconst (v := 0) B dX13_way_20 (by decide) ?_
        refine j_bipush (v := 99) B dX13_way_21 (by decide) ?_
        refine j_rS (st2 := [.int (F_X13_within x3 0 99)]) B [.int x3, .int 0, .int 99] [] cs_X13_77 dX13_way_23 hl hR (ct_X13_within G) rfl rfl rfl rfl trivial (Nat.le_of_ble_eq_true rfl) ?_
        refine j_if_eq (tgt := 43) B dX13_way_26 (by decide) hF (fun h26 hF => ?_) (fun h26 hF => ?_)
        · exact jb43 a0 x1 x2 x3 x4 w hF
        · refine j_iload B dX13_way_29 rfl ?_
          refine j_iconst (v := 0) B dX13_way_31 (by decide) ?_
          refine j_iconst (v := 1) B dX13_way_32 (by decide) ?_
          refine j_rS (st2 := [.int (F_X13_within x4 0 1)]) B [.int x4, .int 0, .int 1] [] cs_X13_77 dX13_way_33 hl hR (ct_X13_within G) rfl rfl rfl rfl trivial (Nat.le_of_ble_eq_true rfl) ?_
          refine j_if_eq (tgt := 43) B dX13_way_36 (by decide) hF (fun h36 hF => ?_) (fun h36 hF => ?_)
          · exact jb43 a0 x1 x2 x3 x4 w hF
          · refine j_iconst (v := 1) B dX13_way_39 (by decide) ?_
            refine j_goto (tgt := 44) B dX13_way_40 (by decide) ?_
            exact jb44 a0 x1 x2 x3 x4 1 w hF
def F_X13_wayOf_J33 (a0 : Option Nat) (x1 : Int32) (x2 : Int32) (x3 : Int32) (s0 : Int32) (w : cH) : Option (Int32 × cH) :=
  if s0 = 0 then (cb (F_X13_finding a0 (-1000001) w) fun i58 w58 => some (i58, w58)) else ((fA w a0 13 0).bind fun a41p => (aI w a41p 100 ((F_X13_wayAt x1 x2) + x3)).bind fun i51 => some (i51, w))
def F_X13_wayOf_J32 (a0 : Option Nat) (x1 : Int32) (x2 : Int32) (x3 : Int32) (w : cH) : Option (Int32 × cH) :=
  F_X13_wayOf_J33  a0 x1 x2 x3 0 w
def F_X13_wayOf (a0 : Option Nat) (x1 : Int32) (x2 : Int32) (x3 : Int32) (w : cH) : Option (Int32 × cH) :=
  if tg w a0 = some 13 then (if (F_X13_isPlace x1) = 0 then (F_X13_wayOf_J32  a0 x1 x2 x3 w) else (if (F_X13_isPlace x2) = 0 then (F_X13_wayOf_J32  a0 x1 x2 x3 w) else (if x1 = x2 then (F_X13_wayOf_J32  a0 x1 x2 x3 w) else (if (F_X13_within x3 0 1) = 0 then (F_X13_wayOf_J32  a0 x1 x2 x3 w) else (F_X13_wayOf_J33  a0 x1 x2 x3 1 w))))) else none
abbrev rm_X13_wayOf : Room := { frames := 2, cells := 0, slots := 0, locals := 44 }
set_option maxHeartbeats 4000000 in
set_option maxRecDepth 100000 in
theorem ct_X13_wayOf {l : Launch} {g : Gt} (G : Gok g) {a0 : Option Nat} {x1 : Int32} {x2 : Int32} {x3 : Int32} {w : cH} {r9 : Int32} {w9 : cH} (hF : F_X13_wayOf a0 x1 x2 x3 w = some (r9, w9)) : tg w a0 = some 13 ∧ Mx l yX13_wayOf (ws_ yX13_wayOf cX13_wayOf 5 (some .int)) rm_X13_wayOf g [va_rf a0, .int x1, .int x2, .int x3] w (.returned (some (.int r9))) w9 0 0 := by
  unfold F_X13_wayOf at hF
  obtain ⟨ht, hF⟩ := bg hF
  refine ⟨ht, mk_ct cX13_wayOf 5 (some .int) "CarryFairModel" (plainFor_of_name (by decide)) rfl (lg_le ⟨cr _, rfl, rfl, rfl, trivial⟩ (Nat.le_of_ble_eq_true rfl)) (av_ok ⟨cr _, rfl, rfl, rfl, trivial⟩) G (fun x B hl hR hin hh => ?_)⟩
  show J g x _ _ 0 0 w 0 0 0 [some (va_rf a0), some (.int x1), some (.int x2), some (.int x3), none] []
  have jb33 : ∀ (a0 : Option Nat) (x1 : Int32) (x2 : Int32) (x3 : Int32) (s0 : Int32) (w : cH), F_X13_wayOf_J33  a0 x1 x2 x3 s0 w = some (r9, w9) → J g x (.returned (some (.int r9))) w9 0 0 w 0 0 33 [some (va_rf a0), some (.int x1), some (.int x2), some (.int x3), none] [.int s0] := by
    intro a0 x1 x2 x3 s0 w hF
    unfold F_X13_wayOf_J33 at hF
    refine j_istore (vs' := [some (va_rf a0), some (.int x1), some (.int x2), some (.int x3), some (.int s0)]) B dX13_wayOf_33 (by decide) rfl ?_
    refine j_iload B dX13_wayOf_35 rfl ?_
    refine j_if_eq (tgt := 55) B dX13_wayOf_37 (by decide) hF (fun h37 hF => ?_) (fun h37 hF => ?_)
    · refine j_aload_n B dX13_wayOf_55 rfl ?_
      refine j_ldc (v := (-1000001)) B q1436 dX13_wayOf_56 ?_
      obtain ⟨i58, w58, e58, hF⟩ := bc hF
      refine j_rV (st2 := [.int i58]) B [.int (-1000001)] [] cv_X13_92 dX13_wayOf_58 hl hR (ct_X13_finding G e58) rfl rfl rfl rfl trivial (Nat.le_of_ble_eq_true rfl) ?_
      exact j_lIw B rfl dX13_wayOf_61 hF (by decide) (by decide)
    · refine j_aload_n B dX13_wayOf_40 rfl ?_
      refine j_getA B fl_X13_9 dX13_wayOf_41 hF (fun a41p hF => ?_)
      refine j_iload_n B dX13_wayOf_44 rfl ?_
      refine j_iload_n B dX13_wayOf_45 rfl ?_
      refine j_rS (st2 := [.int (F_X13_wayAt x1 x2), va_rf a41p]) B [.int x1, .int x2] [va_rf a41p] cs_X13_144 dX13_wayOf_46 hl hR (ct_X13_wayAt G) rfl rfl rfl rfl ⟨cr _, trivial⟩ (Nat.le_of_ble_eq_true rfl) ?_
      refine j_iload_n B dX13_wayOf_49 rfl ?_
      refine j_iadd B dX13_wayOf_50 ?_
      refine j_iaload B dX13_wayOf_51 hF (fun i51 hF => ?_)
      refine j_goto (tgt := 61) B dX13_wayOf_52 (by decide) ?_
      exact j_lIw B rfl dX13_wayOf_61 hF (by decide) (by decide)
  have jb32 : ∀ (a0 : Option Nat) (x1 : Int32) (x2 : Int32) (x3 : Int32) (w : cH), F_X13_wayOf_J32  a0 x1 x2 x3 w = some (r9, w9) → J g x (.returned (some (.int r9))) w9 0 0 w 0 0 32 [some (va_rf a0), some (.int x1), some (.int x2), some (.int x3), none] [] := by
    intro a0 x1 x2 x3 w hF
    unfold F_X13_wayOf_J32 at hF
    refine j_iconst (v := 0) B dX13_wayOf_32 (by decide) ?_
    exact jb33 a0 x1 x2 x3 0 w hF
  refine j_iload_n B dX13_wayOf_0 rfl ?_
  refine j_rS (st2 := [.int (F_X13_isPlace x1)]) B [.int x1] [] cs_X13_129 dX13_wayOf_1 hl hR (ct_X13_isPlace G) rfl rfl rfl rfl trivial (Nat.le_of_ble_eq_true rfl) ?_
  refine j_if_eq (tgt := 32) B dX13_wayOf_4 (by decide) hF (fun h4 hF => ?_) (fun h4 hF => ?_)
  · exact jb32 a0 x1 x2 x3 w hF
  · refine j_iload_n B dX13_wayOf_7 rfl ?_
    refine j_rS (st2 := [.int (F_X13_isPlace x2)]) B [.int x2] [] cs_X13_129 dX13_wayOf_8 hl hR (ct_X13_isPlace G) rfl rfl rfl rfl trivial (Nat.le_of_ble_eq_true rfl) ?_
    refine j_if_eq (tgt := 32) B dX13_wayOf_11 (by decide) hF (fun h11 hF => ?_) (fun h11 hF => ?_)
    · exact jb32 a0 x1 x2 x3 w hF
    · refine j_iload_n B dX13_wayOf_14 rfl ?_
      refine j_iload_n B dX13_wayOf_15 rfl ?_
      refine j_icmp_eq (tgt := 32) B dX13_wayOf_16 (by decide) hF (fun h16 hF => ?_) (fun h16 hF => ?_)
      · exact jb32 a0 x1 x2 x3 w hF
      · refine j_iload_n B dX13_wayOf_19 rfl ?_
        refine j_iconst (v := 0) B dX13_wayOf_20 (by decide) ?_
        refine j_iconst (v := 1) B dX13_wayOf_21 (by decide) ?_
        refine j_rS (st2 := [.int (F_X13_within x3 0 1)]) B [.int x3, .int 0, .int 1] [] cs_X13_77 dX13_wayOf_22 hl hR (ct_X13_within G) rfl rfl rfl rfl trivial (Nat.le_of_ble_eq_true rfl) ?_
        refine j_if_eq (tgt := 32) B dX13_wayOf_25 (by decide) hF (fun h25 hF => ?_) (fun h25 hF => ?_)
        · exact jb32 a0 x1 x2 x3 w hF
        · refine j_iconst (v := 1) B dX13_wayOf_28 (by decide) ?_
          refine j_goto (tgt := 33) B dX13_wayOf_29 (by decide) ?_
          exact jb33 a0 x1 x2 x3 1 w hF
def F_X13_newErrand (a0 : Option Nat) (x1 : Int32) (x2 : Int32) (x3 : Int32) (w : cH) : Option (Int32 × cH) :=
  if tg w a0 = some 13 then ((fA w a0 13 0).bind fun a1p => (aI w a1p 100 43).bind fun i6 => (fA w a0 13 0).bind fun a10p => (aS w a10p 100 (F_X13_eAt i6 0) (.int x1)).bind fun w20 => (fA w20 a0 13 0).bind fun a22p => (aS w20 a22p 100 (F_X13_eAt i6 1) (.int x2)).bind fun w32 => (fA w32 a0 13 0).bind fun a34p => (aS w32 a34p 100 (F_X13_eAt i6 2) (.int x3)).bind fun w44 => (fA w44 a0 13 0).bind fun a46p => (aS w44 a46p 100 (F_X13_eAt i6 3) (.int 0)).bind fun w56 => (fA w56 a0 13 0).bind fun a58p => (aS w56 a58p 100 (F_X13_eAt i6 4) (.int (-1))).bind fun w68 => (fA w68 a0 13 0).bind fun a70p => (aI w68 a70p 100 43).bind fun i76 => (aS w68 a70p 100 43 (.int (i76 + 1))).bind fun w79 => some (i6, w79)) else none
abbrev rm_X13_newErrand : Room := { frames := 1, cells := 0, slots := 0, locals := 21 }
set_option maxHeartbeats 4000000 in
set_option maxRecDepth 100000 in
theorem ct_X13_newErrand {l : Launch} {g : Gt} (G : Gok g) {a0 : Option Nat} {x1 : Int32} {x2 : Int32} {x3 : Int32} {w : cH} {r9 : Int32} {w9 : cH} (hF : F_X13_newErrand a0 x1 x2 x3 w = some (r9, w9)) : tg w a0 = some 13 ∧ Mx l yX13_newErrand (ws_ yX13_newErrand cX13_newErrand 5 (some .int)) rm_X13_newErrand g [va_rf a0, .int x1, .int x2, .int x3] w (.returned (some (.int r9))) w9 0 0 := by
  unfold F_X13_newErrand at hF
  obtain ⟨ht, hF⟩ := bg hF
  refine ⟨ht, mk_ct cX13_newErrand 5 (some .int) "CarryFairModel" (plainFor_of_name (by decide)) rfl (lg_le ⟨cr _, rfl, rfl, rfl, trivial⟩ (Nat.le_of_ble_eq_true rfl)) (av_ok ⟨cr _, rfl, rfl, rfl, trivial⟩) G (fun x B hl hR hin hh => ?_)⟩
  show J g x _ _ 0 0 w 0 0 0 [some (va_rf a0), some (.int x1), some (.int x2), some (.int x3), none] []
  refine j_aload_n B dX13_newErrand_0 rfl ?_
  refine j_getA B fl_X13_9 dX13_newErrand_1 hF (fun a1p hF => ?_)
  refine j_bipush (v := 43) B dX13_newErrand_4 (by decide) ?_
  refine j_iaload B dX13_newErrand_6 hF (fun i6 hF => ?_)
  refine j_istore (vs' := [some (va_rf a0), some (.int x1), some (.int x2), some (.int x3), some (.int i6)]) B dX13_newErrand_7 (by decide) rfl ?_
  refine j_aload_n B dX13_newErrand_9 rfl ?_
  refine j_getA B fl_X13_9 dX13_newErrand_10 hF (fun a10p hF => ?_)
  refine j_iload B dX13_newErrand_13 rfl ?_
  refine j_iconst (v := 0) B dX13_newErrand_15 (by decide) ?_
  refine j_rS (st2 := [.int (F_X13_eAt i6 0), va_rf a10p]) B [.int i6, .int 0] [va_rf a10p] cs_X13_85 dX13_newErrand_16 hl hR (ct_X13_eAt G) rfl rfl rfl rfl ⟨cr _, trivial⟩ (Nat.le_of_ble_eq_true rfl) ?_
  refine j_iload_n B dX13_newErrand_19 rfl ?_
  refine j_iastore B dX13_newErrand_20 hF (fun w20 hF => ?_)
  refine j_aload_n B dX13_newErrand_21 rfl ?_
  refine j_getA B fl_X13_9 dX13_newErrand_22 hF (fun a22p hF => ?_)
  refine j_iload B dX13_newErrand_25 rfl ?_
  refine j_iconst (v := 1) B dX13_newErrand_27 (by decide) ?_
  refine j_rS (st2 := [.int (F_X13_eAt i6 1), va_rf a22p]) B [.int i6, .int 1] [va_rf a22p] cs_X13_85 dX13_newErrand_28 hl hR (ct_X13_eAt G) rfl rfl rfl rfl ⟨cr _, trivial⟩ (Nat.le_of_ble_eq_true rfl) ?_
  refine j_iload_n B dX13_newErrand_31 rfl ?_
  refine j_iastore B dX13_newErrand_32 hF (fun w32 hF => ?_)
  refine j_aload_n B dX13_newErrand_33 rfl ?_
  refine j_getA B fl_X13_9 dX13_newErrand_34 hF (fun a34p hF => ?_)
  refine j_iload B dX13_newErrand_37 rfl ?_
  refine j_iconst (v := 2) B dX13_newErrand_39 (by decide) ?_
  refine j_rS (st2 := [.int (F_X13_eAt i6 2), va_rf a34p]) B [.int i6, .int 2] [va_rf a34p] cs_X13_85 dX13_newErrand_40 hl hR (ct_X13_eAt G) rfl rfl rfl rfl ⟨cr _, trivial⟩ (Nat.le_of_ble_eq_true rfl) ?_
  refine j_iload_n B dX13_newErrand_43 rfl ?_
  refine j_iastore B dX13_newErrand_44 hF (fun w44 hF => ?_)
  refine j_aload_n B dX13_newErrand_45 rfl ?_
  refine j_getA B fl_X13_9 dX13_newErrand_46 hF (fun a46p hF => ?_)
  refine j_iload B dX13_newErrand_49 rfl ?_
  refine j_iconst (v := 3) B dX13_newErrand_51 (by decide) ?_
  refine j_rS (st2 := [.int (F_X13_eAt i6 3), va_rf a46p]) B [.int i6, .int 3] [va_rf a46p] cs_X13_85 dX13_newErrand_52 hl hR (ct_X13_eAt G) rfl rfl rfl rfl ⟨cr _, trivial⟩ (Nat.le_of_ble_eq_true rfl) ?_
  refine j_iconst (v := 0) B dX13_newErrand_55 (by decide) ?_
  refine j_iastore B dX13_newErrand_56 hF (fun w56 hF => ?_)
  refine j_aload_n B dX13_newErrand_57 rfl ?_
  refine j_getA B fl_X13_9 dX13_newErrand_58 hF (fun a58p hF => ?_)
  refine j_iload B dX13_newErrand_61 rfl ?_
  refine j_iconst (v := 4) B dX13_newErrand_63 (by decide) ?_
  refine j_rS (st2 := [.int (F_X13_eAt i6 4), va_rf a58p]) B [.int i6, .int 4] [va_rf a58p] cs_X13_85 dX13_newErrand_64 hl hR (ct_X13_eAt G) rfl rfl rfl rfl ⟨cr _, trivial⟩ (Nat.le_of_ble_eq_true rfl) ?_
  refine j_iconst (v := (-1)) B dX13_newErrand_67 (by decide) ?_
  refine j_iastore B dX13_newErrand_68 hF (fun w68 hF => ?_)
  refine j_aload_n B dX13_newErrand_69 rfl ?_
  refine j_getA B fl_X13_9 dX13_newErrand_70 hF (fun a70p hF => ?_)
  refine j_bipush (v := 43) B dX13_newErrand_73 (by decide) ?_
  refine j_dup2 B dX13_newErrand_75 rfl (cr _) ?_
  refine j_iaload B dX13_newErrand_76 hF (fun i76 hF => ?_)
  refine j_iconst (v := 1) B dX13_newErrand_77 (by decide) ?_
  refine j_iadd B dX13_newErrand_78 ?_
  refine j_iastore B dX13_newErrand_79 hF (fun w79 hF => ?_)
  refine j_iload B dX13_newErrand_80 rfl ?_
  exact j_lIw B rfl dX13_newErrand_82 hF (by decide) (by decide)
theorem cv_X13_151 : CV "CarryFairModel" 151 13 yX13_newErrand cX13_newErrand 5 (some .int) 3 := ⟨_, _, rfl, lw_V q1522 q1524 qs81 q142 q1525, by decide +kernel⟩
def F_X13_errand_J29 (a0 : Option Nat) (w : cH) : Option (Int32 × cH) :=
  cb (F_X13_finding a0 (-1000001) w) fun i32 w32 => some (i32, w32)
def F_X13_errand (a0 : Option Nat) (x1 : Int32) (x2 : Int32) (x3 : Int32) (w : cH) : Option (Int32 × cH) :=
  if tg w a0 = some 13 then (if (F_X13_within x1 1 60) = 0 then (F_X13_errand_J29  a0 w) else (if (F_X13_isPlace x2) = 0 then (F_X13_errand_J29  a0 w) else (if (F_X13_isPlace x3) = 0 then (F_X13_errand_J29  a0 w) else (if ¬ x2 = x3 then ((fA w a0 13 0).bind fun a37p => (aI w a37p 100 43).bind fun i42 =>if ¬ i42 = 8 then (cb (F_X13_newErrand a0 x1 x2 x3 w) fun i61 w61 => some (i61, w61)) else (cb (F_X13_finding a0 (-1000002) w) fun i51 w51 => some (i51, w51))) else (F_X13_errand_J29  a0 w))))) else none
abbrev rm_X13_errand : Room := { frames := 2, cells := 0, slots := 0, locals := 45 }
set_option maxHeartbeats 4000000 in
set_option maxRecDepth 100000 in
theorem ct_X13_errand {l : Launch} {g : Gt} (G : Gok g) {a0 : Option Nat} {x1 : Int32} {x2 : Int32} {x3 : Int32} {w : cH} {r9 : Int32} {w9 : cH} (hF : F_X13_errand a0 x1 x2 x3 w = some (r9, w9)) : tg w a0 = some 13 ∧ Mx l yX13_errand (ws_ yX13_errand cX13_errand 4 (some .int)) rm_X13_errand g [va_rf a0, .int x1, .int x2, .int x3] w (.returned (some (.int r9))) w9 0 0 := by
  unfold F_X13_errand at hF
  obtain ⟨ht, hF⟩ := bg hF
  refine ⟨ht, mk_ct cX13_errand 4 (some .int) "CarryFairModel" (plainFor_of_name (by decide)) rfl (lg_le ⟨cr _, rfl, rfl, rfl, trivial⟩ (Nat.le_of_ble_eq_true rfl)) (av_ok ⟨cr _, rfl, rfl, rfl, trivial⟩) G (fun x B hl hR hin hh => ?_)⟩
  show J g x _ _ 0 0 w 0 0 0 [some (va_rf a0), some (.int x1), some (.int x2), some (.int x3)] []
  have jb29 : ∀ (a0 : Option Nat) (w : cH), F_X13_errand_J29  a0 w = some (r9, w9) → J g x (.returned (some (.int r9))) w9 0 0 w 0 0 29 [some (va_rf a0), none, none, none] [] := by
    intro a0 w hF
    unfold F_X13_errand_J29 at hF
    refine j_aload_n B dX13_errand_29 rfl ?_
    refine j_ldc (v := (-1000001)) B q1436 dX13_errand_30 ?_
    obtain ⟨i32, w32, e32, hF⟩ := bc hF
    refine j_rV (st2 := [.int i32]) B [.int (-1000001)] [] cv_X13_92 dX13_errand_32 hl hR (ct_X13_finding G e32) rfl rfl rfl rfl trivial (Nat.le_of_ble_eq_true rfl) ?_
    exact j_lIw B rfl dX13_errand_35 hF (by decide) (by decide)
  refine j_iload_n B dX13_errand_0 rfl ?_
  refine j_iconst (v := 1) B dX13_errand_1 (by decide) ?_
  refine j_bipush (v := 60) B dX13_errand_2 (by decide) ?_
  refine j_rS (st2 := [.int (F_X13_within x1 1 60)]) B [.int x1, .int 1, .int 60] [] cs_X13_77 dX13_errand_4 hl hR (ct_X13_within G) rfl rfl rfl rfl trivial (Nat.le_of_ble_eq_true rfl) ?_
  refine j_if_eq (tgt := 29) B dX13_errand_7 (by decide) hF (fun h7 hF => ?_) (fun h7 hF => ?_)
  · refine j_msk [true, false, false, false] rfl ?_
    exact jb29 a0 w hF
  · refine j_iload_n B dX13_errand_10 rfl ?_
    refine j_rS (st2 := [.int (F_X13_isPlace x2)]) B [.int x2] [] cs_X13_129 dX13_errand_11 hl hR (ct_X13_isPlace G) rfl rfl rfl rfl trivial (Nat.le_of_ble_eq_true rfl) ?_
    refine j_if_eq (tgt := 29) B dX13_errand_14 (by decide) hF (fun h14 hF => ?_) (fun h14 hF => ?_)
    · refine j_msk [true, false, false, false] rfl ?_
      exact jb29 a0 w hF
    · refine j_iload_n B dX13_errand_17 rfl ?_
      refine j_rS (st2 := [.int (F_X13_isPlace x3)]) B [.int x3] [] cs_X13_129 dX13_errand_18 hl hR (ct_X13_isPlace G) rfl rfl rfl rfl trivial (Nat.le_of_ble_eq_true rfl) ?_
      refine j_if_eq (tgt := 29) B dX13_errand_21 (by decide) hF (fun h21 hF => ?_) (fun h21 hF => ?_)
      · refine j_msk [true, false, false, false] rfl ?_
        exact jb29 a0 w hF
      · refine j_iload_n B dX13_errand_24 rfl ?_
        refine j_iload_n B dX13_errand_25 rfl ?_
        refine j_icmp_ne (tgt := 36) B dX13_errand_26 (by decide) hF (fun h26 hF => ?_) (fun h26 hF => ?_)
        · refine j_aload_n B dX13_errand_36 rfl ?_
          refine j_getA B fl_X13_9 dX13_errand_37 hF (fun a37p hF => ?_)
          refine j_bipush (v := 43) B dX13_errand_40 (by decide) ?_
          refine j_iaload B dX13_errand_42 hF (fun i42 hF => ?_)
          refine j_bipush (v := 8) B dX13_errand_43 (by decide) ?_
          refine j_icmp_ne (tgt := 57) B dX13_errand_45 (by decide) hF (fun h45 hF => ?_) (fun h45 hF => ?_)
          · refine j_aload_n B dX13_errand_57 rfl ?_
            refine j_iload_n B dX13_errand_58 rfl ?_
            refine j_iload_n B dX13_errand_59 rfl ?_
            refine j_iload_n B dX13_errand_60 rfl ?_
            obtain ⟨i61, w61, e61, hF⟩ := bc hF
            refine j_rV (st2 := [.int i61]) B [.int x1, .int x2, .int x3] [] cv_X13_151 dX13_errand_61 hl hR (ct_X13_newErrand G e61) rfl rfl rfl rfl trivial (Nat.le_of_ble_eq_true rfl) ?_
            exact j_lIw B rfl dX13_errand_64 hF (by decide) (by decide)
          · refine j_aload_n B dX13_errand_48 rfl ?_
            refine j_ldc (v := (-1000002)) B q1441 dX13_errand_49 ?_
            obtain ⟨i51, w51, e51, hF⟩ := bc hF
            refine j_rV (st2 := [.int i51]) B [.int (-1000002)] [] cv_X13_92 dX13_errand_51 hl hR (ct_X13_finding G e51) rfl rfl rfl rfl trivial (Nat.le_of_ble_eq_true rfl) ?_
            refine j_goto (tgt := 64) B dX13_errand_54 (by decide) ?_
            exact j_lIw B rfl dX13_errand_64 hF (by decide) (by decide)
        · refine j_msk [true, false, false, false] rfl ?_
          exact jb29 a0 w hF
def F_X13_isErrand (a0 : Option Nat) (x1 : Int32) (w : cH) : Option Int32 :=
  if tg w a0 = some 13 then ((fA w a0 13 0).bind fun a3p => (aI w a3p 100 43).bind fun i8 => some ((F_X13_within x1 0 (i8 - 1)) &&& 1)) else none
abbrev rm_X13_isErrand : Room := { frames := 1, cells := 0, slots := 0, locals := 22 }
set_option maxHeartbeats 4000000 in
set_option maxRecDepth 100000 in
theorem ct_X13_isErrand {l : Launch} {g : Gt} (G : Gok g) {a0 : Option Nat} {x1 : Int32} {w : cH} {r9 : Int32} (hF : F_X13_isErrand a0 x1 w = some r9) : tg w a0 = some 13 ∧ Mx l yX13_isErrand (ws_ yX13_isErrand cX13_isErrand 2 (some .boolean)) rm_X13_isErrand g [va_rf a0, .int x1] w (.returned (some (.int r9))) w 0 0 := by
  unfold F_X13_isErrand at hF
  obtain ⟨ht, hF⟩ := bg hF
  refine ⟨ht, mk_ct cX13_isErrand 2 (some .boolean) "CarryFairModel" (plainFor_of_name (by decide)) rfl (lg_le ⟨cr _, rfl, trivial⟩ (Nat.le_of_ble_eq_true rfl)) (av_ok ⟨cr _, rfl, trivial⟩) G (fun x B hl hR hin hh => ?_)⟩
  show J g x _ _ 0 0 w 0 0 0 [some (va_rf a0), some (.int x1)] []
  refine j_iload_n B dX13_isErrand_0 rfl ?_
  refine j_iconst (v := 0) B dX13_isErrand_1 (by decide) ?_
  refine j_aload_n B dX13_isErrand_2 rfl ?_
  refine j_getA B fl_X13_9 dX13_isErrand_3 hF (fun a3p hF => ?_)
  refine j_bipush (v := 43) B dX13_isErrand_6 (by decide) ?_
  refine j_iaload B dX13_isErrand_8 hF (fun i8 hF => ?_)
  refine j_iconst (v := 1) B dX13_isErrand_9 (by decide) ?_
  refine j_isub B dX13_isErrand_10 ?_
  refine j_rS (st2 := [.int (F_X13_within x1 0 (i8 - 1))]) B [.int x1, .int 0, .int (i8 - 1)] [] cs_X13_77 dX13_isErrand_11 hl hR (ct_X13_within G) rfl rfl rfl rfl trivial (Nat.le_of_ble_eq_true rfl) ?_
  exact j_lB B rfl dX13_isErrand_14 hF (by decide) (by decide)
def F_X13_counts_J33 (x1 : Int32) (x4 : Int32) (s0 : Int32) (w : cH) : Option Int32 :=
  if s0 = 0 then (some (x4)) else (if ¬ x1 = 5 then (if ¬ x1 = 6 then (some (2 * x4)) else (some (F_J3_max 1 (x4 / 2)))) else (some (x4)))
def F_X13_counts (a0 : Option Nat) (x1 : Int32) (x2 : Int32) (x3 : Int32) (w : cH) : Option Int32 :=
  if tg w a0 = some 13 then ((fA w a0 13 0).bind fun a1p => (aI w a1p 100 (F_X13_wayAt x2 x3)).bind fun i9 => (fA w a0 13 0).bind fun a13p => (aI w a13p 100 ((F_X13_wayAt x2 x3) + 1)).bind fun i23 =>if ¬ i23 = 1 then (F_X13_counts_J33  x1 i9 0 w) else (F_X13_counts_J33  x1 i9 1 w)) else none
abbrev rm_X13_counts : Room := { frames := 2, cells := 0, slots := 0, locals := 44 }
set_option maxHeartbeats 4000000 in
set_option maxRecDepth 100000 in
theorem ct_X13_counts {l : Launch} {g : Gt} (G : Gok g) {a0 : Option Nat} {x1 : Int32} {x2 : Int32} {x3 : Int32} {w : cH} {r9 : Int32} (hF : F_X13_counts a0 x1 x2 x3 w = some r9) : tg w a0 = some 13 ∧ Mx l yX13_counts (ws_ yX13_counts cX13_counts 6 (some .int)) rm_X13_counts g [va_rf a0, .int x1, .int x2, .int x3] w (.returned (some (.int r9))) w 0 0 := by
  unfold F_X13_counts at hF
  obtain ⟨ht, hF⟩ := bg hF
  refine ⟨ht, mk_ct cX13_counts 6 (some .int) "CarryFairModel" (plainFor_of_name (by decide)) rfl (lg_le ⟨cr _, rfl, rfl, rfl, trivial⟩ (Nat.le_of_ble_eq_true rfl)) (av_ok ⟨cr _, rfl, rfl, rfl, trivial⟩) G (fun x B hl hR hin hh => ?_)⟩
  show J g x _ _ 0 0 w 0 0 0 [some (va_rf a0), some (.int x1), some (.int x2), some (.int x3), none, none] []
  have jb33 : ∀ (x1 : Int32) (x4 : Int32) (s0 : Int32), F_X13_counts_J33  x1 x4 s0 w = some r9 → J g x (.returned (some (.int r9))) w 0 0 w 0 0 33 [none, some (.int x1), none, none, some (.int x4), none] [.int s0] := by
    intro x1 x4 s0 hF
    unfold F_X13_counts_J33 at hF
    refine j_istore (vs' := [none, some (.int x1), none, none, some (.int x4), some (.int s0)]) B dX13_counts_33 (by decide) rfl ?_
    refine j_iload B dX13_counts_35 rfl ?_
    refine j_if_eq (tgt := 45) B dX13_counts_37 (by decide) hF (fun h37 hF => ?_) (fun h37 hF => ?_)
    · refine j_iload B dX13_counts_45 rfl ?_
      exact j_lI B rfl dX13_counts_47 hF (by decide) (by decide)
    · refine j_iload_n B dX13_counts_40 rfl ?_
      refine j_iconst (v := 5) B dX13_counts_41 (by decide) ?_
      refine j_icmp_ne (tgt := 48) B dX13_counts_42 (by decide) hF (fun h42 hF => ?_) (fun h42 hF => ?_)
      · refine j_iload_n B dX13_counts_48 rfl ?_
        refine j_bipush (v := 6) B dX13_counts_49 (by decide) ?_
        refine j_icmp_ne (tgt := 65) B dX13_counts_51 (by decide) hF (fun h51 hF => ?_) (fun h51 hF => ?_)
        · refine j_iconst (v := 2) B dX13_counts_65 (by decide) ?_
          refine j_iload B dX13_counts_66 rfl ?_
          refine j_imul B dX13_counts_68 ?_
          exact j_lI B rfl dX13_counts_69 hF (by decide) (by decide)
        · refine j_iconst (v := 1) B dX13_counts_54 (by decide) ?_
          refine j_iload B dX13_counts_55 rfl ?_
          refine j_iconst (v := 2) B dX13_counts_57 (by decide) ?_
          refine j_idiv B dX13_counts_58 (by decide) ?_
          refine j_rS (st2 := [.int (F_J3_max 1 (x4 / 2))]) B [.int 1, .int (x4 / 2)] [] cs_X13_141 dX13_counts_59 hl hR (ct_J3_max G) rfl rfl rfl rfl trivial (Nat.le_of_ble_eq_true rfl) ?_
          refine j_goto (tgt := 69) B dX13_counts_62 (by decide) ?_
          exact j_lI B rfl dX13_counts_69 hF (by decide) (by decide)
      · refine j_iload B dX13_counts_45 rfl ?_
        exact j_lI B rfl dX13_counts_47 hF (by decide) (by decide)
  refine j_aload_n B dX13_counts_0 rfl ?_
  refine j_getA B fl_X13_9 dX13_counts_1 hF (fun a1p hF => ?_)
  refine j_iload_n B dX13_counts_4 rfl ?_
  refine j_iload_n B dX13_counts_5 rfl ?_
  refine j_rS (st2 := [.int (F_X13_wayAt x2 x3), va_rf a1p]) B [.int x2, .int x3] [va_rf a1p] cs_X13_144 dX13_counts_6 hl hR (ct_X13_wayAt G) rfl rfl rfl rfl ⟨cr _, trivial⟩ (Nat.le_of_ble_eq_true rfl) ?_
  refine j_iaload B dX13_counts_9 hF (fun i9 hF => ?_)
  refine j_istore (vs' := [some (va_rf a0), some (.int x1), some (.int x2), some (.int x3), some (.int i9), none]) B dX13_counts_10 (by decide) rfl ?_
  refine j_aload_n B dX13_counts_12 rfl ?_
  refine j_getA B fl_X13_9 dX13_counts_13 hF (fun a13p hF => ?_)
  refine j_iload_n B dX13_counts_16 rfl ?_
  refine j_iload_n B dX13_counts_17 rfl ?_
  refine j_rS (st2 := [.int (F_X13_wayAt x2 x3), va_rf a13p]) B [.int x2, .int x3] [va_rf a13p] cs_X13_144 dX13_counts_18 hl hR (ct_X13_wayAt G) rfl rfl rfl rfl ⟨cr _, trivial⟩ (Nat.le_of_ble_eq_true rfl) ?_
  refine j_iconst (v := 1) B dX13_counts_21 (by decide) ?_
  refine j_iadd B dX13_counts_22 ?_
  refine j_iaload B dX13_counts_23 hF (fun i23 hF => ?_)
  refine j_iconst (v := 1) B dX13_counts_24 (by decide) ?_
  refine j_icmp_ne (tgt := 32) B dX13_counts_25 (by decide) hF (fun h25 hF => ?_) (fun h25 hF => ?_)
  · refine j_iconst (v := 0) B dX13_counts_32 (by decide) ?_
    refine j_msk [false, true, false, false, true, false] rfl ?_
    exact jb33 x1 i9 0 hF
  · refine j_iconst (v := 1) B dX13_counts_28 (by decide) ?_
    refine j_goto (tgt := 33) B dX13_counts_29 (by decide) ?_
    refine j_msk [false, true, false, false, true, false] rfl ?_
    exact jb33 x1 i9 1 hF
theorem fl_X13_22 : FL "CarryFairModel" 22 13 5 := ⟨RX13, TX13, 30, rfl, by decide, in_X13, Or.inl q1340⟩
theorem cv_X13_171 : CV "CarryFairModel" 171 13 yX13_counts cX13_counts 6 (some .int) 3 := ⟨_, _, rfl, lw_V q1547 q1549 qs86 q142 q1550, by decide +kernel⟩
def F_X13_findFar_B92 (rc75 : (Option Nat) → Int32 → cH → Option cH) (rc83 : (Option Nat) → Int32 → Int32 → cH → Option cH) (rc92 : Option Nat → Int32 → Int32 → Int32 → cH → Option cH) (a0 : Option Nat) (x2 : Int32) (x3 : Int32) (x4 : Int32) (w : cH) : Option cH :=
  if 7 ≤ x4 then (rc83 a0 x2 (x3 + 1) w) else ((fA w a0 13 5).bind fun a100p => (fA w a0 13 5).bind fun a111p => (aI w a111p 100 ((7 * x3) + x4)).bind fun i121 => (fA w a0 13 5).bind fun a123p => (aI w a123p 100 ((7 * x3) + x2)).bind fun i132 => (fA w a0 13 5).bind fun a134p => (aI w a134p 100 ((7 * x2) + x4)).bind fun i144 => (aS w a100p 100 ((7 * x3) + x4) (.int (F_J3_min i121 (i132 + i144)))).bind fun w149 => rc92 a0 x2 x3 (x4 + 1) w149)
def F_X13_findFar_L92 (rc75 : (Option Nat) → Int32 → cH → Option cH) (rc83 : (Option Nat) → Int32 → Int32 → cH → Option cH) : Nat → Option Nat → Int32 → Int32 → Int32 → cH → Option cH
  | 0, _, _, _, _, _ => none
  | n9 + 1, a0, x2, x3, x4, w => F_X13_findFar_B92  rc75 rc83 (F_X13_findFar_L92  rc75 rc83 n9) a0 x2 x3 x4 w
def F_X13_findFar_B83 (rc75 : (Option Nat) → Int32 → cH → Option cH) (rc83 : Option Nat → Int32 → Int32 → cH → Option cH) (a0 : Option Nat) (x2 : Int32) (x3 : Int32) (w : cH) : Option cH :=
  if 7 ≤ x3 then (rc75 a0 (x2 + 1) w) else (F_X13_findFar_L92  rc75 rc83 fu a0 x2 x3 0 w)
def F_X13_findFar_L83 (rc75 : (Option Nat) → Int32 → cH → Option cH) : Nat → Option Nat → Int32 → Int32 → cH → Option cH
  | 0, _, _, _, _ => none
  | n9 + 1, a0, x2, x3, w => F_X13_findFar_B83  rc75 (F_X13_findFar_L83  rc75 n9) a0 x2 x3 w
def F_X13_findFar_B75 (rc75 : Option Nat → Int32 → cH → Option cH) (a0 : Option Nat) (x2 : Int32) (w : cH) : Option cH :=
  if 7 ≤ x2 then (some w) else (F_X13_findFar_L83  rc75 fu a0 x2 0 w)
def F_X13_findFar_L75 : Nat → Option Nat → Int32 → cH → Option cH
  | 0, _, _, _ => none
  | n9 + 1, a0, x2, w => F_X13_findFar_B75  (F_X13_findFar_L75  n9) a0 x2 w
def F_X13_findFar_J60 (rc2 : (Option Nat) → Int32 → Int32 → cH → Option cH) (rc10 : (Option Nat) → Int32 → Int32 → Int32 → cH → Option cH) (a0 : Option Nat) (x1 : Int32) (x2 : Int32) (x3 : Int32) (s0 : Int32) (s1 : Int32) (s2 : Option Nat) (w : cH) : Option cH :=
  (aS w s2 100 s1 (.int s0)).bind fun w60 => rc10 a0 x1 x2 (x3 + 1) w60
def F_X13_findFar_B10 (rc2 : (Option Nat) → Int32 → Int32 → cH → Option cH) (rc10 : Option Nat → Int32 → Int32 → Int32 → cH → Option cH) (a0 : Option Nat) (x1 : Int32) (x2 : Int32) (x3 : Int32) (w : cH) : Option cH :=
  if 7 ≤ x3 then (rc2 a0 x1 (x2 + 1) w) else ((fA w a0 13 5).bind fun a17p =>if ¬ x2 = x3 then ((fA w a0 13 0).bind fun a36p => (aI w a36p 100 (F_X13_wayAt x2 x3)).bind fun i44 =>if ¬ i44 = 0 then ((F_X13_counts a0 x1 x2 x3 w).bind fun i57 => F_X13_findFar_J60  rc2 rc10 a0 x1 x2 x3 i57 ((7 * x2) + x3) a17p w) else (F_X13_findFar_J60  rc2 rc10 a0 x1 x2 x3 1000000 ((7 * x2) + x3) a17p w)) else (F_X13_findFar_J60  rc2 rc10 a0 x1 x2 x3 0 ((7 * x2) + x3) a17p w))
def F_X13_findFar_L10 (rc2 : (Option Nat) → Int32 → Int32 → cH → Option cH) : Nat → Option Nat → Int32 → Int32 → Int32 → cH → Option cH
  | 0, _, _, _, _, _ => none
  | n9 + 1, a0, x1, x2, x3, w => F_X13_findFar_B10  rc2 (F_X13_findFar_L10  rc2 n9) a0 x1 x2 x3 w
def F_X13_findFar_B2 (rc2 : Option Nat → Int32 → Int32 → cH → Option cH) (a0 : Option Nat) (x1 : Int32) (x2 : Int32) (w : cH) : Option cH :=
  if 7 ≤ x2 then (F_X13_findFar_L75  fu a0 0 w) else (F_X13_findFar_L10  rc2 fu a0 x1 x2 0 w)
def F_X13_findFar_L2 : Nat → Option Nat → Int32 → Int32 → cH → Option cH
  | 0, _, _, _, _ => none
  | n9 + 1, a0, x1, x2, w => F_X13_findFar_B2  (F_X13_findFar_L2  n9) a0 x1 x2 w
def F_X13_findFar (a0 : Option Nat) (x1 : Int32) (w : cH) : Option cH :=
  if tg w a0 = some 13 then (F_X13_findFar_L2  fu a0 x1 0 w) else none
abbrev rm_X13_findFar : Room := { frames := 3, cells := 0, slots := 0, locals := 69 }
set_option maxHeartbeats 4000000 in
set_option maxRecDepth 100000 in
theorem ct_X13_findFar {l : Launch} {g : Gt} (G : Gok g) {a0 : Option Nat} {x1 : Int32} {w : cH}  {w9 : cH} (hF : F_X13_findFar a0 x1 w = some w9) : tg w a0 = some 13 ∧ Mx l yX13_findFar (ws_ yX13_findFar cX13_findFar 5 none) rm_X13_findFar g [va_rf a0, .int x1] w (.returned none) w9 0 0 := by
  unfold F_X13_findFar at hF
  obtain ⟨ht, hF⟩ := bg hF
  refine ⟨ht, mk_ct cX13_findFar 5 none "CarryFairModel" (plainFor_of_name (by decide)) rfl (lg_le ⟨cr _, rfl, trivial⟩ (Nat.le_of_ble_eq_true rfl)) (av_ok ⟨cr _, rfl, trivial⟩) G (fun x B hl hR hin hh => ?_)⟩
  show J g x _ _ 0 0 w 0 0 0 [some (va_rf a0), some (.int x1), none, none, none] []
  have lp75 : ∀ (n9 : Nat) (a0 : Option Nat) (x2 : Int32) (w : cH), F_X13_findFar_L75  n9 a0 x2 w = some w9 → J g x (.returned none) w9 0 0 w 0 0 75 [some (va_rf a0), none, some (.int x2), none, none] [] := by
    intro n9
    induction n9 with
    | zero => intro a0 x2 w hF; cases hF
    | succ n75 ih75 =>
      intro a0 x2 w hF
      have hF : F_X13_findFar_B75  (F_X13_findFar_L75  n75) a0 x2 w = some w9 := hF
      unfold F_X13_findFar_B75 at hF
      have lp83 : ∀ (n9 : Nat) (a0 : Option Nat) (x2 : Int32) (x3 : Int32) (w : cH), F_X13_findFar_L83  (F_X13_findFar_L75  n75) n9 a0 x2 x3 w = some w9 → J g x (.returned none) w9 0 0 w 0 0 83 [some (va_rf a0), none, some (.int x2), some (.int x3), none] [] := by
        intro n9
        induction n9 with
        | zero => intro a0 x2 x3 w hF; cases hF
        | succ n83 ih83 =>
          intro a0 x2 x3 w hF
          have hF : F_X13_findFar_B83  (F_X13_findFar_L75  n75) (F_X13_findFar_L83  (F_X13_findFar_L75  n75) n83) a0 x2 x3 w = some w9 := hF
          unfold F_X13_findFar_B83 at hF
          have lp92 : ∀ (n9 : Nat) (a0 : Option Nat) (x2 : Int32) (x3 : Int32) (x4 : Int32) (w : cH), F_X13_findFar_L92  (F_X13_findFar_L75  n75) (F_X13_findFar_L83  (F_X13_findFar_L75  n75) n83) n9 a0 x2 x3 x4 w = some w9 → J g x (.returned none) w9 0 0 w 0 0 92 [some (va_rf a0), none, some (.int x2), some (.int x3), some (.int x4)] [] := by
            intro n9
            induction n9 with
            | zero => intro a0 x2 x3 x4 w hF; cases hF
            | succ n92 ih92 =>
              intro a0 x2 x3 x4 w hF
              have hF : F_X13_findFar_B92  (F_X13_findFar_L75  n75) (F_X13_findFar_L83  (F_X13_findFar_L75  n75) n83) (F_X13_findFar_L92  (F_X13_findFar_L75  n75) (F_X13_findFar_L83  (F_X13_findFar_L75  n75) n83) n92) a0 x2 x3 x4 w = some w9 := hF
              unfold F_X13_findFar_B92 at hF
              refine j_iload B dX13_findFar_92 rfl ?_
              refine j_bipush (v := 7) B dX13_findFar_94 (by decide) ?_
              refine j_icmp_ge (tgt := 156) B dX13_findFar_96 (by decide) hF (fun h96 hF => ?_) (fun h96 hF => ?_)
              · refine j_iinc (v := x3 + 1) (vs' := [some (va_rf a0), none, some (.int x2), some (.int (x3 + 1)), some (.int x4)]) B dX13_findFar_156 (by decide) rfl rfl rfl ?_
                refine j_goto (tgt := 83) B dX13_findFar_159 (by decide) ?_
                refine j_msk [true, false, true, true, false] rfl ?_
                exact ih83 a0 x2 (x3 + 1) w hF
              · refine j_aload_n B dX13_findFar_99 rfl ?_
                refine j_getA B fl_X13_22 dX13_findFar_100 hF (fun a100p hF => ?_)
                refine j_bipush (v := 7) B dX13_findFar_103 (by decide) ?_
                refine j_iload_n B dX13_findFar_105 rfl ?_
                refine j_imul B dX13_findFar_106 ?_
                refine j_iload B dX13_findFar_107 rfl ?_
                refine j_iadd B dX13_findFar_109 ?_
                refine j_aload_n B dX13_findFar_110 rfl ?_
                refine j_getA B fl_X13_22 dX13_findFar_111 hF (fun a111p hF => ?_)
                refine j_bipush (v := 7) B dX13_findFar_114 (by decide) ?_
                refine j_iload_n B dX13_findFar_116 rfl ?_
                refine j_imul B dX13_findFar_117 ?_
                refine j_iload B dX13_findFar_118 rfl ?_
                refine j_iadd B dX13_findFar_120 ?_
                refine j_iaload B dX13_findFar_121 hF (fun i121 hF => ?_)
                refine j_aload_n B dX13_findFar_122 rfl ?_
                refine j_getA B fl_X13_22 dX13_findFar_123 hF (fun a123p hF => ?_)
                refine j_bipush (v := 7) B dX13_findFar_126 (by decide) ?_
                refine j_iload_n B dX13_findFar_128 rfl ?_
                refine j_imul B dX13_findFar_129 ?_
                refine j_iload_n B dX13_findFar_130 rfl ?_
                refine j_iadd B dX13_findFar_131 ?_
                refine j_iaload B dX13_findFar_132 hF (fun i132 hF => ?_)
                refine j_aload_n B dX13_findFar_133 rfl ?_
                refine j_getA B fl_X13_22 dX13_findFar_134 hF (fun a134p hF => ?_)
                refine j_bipush (v := 7) B dX13_findFar_137 (by decide) ?_
                refine j_iload_n B dX13_findFar_139 rfl ?_
                refine j_imul B dX13_findFar_140 ?_
                refine j_iload B dX13_findFar_141 rfl ?_
                refine j_iadd B dX13_findFar_143 ?_
                refine j_iaload B dX13_findFar_144 hF (fun i144 hF => ?_)
                refine j_iadd B dX13_findFar_145 ?_
                refine j_rS (st2 := [.int (F_J3_min i121 (i132 + i144)), .int ((7 * x3) + x4), va_rf a100p]) B [.int i121, .int (i132 + i144)] [.int ((7 * x3) + x4), va_rf a100p] cs_X13_136 dX13_findFar_146 hl hR (ct_J3_min G) rfl rfl rfl rfl ⟨rfl, cr _, trivial⟩ (Nat.le_of_ble_eq_true rfl) ?_
                refine j_iastore B dX13_findFar_149 hF (fun w149 hF => ?_)
                refine j_iinc (v := x4 + 1) (vs' := [some (va_rf a0), none, some (.int x2), some (.int x3), some (.int (x4 + 1))]) B dX13_findFar_150 (by decide) rfl rfl rfl ?_
                refine j_goto (tgt := 92) B dX13_findFar_153 (by decide) ?_
                exact ih92 a0 x2 x3 (x4 + 1) w149 hF
          refine j_iload_n B dX13_findFar_83 rfl ?_
          refine j_bipush (v := 7) B dX13_findFar_84 (by decide) ?_
          refine j_icmp_ge (tgt := 162) B dX13_findFar_86 (by decide) hF (fun h86 hF => ?_) (fun h86 hF => ?_)
          · refine j_iinc (v := x2 + 1) (vs' := [some (va_rf a0), none, some (.int (x2 + 1)), some (.int x3), none]) B dX13_findFar_162 (by decide) rfl rfl rfl ?_
            refine j_goto (tgt := 75) B dX13_findFar_165 (by decide) ?_
            refine j_msk [true, false, true, false, false] rfl ?_
            exact ih75 a0 (x2 + 1) w hF
          · refine j_iconst (v := 0) B dX13_findFar_89 (by decide) ?_
            refine j_istore (vs' := [some (va_rf a0), none, some (.int x2), some (.int x3), some (.int 0)]) B dX13_findFar_90 (by decide) rfl ?_
            exact lp92 fu a0 x2 x3 0 w hF
      refine j_iload_n B dX13_findFar_75 rfl ?_
      refine j_bipush (v := 7) B dX13_findFar_76 (by decide) ?_
      refine j_icmp_ge (tgt := 168) B dX13_findFar_78 (by decide) hF (fun h78 hF => ?_) (fun h78 hF => ?_)
      · exact j_lV B rfl dX13_findFar_168 hF (by decide) (by decide)
      · refine j_iconst (v := 0) B dX13_findFar_81 (by decide) ?_
        refine j_istore_n (vs' := [some (va_rf a0), none, some (.int x2), some (.int 0), none]) B dX13_findFar_82 (by decide) rfl ?_
        exact lp83 fu a0 x2 0 w hF
  have lp2 : ∀ (n9 : Nat) (a0 : Option Nat) (x1 : Int32) (x2 : Int32) (w : cH), F_X13_findFar_L2  n9 a0 x1 x2 w = some w9 → J g x (.returned none) w9 0 0 w 0 0 2 [some (va_rf a0), some (.int x1), some (.int x2), none, none] [] := by
    intro n9
    induction n9 with
    | zero => intro a0 x1 x2 w hF; cases hF
    | succ n2 ih2 =>
      intro a0 x1 x2 w hF
      have hF : F_X13_findFar_B2  (F_X13_findFar_L2  n2) a0 x1 x2 w = some w9 := hF
      unfold F_X13_findFar_B2 at hF
      have lp10 : ∀ (n9 : Nat) (a0 : Option Nat) (x1 : Int32) (x2 : Int32) (x3 : Int32) (w : cH), F_X13_findFar_L10  (F_X13_findFar_L2  n2) n9 a0 x1 x2 x3 w = some w9 → J g x (.returned none) w9 0 0 w 0 0 10 [some (va_rf a0), some (.int x1), some (.int x2), some (.int x3), none] [] := by
        intro n9
        induction n9 with
        | zero => intro a0 x1 x2 x3 w hF; cases hF
        | succ n10 ih10 =>
          intro a0 x1 x2 x3 w hF
          have hF : F_X13_findFar_B10  (F_X13_findFar_L2  n2) (F_X13_findFar_L10  (F_X13_findFar_L2  n2) n10) a0 x1 x2 x3 w = some w9 := hF
          unfold F_X13_findFar_B10 at hF
          have jb60 : ∀ (a0 : Option Nat) (x1 : Int32) (x2 : Int32) (x3 : Int32) (s0 : Int32) (s1 : Int32) (s2 : Option Nat) (w : cH), F_X13_findFar_J60  (F_X13_findFar_L2  n2) (F_X13_findFar_L10  (F_X13_findFar_L2  n2) n10) a0 x1 x2 x3 s0 s1 s2 w = some w9 → J g x (.returned none) w9 0 0 w 0 0 60 [some (va_rf a0), some (.int x1), some (.int x2), some (.int x3), none] [.int s0, .int s1, va_rf s2] := by
            intro a0 x1 x2 x3 s0 s1 s2 w hF
            unfold F_X13_findFar_J60 at hF
            refine j_iastore B dX13_findFar_60 hF (fun w60 hF => ?_)
            refine j_iinc (v := x3 + 1) (vs' := [some (va_rf a0), some (.int x1), some (.int x2), some (.int (x3 + 1)), none]) B dX13_findFar_61 (by decide) rfl rfl rfl ?_
            refine j_goto (tgt := 10) B dX13_findFar_64 (by decide) ?_
            exact ih10 a0 x1 x2 (x3 + 1) w60 hF
          refine j_iload_n B dX13_findFar_10 rfl ?_
          refine j_bipush (v := 7) B dX13_findFar_11 (by decide) ?_
          refine j_icmp_ge (tgt := 67) B dX13_findFar_13 (by decide) hF (fun h13 hF => ?_) (fun h13 hF => ?_)
          · refine j_iinc (v := x2 + 1) (vs' := [some (va_rf a0), some (.int x1), some (.int (x2 + 1)), some (.int x3), none]) B dX13_findFar_67 (by decide) rfl rfl rfl ?_
            refine j_goto (tgt := 2) B dX13_findFar_70 (by decide) ?_
            refine j_msk [true, true, true, false, false] rfl ?_
            exact ih2 a0 x1 (x2 + 1) w hF
          · refine j_aload_n B dX13_findFar_16 rfl ?_
            refine j_getA B fl_X13_22 dX13_findFar_17 hF (fun a17p hF => ?_)
            refine j_bipush (v := 7) B dX13_findFar_20 (by decide) ?_
            refine j_iload_n B dX13_findFar_22 rfl ?_
            refine j_imul B dX13_findFar_23 ?_
            refine j_iload_n B dX13_findFar_24 rfl ?_
            refine j_iadd B dX13_findFar_25 ?_
            refine j_iload_n B dX13_findFar_26 rfl ?_
            refine j_iload_n B dX13_findFar_27 rfl ?_
            refine j_icmp_ne (tgt := 35) B dX13_findFar_28 (by decide) hF (fun h28 hF => ?_) (fun h28 hF => ?_)
            · refine j_aload_n B dX13_findFar_35 rfl ?_
              refine j_getA B fl_X13_9 dX13_findFar_36 hF (fun a36p hF => ?_)
              refine j_iload_n B dX13_findFar_39 rfl ?_
              refine j_iload_n B dX13_findFar_40 rfl ?_
              refine j_rS (st2 := [.int (F_X13_wayAt x2 x3), va_rf a36p, .int ((7 * x2) + x3), va_rf a17p]) B [.int x2, .int x3] [va_rf a36p, .int ((7 * x2) + x3), va_rf a17p] cs_X13_144 dX13_findFar_41 hl hR (ct_X13_wayAt G) rfl rfl rfl rfl ⟨cr _, rfl, cr _, trivial⟩ (Nat.le_of_ble_eq_true rfl) ?_
              refine j_iaload B dX13_findFar_44 hF (fun i44 hF => ?_)
              refine j_if_ne (tgt := 53) B dX13_findFar_45 (by decide) hF (fun h45 hF => ?_) (fun h45 hF => ?_)
              · refine j_aload_n B dX13_findFar_53 rfl ?_
                refine j_iload_n B dX13_findFar_54 rfl ?_
                refine j_iload_n B dX13_findFar_55 rfl ?_
                refine j_iload_n B dX13_findFar_56 rfl ?_
                obtain ⟨i57, e57, hF⟩ := bo hF
                refine j_rV (st2 := [.int i57, .int ((7 * x2) + x3), va_rf a17p]) B [.int x1, .int x2, .int x3] [.int ((7 * x2) + x3), va_rf a17p] cv_X13_171 dX13_findFar_57 hl hR (ct_X13_counts G e57) rfl rfl rfl rfl ⟨rfl, cr _, trivial⟩ (Nat.le_of_ble_eq_true rfl) ?_
                exact jb60 a0 x1 x2 x3 i57 ((7 * x2) + x3) a17p w hF
              · refine j_ldc (v := 1000000) B q1546 dX13_findFar_48 ?_
                refine j_goto (tgt := 60) B dX13_findFar_50 (by decide) ?_
                exact jb60 a0 x1 x2 x3 1000000 ((7 * x2) + x3) a17p w hF
            · refine j_iconst (v := 0) B dX13_findFar_31 (by decide) ?_
              refine j_goto (tgt := 60) B dX13_findFar_32 (by decide) ?_
              exact jb60 a0 x1 x2 x3 0 ((7 * x2) + x3) a17p w hF
      refine j_iload_n B dX13_findFar_2 rfl ?_
      refine j_bipush (v := 7) B dX13_findFar_3 (by decide) ?_
      refine j_icmp_ge (tgt := 73) B dX13_findFar_5 (by decide) hF (fun h5 hF => ?_) (fun h5 hF => ?_)
      · refine j_iconst (v := 0) B dX13_findFar_73 (by decide) ?_
        refine j_istore_n (vs' := [some (va_rf a0), some (.int x1), some (.int 0), none, none]) B dX13_findFar_74 (by decide) rfl ?_
        refine j_msk [true, false, true, false, false] rfl ?_
        exact lp75 fu a0 0 w hF
      · refine j_iconst (v := 0) B dX13_findFar_8 (by decide) ?_
        refine j_istore_n (vs' := [some (va_rf a0), some (.int x1), some (.int x2), some (.int 0), none]) B dX13_findFar_9 (by decide) rfl ?_
        exact lp10 fu a0 x1 x2 0 w hF
  refine j_iconst (v := 0) B dX13_findFar_0 (by decide) ?_
  refine j_istore_n (vs' := [some (va_rf a0), some (.int x1), some (.int 0), none, none]) B dX13_findFar_1 (by decide) rfl ?_
  exact lp2 fu a0 x1 0 w hF
theorem cv_X13_174 : CV "CarryFairModel" 174 13 yX13_findFar cX13_findFar 5 none 1 := ⟨_, _, rfl, lw_V q1542 q1544 qs85 q142 q1545, by decide +kernel⟩
def F_X13_farFor (a0 : Option Nat) (x1 : Int32) (x2 : Int32) (x3 : Int32) (w : cH) : Option (Int32 × cH) :=
  if tg w a0 = some 13 then ((F_X13_findFar a0 x1 w).bind fun w2 => (fA w2 a0 13 5).bind fun a6p => (aI w2 a6p 100 ((7 * x2) + x3)).bind fun i15 => some (i15, w2)) else none
abbrev rm_X13_farFor : Room := { frames := 4, cells := 0, slots := 0, locals := 93 }
set_option maxHeartbeats 4000000 in
set_option maxRecDepth 100000 in
theorem ct_X13_farFor {l : Launch} {g : Gt} (G : Gok g) {a0 : Option Nat} {x1 : Int32} {x2 : Int32} {x3 : Int32} {w : cH} {r9 : Int32} {w9 : cH} (hF : F_X13_farFor a0 x1 x2 x3 w = some (r9, w9)) : tg w a0 = some 13 ∧ Mx l yX13_farFor (ws_ yX13_farFor cX13_farFor 4 (some .int)) rm_X13_farFor g [va_rf a0, .int x1, .int x2, .int x3] w (.returned (some (.int r9))) w9 0 0 := by
  unfold F_X13_farFor at hF
  obtain ⟨ht, hF⟩ := bg hF
  refine ⟨ht, mk_ct cX13_farFor 4 (some .int) "CarryFairModel" (plainFor_of_name (by decide)) rfl (lg_le ⟨cr _, rfl, rfl, rfl, trivial⟩ (Nat.le_of_ble_eq_true rfl)) (av_ok ⟨cr _, rfl, rfl, rfl, trivial⟩) G (fun x B hl hR hin hh => ?_)⟩
  show J g x _ _ 0 0 w 0 0 0 [some (va_rf a0), some (.int x1), some (.int x2), some (.int x3)] []
  refine j_aload_n B dX13_farFor_0 rfl ?_
  refine j_iload_n B dX13_farFor_1 rfl ?_
  obtain ⟨w2, e2, hF⟩ := bo hF
  refine j_rV (st2 := []) B [.int x1] [] cv_X13_174 dX13_farFor_2 hl hR (ct_X13_findFar G e2) rfl rfl rfl rfl trivial (Nat.le_of_ble_eq_true rfl) ?_
  refine j_aload_n B dX13_farFor_5 rfl ?_
  refine j_getA B fl_X13_22 dX13_farFor_6 hF (fun a6p hF => ?_)
  refine j_bipush (v := 7) B dX13_farFor_9 (by decide) ?_
  refine j_iload_n B dX13_farFor_11 rfl ?_
  refine j_imul B dX13_farFor_12 ?_
  refine j_iload_n B dX13_farFor_13 rfl ?_
  refine j_iadd B dX13_farFor_14 ?_
  refine j_iaload B dX13_farFor_15 hF (fun i15 hF => ?_)
  exact j_lIw B rfl dX13_farFor_16 hF (by decide) (by decide)
theorem cv_X13_178 : CV "CarryFairModel" 178 13 yX13_farFor cX13_farFor 4 (some .int) 3 := ⟨_, _, rfl, lw_V q1538 q1540 qs84 q142 q1541, by decide +kernel⟩
def F_X13_worthOf (a0 : Option Nat) (x1 : Int32) (w : cH) : Option (Int32 × cH) :=
  if tg w a0 = some 13 then ((F_X13_eIs a0 x1 1 w).bind fun i5 => (F_X13_eIs a0 x1 2 w).bind fun i11 => cb (F_X13_farFor a0 0 i5 i11 w) fun i14 w14 =>if i14 < 1000000 then ((F_X13_eIs a0 x1 0 w14).bind fun i31 => some (i31 * i14, w14)) else (some ((-1), w14))) else none
abbrev rm_X13_worthOf : Room := { frames := 5, cells := 0, slots := 0, locals := 116 }
set_option maxHeartbeats 4000000 in
set_option maxRecDepth 100000 in
theorem ct_X13_worthOf {l : Launch} {g : Gt} (G : Gok g) {a0 : Option Nat} {x1 : Int32} {w : cH} {r9 : Int32} {w9 : cH} (hF : F_X13_worthOf a0 x1 w = some (r9, w9)) : tg w a0 = some 13 ∧ Mx l yX13_worthOf (ws_ yX13_worthOf cX13_worthOf 3 (some .int)) rm_X13_worthOf g [va_rf a0, .int x1] w (.returned (some (.int r9))) w9 0 0 := by
  unfold F_X13_worthOf at hF
  obtain ⟨ht, hF⟩ := bg hF
  refine ⟨ht, mk_ct cX13_worthOf 3 (some .int) "CarryFairModel" (plainFor_of_name (by decide)) rfl (lg_le ⟨cr _, rfl, trivial⟩ (Nat.le_of_ble_eq_true rfl)) (av_ok ⟨cr _, rfl, trivial⟩) G (fun x B hl hR hin hh => ?_)⟩
  show J g x _ _ 0 0 w 0 0 0 [some (va_rf a0), some (.int x1), none] []
  refine j_aload_n B dX13_worthOf_0 rfl ?_
  refine j_iconst (v := 0) B dX13_worthOf_1 (by decide) ?_
  refine j_aload_n B dX13_worthOf_2 rfl ?_
  refine j_iload_n B dX13_worthOf_3 rfl ?_
  refine j_iconst (v := 1) B dX13_worthOf_4 (by decide) ?_
  obtain ⟨i5, e5, hF⟩ := bo hF
  refine j_rV (st2 := [.int i5, .int 0, va_rf a0]) B [.int x1, .int 1] [.int 0, va_rf a0] cv_X13_111 dX13_worthOf_5 hl hR (ct_X13_eIs G e5) rfl rfl rfl rfl ⟨rfl, cr _, trivial⟩ (Nat.le_of_ble_eq_true rfl) ?_
  refine j_aload_n B dX13_worthOf_8 rfl ?_
  refine j_iload_n B dX13_worthOf_9 rfl ?_
  refine j_iconst (v := 2) B dX13_worthOf_10 (by decide) ?_
  obtain ⟨i11, e11, hF⟩ := bo hF
  refine j_rV (st2 := [.int i11, .int i5, .int 0, va_rf a0]) B [.int x1, .int 2] [.int i5, .int 0, va_rf a0] cv_X13_111 dX13_worthOf_11 hl hR (ct_X13_eIs G e11) rfl rfl rfl rfl ⟨rfl, rfl, cr _, trivial⟩ (Nat.le_of_ble_eq_true rfl) ?_
  obtain ⟨i14, w14, e14, hF⟩ := bc hF
  refine j_rV (st2 := [.int i14]) B [.int 0, .int i5, .int i11] [] cv_X13_178 dX13_worthOf_14 hl hR (ct_X13_farFor G e14) rfl rfl rfl rfl trivial (Nat.le_of_ble_eq_true rfl) ?_
  refine j_istore_n (vs' := [some (va_rf a0), some (.int x1), some (.int i14)]) B dX13_worthOf_17 (by decide) rfl ?_
  refine j_iload_n B dX13_worthOf_18 rfl ?_
  refine j_ldc (v := 1000000) B q1546 dX13_worthOf_19 ?_
  refine j_icmp_lt (tgt := 28) B dX13_worthOf_21 (by decide) hF (fun h21 hF => ?_) (fun h21 hF => ?_)
  · refine j_aload_n B dX13_worthOf_28 rfl ?_
    refine j_iload_n B dX13_worthOf_29 rfl ?_
    refine j_iconst (v := 0) B dX13_worthOf_30 (by decide) ?_
    obtain ⟨i31, e31, hF⟩ := bo hF
    refine j_rV (st2 := [.int i31]) B [.int x1, .int 0] [] cv_X13_111 dX13_worthOf_31 hl hR (ct_X13_eIs G e31) rfl rfl rfl rfl trivial (Nat.le_of_ble_eq_true rfl) ?_
    refine j_iload_n B dX13_worthOf_34 rfl ?_
    refine j_imul B dX13_worthOf_35 ?_
    exact j_lIw B rfl dX13_worthOf_36 hF (by decide) (by decide)
  · refine j_iconst (v := (-1)) B dX13_worthOf_24 (by decide) ?_
    refine j_goto (tgt := 36) B dX13_worthOf_25 (by decide) ?_
    exact j_lIw B rfl dX13_worthOf_36 hF (by decide) (by decide)
theorem cv_X13_154 : CV "CarryFairModel" 154 13 yX13_isErrand cX13_isErrand 2 (some .boolean) 1 := ⟨_, _, rfl, lw_V q1530 q1532 qs82 q142 q1533, by decide +kernel⟩
theorem cv_X13_157 : CV "CarryFairModel" 157 13 yX13_worthOf cX13_worthOf 3 (some .int) 1 := ⟨_, _, rfl, lw_V q1534 q1536 qs83 q142 q1537, by decide +kernel⟩
def F_X13_errandOf_J17 (a0 : Option Nat) (w : cH) : Option (Int32 × cH) :=
  cb (F_X13_finding a0 (-1000001) w) fun i20 w20 => some (i20, w20)
def F_X13_errandOf (a0 : Option Nat) (x1 : Int32) (x2 : Int32) (w : cH) : Option (Int32 × cH) :=
  if tg w a0 = some 13 then ((F_X13_isErrand a0 x1 w).bind fun i2 =>if i2 = 0 then (F_X13_errandOf_J17  a0 w) else (if ¬ (F_X13_within x2 0 5) = 0 then (if 5 ≤ x2 then (cb (F_X13_worthOf a0 x1 w) fun i38 w38 =>if 0 ≤ i38 then (some (i38, w38)) else (cb (F_X13_finding a0 (-1000004) w38) fun i49 w49 => some (i49, w49))) else ((F_X13_eIs a0 x1 x2 w).bind fun i32 => some (i32, w))) else (F_X13_errandOf_J17  a0 w))) else none
abbrev rm_X13_errandOf : Room := { frames := 6, cells := 0, slots := 0, locals := 138 }
set_option maxHeartbeats 4000000 in
set_option maxRecDepth 100000 in
theorem ct_X13_errandOf {l : Launch} {g : Gt} (G : Gok g) {a0 : Option Nat} {x1 : Int32} {x2 : Int32} {w : cH} {r9 : Int32} {w9 : cH} (hF : F_X13_errandOf a0 x1 x2 w = some (r9, w9)) : tg w a0 = some 13 ∧ Mx l yX13_errandOf (ws_ yX13_errandOf cX13_errandOf 4 (some .int)) rm_X13_errandOf g [va_rf a0, .int x1, .int x2] w (.returned (some (.int r9))) w9 0 0 := by
  unfold F_X13_errandOf at hF
  obtain ⟨ht, hF⟩ := bg hF
  refine ⟨ht, mk_ct cX13_errandOf 4 (some .int) "CarryFairModel" (plainFor_of_name (by decide)) rfl (lg_le ⟨cr _, rfl, rfl, trivial⟩ (Nat.le_of_ble_eq_true rfl)) (av_ok ⟨cr _, rfl, rfl, trivial⟩) G (fun x B hl hR hin hh => ?_)⟩
  show J g x _ _ 0 0 w 0 0 0 [some (va_rf a0), some (.int x1), some (.int x2), none] []
  have jb17 : ∀ (a0 : Option Nat) (w : cH), F_X13_errandOf_J17  a0 w = some (r9, w9) → J g x (.returned (some (.int r9))) w9 0 0 w 0 0 17 [some (va_rf a0), none, none, none] [] := by
    intro a0 w hF
    unfold F_X13_errandOf_J17 at hF
    refine j_aload_n B dX13_errandOf_17 rfl ?_
    refine j_ldc (v := (-1000001)) B q1436 dX13_errandOf_18 ?_
    obtain ⟨i20, w20, e20, hF⟩ := bc hF
    refine j_rV (st2 := [.int i20]) B [.int (-1000001)] [] cv_X13_92 dX13_errandOf_20 hl hR (ct_X13_finding G e20) rfl rfl rfl rfl trivial (Nat.le_of_ble_eq_true rfl) ?_
    exact j_lIw B rfl dX13_errandOf_23 hF (by decide) (by decide)
  refine j_aload_n B dX13_errandOf_0 rfl ?_
  refine j_iload_n B dX13_errandOf_1 rfl ?_
  obtain ⟨i2, e2, hF⟩ := bo hF
  refine j_rV (st2 := [.int i2]) B [.int x1] [] cv_X13_154 dX13_errandOf_2 hl hR (ct_X13_isErrand G e2) rfl rfl rfl rfl trivial (Nat.le_of_ble_eq_true rfl) ?_
  refine j_if_eq (tgt := 17) B dX13_errandOf_5 (by decide) hF (fun h5 hF => ?_) (fun h5 hF => ?_)
  · refine j_msk [true, false, false, false] rfl ?_
    exact jb17 a0 w hF
  · refine j_iload_n B dX13_errandOf_8 rfl ?_
    refine j_iconst (v := 0) B dX13_errandOf_9 (by decide) ?_
    refine j_iconst (v := 5) B dX13_errandOf_10 (by decide) ?_
    refine j_rS (st2 := [.int (F_X13_within x2 0 5)]) B [.int x2, .int 0, .int 5] [] cs_X13_77 dX13_errandOf_11 hl hR (ct_X13_within G) rfl rfl rfl rfl trivial (Nat.le_of_ble_eq_true rfl) ?_
    refine j_if_ne (tgt := 24) B dX13_errandOf_14 (by decide) hF (fun h14 hF => ?_) (fun h14 hF => ?_)
    · refine j_iload_n B dX13_errandOf_24 rfl ?_
      refine j_iconst (v := 5) B dX13_errandOf_25 (by decide) ?_
      refine j_icmp_ge (tgt := 36) B dX13_errandOf_26 (by decide) hF (fun h26 hF => ?_) (fun h26 hF => ?_)
      · refine j_aload_n B dX13_errandOf_36 rfl ?_
        refine j_iload_n B dX13_errandOf_37 rfl ?_
        obtain ⟨i38, w38, e38, hF⟩ := bc hF
        refine j_rV (st2 := [.int i38]) B [.int x1] [] cv_X13_157 dX13_errandOf_38 hl hR (ct_X13_worthOf G e38) rfl rfl rfl rfl trivial (Nat.le_of_ble_eq_true rfl) ?_
        refine j_istore_n (vs' := [some (va_rf a0), some (.int x1), some (.int x2), some (.int i38)]) B dX13_errandOf_41 (by decide) rfl ?_
        refine j_iload_n B dX13_errandOf_42 rfl ?_
        refine j_if_ge (tgt := 55) B dX13_errandOf_43 (by decide) hF (fun h43 hF => ?_) (fun h43 hF => ?_)
        · refine j_iload_n B dX13_errandOf_55 rfl ?_
          exact j_lIw B rfl dX13_errandOf_56 hF (by decide) (by decide)
        · refine j_aload_n B dX13_errandOf_46 rfl ?_
          refine j_ldc (v := (-1000004)) B q1551 dX13_errandOf_47 ?_
          obtain ⟨i49, w49, e49, hF⟩ := bc hF
          refine j_rV (st2 := [.int i49]) B [.int (-1000004)] [] cv_X13_92 dX13_errandOf_49 hl hR (ct_X13_finding G e49) rfl rfl rfl rfl trivial (Nat.le_of_ble_eq_true rfl) ?_
          refine j_goto (tgt := 56) B dX13_errandOf_52 (by decide) ?_
          exact j_lIw B rfl dX13_errandOf_56 hF (by decide) (by decide)
      · refine j_aload_n B dX13_errandOf_29 rfl ?_
        refine j_iload_n B dX13_errandOf_30 rfl ?_
        refine j_iload_n B dX13_errandOf_31 rfl ?_
        obtain ⟨i32, e32, hF⟩ := bo hF
        refine j_rV (st2 := [.int i32]) B [.int x1, .int x2] [] cv_X13_111 dX13_errandOf_32 hl hR (ct_X13_eIs G e32) rfl rfl rfl rfl trivial (Nat.le_of_ble_eq_true rfl) ?_
        exact j_lIw B rfl dX13_errandOf_35 hF (by decide) (by decide)
    · refine j_msk [true, false, false, false] rfl ?_
      exact jb17 a0 w hF
def F_X13_wAt (x0 : Int32) (x1 : Int32) : Int32 :=
  (126 + (2 * x0)) + x1
abbrev rm_X13_wAt : Room := { frames := 0, cells := 0, slots := 0, locals := 0 }
set_option maxHeartbeats 4000000 in
set_option maxRecDepth 100000 in
theorem ct_X13_wAt {l : Launch} {g : Gt} (G : Gok g) {x0 : Int32} {x1 : Int32} {w : cH} : Mx l yX13_wAt (ws_ yX13_wAt cX13_wAt 2 (some .int)) rm_X13_wAt g [.int x0, .int x1] w (.returned (some (.int (F_X13_wAt x0 x1)))) w 0 0 := by
  generalize hF : F_X13_wAt x0 x1 = r9
  unfold F_X13_wAt at hF
  refine mk_ct cX13_wAt 2 (some .int) "CarryFairModel" (plainFor_of_name (by decide)) rfl (lg_le ⟨rfl, rfl, trivial⟩ (Nat.le_of_ble_eq_true rfl)) (av_ok ⟨rfl, rfl, trivial⟩) G (fun x B hl hR hin hh => ?_)
  show J g x _ _ 0 0 w 0 0 0 [some (.int x0), some (.int x1)] []
  refine j_bipush (v := 126) B dX13_wAt_0 (by decide) ?_
  refine j_iconst (v := 2) B dX13_wAt_2 (by decide) ?_
  refine j_iload_n B dX13_wAt_3 rfl ?_
  refine j_imul B dX13_wAt_4 ?_
  refine j_iadd B dX13_wAt_5 ?_
  refine j_iload_n B dX13_wAt_6 rfl ?_
  refine j_iadd B dX13_wAt_7 ?_
  exact j_lIp B rfl dX13_wAt_8 hF (by decide) (by decide)
theorem cs_X13_161 : CS "CarryFairModel" 161 yX13_wAt cX13_wAt 2 (some .int) 2 := ⟨Or.inl (lw_S q1560 q1561 q142 q1562), by decide +kernel⟩
def F_X13_newWare (a0 : Option Nat) (x1 : Int32) (w : cH) : Option (Int32 × cH) :=
  if tg w a0 = some 13 then ((fA w a0 13 0).bind fun a1p => (aI w a1p 100 44).bind fun i6 => (fA w a0 13 0).bind fun a9p => (aS w a9p 100 (F_X13_wAt i6 0) (.int x1)).bind fun w18 => (fA w18 a0 13 0).bind fun a20p => (aS w18 a20p 100 (F_X13_wAt i6 1) (.int (-1))).bind fun w29 => (fA w29 a0 13 0).bind fun a31p => (aI w29 a31p 100 44).bind fun i37 => (aS w29 a31p 100 44 (.int (i37 + 1))).bind fun w40 => some (i6, w40)) else none
abbrev rm_X13_newWare : Room := { frames := 1, cells := 0, slots := 0, locals := 21 }
set_option maxHeartbeats 4000000 in
set_option maxRecDepth 100000 in
theorem ct_X13_newWare {l : Launch} {g : Gt} (G : Gok g) {a0 : Option Nat} {x1 : Int32} {w : cH} {r9 : Int32} {w9 : cH} (hF : F_X13_newWare a0 x1 w = some (r9, w9)) : tg w a0 = some 13 ∧ Mx l yX13_newWare (ws_ yX13_newWare cX13_newWare 3 (some .int)) rm_X13_newWare g [va_rf a0, .int x1] w (.returned (some (.int r9))) w9 0 0 := by
  unfold F_X13_newWare at hF
  obtain ⟨ht, hF⟩ := bg hF
  refine ⟨ht, mk_ct cX13_newWare 3 (some .int) "CarryFairModel" (plainFor_of_name (by decide)) rfl (lg_le ⟨cr _, rfl, trivial⟩ (Nat.le_of_ble_eq_true rfl)) (av_ok ⟨cr _, rfl, trivial⟩) G (fun x B hl hR hin hh => ?_)⟩
  show J g x _ _ 0 0 w 0 0 0 [some (va_rf a0), some (.int x1), none] []
  refine j_aload_n B dX13_newWare_0 rfl ?_
  refine j_getA B fl_X13_9 dX13_newWare_1 hF (fun a1p hF => ?_)
  refine j_bipush (v := 44) B dX13_newWare_4 (by decide) ?_
  refine j_iaload B dX13_newWare_6 hF (fun i6 hF => ?_)
  refine j_istore_n (vs' := [some (va_rf a0), some (.int x1), some (.int i6)]) B dX13_newWare_7 (by decide) rfl ?_
  refine j_aload_n B dX13_newWare_8 rfl ?_
  refine j_getA B fl_X13_9 dX13_newWare_9 hF (fun a9p hF => ?_)
  refine j_iload_n B dX13_newWare_12 rfl ?_
  refine j_iconst (v := 0) B dX13_newWare_13 (by decide) ?_
  refine j_rS (st2 := [.int (F_X13_wAt i6 0), va_rf a9p]) B [.int i6, .int 0] [va_rf a9p] cs_X13_161 dX13_newWare_14 hl hR (ct_X13_wAt G) rfl rfl rfl rfl ⟨cr _, trivial⟩ (Nat.le_of_ble_eq_true rfl) ?_
  refine j_iload_n B dX13_newWare_17 rfl ?_
  refine j_iastore B dX13_newWare_18 hF (fun w18 hF => ?_)
  refine j_aload_n B dX13_newWare_19 rfl ?_
  refine j_getA B fl_X13_9 dX13_newWare_20 hF (fun a20p hF => ?_)
  refine j_iload_n B dX13_newWare_23 rfl ?_
  refine j_iconst (v := 1) B dX13_newWare_24 (by decide) ?_
  refine j_rS (st2 := [.int (F_X13_wAt i6 1), va_rf a20p]) B [.int i6, .int 1] [va_rf a20p] cs_X13_161 dX13_newWare_25 hl hR (ct_X13_wAt G) rfl rfl rfl rfl ⟨cr _, trivial⟩ (Nat.le_of_ble_eq_true rfl) ?_
  refine j_iconst (v := (-1)) B dX13_newWare_28 (by decide) ?_
  refine j_iastore B dX13_newWare_29 hF (fun w29 hF => ?_)
  refine j_aload_n B dX13_newWare_30 rfl ?_
  refine j_getA B fl_X13_9 dX13_newWare_31 hF (fun a31p hF => ?_)
  refine j_bipush (v := 44) B dX13_newWare_34 (by decide) ?_
  refine j_dup2 B dX13_newWare_36 rfl (cr _) ?_
  refine j_iaload B dX13_newWare_37 hF (fun i37 hF => ?_)
  refine j_iconst (v := 1) B dX13_newWare_38 (by decide) ?_
  refine j_iadd B dX13_newWare_39 ?_
  refine j_iastore B dX13_newWare_40 hF (fun w40 hF => ?_)
  refine j_iload_n B dX13_newWare_41 rfl ?_
  exact j_lIw B rfl dX13_newWare_42 hF (by decide) (by decide)
theorem cv_X13_164 : CV "CarryFairModel" 164 13 yX13_newWare cX13_newWare 3 (some .int) 1 := ⟨_, _, rfl, lw_V q1556 q1558 qs87 q142 q1559, by decide +kernel⟩
def F_X13_ware (a0 : Option Nat) (x1 : Int32) (w : cH) : Option (Int32 × cH) :=
  if tg w a0 = some 13 then (if ¬ (F_X13_within x1 1 9999) = 0 then ((fA w a0 13 0).bind fun a19p => (aI w a19p 100 44).bind fun i24 =>if ¬ i24 = 6 then (cb (F_X13_newWare a0 x1 w) fun i41 w41 => some (i41, w41)) else (cb (F_X13_finding a0 (-1000002) w) fun i33 w33 => some (i33, w33))) else (cb (F_X13_finding a0 (-1000001) w) fun i14 w14 => some (i14, w14))) else none
abbrev rm_X13_ware : Room := { frames := 2, cells := 0, slots := 0, locals := 43 }
set_option maxHeartbeats 4000000 in
set_option maxRecDepth 100000 in
theorem ct_X13_ware {l : Launch} {g : Gt} (G : Gok g) {a0 : Option Nat} {x1 : Int32} {w : cH} {r9 : Int32} {w9 : cH} (hF : F_X13_ware a0 x1 w = some (r9, w9)) : tg w a0 = some 13 ∧ Mx l yX13_ware (ws_ yX13_ware cX13_ware 2 (some .int)) rm_X13_ware g [va_rf a0, .int x1] w (.returned (some (.int r9))) w9 0 0 := by
  unfold F_X13_ware at hF
  obtain ⟨ht, hF⟩ := bg hF
  refine ⟨ht, mk_ct cX13_ware 2 (some .int) "CarryFairModel" (plainFor_of_name (by decide)) rfl (lg_le ⟨cr _, rfl, trivial⟩ (Nat.le_of_ble_eq_true rfl)) (av_ok ⟨cr _, rfl, trivial⟩) G (fun x B hl hR hin hh => ?_)⟩
  show J g x _ _ 0 0 w 0 0 0 [some (va_rf a0), some (.int x1)] []
  refine j_iload_n B dX13_ware_0 rfl ?_
  refine j_iconst (v := 1) B dX13_ware_1 (by decide) ?_
  refine j_sipush (v := 9999) B dX13_ware_2 (by decide) ?_
  refine j_rS (st2 := [.int (F_X13_within x1 1 9999)]) B [.int x1, .int 1, .int 9999] [] cs_X13_77 dX13_ware_5 hl hR (ct_X13_within G) rfl rfl rfl rfl trivial (Nat.le_of_ble_eq_true rfl) ?_
  refine j_if_ne (tgt := 18) B dX13_ware_8 (by decide) hF (fun h8 hF => ?_) (fun h8 hF => ?_)
  · refine j_aload_n B dX13_ware_18 rfl ?_
    refine j_getA B fl_X13_9 dX13_ware_19 hF (fun a19p hF => ?_)
    refine j_bipush (v := 44) B dX13_ware_22 (by decide) ?_
    refine j_iaload B dX13_ware_24 hF (fun i24 hF => ?_)
    refine j_bipush (v := 6) B dX13_ware_25 (by decide) ?_
    refine j_icmp_ne (tgt := 39) B dX13_ware_27 (by decide) hF (fun h27 hF => ?_) (fun h27 hF => ?_)
    · refine j_aload_n B dX13_ware_39 rfl ?_
      refine j_iload_n B dX13_ware_40 rfl ?_
      obtain ⟨i41, w41, e41, hF⟩ := bc hF
      refine j_rV (st2 := [.int i41]) B [.int x1] [] cv_X13_164 dX13_ware_41 hl hR (ct_X13_newWare G e41) rfl rfl rfl rfl trivial (Nat.le_of_ble_eq_true rfl) ?_
      exact j_lIw B rfl dX13_ware_44 hF (by decide) (by decide)
    · refine j_aload_n B dX13_ware_30 rfl ?_
      refine j_ldc (v := (-1000002)) B q1441 dX13_ware_31 ?_
      obtain ⟨i33, w33, e33, hF⟩ := bc hF
      refine j_rV (st2 := [.int i33]) B [.int (-1000002)] [] cv_X13_92 dX13_ware_33 hl hR (ct_X13_finding G e33) rfl rfl rfl rfl trivial (Nat.le_of_ble_eq_true rfl) ?_
      refine j_goto (tgt := 44) B dX13_ware_36 (by decide) ?_
      exact j_lIw B rfl dX13_ware_44 hF (by decide) (by decide)
  · refine j_aload_n B dX13_ware_11 rfl ?_
    refine j_ldc (v := (-1000001)) B q1436 dX13_ware_12 ?_
    obtain ⟨i14, w14, e14, hF⟩ := bc hF
    refine j_rV (st2 := [.int i14]) B [.int (-1000001)] [] cv_X13_92 dX13_ware_14 hl hR (ct_X13_finding G e14) rfl rfl rfl rfl trivial (Nat.le_of_ble_eq_true rfl) ?_
    exact j_lIw B rfl dX13_ware_17 hF (by decide) (by decide)
def F_X13_isWare (a0 : Option Nat) (x1 : Int32) (w : cH) : Option Int32 :=
  if tg w a0 = some 13 then ((fA w a0 13 0).bind fun a3p => (aI w a3p 100 44).bind fun i8 => some ((F_X13_within x1 0 (i8 - 1)) &&& 1)) else none
abbrev rm_X13_isWare : Room := { frames := 1, cells := 0, slots := 0, locals := 22 }
set_option maxHeartbeats 4000000 in
set_option maxRecDepth 100000 in
theorem ct_X13_isWare {l : Launch} {g : Gt} (G : Gok g) {a0 : Option Nat} {x1 : Int32} {w : cH} {r9 : Int32} (hF : F_X13_isWare a0 x1 w = some r9) : tg w a0 = some 13 ∧ Mx l yX13_isWare (ws_ yX13_isWare cX13_isWare 2 (some .boolean)) rm_X13_isWare g [va_rf a0, .int x1] w (.returned (some (.int r9))) w 0 0 := by
  unfold F_X13_isWare at hF
  obtain ⟨ht, hF⟩ := bg hF
  refine ⟨ht, mk_ct cX13_isWare 2 (some .boolean) "CarryFairModel" (plainFor_of_name (by decide)) rfl (lg_le ⟨cr _, rfl, trivial⟩ (Nat.le_of_ble_eq_true rfl)) (av_ok ⟨cr _, rfl, trivial⟩) G (fun x B hl hR hin hh => ?_)⟩
  show J g x _ _ 0 0 w 0 0 0 [some (va_rf a0), some (.int x1)] []
  refine j_iload_n B dX13_isWare_0 rfl ?_
  refine j_iconst (v := 0) B dX13_isWare_1 (by decide) ?_
  refine j_aload_n B dX13_isWare_2 rfl ?_
  refine j_getA B fl_X13_9 dX13_isWare_3 hF (fun a3p hF => ?_)
  refine j_bipush (v := 44) B dX13_isWare_6 (by decide) ?_
  refine j_iaload B dX13_isWare_8 hF (fun i8 hF => ?_)
  refine j_iconst (v := 1) B dX13_isWare_9 (by decide) ?_
  refine j_isub B dX13_isWare_10 ?_
  refine j_rS (st2 := [.int (F_X13_within x1 0 (i8 - 1))]) B [.int x1, .int 0, .int (i8 - 1)] [] cs_X13_77 dX13_isWare_11 hl hR (ct_X13_within G) rfl rfl rfl rfl trivial (Nat.le_of_ble_eq_true rfl) ?_
  exact j_lB B rfl dX13_isWare_14 hF (by decide) (by decide)
theorem cv_X13_167 : CV "CarryFairModel" 167 13 yX13_isWare cX13_isWare 2 (some .boolean) 1 := ⟨_, _, rfl, lw_V q1567 q1569 qs88 q142 q1570, by decide +kernel⟩
def F_X13_wareOf_J30 (a0 : Option Nat) (w : cH) : Option (Int32 × cH) :=
  cb (F_X13_finding a0 (-1000001) w) fun i33 w33 => some (i33, w33)
def F_X13_wareOf (a0 : Option Nat) (x1 : Int32) (x2 : Int32) (w : cH) : Option (Int32 × cH) :=
  if tg w a0 = some 13 then ((F_X13_isWare a0 x1 w).bind fun i2 =>if i2 = 0 then (F_X13_wareOf_J30  a0 w) else (if (F_X13_within x2 0 1) = 0 then (F_X13_wareOf_J30  a0 w) else ((fA w a0 13 0).bind fun a18p => (aI w a18p 100 (F_X13_wAt x1 x2)).bind fun i26 => some (i26, w)))) else none
abbrev rm_X13_wareOf : Room := { frames := 2, cells := 0, slots := 0, locals := 43 }
set_option maxHeartbeats 4000000 in
set_option maxRecDepth 100000 in
theorem ct_X13_wareOf {l : Launch} {g : Gt} (G : Gok g) {a0 : Option Nat} {x1 : Int32} {x2 : Int32} {w : cH} {r9 : Int32} {w9 : cH} (hF : F_X13_wareOf a0 x1 x2 w = some (r9, w9)) : tg w a0 = some 13 ∧ Mx l yX13_wareOf (ws_ yX13_wareOf cX13_wareOf 3 (some .int)) rm_X13_wareOf g [va_rf a0, .int x1, .int x2] w (.returned (some (.int r9))) w9 0 0 := by
  unfold F_X13_wareOf at hF
  obtain ⟨ht, hF⟩ := bg hF
  refine ⟨ht, mk_ct cX13_wareOf 3 (some .int) "CarryFairModel" (plainFor_of_name (by decide)) rfl (lg_le ⟨cr _, rfl, rfl, trivial⟩ (Nat.le_of_ble_eq_true rfl)) (av_ok ⟨cr _, rfl, rfl, trivial⟩) G (fun x B hl hR hin hh => ?_)⟩
  show J g x _ _ 0 0 w 0 0 0 [some (va_rf a0), some (.int x1), some (.int x2)] []
  have jb30 : ∀ (a0 : Option Nat) (w : cH), F_X13_wareOf_J30  a0 w = some (r9, w9) → J g x (.returned (some (.int r9))) w9 0 0 w 0 0 30 [some (va_rf a0), none, none] [] := by
    intro a0 w hF
    unfold F_X13_wareOf_J30 at hF
    refine j_aload_n B dX13_wareOf_30 rfl ?_
    refine j_ldc (v := (-1000001)) B q1436 dX13_wareOf_31 ?_
    obtain ⟨i33, w33, e33, hF⟩ := bc hF
    refine j_rV (st2 := [.int i33]) B [.int (-1000001)] [] cv_X13_92 dX13_wareOf_33 hl hR (ct_X13_finding G e33) rfl rfl rfl rfl trivial (Nat.le_of_ble_eq_true rfl) ?_
    exact j_lIw B rfl dX13_wareOf_36 hF (by decide) (by decide)
  refine j_aload_n B dX13_wareOf_0 rfl ?_
  refine j_iload_n B dX13_wareOf_1 rfl ?_
  obtain ⟨i2, e2, hF⟩ := bo hF
  refine j_rV (st2 := [.int i2]) B [.int x1] [] cv_X13_167 dX13_wareOf_2 hl hR (ct_X13_isWare G e2) rfl rfl rfl rfl trivial (Nat.le_of_ble_eq_true rfl) ?_
  refine j_if_eq (tgt := 30) B dX13_wareOf_5 (by decide) hF (fun h5 hF => ?_) (fun h5 hF => ?_)
  · refine j_msk [true, false, false] rfl ?_
    exact jb30 a0 w hF
  · refine j_iload_n B dX13_wareOf_8 rfl ?_
    refine j_iconst (v := 0) B dX13_wareOf_9 (by decide) ?_
    refine j_iconst (v := 1) B dX13_wareOf_10 (by decide) ?_
    refine j_rS (st2 := [.int (F_X13_within x2 0 1)]) B [.int x2, .int 0, .int 1] [] cs_X13_77 dX13_wareOf_11 hl hR (ct_X13_within G) rfl rfl rfl rfl trivial (Nat.le_of_ble_eq_true rfl) ?_
    refine j_if_eq (tgt := 30) B dX13_wareOf_14 (by decide) hF (fun h14 hF => ?_) (fun h14 hF => ?_)
    · refine j_msk [true, false, false] rfl ?_
      exact jb30 a0 w hF
    · refine j_aload_n B dX13_wareOf_17 rfl ?_
      refine j_getA B fl_X13_9 dX13_wareOf_18 hF (fun a18p hF => ?_)
      refine j_iload_n B dX13_wareOf_21 rfl ?_
      refine j_iload_n B dX13_wareOf_22 rfl ?_
      refine j_rS (st2 := [.int (F_X13_wAt x1 x2), va_rf a18p]) B [.int x1, .int x2] [va_rf a18p] cs_X13_161 dX13_wareOf_23 hl hR (ct_X13_wAt G) rfl rfl rfl rfl ⟨cr _, trivial⟩ (Nat.le_of_ble_eq_true rfl) ?_
      refine j_iaload B dX13_wareOf_26 hF (fun i26 hF => ?_)
      refine j_goto (tgt := 36) B dX13_wareOf_27 (by decide) ?_
      exact j_lIw B rfl dX13_wareOf_36 hF (by decide) (by decide)
def F_X13_far_J22 (a0 : Option Nat) (w : cH) : Option (Int32 × cH) :=
  cb (F_X13_finding a0 (-1000001) w) fun i25 w25 => some (i25, w25)
def F_X13_far (a0 : Option Nat) (x1 : Int32) (x2 : Int32) (x3 : Int32) (w : cH) : Option (Int32 × cH) :=
  if tg w a0 = some 13 then ((F_X13_isCarrier a0 x1 w).bind fun i2 =>if i2 = 0 then (F_X13_far_J22  a0 w) else (if (F_X13_isPlace x2) = 0 then (F_X13_far_J22  a0 w) else (if ¬ (F_X13_isPlace x3) = 0 then ((F_X13_cIs a0 x1 0 w).bind fun i33 => cb (F_X13_farFor a0 i33 x2 x3 w) fun i38 w38 =>if i38 < 1000000 then (some (i38, w38)) else (cb (F_X13_finding a0 (-1000004) w38) fun i53 w53 => some (i53, w53))) else (F_X13_far_J22  a0 w)))) else none
abbrev rm_X13_far : Room := { frames := 5, cells := 0, slots := 0, locals := 116 }
set_option maxHeartbeats 4000000 in
set_option maxRecDepth 100000 in
theorem ct_X13_far {l : Launch} {g : Gt} (G : Gok g) {a0 : Option Nat} {x1 : Int32} {x2 : Int32} {x3 : Int32} {w : cH} {r9 : Int32} {w9 : cH} (hF : F_X13_far a0 x1 x2 x3 w = some (r9, w9)) : tg w a0 = some 13 ∧ Mx l yX13_far (ws_ yX13_far cX13_far 5 (some .int)) rm_X13_far g [va_rf a0, .int x1, .int x2, .int x3] w (.returned (some (.int r9))) w9 0 0 := by
  unfold F_X13_far at hF
  obtain ⟨ht, hF⟩ := bg hF
  refine ⟨ht, mk_ct cX13_far 5 (some .int) "CarryFairModel" (plainFor_of_name (by decide)) rfl (lg_le ⟨cr _, rfl, rfl, rfl, trivial⟩ (Nat.le_of_ble_eq_true rfl)) (av_ok ⟨cr _, rfl, rfl, rfl, trivial⟩) G (fun x B hl hR hin hh => ?_)⟩
  show J g x _ _ 0 0 w 0 0 0 [some (va_rf a0), some (.int x1), some (.int x2), some (.int x3), none] []
  have jb22 : ∀ (a0 : Option Nat) (w : cH), F_X13_far_J22  a0 w = some (r9, w9) → J g x (.returned (some (.int r9))) w9 0 0 w 0 0 22 [some (va_rf a0), none, none, none, none] [] := by
    intro a0 w hF
    unfold F_X13_far_J22 at hF
    refine j_aload_n B dX13_far_22 rfl ?_
    refine j_ldc (v := (-1000001)) B q1436 dX13_far_23 ?_
    obtain ⟨i25, w25, e25, hF⟩ := bc hF
    refine j_rV (st2 := [.int i25]) B [.int (-1000001)] [] cv_X13_92 dX13_far_25 hl hR (ct_X13_finding G e25) rfl rfl rfl rfl trivial (Nat.le_of_ble_eq_true rfl) ?_
    exact j_lIw B rfl dX13_far_28 hF (by decide) (by decide)
  refine j_aload_n B dX13_far_0 rfl ?_
  refine j_iload_n B dX13_far_1 rfl ?_
  obtain ⟨i2, e2, hF⟩ := bo hF
  refine j_rV (st2 := [.int i2]) B [.int x1] [] cv_X13_117 dX13_far_2 hl hR (ct_X13_isCarrier G e2) rfl rfl rfl rfl trivial (Nat.le_of_ble_eq_true rfl) ?_
  refine j_if_eq (tgt := 22) B dX13_far_5 (by decide) hF (fun h5 hF => ?_) (fun h5 hF => ?_)
  · refine j_msk [true, false, false, false, false] rfl ?_
    exact jb22 a0 w hF
  · refine j_iload_n B dX13_far_8 rfl ?_
    refine j_rS (st2 := [.int (F_X13_isPlace x2)]) B [.int x2] [] cs_X13_129 dX13_far_9 hl hR (ct_X13_isPlace G) rfl rfl rfl rfl trivial (Nat.le_of_ble_eq_true rfl) ?_
    refine j_if_eq (tgt := 22) B dX13_far_12 (by decide) hF (fun h12 hF => ?_) (fun h12 hF => ?_)
    · refine j_msk [true, false, false, false, false] rfl ?_
      exact jb22 a0 w hF
    · refine j_iload_n B dX13_far_15 rfl ?_
      refine j_rS (st2 := [.int (F_X13_isPlace x3)]) B [.int x3] [] cs_X13_129 dX13_far_16 hl hR (ct_X13_isPlace G) rfl rfl rfl rfl trivial (Nat.le_of_ble_eq_true rfl) ?_
      refine j_if_ne (tgt := 29) B dX13_far_19 (by decide) hF (fun h19 hF => ?_) (fun h19 hF => ?_)
      · refine j_aload_n B dX13_far_29 rfl ?_
        refine j_aload_n B dX13_far_30 rfl ?_
        refine j_iload_n B dX13_far_31 rfl ?_
        refine j_iconst (v := 0) B dX13_far_32 (by decide) ?_
        obtain ⟨i33, e33, hF⟩ := bo hF
        refine j_rV (st2 := [.int i33, va_rf a0]) B [.int x1, .int 0] [va_rf a0] cv_X13_104 dX13_far_33 hl hR (ct_X13_cIs G e33) rfl rfl rfl rfl ⟨cr _, trivial⟩ (Nat.le_of_ble_eq_true rfl) ?_
        refine j_iload_n B dX13_far_36 rfl ?_
        refine j_iload_n B dX13_far_37 rfl ?_
        obtain ⟨i38, w38, e38, hF⟩ := bc hF
        refine j_rV (st2 := [.int i38]) B [.int i33, .int x2, .int x3] [] cv_X13_178 dX13_far_38 hl hR (ct_X13_farFor G e38) rfl rfl rfl rfl trivial (Nat.le_of_ble_eq_true rfl) ?_
        refine j_istore (vs' := [some (va_rf a0), some (.int x1), some (.int x2), some (.int x3), some (.int i38)]) B dX13_far_41 (by decide) rfl ?_
        refine j_iload B dX13_far_43 rfl ?_
        refine j_ldc (v := 1000000) B q1546 dX13_far_45 ?_
        refine j_icmp_lt (tgt := 59) B dX13_far_47 (by decide) hF (fun h47 hF => ?_) (fun h47 hF => ?_)
        · refine j_iload B dX13_far_59 rfl ?_
          exact j_lIw B rfl dX13_far_61 hF (by decide) (by decide)
        · refine j_aload_n B dX13_far_50 rfl ?_
          refine j_ldc (v := (-1000004)) B q1551 dX13_far_51 ?_
          obtain ⟨i53, w53, e53, hF⟩ := bc hF
          refine j_rV (st2 := [.int i53]) B [.int (-1000004)] [] cv_X13_92 dX13_far_53 hl hR (ct_X13_finding G e53) rfl rfl rfl rfl trivial (Nat.le_of_ble_eq_true rfl) ?_
          refine j_goto (tgt := 61) B dX13_far_56 (by decide) ?_
          exact j_lIw B rfl dX13_far_61 hF (by decide) (by decide)
      · refine j_msk [true, false, false, false, false] rfl ?_
        exact jb22 a0 w hF
def F_X13_first_J154 (rc76 : (Option Nat) → Int32 → Int32 → Int32 → Int32 → Int32 → Int32 → cH → Option (Int32 × cH)) (a0 : Option Nat) (x2 : Int32) (x3 : Int32) (x4 : Int32) (x5 : Int32) (x7 : Int32) (s0 : Int32) (w : cH) : Option (Int32 × cH) :=
  rc76 a0 x2 x3 x4 x5 s0 (x7 + 1) w
def F_X13_first_J152 (rc76 : (Option Nat) → Int32 → Int32 → Int32 → Int32 → Int32 → Int32 → cH → Option (Int32 × cH)) (a0 : Option Nat) (x2 : Int32) (x3 : Int32) (x4 : Int32) (x5 : Int32) (x6 : Int32) (x7 : Int32) (w : cH) : Option (Int32 × cH) :=
  F_X13_first_J154  rc76 a0 x2 x3 x4 x5 x7 x6 w
def F_X13_first_J113 (rc76 : (Option Nat) → Int32 → Int32 → Int32 → Int32 → Int32 → Int32 → cH → Option (Int32 × cH)) (a0 : Option Nat) (x2 : Int32) (x3 : Int32) (x4 : Int32) (x5 : Int32) (x6 : Int32) (x7 : Int32) (s0 : Int32) (w : cH) : Option (Int32 × cH) :=
  if s0 = 0 then (F_X13_first_J152  rc76 a0 x2 x3 x4 x5 x6 x7 w) else ((F_X13_counts a0 x4 x3 x7 w).bind fun i126 => (fA w a0 13 5).bind fun a130p => (aI w a130p 100 ((7 * x7) + x2)).bind fun i140 =>if ¬ (i126 + i140) = x5 then (F_X13_first_J152  rc76 a0 x2 x3 x4 x5 x6 x7 w) else (F_X13_first_J154  rc76 a0 x2 x3 x4 x5 x7 x7 w))
def F_X13_first_J112 (rc76 : (Option Nat) → Int32 → Int32 → Int32 → Int32 → Int32 → Int32 → cH → Option (Int32 × cH)) (a0 : Option Nat) (x2 : Int32) (x3 : Int32) (x4 : Int32) (x5 : Int32) (x6 : Int32) (x7 : Int32) (w : cH) : Option (Int32 × cH) :=
  F_X13_first_J113  rc76 a0 x2 x3 x4 x5 x6 x7 0 w
def F_X13_first_B76 (rc76 : Option Nat → Int32 → Int32 → Int32 → Int32 → Int32 → Int32 → cH → Option (Int32 × cH)) (a0 : Option Nat) (x2 : Int32) (x3 : Int32) (x4 : Int32) (x5 : Int32) (x6 : Int32) (x7 : Int32) (w : cH) : Option (Int32 × cH) :=
  if 7 ≤ x7 then (some (x6, w)) else (if 0 ≤ x6 then (some (x6, w)) else (if x7 = x3 then (F_X13_first_J112  rc76 a0 x2 x3 x4 x5 x6 x7 w) else ((fA w a0 13 0).bind fun a95p => (aI w a95p 100 (F_X13_wayAt x7 x3)).bind fun i104 =>if i104 ≤ 0 then (F_X13_first_J112  rc76 a0 x2 x3 x4 x5 x6 x7 w) else (F_X13_first_J113  rc76 a0 x2 x3 x4 x5 x6 x7 1 w))))
def F_X13_first_L76 : Nat → Option Nat → Int32 → Int32 → Int32 → Int32 → Int32 → Int32 → cH → Option (Int32 × cH)
  | 0, _, _, _, _, _, _, _, _ => none
  | n9 + 1, a0, x2, x3, x4, x5, x6, x7, w => F_X13_first_B76  (F_X13_first_L76  n9) a0 x2 x3 x4 x5 x6 x7 w
def F_X13_first_J71 (a0 : Option Nat) (x2 : Int32) (x3 : Int32) (x4 : Int32) (x5 : Int32) (s0 : Int32) (w : cH) : Option (Int32 × cH) :=
  F_X13_first_L76  fu a0 x2 x3 x4 x5 s0 0 w
def F_X13_first_J15 (a0 : Option Nat) (w : cH) : Option (Int32 × cH) :=
  cb (F_X13_finding a0 (-1000001) w) fun i18 w18 => some (i18, w18)
def F_X13_first (a0 : Option Nat) (x1 : Int32) (x2 : Int32) (w : cH) : Option (Int32 × cH) :=
  if tg w a0 = some 13 then ((F_X13_isCarrier a0 x1 w).bind fun i2 =>if i2 = 0 then (F_X13_first_J15  a0 w) else (if ¬ (F_X13_isPlace x2) = 0 then ((F_X13_cIs a0 x1 1 w).bind fun i25 => (F_X13_cIs a0 x1 0 w).bind fun i32 => cb (F_X13_farFor a0 i32 i25 x2 w) fun i42 w42 =>if i42 < 1000000 then (if ¬ i25 = x2 then (F_X13_first_J71  a0 x2 i25 i32 i42 (-1) w42) else (F_X13_first_J71  a0 x2 i25 i32 i42 x2 w42)) else (cb (F_X13_finding a0 (-1000004) w42) fun i57 w57 => some (i57, w57))) else (F_X13_first_J15  a0 w))) else none
abbrev rm_X13_first : Room := { frames := 5, cells := 0, slots := 0, locals := 116 }
set_option maxHeartbeats 4000000 in
set_option maxRecDepth 100000 in
theorem ct_X13_first {l : Launch} {g : Gt} (G : Gok g) {a0 : Option Nat} {x1 : Int32} {x2 : Int32} {w : cH} {r9 : Int32} {w9 : cH} (hF : F_X13_first a0 x1 x2 w = some (r9, w9)) : tg w a0 = some 13 ∧ Mx l yX13_first (ws_ yX13_first cX13_first 9 (some .int)) rm_X13_first g [va_rf a0, .int x1, .int x2] w (.returned (some (.int r9))) w9 0 0 := by
  unfold F_X13_first at hF
  obtain ⟨ht, hF⟩ := bg hF
  refine ⟨ht, mk_ct cX13_first 9 (some .int) "CarryFairModel" (plainFor_of_name (by decide)) rfl (lg_le ⟨cr _, rfl, rfl, trivial⟩ (Nat.le_of_ble_eq_true rfl)) (av_ok ⟨cr _, rfl, rfl, trivial⟩) G (fun x B hl hR hin hh => ?_)⟩
  show J g x _ _ 0 0 w 0 0 0 [some (va_rf a0), some (.int x1), some (.int x2), none, none, none, none, none, none] []
  have lp76 : ∀ (n9 : Nat) (a0 : Option Nat) (x2 : Int32) (x3 : Int32) (x4 : Int32) (x5 : Int32) (x6 : Int32) (x7 : Int32) (w : cH), F_X13_first_L76  n9 a0 x2 x3 x4 x5 x6 x7 w = some (r9, w9) → J g x (.returned (some (.int r9))) w9 0 0 w 0 0 76 [some (va_rf a0), none, some (.int x2), some (.int x3), some (.int x4), some (.int x5), some (.int x6), some (.int x7), none] [] := by
    intro n9
    induction n9 with
    | zero => intro a0 x2 x3 x4 x5 x6 x7 w hF; cases hF
    | succ n76 ih76 =>
      intro a0 x2 x3 x4 x5 x6 x7 w hF
      have hF : F_X13_first_B76  (F_X13_first_L76  n76) a0 x2 x3 x4 x5 x6 x7 w = some (r9, w9) := hF
      unfold F_X13_first_B76 at hF
      have jb154 : ∀ (a0 : Option Nat) (x2 : Int32) (x3 : Int32) (x4 : Int32) (x5 : Int32) (x7 : Int32) (s0 : Int32) (w : cH), F_X13_first_J154  (F_X13_first_L76  n76) a0 x2 x3 x4 x5 x7 s0 w = some (r9, w9) → J g x (.returned (some (.int r9))) w9 0 0 w 0 0 154 [some (va_rf a0), none, some (.int x2), some (.int x3), some (.int x4), some (.int x5), none, some (.int x7), none] [.int s0] := by
        intro a0 x2 x3 x4 x5 x7 s0 w hF
        unfold F_X13_first_J154 at hF
        refine j_istore (vs' := [some (va_rf a0), none, some (.int x2), some (.int x3), some (.int x4), some (.int x5), some (.int s0), some (.int x7), none]) B dX13_first_154 (by decide) rfl ?_
        refine j_iinc (v := x7 + 1) (vs' := [some (va_rf a0), none, some (.int x2), some (.int x3), some (.int x4), some (.int x5), some (.int s0), some (.int (x7 + 1)), none]) B dX13_first_156 (by decide) rfl rfl rfl ?_
        refine j_goto (tgt := 76) B dX13_first_159 (by decide) ?_
        exact ih76 a0 x2 x3 x4 x5 s0 (x7 + 1) w hF
      have jb152 : ∀ (a0 : Option Nat) (x2 : Int32) (x3 : Int32) (x4 : Int32) (x5 : Int32) (x6 : Int32) (x7 : Int32) (w : cH), F_X13_first_J152  (F_X13_first_L76  n76) a0 x2 x3 x4 x5 x6 x7 w = some (r9, w9) → J g x (.returned (some (.int r9))) w9 0 0 w 0 0 152 [some (va_rf a0), none, some (.int x2), some (.int x3), some (.int x4), some (.int x5), some (.int x6), some (.int x7), none] [] := by
        intro a0 x2 x3 x4 x5 x6 x7 w hF
        unfold F_X13_first_J152 at hF
        refine j_iload B dX13_first_152 rfl ?_
        refine j_msk [true, false, true, true, true, true, false, true, false] rfl ?_
        exact jb154 a0 x2 x3 x4 x5 x7 x6 w hF
      have jb113 : ∀ (a0 : Option Nat) (x2 : Int32) (x3 : Int32) (x4 : Int32) (x5 : Int32) (x6 : Int32) (x7 : Int32) (s0 : Int32) (w : cH), F_X13_first_J113  (F_X13_first_L76  n76) a0 x2 x3 x4 x5 x6 x7 s0 w = some (r9, w9) → J g x (.returned (some (.int r9))) w9 0 0 w 0 0 113 [some (va_rf a0), none, some (.int x2), some (.int x3), some (.int x4), some (.int x5), some (.int x6), some (.int x7), none] [.int s0] := by
        intro a0 x2 x3 x4 x5 x6 x7 s0 w hF
        unfold F_X13_first_J113 at hF
        refine j_istore (vs' := [some (va_rf a0), none, some (.int x2), some (.int x3), some (.int x4), some (.int x5), some (.int x6), some (.int x7), some (.int s0)]) B dX13_first_113 (by decide) rfl ?_
        refine j_iload B dX13_first_115 rfl ?_
        refine j_if_eq (tgt := 152) B dX13_first_117 (by decide) hF (fun h117 hF => ?_) (fun h117 hF => ?_)
        · refine j_msk [true, false, true, true, true, true, true, true, false] rfl ?_
          exact jb152 a0 x2 x3 x4 x5 x6 x7 w hF
        · refine j_aload_n B dX13_first_120 rfl ?_
          refine j_iload B dX13_first_121 rfl ?_
          refine j_iload_n B dX13_first_123 rfl ?_
          refine j_iload B dX13_first_124 rfl ?_
          obtain ⟨i126, e126, hF⟩ := bo hF
          refine j_rV (st2 := [.int i126]) B [.int x4, .int x3, .int x7] [] cv_X13_171 dX13_first_126 hl hR (ct_X13_counts G e126) rfl rfl rfl rfl trivial (Nat.le_of_ble_eq_true rfl) ?_
          refine j_aload_n B dX13_first_129 rfl ?_
          refine j_getA B fl_X13_22 dX13_first_130 hF (fun a130p hF => ?_)
          refine j_bipush (v := 7) B dX13_first_133 (by decide) ?_
          refine j_iload B dX13_first_135 rfl ?_
          refine j_imul B dX13_first_137 ?_
          refine j_iload_n B dX13_first_138 rfl ?_
          refine j_iadd B dX13_first_139 ?_
          refine j_iaload B dX13_first_140 hF (fun i140 hF => ?_)
          refine j_iadd B dX13_first_141 ?_
          refine j_iload B dX13_first_142 rfl ?_
          refine j_icmp_ne (tgt := 152) B dX13_first_144 (by decide) hF (fun h144 hF => ?_) (fun h144 hF => ?_)
          · refine j_msk [true, false, true, true, true, true, true, true, false] rfl ?_
            exact jb152 a0 x2 x3 x4 x5 x6 x7 w hF
          · refine j_iload B dX13_first_147 rfl ?_
            refine j_goto (tgt := 154) B dX13_first_149 (by decide) ?_
            refine j_msk [true, false, true, true, true, true, false, true, false] rfl ?_
            exact jb154 a0 x2 x3 x4 x5 x7 x7 w hF
      have jb112 : ∀ (a0 : Option Nat) (x2 : Int32) (x3 : Int32) (x4 : Int32) (x5 : Int32) (x6 : Int32) (x7 : Int32) (w : cH), F_X13_first_J112  (F_X13_first_L76  n76) a0 x2 x3 x4 x5 x6 x7 w = some (r9, w9) → J g x (.returned (some (.int r9))) w9 0 0 w 0 0 112 [some (va_rf a0), none, some (.int x2), some (.int x3), some (.int x4), some (.int x5), some (.int x6), some (.int x7), none] [] := by
        intro a0 x2 x3 x4 x5 x6 x7 w hF
        unfold F_X13_first_J112 at hF
        refine j_iconst (v := 0) B dX13_first_112 (by decide) ?_
        exact jb113 a0 x2 x3 x4 x5 x6 x7 0 w hF
      refine j_iload B dX13_first_76 rfl ?_
      refine j_bipush (v := 7) B dX13_first_78 (by decide) ?_
      refine j_icmp_ge (tgt := 162) B dX13_first_80 (by decide) hF (fun h80 hF => ?_) (fun h80 hF => ?_)
      · refine j_iload B dX13_first_162 rfl ?_
        exact j_lIw B rfl dX13_first_164 hF (by decide) (by decide)
      · refine j_iload B dX13_first_83 rfl ?_
        refine j_if_ge (tgt := 162) B dX13_first_85 (by decide) hF (fun h85 hF => ?_) (fun h85 hF => ?_)
        · refine j_iload B dX13_first_162 rfl ?_
          exact j_lIw B rfl dX13_first_164 hF (by decide) (by decide)
        · refine j_iload B dX13_first_88 rfl ?_
          refine j_iload_n B dX13_first_90 rfl ?_
          refine j_icmp_eq (tgt := 112) B dX13_first_91 (by decide) hF (fun h91 hF => ?_) (fun h91 hF => ?_)
          · exact jb112 a0 x2 x3 x4 x5 x6 x7 w hF
          · refine j_aload_n B dX13_first_94 rfl ?_
            refine j_getA B fl_X13_9 dX13_first_95 hF (fun a95p hF => ?_)
            refine j_iload B dX13_first_98 rfl ?_
            refine j_iload_n B dX13_first_100 rfl ?_
            refine j_rS (st2 := [.int (F_X13_wayAt x7 x3), va_rf a95p]) B [.int x7, .int x3] [va_rf a95p] cs_X13_144 dX13_first_101 hl hR (ct_X13_wayAt G) rfl rfl rfl rfl ⟨cr _, trivial⟩ (Nat.le_of_ble_eq_true rfl) ?_
            refine j_iaload B dX13_first_104 hF (fun i104 hF => ?_)
            refine j_if_le (tgt := 112) B dX13_first_105 (by decide) hF (fun h105 hF => ?_) (fun h105 hF => ?_)
            · exact jb112 a0 x2 x3 x4 x5 x6 x7 w hF
            · refine j_iconst (v := 1) B dX13_first_108 (by decide) ?_
              refine j_goto (tgt := 113) B dX13_first_109 (by decide) ?_
              exact jb113 a0 x2 x3 x4 x5 x6 x7 1 w hF
  have jb71 : ∀ (a0 : Option Nat) (x2 : Int32) (x3 : Int32) (x4 : Int32) (x5 : Int32) (s0 : Int32) (w : cH), F_X13_first_J71  a0 x2 x3 x4 x5 s0 w = some (r9, w9) → J g x (.returned (some (.int r9))) w9 0 0 w 0 0 71 [some (va_rf a0), none, some (.int x2), some (.int x3), some (.int x4), some (.int x5), none, none, none] [.int s0] := by
    intro a0 x2 x3 x4 x5 s0 w hF
    unfold F_X13_first_J71 at hF
    refine j_istore (vs' := [some (va_rf a0), none, some (.int x2), some (.int x3), some (.int x4), some (.int x5), some (.int s0), none, none]) B dX13_first_71 (by decide) rfl ?_
    refine j_iconst (v := 0) B dX13_first_73 (by decide) ?_
    refine j_istore (vs' := [some (va_rf a0), none, some (.int x2), some (.int x3), some (.int x4), some (.int x5), some (.int s0), some (.int 0), none]) B dX13_first_74 (by decide) rfl ?_
    exact lp76 fu a0 x2 x3 x4 x5 s0 0 w hF
  have jb15 : ∀ (a0 : Option Nat) (w : cH), F_X13_first_J15  a0 w = some (r9, w9) → J g x (.returned (some (.int r9))) w9 0 0 w 0 0 15 [some (va_rf a0), none, none, none, none, none, none, none, none] [] := by
    intro a0 w hF
    unfold F_X13_first_J15 at hF
    refine j_aload_n B dX13_first_15 rfl ?_
    refine j_ldc (v := (-1000001)) B q1436 dX13_first_16 ?_
    obtain ⟨i18, w18, e18, hF⟩ := bc hF
    refine j_rV (st2 := [.int i18]) B [.int (-1000001)] [] cv_X13_92 dX13_first_18 hl hR (ct_X13_finding G e18) rfl rfl rfl rfl trivial (Nat.le_of_ble_eq_true rfl) ?_
    exact j_lIw B rfl dX13_first_21 hF (by decide) (by decide)
  refine j_aload_n B dX13_first_0 rfl ?_
  refine j_iload_n B dX13_first_1 rfl ?_
  obtain ⟨i2, e2, hF⟩ := bo hF
  refine j_rV (st2 := [.int i2]) B [.int x1] [] cv_X13_117 dX13_first_2 hl hR (ct_X13_isCarrier G e2) rfl rfl rfl rfl trivial (Nat.le_of_ble_eq_true rfl) ?_
  refine j_if_eq (tgt := 15) B dX13_first_5 (by decide) hF (fun h5 hF => ?_) (fun h5 hF => ?_)
  · refine j_msk [true, false, false, false, false, false, false, false, false] rfl ?_
    exact jb15 a0 w hF
  · refine j_iload_n B dX13_first_8 rfl ?_
    refine j_rS (st2 := [.int (F_X13_isPlace x2)]) B [.int x2] [] cs_X13_129 dX13_first_9 hl hR (ct_X13_isPlace G) rfl rfl rfl rfl trivial (Nat.le_of_ble_eq_true rfl) ?_
    refine j_if_ne (tgt := 22) B dX13_first_12 (by decide) hF (fun h12 hF => ?_) (fun h12 hF => ?_)
    · refine j_aload_n B dX13_first_22 rfl ?_
      refine j_iload_n B dX13_first_23 rfl ?_
      refine j_iconst (v := 1) B dX13_first_24 (by decide) ?_
      obtain ⟨i25, e25, hF⟩ := bo hF
      refine j_rV (st2 := [.int i25]) B [.int x1, .int 1] [] cv_X13_104 dX13_first_25 hl hR (ct_X13_cIs G e25) rfl rfl rfl rfl trivial (Nat.le_of_ble_eq_true rfl) ?_
      refine j_istore_n (vs' := [some (va_rf a0), some (.int x1), some (.int x2), some (.int i25), none, none, none, none, none]) B dX13_first_28 (by decide) rfl ?_
      refine j_aload_n B dX13_first_29 rfl ?_
      refine j_iload_n B dX13_first_30 rfl ?_
      refine j_iconst (v := 0) B dX13_first_31 (by decide) ?_
      obtain ⟨i32, e32, hF⟩ := bo hF
      refine j_rV (st2 := [.int i32]) B [.int x1, .int 0] [] cv_X13_104 dX13_first_32 hl hR (ct_X13_cIs G e32) rfl rfl rfl rfl trivial (Nat.le_of_ble_eq_true rfl) ?_
      refine j_istore (vs' := [some (va_rf a0), some (.int x1), some (.int x2), some (.int i25), some (.int i32), none, none, none, none]) B dX13_first_35 (by decide) rfl ?_
      refine j_aload_n B dX13_first_37 rfl ?_
      refine j_iload B dX13_first_38 rfl ?_
      refine j_iload_n B dX13_first_40 rfl ?_
      refine j_iload_n B dX13_first_41 rfl ?_
      obtain ⟨i42, w42, e42, hF⟩ := bc hF
      refine j_rV (st2 := [.int i42]) B [.int i32, .int i25, .int x2] [] cv_X13_178 dX13_first_42 hl hR (ct_X13_farFor G e42) rfl rfl rfl rfl trivial (Nat.le_of_ble_eq_true rfl) ?_
      refine j_istore (vs' := [some (va_rf a0), some (.int x1), some (.int x2), some (.int i25), some (.int i32), some (.int i42), none, none, none]) B dX13_first_45 (by decide) rfl ?_
      refine j_iload B dX13_first_47 rfl ?_
      refine j_ldc (v := 1000000) B q1546 dX13_first_49 ?_
      refine j_icmp_lt (tgt := 61) B dX13_first_51 (by decide) hF (fun h51 hF => ?_) (fun h51 hF => ?_)
      · refine j_iload_n B dX13_first_61 rfl ?_
        refine j_iload_n B dX13_first_62 rfl ?_
        refine j_icmp_ne (tgt := 70) B dX13_first_63 (by decide) hF (fun h63 hF => ?_) (fun h63 hF => ?_)
        · refine j_iconst (v := (-1)) B dX13_first_70 (by decide) ?_
          refine j_msk [true, false, true, true, true, true, false, false, false] rfl ?_
          exact jb71 a0 x2 i25 i32 i42 (-1) w42 hF
        · refine j_iload_n B dX13_first_66 rfl ?_
          refine j_goto (tgt := 71) B dX13_first_67 (by decide) ?_
          refine j_msk [true, false, true, true, true, true, false, false, false] rfl ?_
          exact jb71 a0 x2 i25 i32 i42 x2 w42 hF
      · refine j_aload_n B dX13_first_54 rfl ?_
        refine j_ldc (v := (-1000004)) B q1551 dX13_first_55 ?_
        obtain ⟨i57, w57, e57, hF⟩ := bc hF
        refine j_rV (st2 := [.int i57]) B [.int (-1000004)] [] cv_X13_92 dX13_first_57 hl hR (ct_X13_finding G e57) rfl rfl rfl rfl trivial (Nat.le_of_ble_eq_true rfl) ?_
        exact j_lIw B rfl dX13_first_60 hF (by decide) (by decide)
    · refine j_msk [true, false, false, false, false, false, false, false, false] rfl ?_
      exact jb15 a0 w hF
def F_X13_liesAt (a0 : Option Nat) (x1 : Int32) (x2 : Int32) (w : cH) : Option Int32 :=
  if tg w a0 = some 13 then ((F_X13_eIs a0 x1 3 w).bind fun i3 =>if ¬ i3 = 0 then (some (0)) else ((F_X13_eIs a0 x1 1 w).bind fun i12 =>if ¬ i12 = x2 then (some (0)) else (some (1)))) else none
abbrev rm_X13_liesAt : Room := { frames := 2, cells := 0, slots := 0, locals := 43 }
set_option maxHeartbeats 4000000 in
set_option maxRecDepth 100000 in
theorem ct_X13_liesAt {l : Launch} {g : Gt} (G : Gok g) {a0 : Option Nat} {x1 : Int32} {x2 : Int32} {w : cH} {r9 : Int32} (hF : F_X13_liesAt a0 x1 x2 w = some r9) : tg w a0 = some 13 ∧ Mx l yX13_liesAt (ws_ yX13_liesAt cX13_liesAt 3 (some .boolean)) rm_X13_liesAt g [va_rf a0, .int x1, .int x2] w (.returned (some (.int r9))) w 0 0 := by
  unfold F_X13_liesAt at hF
  obtain ⟨ht, hF⟩ := bg hF
  refine ⟨ht, mk_ct cX13_liesAt 3 (some .boolean) "CarryFairModel" (plainFor_of_name (by decide)) rfl (lg_le ⟨cr _, rfl, rfl, trivial⟩ (Nat.le_of_ble_eq_true rfl)) (av_ok ⟨cr _, rfl, rfl, trivial⟩) G (fun x B hl hR hin hh => ?_)⟩
  show J g x _ _ 0 0 w 0 0 0 [some (va_rf a0), some (.int x1), some (.int x2)] []
  refine j_aload_n B dX13_liesAt_0 rfl ?_
  refine j_iload_n B dX13_liesAt_1 rfl ?_
  refine j_iconst (v := 3) B dX13_liesAt_2 (by decide) ?_
  obtain ⟨i3, e3, hF⟩ := bo hF
  refine j_rV (st2 := [.int i3]) B [.int x1, .int 3] [] cv_X13_111 dX13_liesAt_3 hl hR (ct_X13_eIs G e3) rfl rfl rfl rfl trivial (Nat.le_of_ble_eq_true rfl) ?_
  refine j_if_ne (tgt := 23) B dX13_liesAt_6 (by decide) hF (fun h6 hF => ?_) (fun h6 hF => ?_)
  · refine j_iconst (v := 0) B dX13_liesAt_23 (by decide) ?_
    exact j_lZ B (by decide) rfl dX13_liesAt_24 hF (by decide) (by decide)
  · refine j_aload_n B dX13_liesAt_9 rfl ?_
    refine j_iload_n B dX13_liesAt_10 rfl ?_
    refine j_iconst (v := 1) B dX13_liesAt_11 (by decide) ?_
    obtain ⟨i12, e12, hF⟩ := bo hF
    refine j_rV (st2 := [.int i12]) B [.int x1, .int 1] [] cv_X13_111 dX13_liesAt_12 hl hR (ct_X13_eIs G e12) rfl rfl rfl rfl trivial (Nat.le_of_ble_eq_true rfl) ?_
    refine j_iload_n B dX13_liesAt_15 rfl ?_
    refine j_icmp_ne (tgt := 23) B dX13_liesAt_16 (by decide) hF (fun h16 hF => ?_) (fun h16 hF => ?_)
    · refine j_iconst (v := 0) B dX13_liesAt_23 (by decide) ?_
      exact j_lZ B (by decide) rfl dX13_liesAt_24 hF (by decide) (by decide)
    · refine j_iconst (v := 1) B dX13_liesAt_19 (by decide) ?_
      refine j_goto (tgt := 24) B dX13_liesAt_20 (by decide) ?_
      exact j_lZ B (by decide) rfl dX13_liesAt_24 hF (by decide) (by decide)
def F_X13_fitsTo (a0 : Option Nat) (x1 : Int32) (x2 : Int32) (w : cH) : Option Int32 :=
  if tg w a0 = some 13 then ((F_X13_carries a0 x1 w).bind fun i3 => (F_X13_weighs a0 i3 w).bind fun i6 => (F_X13_eIs a0 x2 0 w).bind fun i12 => (F_X13_bears a0 x1 w).bind fun i18 =>if i18 < (i6 + i12) then (some (0)) else (some (1))) else none
abbrev rm_X13_fitsTo : Room := { frames := 3, cells := 0, slots := 0, locals := 66 }
set_option maxHeartbeats 4000000 in
set_option maxRecDepth 100000 in
theorem ct_X13_fitsTo {l : Launch} {g : Gt} (G : Gok g) {a0 : Option Nat} {x1 : Int32} {x2 : Int32} {w : cH} {r9 : Int32} (hF : F_X13_fitsTo a0 x1 x2 w = some r9) : tg w a0 = some 13 ∧ Mx l yX13_fitsTo (ws_ yX13_fitsTo cX13_fitsTo 3 (some .boolean)) rm_X13_fitsTo g [va_rf a0, .int x1, .int x2] w (.returned (some (.int r9))) w 0 0 := by
  unfold F_X13_fitsTo at hF
  obtain ⟨ht, hF⟩ := bg hF
  refine ⟨ht, mk_ct cX13_fitsTo 3 (some .boolean) "CarryFairModel" (plainFor_of_name (by decide)) rfl (lg_le ⟨cr _, rfl, rfl, trivial⟩ (Nat.le_of_ble_eq_true rfl)) (av_ok ⟨cr _, rfl, rfl, trivial⟩) G (fun x B hl hR hin hh => ?_)⟩
  show J g x _ _ 0 0 w 0 0 0 [some (va_rf a0), some (.int x1), some (.int x2)] []
  refine j_aload_n B dX13_fitsTo_0 rfl ?_
  refine j_aload_n B dX13_fitsTo_1 rfl ?_
  refine j_iload_n B dX13_fitsTo_2 rfl ?_
  obtain ⟨i3, e3, hF⟩ := bo hF
  refine j_rV (st2 := [.int i3, va_rf a0]) B [.int x1] [va_rf a0] cv_X13_123 dX13_fitsTo_3 hl hR (ct_X13_carries G e3) rfl rfl rfl rfl ⟨cr _, trivial⟩ (Nat.le_of_ble_eq_true rfl) ?_
  obtain ⟨i6, e6, hF⟩ := bo hF
  refine j_rV (st2 := [.int i6]) B [.int i3] [] cv_X13_126 dX13_fitsTo_6 hl hR (ct_X13_weighs G e6) rfl rfl rfl rfl trivial (Nat.le_of_ble_eq_true rfl) ?_
  refine j_aload_n B dX13_fitsTo_9 rfl ?_
  refine j_iload_n B dX13_fitsTo_10 rfl ?_
  refine j_iconst (v := 0) B dX13_fitsTo_11 (by decide) ?_
  obtain ⟨i12, e12, hF⟩ := bo hF
  refine j_rV (st2 := [.int i12, .int i6]) B [.int x2, .int 0] [.int i6] cv_X13_111 dX13_fitsTo_12 hl hR (ct_X13_eIs G e12) rfl rfl rfl rfl ⟨rfl, trivial⟩ (Nat.le_of_ble_eq_true rfl) ?_
  refine j_iadd B dX13_fitsTo_15 ?_
  refine j_aload_n B dX13_fitsTo_16 rfl ?_
  refine j_iload_n B dX13_fitsTo_17 rfl ?_
  obtain ⟨i18, e18, hF⟩ := bo hF
  refine j_rV (st2 := [.int i18, .int (i6 + i12)]) B [.int x1] [.int (i6 + i12)] cv_X13_120 dX13_fitsTo_18 hl hR (ct_X13_bears G e18) rfl rfl rfl rfl ⟨rfl, trivial⟩ (Nat.le_of_ble_eq_true rfl) ?_
  refine j_icmp_gt (tgt := 28) B dX13_fitsTo_21 (by decide) hF (fun h21 hF => ?_) (fun h21 hF => ?_)
  · refine j_iconst (v := 0) B dX13_fitsTo_28 (by decide) ?_
    exact j_lZ B (by decide) rfl dX13_fitsTo_29 hF (by decide) (by decide)
  · refine j_iconst (v := 1) B dX13_fitsTo_24 (by decide) ?_
    refine j_goto (tgt := 29) B dX13_fitsTo_25 (by decide) ?_
    exact j_lZ B (by decide) rfl dX13_fitsTo_29 hF (by decide) (by decide)
def F_X13_taken (a0 : Option Nat) (x1 : Int32) (x2 : Int32) (w : cH) : Option cH :=
  if tg w a0 = some 13 then ((fA w a0 13 0).bind fun a1p => (aS w a1p 100 (F_X13_eAt x2 3) (.int 1)).bind fun w10 => (fA w10 a0 13 0).bind fun a12p => (aS w10 a12p 100 (F_X13_eAt x2 4) (.int x1)).bind fun w21 => some w21) else none
abbrev rm_X13_taken : Room := { frames := 1, cells := 0, slots := 0, locals := 21 }
set_option maxHeartbeats 4000000 in
set_option maxRecDepth 100000 in
theorem ct_X13_taken {l : Launch} {g : Gt} (G : Gok g) {a0 : Option Nat} {x1 : Int32} {x2 : Int32} {w : cH}  {w9 : cH} (hF : F_X13_taken a0 x1 x2 w = some w9) : tg w a0 = some 13 ∧ Mx l yX13_taken (ws_ yX13_taken cX13_taken 3 none) rm_X13_taken g [va_rf a0, .int x1, .int x2] w (.returned none) w9 0 0 := by
  unfold F_X13_taken at hF
  obtain ⟨ht, hF⟩ := bg hF
  refine ⟨ht, mk_ct cX13_taken 3 none "CarryFairModel" (plainFor_of_name (by decide)) rfl (lg_le ⟨cr _, rfl, rfl, trivial⟩ (Nat.le_of_ble_eq_true rfl)) (av_ok ⟨cr _, rfl, rfl, trivial⟩) G (fun x B hl hR hin hh => ?_)⟩
  show J g x _ _ 0 0 w 0 0 0 [some (va_rf a0), some (.int x1), some (.int x2)] []
  refine j_aload_n B dX13_taken_0 rfl ?_
  refine j_getA B fl_X13_9 dX13_taken_1 hF (fun a1p hF => ?_)
  refine j_iload_n B dX13_taken_4 rfl ?_
  refine j_iconst (v := 3) B dX13_taken_5 (by decide) ?_
  refine j_rS (st2 := [.int (F_X13_eAt x2 3), va_rf a1p]) B [.int x2, .int 3] [va_rf a1p] cs_X13_85 dX13_taken_6 hl hR (ct_X13_eAt G) rfl rfl rfl rfl ⟨cr _, trivial⟩ (Nat.le_of_ble_eq_true rfl) ?_
  refine j_iconst (v := 1) B dX13_taken_9 (by decide) ?_
  refine j_iastore B dX13_taken_10 hF (fun w10 hF => ?_)
  refine j_aload_n B dX13_taken_11 rfl ?_
  refine j_getA B fl_X13_9 dX13_taken_12 hF (fun a12p hF => ?_)
  refine j_iload_n B dX13_taken_15 rfl ?_
  refine j_iconst (v := 4) B dX13_taken_16 (by decide) ?_
  refine j_rS (st2 := [.int (F_X13_eAt x2 4), va_rf a12p]) B [.int x2, .int 4] [va_rf a12p] cs_X13_85 dX13_taken_17 hl hR (ct_X13_eAt G) rfl rfl rfl rfl ⟨cr _, trivial⟩ (Nat.le_of_ble_eq_true rfl) ?_
  refine j_iload_n B dX13_taken_20 rfl ?_
  refine j_iastore B dX13_taken_21 hF (fun w21 hF => ?_)
  exact j_lV B rfl dX13_taken_22 hF (by decide) (by decide)
theorem cv_X13_181 : CV "CarryFairModel" 181 13 yX13_liesAt cX13_liesAt 3 (some .boolean) 2 := ⟨_, _, rfl, lw_V q1583 q1585 qs89 q142 q1586, by decide +kernel⟩
theorem cv_X13_185 : CV "CarryFairModel" 185 13 yX13_fitsTo cX13_fitsTo 3 (some .boolean) 2 := ⟨_, _, rfl, lw_V q1588 q1590 qs90 q142 q1591, by decide +kernel⟩
theorem cv_X13_188 : CV "CarryFairModel" 188 13 yX13_taken cX13_taken 3 none 2 := ⟨_, _, rfl, lw_V q1592 q1594 qs91 q142 q1595, by decide +kernel⟩
def F_X13_take_J16 (a0 : Option Nat) (w : cH) : Option (Int32 × cH) :=
  cb (F_X13_finding a0 (-1000001) w) fun i19 w19 => some (i19, w19)
def F_X13_take (a0 : Option Nat) (x1 : Int32) (x2 : Int32) (w : cH) : Option (Int32 × cH) :=
  if tg w a0 = some 13 then ((F_X13_isCarrier a0 x1 w).bind fun i2 =>if i2 = 0 then (F_X13_take_J16  a0 w) else ((F_X13_isErrand a0 x2 w).bind fun i10 =>if ¬ i10 = 0 then ((F_X13_cIs a0 x1 1 w).bind fun i28 => (F_X13_liesAt a0 x2 i28 w).bind fun i31 =>if ¬ i31 = 0 then ((F_X13_fitsTo a0 x1 x2 w).bind fun i47 =>if ¬ i47 = 0 then ((F_X13_taken a0 x1 x2 w).bind fun w63 => (F_X13_carries a0 x1 w63).bind fun i69 => (F_X13_weighs a0 i69 w63).bind fun i72 => some (i72, w63)) else (cb (F_X13_finding a0 (-1000002) w) fun i56 w56 => some (i56, w56))) else (cb (F_X13_finding a0 (-1000005) w) fun i40 w40 => some (i40, w40))) else (F_X13_take_J16  a0 w))) else none
abbrev rm_X13_take : Room := { frames := 4, cells := 0, slots := 0, locals := 88 }
set_option maxHeartbeats 4000000 in
set_option maxRecDepth 100000 in
theorem ct_X13_take {l : Launch} {g : Gt} (G : Gok g) {a0 : Option Nat} {x1 : Int32} {x2 : Int32} {w : cH} {r9 : Int32} {w9 : cH} (hF : F_X13_take a0 x1 x2 w = some (r9, w9)) : tg w a0 = some 13 ∧ Mx l yX13_take (ws_ yX13_take cX13_take 3 (some .int)) rm_X13_take g [va_rf a0, .int x1, .int x2] w (.returned (some (.int r9))) w9 0 0 := by
  unfold F_X13_take at hF
  obtain ⟨ht, hF⟩ := bg hF
  refine ⟨ht, mk_ct cX13_take 3 (some .int) "CarryFairModel" (plainFor_of_name (by decide)) rfl (lg_le ⟨cr _, rfl, rfl, trivial⟩ (Nat.le_of_ble_eq_true rfl)) (av_ok ⟨cr _, rfl, rfl, trivial⟩) G (fun x B hl hR hin hh => ?_)⟩
  show J g x _ _ 0 0 w 0 0 0 [some (va_rf a0), some (.int x1), some (.int x2)] []
  have jb16 : ∀ (a0 : Option Nat) (w : cH), F_X13_take_J16  a0 w = some (r9, w9) → J g x (.returned (some (.int r9))) w9 0 0 w 0 0 16 [some (va_rf a0), none, none] [] := by
    intro a0 w hF
    unfold F_X13_take_J16 at hF
    refine j_aload_n B dX13_take_16 rfl ?_
    refine j_ldc (v := (-1000001)) B q1436 dX13_take_17 ?_
    obtain ⟨i19, w19, e19, hF⟩ := bc hF
    refine j_rV (st2 := [.int i19]) B [.int (-1000001)] [] cv_X13_92 dX13_take_19 hl hR (ct_X13_finding G e19) rfl rfl rfl rfl trivial (Nat.le_of_ble_eq_true rfl) ?_
    exact j_lIw B rfl dX13_take_22 hF (by decide) (by decide)
  refine j_aload_n B dX13_take_0 rfl ?_
  refine j_iload_n B dX13_take_1 rfl ?_
  obtain ⟨i2, e2, hF⟩ := bo hF
  refine j_rV (st2 := [.int i2]) B [.int x1] [] cv_X13_117 dX13_take_2 hl hR (ct_X13_isCarrier G e2) rfl rfl rfl rfl trivial (Nat.le_of_ble_eq_true rfl) ?_
  refine j_if_eq (tgt := 16) B dX13_take_5 (by decide) hF (fun h5 hF => ?_) (fun h5 hF => ?_)
  · refine j_msk [true, false, false] rfl ?_
    exact jb16 a0 w hF
  · refine j_aload_n B dX13_take_8 rfl ?_
    refine j_iload_n B dX13_take_9 rfl ?_
    obtain ⟨i10, e10, hF⟩ := bo hF
    refine j_rV (st2 := [.int i10]) B [.int x2] [] cv_X13_154 dX13_take_10 hl hR (ct_X13_isErrand G e10) rfl rfl rfl rfl trivial (Nat.le_of_ble_eq_true rfl) ?_
    refine j_if_ne (tgt := 23) B dX13_take_13 (by decide) hF (fun h13 hF => ?_) (fun h13 hF => ?_)
    · refine j_aload_n B dX13_take_23 rfl ?_
      refine j_iload_n B dX13_take_24 rfl ?_
      refine j_aload_n B dX13_take_25 rfl ?_
      refine j_iload_n B dX13_take_26 rfl ?_
      refine j_iconst (v := 1) B dX13_take_27 (by decide) ?_
      obtain ⟨i28, e28, hF⟩ := bo hF
      refine j_rV (st2 := [.int i28, .int x2, va_rf a0]) B [.int x1, .int 1] [.int x2, va_rf a0] cv_X13_104 dX13_take_28 hl hR (ct_X13_cIs G e28) rfl rfl rfl rfl ⟨rfl, cr _, trivial⟩ (Nat.le_of_ble_eq_true rfl) ?_
      obtain ⟨i31, e31, hF⟩ := bo hF
      refine j_rV (st2 := [.int i31]) B [.int x2, .int i28] [] cv_X13_181 dX13_take_31 hl hR (ct_X13_liesAt G e31) rfl rfl rfl rfl trivial (Nat.le_of_ble_eq_true rfl) ?_
      refine j_if_ne (tgt := 44) B dX13_take_34 (by decide) hF (fun h34 hF => ?_) (fun h34 hF => ?_)
      · refine j_aload_n B dX13_take_44 rfl ?_
        refine j_iload_n B dX13_take_45 rfl ?_
        refine j_iload_n B dX13_take_46 rfl ?_
        obtain ⟨i47, e47, hF⟩ := bo hF
        refine j_rV (st2 := [.int i47]) B [.int x1, .int x2] [] cv_X13_185 dX13_take_47 hl hR (ct_X13_fitsTo G e47) rfl rfl rfl rfl trivial (Nat.le_of_ble_eq_true rfl) ?_
        refine j_if_ne (tgt := 60) B dX13_take_50 (by decide) hF (fun h50 hF => ?_) (fun h50 hF => ?_)
        · refine j_aload_n B dX13_take_60 rfl ?_
          refine j_iload_n B dX13_take_61 rfl ?_
          refine j_iload_n B dX13_take_62 rfl ?_
          obtain ⟨w63, e63, hF⟩ := bo hF
          refine j_rV (st2 := []) B [.int x1, .int x2] [] cv_X13_188 dX13_take_63 hl hR (ct_X13_taken G e63) rfl rfl rfl rfl trivial (Nat.le_of_ble_eq_true rfl) ?_
          refine j_aload_n B dX13_take_66 rfl ?_
          refine j_aload_n B dX13_take_67 rfl ?_
          refine j_iload_n B dX13_take_68 rfl ?_
          obtain ⟨i69, e69, hF⟩ := bo hF
          refine j_rV (st2 := [.int i69, va_rf a0]) B [.int x1] [va_rf a0] cv_X13_123 dX13_take_69 hl hR (ct_X13_carries G e69) rfl rfl rfl rfl ⟨cr _, trivial⟩ (Nat.le_of_ble_eq_true rfl) ?_
          obtain ⟨i72, e72, hF⟩ := bo hF
          refine j_rV (st2 := [.int i72]) B [.int i69] [] cv_X13_126 dX13_take_72 hl hR (ct_X13_weighs G e72) rfl rfl rfl rfl trivial (Nat.le_of_ble_eq_true rfl) ?_
          exact j_lIw B rfl dX13_take_75 hF (by decide) (by decide)
        · refine j_aload_n B dX13_take_53 rfl ?_
          refine j_ldc (v := (-1000002)) B q1441 dX13_take_54 ?_
          obtain ⟨i56, w56, e56, hF⟩ := bc hF
          refine j_rV (st2 := [.int i56]) B [.int (-1000002)] [] cv_X13_92 dX13_take_56 hl hR (ct_X13_finding G e56) rfl rfl rfl rfl trivial (Nat.le_of_ble_eq_true rfl) ?_
          exact j_lIw B rfl dX13_take_59 hF (by decide) (by decide)
      · refine j_aload_n B dX13_take_37 rfl ?_
        refine j_ldc (v := (-1000005)) B q1587 dX13_take_38 ?_
        obtain ⟨i40, w40, e40, hF⟩ := bc hF
        refine j_rV (st2 := [.int i40]) B [.int (-1000005)] [] cv_X13_92 dX13_take_40 hl hR (ct_X13_finding G e40) rfl rfl rfl rfl trivial (Nat.le_of_ble_eq_true rfl) ?_
        exact j_lIw B rfl dX13_take_43 hF (by decide) (by decide)
    · refine j_msk [true, false, false] rfl ?_
      exact jb16 a0 w hF
def F_X13_drop_J50 (a0 : Option Nat) (w : cH) : Option (Int32 × cH) :=
  cb (F_X13_finding a0 (-1000005) w) fun i53 w53 => some (i53, w53)
def F_X13_drop_J16 (a0 : Option Nat) (w : cH) : Option (Int32 × cH) :=
  cb (F_X13_finding a0 (-1000001) w) fun i19 w19 => some (i19, w19)
def F_X13_drop (a0 : Option Nat) (x1 : Int32) (x2 : Int32) (w : cH) : Option (Int32 × cH) :=
  if tg w a0 = some 13 then ((F_X13_isCarrier a0 x1 w).bind fun i2 =>if i2 = 0 then (F_X13_drop_J16  a0 w) else ((F_X13_isErrand a0 x2 w).bind fun i10 =>if ¬ i10 = 0 then ((F_X13_carries a0 x1 w).bind fun i25 =>if (F_X13_has i25 x2) = 0 then (F_X13_drop_J50  a0 w) else ((F_X13_eIs a0 x2 2 w).bind fun i38 => (F_X13_cIs a0 x1 1 w).bind fun i44 =>if ¬ i38 = i44 then ((fA w a0 13 0).bind fun a58p => (F_X13_cIs a0 x1 1 w).bind fun i69 => (aS w a58p 100 (F_X13_eAt x2 1) (.int i69)).bind fun w72 => (fA w72 a0 13 0).bind fun a74p => (aS w72 a74p 100 (F_X13_eAt x2 3) (.int 0)).bind fun w83 => (fA w83 a0 13 0).bind fun a85p => (aS w83 a85p 100 (F_X13_eAt x2 4) (.int (-1))).bind fun w94 => (F_X13_carries a0 x1 w94).bind fun i98 => (F_X13_weighs a0 i98 w94).bind fun i101 => some (i101, w94)) else (F_X13_drop_J50  a0 w))) else (F_X13_drop_J16  a0 w))) else none
abbrev rm_X13_drop : Room := { frames := 3, cells := 0, slots := 0, locals := 66 }
set_option maxHeartbeats 4000000 in
set_option maxRecDepth 100000 in
theorem ct_X13_drop {l : Launch} {g : Gt} (G : Gok g) {a0 : Option Nat} {x1 : Int32} {x2 : Int32} {w : cH} {r9 : Int32} {w9 : cH} (hF : F_X13_drop a0 x1 x2 w = some (r9, w9)) : tg w a0 = some 13 ∧ Mx l yX13_drop (ws_ yX13_drop cX13_drop 3 (some .int)) rm_X13_drop g [va_rf a0, .int x1, .int x2] w (.returned (some (.int r9))) w9 0 0 := by
  unfold F_X13_drop at hF
  obtain ⟨ht, hF⟩ := bg hF
  refine ⟨ht, mk_ct cX13_drop 3 (some .int) "CarryFairModel" (plainFor_of_name (by decide)) rfl (lg_le ⟨cr _, rfl, rfl, trivial⟩ (Nat.le_of_ble_eq_true rfl)) (av_ok ⟨cr _, rfl, rfl, trivial⟩) G (fun x B hl hR hin hh => ?_)⟩
  show J g x _ _ 0 0 w 0 0 0 [some (va_rf a0), some (.int x1), some (.int x2)] []
  have jb50 : ∀ (a0 : Option Nat) (w : cH), F_X13_drop_J50  a0 w = some (r9, w9) → J g x (.returned (some (.int r9))) w9 0 0 w 0 0 50 [some (va_rf a0), none, none] [] := by
    intro a0 w hF
    unfold F_X13_drop_J50 at hF
    refine j_aload_n B dX13_drop_50 rfl ?_
    refine j_ldc (v := (-1000005)) B q1587 dX13_drop_51 ?_
    obtain ⟨i53, w53, e53, hF⟩ := bc hF
    refine j_rV (st2 := [.int i53]) B [.int (-1000005)] [] cv_X13_92 dX13_drop_53 hl hR (ct_X13_finding G e53) rfl rfl rfl rfl trivial (Nat.le_of_ble_eq_true rfl) ?_
    exact j_lIw B rfl dX13_drop_56 hF (by decide) (by decide)
  have jb16 : ∀ (a0 : Option Nat) (w : cH), F_X13_drop_J16  a0 w = some (r9, w9) → J g x (.returned (some (.int r9))) w9 0 0 w 0 0 16 [some (va_rf a0), none, none] [] := by
    intro a0 w hF
    unfold F_X13_drop_J16 at hF
    refine j_aload_n B dX13_drop_16 rfl ?_
    refine j_ldc (v := (-1000001)) B q1436 dX13_drop_17 ?_
    obtain ⟨i19, w19, e19, hF⟩ := bc hF
    refine j_rV (st2 := [.int i19]) B [.int (-1000001)] [] cv_X13_92 dX13_drop_19 hl hR (ct_X13_finding G e19) rfl rfl rfl rfl trivial (Nat.le_of_ble_eq_true rfl) ?_
    exact j_lIw B rfl dX13_drop_22 hF (by decide) (by decide)
  refine j_aload_n B dX13_drop_0 rfl ?_
  refine j_iload_n B dX13_drop_1 rfl ?_
  obtain ⟨i2, e2, hF⟩ := bo hF
  refine j_rV (st2 := [.int i2]) B [.int x1] [] cv_X13_117 dX13_drop_2 hl hR (ct_X13_isCarrier G e2) rfl rfl rfl rfl trivial (Nat.le_of_ble_eq_true rfl) ?_
  refine j_if_eq (tgt := 16) B dX13_drop_5 (by decide) hF (fun h5 hF => ?_) (fun h5 hF => ?_)
  · refine j_msk [true, false, false] rfl ?_
    exact jb16 a0 w hF
  · refine j_aload_n B dX13_drop_8 rfl ?_
    refine j_iload_n B dX13_drop_9 rfl ?_
    obtain ⟨i10, e10, hF⟩ := bo hF
    refine j_rV (st2 := [.int i10]) B [.int x2] [] cv_X13_154 dX13_drop_10 hl hR (ct_X13_isErrand G e10) rfl rfl rfl rfl trivial (Nat.le_of_ble_eq_true rfl) ?_
    refine j_if_ne (tgt := 23) B dX13_drop_13 (by decide) hF (fun h13 hF => ?_) (fun h13 hF => ?_)
    · refine j_aload_n B dX13_drop_23 rfl ?_
      refine j_iload_n B dX13_drop_24 rfl ?_
      obtain ⟨i25, e25, hF⟩ := bo hF
      refine j_rV (st2 := [.int i25]) B [.int x1] [] cv_X13_123 dX13_drop_25 hl hR (ct_X13_carries G e25) rfl rfl rfl rfl trivial (Nat.le_of_ble_eq_true rfl) ?_
      refine j_iload_n B dX13_drop_28 rfl ?_
      refine j_rS (st2 := [.int (F_X13_has i25 x2)]) B [.int i25, .int x2] [] cs_X13_114 dX13_drop_29 hl hR (ct_X13_has G) rfl rfl rfl rfl trivial (Nat.le_of_ble_eq_true rfl) ?_
      refine j_if_eq (tgt := 50) B dX13_drop_32 (by decide) hF (fun h32 hF => ?_) (fun h32 hF => ?_)
      · refine j_msk [true, false, false] rfl ?_
        exact jb50 a0 w hF
      · refine j_aload_n B dX13_drop_35 rfl ?_
        refine j_iload_n B dX13_drop_36 rfl ?_
        refine j_iconst (v := 2) B dX13_drop_37 (by decide) ?_
        obtain ⟨i38, e38, hF⟩ := bo hF
        refine j_rV (st2 := [.int i38]) B [.int x2, .int 2] [] cv_X13_111 dX13_drop_38 hl hR (ct_X13_eIs G e38) rfl rfl rfl rfl trivial (Nat.le_of_ble_eq_true rfl) ?_
        refine j_aload_n B dX13_drop_41 rfl ?_
        refine j_iload_n B dX13_drop_42 rfl ?_
        refine j_iconst (v := 1) B dX13_drop_43 (by decide) ?_
        obtain ⟨i44, e44, hF⟩ := bo hF
        refine j_rV (st2 := [.int i44, .int i38]) B [.int x1, .int 1] [.int i38] cv_X13_104 dX13_drop_44 hl hR (ct_X13_cIs G e44) rfl rfl rfl rfl ⟨rfl, trivial⟩ (Nat.le_of_ble_eq_true rfl) ?_
        refine j_icmp_ne (tgt := 57) B dX13_drop_47 (by decide) hF (fun h47 hF => ?_) (fun h47 hF => ?_)
        · refine j_aload_n B dX13_drop_57 rfl ?_
          refine j_getA B fl_X13_9 dX13_drop_58 hF (fun a58p hF => ?_)
          refine j_iload_n B dX13_drop_61 rfl ?_
          refine j_iconst (v := 1) B dX13_drop_62 (by decide) ?_
          refine j_rS (st2 := [.int (F_X13_eAt x2 1), va_rf a58p]) B [.int x2, .int 1] [va_rf a58p] cs_X13_85 dX13_drop_63 hl hR (ct_X13_eAt G) rfl rfl rfl rfl ⟨cr _, trivial⟩ (Nat.le_of_ble_eq_true rfl) ?_
          refine j_aload_n B dX13_drop_66 rfl ?_
          refine j_iload_n B dX13_drop_67 rfl ?_
          refine j_iconst (v := 1) B dX13_drop_68 (by decide) ?_
          obtain ⟨i69, e69, hF⟩ := bo hF
          refine j_rV (st2 := [.int i69, .int (F_X13_eAt x2 1), va_rf a58p]) B [.int x1, .int 1] [.int (F_X13_eAt x2 1), va_rf a58p] cv_X13_104 dX13_drop_69 hl hR (ct_X13_cIs G e69) rfl rfl rfl rfl ⟨rfl, cr _, trivial⟩ (Nat.le_of_ble_eq_true rfl) ?_
          refine j_iastore B dX13_drop_72 hF (fun w72 hF => ?_)
          refine j_aload_n B dX13_drop_73 rfl ?_
          refine j_getA B fl_X13_9 dX13_drop_74 hF (fun a74p hF => ?_)
          refine j_iload_n B dX13_drop_77 rfl ?_
          refine j_iconst (v := 3) B dX13_drop_78 (by decide) ?_
          refine j_rS (st2 := [.int (F_X13_eAt x2 3), va_rf a74p]) B [.int x2, .int 3] [va_rf a74p] cs_X13_85 dX13_drop_79 hl hR (ct_X13_eAt G) rfl rfl rfl rfl ⟨cr _, trivial⟩ (Nat.le_of_ble_eq_true rfl) ?_
          refine j_iconst (v := 0) B dX13_drop_82 (by decide) ?_
          refine j_iastore B dX13_drop_83 hF (fun w83 hF => ?_)
          refine j_aload_n B dX13_drop_84 rfl ?_
          refine j_getA B fl_X13_9 dX13_drop_85 hF (fun a85p hF => ?_)
          refine j_iload_n B dX13_drop_88 rfl ?_
          refine j_iconst (v := 4) B dX13_drop_89 (by decide) ?_
          refine j_rS (st2 := [.int (F_X13_eAt x2 4), va_rf a85p]) B [.int x2, .int 4] [va_rf a85p] cs_X13_85 dX13_drop_90 hl hR (ct_X13_eAt G) rfl rfl rfl rfl ⟨cr _, trivial⟩ (Nat.le_of_ble_eq_true rfl) ?_
          refine j_iconst (v := (-1)) B dX13_drop_93 (by decide) ?_
          refine j_iastore B dX13_drop_94 hF (fun w94 hF => ?_)
          refine j_aload_n B dX13_drop_95 rfl ?_
          refine j_aload_n B dX13_drop_96 rfl ?_
          refine j_iload_n B dX13_drop_97 rfl ?_
          obtain ⟨i98, e98, hF⟩ := bo hF
          refine j_rV (st2 := [.int i98, va_rf a0]) B [.int x1] [va_rf a0] cv_X13_123 dX13_drop_98 hl hR (ct_X13_carries G e98) rfl rfl rfl rfl ⟨cr _, trivial⟩ (Nat.le_of_ble_eq_true rfl) ?_
          obtain ⟨i101, e101, hF⟩ := bo hF
          refine j_rV (st2 := [.int i101]) B [.int i98] [] cv_X13_126 dX13_drop_101 hl hR (ct_X13_weighs G e101) rfl rfl rfl rfl trivial (Nat.le_of_ble_eq_true rfl) ?_
          exact j_lIw B rfl dX13_drop_104 hF (by decide) (by decide)
        · refine j_msk [true, false, false] rfl ?_
          exact jb50 a0 w hF
    · refine j_msk [true, false, false] rfl ?_
      exact jb16 a0 w hF
def F_X13_getsFor (a0 : Option Nat) (x1 : Int32) (x2 : Int32) (w : cH) : Option Int32 :=
  if tg w a0 = some 13 then ((F_X13_cIs a0 x1 0 w).bind fun i3 => if i3 = 2 then (some (x2 / 2)) else if i3 = 3 then (some (x2 + (x2 / 10))) else if i3 = 4 then (some ((x2 / 2) + 1)) else (some (x2))) else none
abbrev rm_X13_getsFor : Room := { frames := 2, cells := 0, slots := 0, locals := 43 }
set_option maxHeartbeats 4000000 in
set_option maxRecDepth 100000 in
theorem ct_X13_getsFor {l : Launch} {g : Gt} (G : Gok g) {a0 : Option Nat} {x1 : Int32} {x2 : Int32} {w : cH} {r9 : Int32} (hF : F_X13_getsFor a0 x1 x2 w = some r9) : tg w a0 = some 13 ∧ Mx l yX13_getsFor (ws_ yX13_getsFor cX13_getsFor 3 (some .int)) rm_X13_getsFor g [va_rf a0, .int x1, .int x2] w (.returned (some (.int r9))) w 0 0 := by
  unfold F_X13_getsFor at hF
  obtain ⟨ht, hF⟩ := bg hF
  refine ⟨ht, mk_ct cX13_getsFor 3 (some .int) "CarryFairModel" (plainFor_of_name (by decide)) rfl (lg_le ⟨cr _, rfl, rfl, trivial⟩ (Nat.le_of_ble_eq_true rfl)) (av_ok ⟨cr _, rfl, rfl, trivial⟩) G (fun x B hl hR hin hh => ?_)⟩
  show J g x _ _ 0 0 w 0 0 0 [some (va_rf a0), some (.int x1), some (.int x2)] []
  refine j_aload_n B dX13_getsFor_0 rfl ?_
  refine j_iload_n B dX13_getsFor_1 rfl ?_
  refine j_iconst (v := 0) B dX13_getsFor_2 (by decide) ?_
  obtain ⟨i3, e3, hF⟩ := bo hF
  refine j_rV (st2 := [.int i3]) B [.int x1, .int 0] [] cv_X13_104 dX13_getsFor_3 hl hR (ct_X13_cIs G e3) rfl rfl rfl rfl trivial (Nat.le_of_ble_eq_true rfl) ?_
  by_cases t6_0 : i3 = 2
  · rw [if_pos t6_0] at hF
    refine j_tblIn (tgt := 32) B 2 dX13_getsFor_6 t6_0 (by decide) rfl (by decide) ?_
    refine j_iload_n B dX13_getsFor_32 rfl ?_
    refine j_iconst (v := 2) B dX13_getsFor_33 (by decide) ?_
    refine j_idiv B dX13_getsFor_34 (by decide) ?_
    exact j_lI B rfl dX13_getsFor_35 hF (by decide) (by decide)
  rw [if_neg t6_0] at hF
  by_cases t6_1 : i3 = 3
  · rw [if_pos t6_1] at hF
    refine j_tblIn (tgt := 42) B 3 dX13_getsFor_6 t6_1 (by decide) rfl (by decide) ?_
    refine j_iload_n B dX13_getsFor_42 rfl ?_
    refine j_iload_n B dX13_getsFor_43 rfl ?_
    refine j_bipush (v := 10) B dX13_getsFor_44 (by decide) ?_
    refine j_idiv B dX13_getsFor_46 (by decide) ?_
    refine j_iadd B dX13_getsFor_47 ?_
    exact j_lI B rfl dX13_getsFor_48 hF (by decide) (by decide)
  rw [if_neg t6_1] at hF
  by_cases t6_2 : i3 = 4
  · rw [if_pos t6_2] at hF
    refine j_tblIn (tgt := 36) B 4 dX13_getsFor_6 t6_2 (by decide) rfl (by decide) ?_
    refine j_iload_n B dX13_getsFor_36 rfl ?_
    refine j_iconst (v := 2) B dX13_getsFor_37 (by decide) ?_
    refine j_idiv B dX13_getsFor_38 (by decide) ?_
    refine j_iconst (v := 1) B dX13_getsFor_39 (by decide) ?_
    refine j_iadd B dX13_getsFor_40 ?_
    exact j_lI B rfl dX13_getsFor_41 hF (by decide) (by decide)
  rw [if_neg t6_2] at hF
  refine j_tblOut (tgt := 49) B dX13_getsFor_6 (tbl_out 2 4 (fun z h1 h2 => ?_)) (by decide) ?_
  · rcases (show z = 2 ∨ z = 3 ∨ z = 4 by omega) with h | h | h
    · rw [h]; exact lv_neT t6_0 (by decide)
    · rw [h]; exact lv_neT t6_1 (by decide)
    · rw [h]; exact lv_neT t6_2 (by decide)
  refine j_iload_n B dX13_getsFor_49 rfl ?_
  exact j_lI B rfl dX13_getsFor_50 hF (by decide) (by decide)
theorem fl_X13_192 : FL "CarryFairModel" 192 13 6 := ⟨RX13, TX13, 30, rfl, by decide, in_X13, Or.inl q1341⟩
theorem fp_X13_192 : FP "CarryFairModel" 192 13 6 .int false := ⟨RX13, TX13, 30, rfl, by decide, in_X13, Or.inl q1341, rfl, (fun h => by cases h), by decide +kernel, ap_X13, tyX13, tyX13_ok⟩
theorem cv_X13_196 : CV "CarryFairModel" 196 13 yX13_getsFor cX13_getsFor 3 (some .int) 2 := ⟨_, _, rfl, lw_V q1608 q1610 qs93 q142 q1611, by decide +kernel⟩
def F_X13_walked_J153 (rc57 : (Option Nat) → Int32 → Int32 → Int32 → Int32 → cH → Option (Int32 × cH)) (a0 : Option Nat) (x1 : Int32) (x2 : Int32) (x4 : Int32) (x5 : Int32) (w : cH) : Option (Int32 × cH) :=
  rc57 a0 x1 x2 x4 (x5 + 1) w
def F_X13_walked_J150 (rc57 : (Option Nat) → Int32 → Int32 → Int32 → Int32 → cH → Option (Int32 × cH)) (a0 : Option Nat) (x1 : Int32) (x2 : Int32) (x5 : Int32) (s0 : Int32) (s1 : Int32) (w : cH) : Option (Int32 × cH) :=
  F_X13_walked_J153  rc57 a0 x1 x2 (s1 + s0) x5 w
def F_X13_walked_B57 (rc57 : Option Nat → Int32 → Int32 → Int32 → Int32 → cH → Option (Int32 × cH)) (a0 : Option Nat) (x1 : Int32) (x2 : Int32) (x4 : Int32) (x5 : Int32) (w : cH) : Option (Int32 × cH) :=
  (fA w a0 13 0).bind fun a60p => (aI w a60p 100 43).bind fun i65 =>if i65 ≤ x5 then ((fA w a0 13 0).bind fun a160p => (aI w a160p 100 (F_X13_cAt x1 3)).bind fun i169 => (aS w a160p 100 (F_X13_cAt x1 3) (.int (i169 + x4))).bind fun w173 => some (x4, w173)) else ((F_X13_eIs a0 x5 3 w).bind fun i73 =>if ¬ i73 = 1 then (F_X13_walked_J153  rc57 a0 x1 x2 x4 x5 w) else ((F_X13_eIs a0 x5 4 w).bind fun i84 =>if ¬ i84 = x1 then (F_X13_walked_J153  rc57 a0 x1 x2 x4 x5 w) else ((F_X13_eIs a0 x5 2 w).bind fun i95 =>if ¬ i95 = x2 then (F_X13_walked_J153  rc57 a0 x1 x2 x4 x5 w) else ((fA w a0 13 0).bind fun a103p => (aS w a103p 100 (F_X13_eAt x5 3) (.int 2)).bind fun w113 => (fI w113 a0 13 6).bind fun i116 => (pV w113 a0 13 6 (.int (i116 + 1))).bind fun w121 => cb (F_X13_worthOf a0 x5 w121) fun i127 w127 =>if 0 ≤ i127 then ((F_X13_getsFor a0 x1 i127 w127).bind fun i147 => F_X13_walked_J150  rc57 a0 x1 x2 x5 i147 x4 w127) else (F_X13_walked_J150  rc57 a0 x1 x2 x5 0 x4 w127)))))
def F_X13_walked_L57 : Nat → Option Nat → Int32 → Int32 → Int32 → Int32 → cH → Option (Int32 × cH)
  | 0, _, _, _, _, _, _ => none
  | n9 + 1, a0, x1, x2, x4, x5, w => F_X13_walked_B57  (F_X13_walked_L57  n9) a0 x1 x2 x4 x5 w
def F_X13_walked (a0 : Option Nat) (x1 : Int32) (x2 : Int32) (w : cH) : Option (Int32 × cH) :=
  if tg w a0 = some 13 then ((F_X13_cIs a0 x1 0 w).bind fun i4 => (F_X13_cIs a0 x1 1 w).bind fun i10 => cb (F_X13_farFor a0 i4 i10 x2 w) fun i14 w14 =>if i14 < 1000000 then ((fA w14 a0 13 0).bind fun a27p => (aI w14 a27p 100 (F_X13_cAt x1 4)).bind fun i36 => (aS w14 a27p 100 (F_X13_cAt x1 4) (.int (i36 + i14))).bind fun w39 => (fA w39 a0 13 0).bind fun a41p => (aS w39 a41p 100 (F_X13_cAt x1 1) (.int x2)).bind fun w50 => F_X13_walked_L57  fu a0 x1 x2 0 0 w50) else (some ((-1), w14))) else none
abbrev rm_X13_walked : Room := { frames := 6, cells := 0, slots := 0, locals := 138 }
set_option maxHeartbeats 4000000 in
set_option maxRecDepth 100000 in
theorem ct_X13_walked {l : Launch} {g : Gt} (G : Gok g) {a0 : Option Nat} {x1 : Int32} {x2 : Int32} {w : cH} {r9 : Int32} {w9 : cH} (hF : F_X13_walked a0 x1 x2 w = some (r9, w9)) : tg w a0 = some 13 ∧ Mx l yX13_walked (ws_ yX13_walked cX13_walked 7 (some .int)) rm_X13_walked g [va_rf a0, .int x1, .int x2] w (.returned (some (.int r9))) w9 0 0 := by
  unfold F_X13_walked at hF
  obtain ⟨ht, hF⟩ := bg hF
  refine ⟨ht, mk_ct cX13_walked 7 (some .int) "CarryFairModel" (plainFor_of_name (by decide)) rfl (lg_le ⟨cr _, rfl, rfl, trivial⟩ (Nat.le_of_ble_eq_true rfl)) (av_ok ⟨cr _, rfl, rfl, trivial⟩) G (fun x B hl hR hin hh => ?_)⟩
  show J g x _ _ 0 0 w 0 0 0 [some (va_rf a0), some (.int x1), some (.int x2), none, none, none, none] []
  have lp57 : ∀ (n9 : Nat) (a0 : Option Nat) (x1 : Int32) (x2 : Int32) (x4 : Int32) (x5 : Int32) (w : cH), F_X13_walked_L57  n9 a0 x1 x2 x4 x5 w = some (r9, w9) → J g x (.returned (some (.int r9))) w9 0 0 w 0 0 57 [some (va_rf a0), some (.int x1), some (.int x2), none, some (.int x4), some (.int x5), none] [] := by
    intro n9
    induction n9 with
    | zero => intro a0 x1 x2 x4 x5 w hF; cases hF
    | succ n57 ih57 =>
      intro a0 x1 x2 x4 x5 w hF
      have hF : F_X13_walked_B57  (F_X13_walked_L57  n57) a0 x1 x2 x4 x5 w = some (r9, w9) := hF
      unfold F_X13_walked_B57 at hF
      have jb153 : ∀ (a0 : Option Nat) (x1 : Int32) (x2 : Int32) (x4 : Int32) (x5 : Int32) (w : cH), F_X13_walked_J153  (F_X13_walked_L57  n57) a0 x1 x2 x4 x5 w = some (r9, w9) → J g x (.returned (some (.int r9))) w9 0 0 w 0 0 153 [some (va_rf a0), some (.int x1), some (.int x2), none, some (.int x4), some (.int x5), none] [] := by
        intro a0 x1 x2 x4 x5 w hF
        unfold F_X13_walked_J153 at hF
        refine j_iinc (v := x5 + 1) (vs' := [some (va_rf a0), some (.int x1), some (.int x2), none, some (.int x4), some (.int (x5 + 1)), none]) B dX13_walked_153 (by decide) rfl rfl rfl ?_
        refine j_goto (tgt := 57) B dX13_walked_156 (by decide) ?_
        exact ih57 a0 x1 x2 x4 (x5 + 1) w hF
      have jb150 : ∀ (a0 : Option Nat) (x1 : Int32) (x2 : Int32) (x5 : Int32) (s0 : Int32) (s1 : Int32) (w : cH), F_X13_walked_J150  (F_X13_walked_L57  n57) a0 x1 x2 x5 s0 s1 w = some (r9, w9) → J g x (.returned (some (.int r9))) w9 0 0 w 0 0 150 [some (va_rf a0), some (.int x1), some (.int x2), none, none, some (.int x5), none] [.int s0, .int s1] := by
        intro a0 x1 x2 x5 s0 s1 w hF
        unfold F_X13_walked_J150 at hF
        refine j_iadd B dX13_walked_150 ?_
        refine j_istore (vs' := [some (va_rf a0), some (.int x1), some (.int x2), none, some (.int (s1 + s0)), some (.int x5), none]) B dX13_walked_151 (by decide) rfl ?_
        exact jb153 a0 x1 x2 (s1 + s0) x5 w hF
      refine j_iload B dX13_walked_57 rfl ?_
      refine j_aload_n B dX13_walked_59 rfl ?_
      refine j_getA B fl_X13_9 dX13_walked_60 hF (fun a60p hF => ?_)
      refine j_bipush (v := 43) B dX13_walked_63 (by decide) ?_
      refine j_iaload B dX13_walked_65 hF (fun i65 hF => ?_)
      refine j_icmp_ge (tgt := 159) B dX13_walked_66 (by decide) hF (fun h66 hF => ?_) (fun h66 hF => ?_)
      · refine j_aload_n B dX13_walked_159 rfl ?_
        refine j_getA B fl_X13_9 dX13_walked_160 hF (fun a160p hF => ?_)
        refine j_iload_n B dX13_walked_163 rfl ?_
        refine j_iconst (v := 3) B dX13_walked_164 (by decide) ?_
        refine j_rS (st2 := [.int (F_X13_cAt x1 3), va_rf a160p]) B [.int x1, .int 3] [va_rf a160p] cs_X13_81 dX13_walked_165 hl hR (ct_X13_cAt G) rfl rfl rfl rfl ⟨cr _, trivial⟩ (Nat.le_of_ble_eq_true rfl) ?_
        refine j_dup2 B dX13_walked_168 rfl (cr _) ?_
        refine j_iaload B dX13_walked_169 hF (fun i169 hF => ?_)
        refine j_iload B dX13_walked_170 rfl ?_
        refine j_iadd B dX13_walked_172 ?_
        refine j_iastore B dX13_walked_173 hF (fun w173 hF => ?_)
        refine j_iload B dX13_walked_174 rfl ?_
        exact j_lIw B rfl dX13_walked_176 hF (by decide) (by decide)
      · refine j_aload_n B dX13_walked_69 rfl ?_
        refine j_iload B dX13_walked_70 rfl ?_
        refine j_iconst (v := 3) B dX13_walked_72 (by decide) ?_
        obtain ⟨i73, e73, hF⟩ := bo hF
        refine j_rV (st2 := [.int i73]) B [.int x5, .int 3] [] cv_X13_111 dX13_walked_73 hl hR (ct_X13_eIs G e73) rfl rfl rfl rfl trivial (Nat.le_of_ble_eq_true rfl) ?_
        refine j_iconst (v := 1) B dX13_walked_76 (by decide) ?_
        refine j_icmp_ne (tgt := 153) B dX13_walked_77 (by decide) hF (fun h77 hF => ?_) (fun h77 hF => ?_)
        · exact jb153 a0 x1 x2 x4 x5 w hF
        · refine j_aload_n B dX13_walked_80 rfl ?_
          refine j_iload B dX13_walked_81 rfl ?_
          refine j_iconst (v := 4) B dX13_walked_83 (by decide) ?_
          obtain ⟨i84, e84, hF⟩ := bo hF
          refine j_rV (st2 := [.int i84]) B [.int x5, .int 4] [] cv_X13_111 dX13_walked_84 hl hR (ct_X13_eIs G e84) rfl rfl rfl rfl trivial (Nat.le_of_ble_eq_true rfl) ?_
          refine j_iload_n B dX13_walked_87 rfl ?_
          refine j_icmp_ne (tgt := 153) B dX13_walked_88 (by decide) hF (fun h88 hF => ?_) (fun h88 hF => ?_)
          · exact jb153 a0 x1 x2 x4 x5 w hF
          · refine j_aload_n B dX13_walked_91 rfl ?_
            refine j_iload B dX13_walked_92 rfl ?_
            refine j_iconst (v := 2) B dX13_walked_94 (by decide) ?_
            obtain ⟨i95, e95, hF⟩ := bo hF
            refine j_rV (st2 := [.int i95]) B [.int x5, .int 2] [] cv_X13_111 dX13_walked_95 hl hR (ct_X13_eIs G e95) rfl rfl rfl rfl trivial (Nat.le_of_ble_eq_true rfl) ?_
            refine j_iload_n B dX13_walked_98 rfl ?_
            refine j_icmp_ne (tgt := 153) B dX13_walked_99 (by decide) hF (fun h99 hF => ?_) (fun h99 hF => ?_)
            · exact jb153 a0 x1 x2 x4 x5 w hF
            · refine j_aload_n B dX13_walked_102 rfl ?_
              refine j_getA B fl_X13_9 dX13_walked_103 hF (fun a103p hF => ?_)
              refine j_iload B dX13_walked_106 rfl ?_
              refine j_iconst (v := 3) B dX13_walked_108 (by decide) ?_
              refine j_rS (st2 := [.int (F_X13_eAt x5 3), va_rf a103p]) B [.int x5, .int 3] [va_rf a103p] cs_X13_85 dX13_walked_109 hl hR (ct_X13_eAt G) rfl rfl rfl rfl ⟨cr _, trivial⟩ (Nat.le_of_ble_eq_true rfl) ?_
              refine j_iconst (v := 2) B dX13_walked_112 (by decide) ?_
              refine j_iastore B dX13_walked_113 hF (fun w113 hF => ?_)
              refine j_aload_n B dX13_walked_114 rfl ?_
              refine j_dup B dX13_walked_115 (cr _) ?_
              refine j_getI B fl_X13_192 dX13_walked_116 hF (fun i116 hF => ?_)
              refine j_iconst (v := 1) B dX13_walked_119 (by decide) ?_
              refine j_iadd B dX13_walked_120 ?_
              refine j_putV B fp_X13_192 (fun h => by cases h) rfl rfl dX13_walked_121 hF (fun w121 hF => ?_)
              refine j_aload_n B dX13_walked_124 rfl ?_
              refine j_iload B dX13_walked_125 rfl ?_
              obtain ⟨i127, w127, e127, hF⟩ := bc hF
              refine j_rV (st2 := [.int i127]) B [.int x5] [] cv_X13_157 dX13_walked_127 hl hR (ct_X13_worthOf G e127) rfl rfl rfl rfl trivial (Nat.le_of_ble_eq_true rfl) ?_
              refine j_istore (vs' := [some (va_rf a0), some (.int x1), some (.int x2), none, some (.int x4), some (.int x5), some (.int i127)]) B dX13_walked_130 (by decide) rfl ?_
              refine j_iload B dX13_walked_132 rfl ?_
              refine j_iload B dX13_walked_134 rfl ?_
              refine j_if_ge (tgt := 143) B dX13_walked_136 (by decide) hF (fun h136 hF => ?_) (fun h136 hF => ?_)
              · refine j_aload_n B dX13_walked_143 rfl ?_
                refine j_iload_n B dX13_walked_144 rfl ?_
                refine j_iload B dX13_walked_145 rfl ?_
                obtain ⟨i147, e147, hF⟩ := bo hF
                refine j_rV (st2 := [.int i147, .int x4]) B [.int x1, .int i127] [.int x4] cv_X13_196 dX13_walked_147 hl hR (ct_X13_getsFor G e147) rfl rfl rfl rfl ⟨rfl, trivial⟩ (Nat.le_of_ble_eq_true rfl) ?_
                refine j_msk [true, true, true, false, false, true, false] rfl ?_
                exact jb150 a0 x1 x2 x5 i147 x4 w127 hF
              · refine j_iconst (v := 0) B dX13_walked_139 (by decide) ?_
                refine j_goto (tgt := 150) B dX13_walked_140 (by decide) ?_
                refine j_msk [true, true, true, false, false, true, false] rfl ?_
                exact jb150 a0 x1 x2 x5 0 x4 w127 hF
  refine j_aload_n B dX13_walked_0 rfl ?_
  refine j_aload_n B dX13_walked_1 rfl ?_
  refine j_iload_n B dX13_walked_2 rfl ?_
  refine j_iconst (v := 0) B dX13_walked_3 (by decide) ?_
  obtain ⟨i4, e4, hF⟩ := bo hF
  refine j_rV (st2 := [.int i4, va_rf a0]) B [.int x1, .int 0] [va_rf a0] cv_X13_104 dX13_walked_4 hl hR (ct_X13_cIs G e4) rfl rfl rfl rfl ⟨cr _, trivial⟩ (Nat.le_of_ble_eq_true rfl) ?_
  refine j_aload_n B dX13_walked_7 rfl ?_
  refine j_iload_n B dX13_walked_8 rfl ?_
  refine j_iconst (v := 1) B dX13_walked_9 (by decide) ?_
  obtain ⟨i10, e10, hF⟩ := bo hF
  refine j_rV (st2 := [.int i10, .int i4, va_rf a0]) B [.int x1, .int 1] [.int i4, va_rf a0] cv_X13_104 dX13_walked_10 hl hR (ct_X13_cIs G e10) rfl rfl rfl rfl ⟨rfl, cr _, trivial⟩ (Nat.le_of_ble_eq_true rfl) ?_
  refine j_iload_n B dX13_walked_13 rfl ?_
  obtain ⟨i14, w14, e14, hF⟩ := bc hF
  refine j_rV (st2 := [.int i14]) B [.int i4, .int i10, .int x2] [] cv_X13_178 dX13_walked_14 hl hR (ct_X13_farFor G e14) rfl rfl rfl rfl trivial (Nat.le_of_ble_eq_true rfl) ?_
  refine j_istore_n (vs' := [some (va_rf a0), some (.int x1), some (.int x2), some (.int i14), none, none, none]) B dX13_walked_17 (by decide) rfl ?_
  refine j_iload_n B dX13_walked_18 rfl ?_
  refine j_ldc (v := 1000000) B q1546 dX13_walked_19 ?_
  refine j_icmp_lt (tgt := 26) B dX13_walked_21 (by decide) hF (fun h21 hF => ?_) (fun h21 hF => ?_)
  · refine j_aload_n B dX13_walked_26 rfl ?_
    refine j_getA B fl_X13_9 dX13_walked_27 hF (fun a27p hF => ?_)
    refine j_iload_n B dX13_walked_30 rfl ?_
    refine j_iconst (v := 4) B dX13_walked_31 (by decide) ?_
    refine j_rS (st2 := [.int (F_X13_cAt x1 4), va_rf a27p]) B [.int x1, .int 4] [va_rf a27p] cs_X13_81 dX13_walked_32 hl hR (ct_X13_cAt G) rfl rfl rfl rfl ⟨cr _, trivial⟩ (Nat.le_of_ble_eq_true rfl) ?_
    refine j_dup2 B dX13_walked_35 rfl (cr _) ?_
    refine j_iaload B dX13_walked_36 hF (fun i36 hF => ?_)
    refine j_iload_n B dX13_walked_37 rfl ?_
    refine j_iadd B dX13_walked_38 ?_
    refine j_iastore B dX13_walked_39 hF (fun w39 hF => ?_)
    refine j_aload_n B dX13_walked_40 rfl ?_
    refine j_getA B fl_X13_9 dX13_walked_41 hF (fun a41p hF => ?_)
    refine j_iload_n B dX13_walked_44 rfl ?_
    refine j_iconst (v := 1) B dX13_walked_45 (by decide) ?_
    refine j_rS (st2 := [.int (F_X13_cAt x1 1), va_rf a41p]) B [.int x1, .int 1] [va_rf a41p] cs_X13_81 dX13_walked_46 hl hR (ct_X13_cAt G) rfl rfl rfl rfl ⟨cr _, trivial⟩ (Nat.le_of_ble_eq_true rfl) ?_
    refine j_iload_n B dX13_walked_49 rfl ?_
    refine j_iastore B dX13_walked_50 hF (fun w50 hF => ?_)
    refine j_iconst (v := 0) B dX13_walked_51 (by decide) ?_
    refine j_istore (vs' := [some (va_rf a0), some (.int x1), some (.int x2), some (.int i14), some (.int 0), none, none]) B dX13_walked_52 (by decide) rfl ?_
    refine j_iconst (v := 0) B dX13_walked_54 (by decide) ?_
    refine j_istore (vs' := [some (va_rf a0), some (.int x1), some (.int x2), some (.int i14), some (.int 0), some (.int 0), none]) B dX13_walked_55 (by decide) rfl ?_
    refine j_msk [true, true, true, false, true, true, false] rfl ?_
    exact lp57 fu a0 x1 x2 0 0 w50 hF
  · refine j_iconst (v := (-1)) B dX13_walked_24 (by decide) ?_
    exact j_lIw B rfl dX13_walked_25 hF (by decide) (by decide)
