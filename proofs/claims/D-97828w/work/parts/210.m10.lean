def F_X13_isSheet (x0 : Int32) : Int32 :=
  (F_X13_within x0 0 3) &&& 1
abbrev rm_X13_isSheet : Room := { frames := 1, cells := 0, slots := 0, locals := 22 }
set_option maxHeartbeats 4000000 in
set_option maxRecDepth 100000 in
theorem ct_X13_isSheet {l : Launch} {g : Gt} (G : Gok g) {x0 : Int32} {w : cH} : Mx l yX13_isSheet (ws_ yX13_isSheet cX13_isSheet 1 (some .boolean)) rm_X13_isSheet g [.int x0] w (.returned (some (.int (F_X13_isSheet x0)))) w 0 0 := by
  generalize hF : F_X13_isSheet x0 = r9
  unfold F_X13_isSheet at hF
  refine mk_ct cX13_isSheet 1 (some .boolean) "CarryFairModel" (plainFor_of_name (by decide)) rfl (lg_le ⟨rfl, trivial⟩ (Nat.le_of_ble_eq_true rfl)) (av_ok ⟨rfl, trivial⟩) G (fun x B hl hR hin hh => ?_)
  show J g x _ _ 0 0 w 0 0 0 [some (.int x0)] []
  refine j_iload_n B dX13_isSheet_0 rfl ?_
  refine j_iconst (v := 0) B dX13_isSheet_1 (by decide) ?_
  refine j_iconst (v := 3) B dX13_isSheet_2 (by decide) ?_
  refine j_rS (st2 := [.int (F_X13_within x0 0 3)]) B [.int x0, .int 0, .int 3] [] cs_X13_77 dX13_isSheet_3 hl hR (ct_X13_within G) rfl rfl rfl rfl trivial (Nat.le_of_ble_eq_true rfl) ?_
  exact j_lBp B rfl dX13_isSheet_6 hF (by decide) (by decide)
theorem fl_X13_60 : FL "CarryFairModel" 60 13 26 := ⟨RX13, TX13, 30, rfl, by decide, in_X13, Or.inl q1361⟩
theorem fl_X13_63 : FL "CarryFairModel" 63 13 27 := ⟨RX13, TX13, 30, rfl, by decide, in_X13, Or.inl q1362⟩
theorem fl_X13_66 : FL "CarryFairModel" 66 13 28 := ⟨RX13, TX13, 30, rfl, by decide, in_X13, Or.inl q1363⟩
theorem cs_X13_374 : CS "CarryFairModel" 374 yX13_isSheet cX13_isSheet 1 (some .boolean) 1 := ⟨Or.inl (lw_S q1870 q1871 q142 q1872), by decide +kernel⟩
def F_X13_sheet_B86 (rc86 : Option Nat → Int32 → Int32 → cH → Option (Int32 × cH)) (a0 : Option Nat) (x1 : Int32) (x4 : Int32) (w : cH) : Option (Int32 × cH) :=
  if 40 ≤ x4 then ((fA w a0 13 27).bind fun a113p => (aI w a113p 100 x1).bind fun i117 => some (i117, w)) else ((fA w a0 13 28).bind fun a94p => (aS w a94p 100 ((40 * x1) + x4) (.int 0)).bind fun w105 => rc86 a0 x1 (x4 + 1) w105)
def F_X13_sheet_L86 : Nat → Option Nat → Int32 → Int32 → cH → Option (Int32 × cH)
  | 0, _, _, _, _ => none
  | n9 + 1, a0, x1, x4, w => F_X13_sheet_B86  (F_X13_sheet_L86  n9) a0 x1 x4 w
def F_X13_sheet_J82 (a0 : Option Nat) (x1 : Int32) (s0 : Int32) (s1 : Int32) (s2 : Option Nat) (w : cH) : Option (Int32 × cH) :=
  (aS w s2 100 s1 (.int s0)).bind fun w82 => F_X13_sheet_L86  fu a0 x1 0 w82
def F_X13_sheet_J36 (a0 : Option Nat) (x1 : Int32) (x2 : Int32) (x3 : Int32) (w : cH) : Option (Int32 × cH) :=
  if 0 ≤ x3 then (if x3 ≤ 40 then ((fA w a0 13 26).bind fun a62p => (aS w a62p 100 x1 (.int x2)).bind fun w67 => (fA w67 a0 13 27).bind fun a69p =>if ¬ x2 = 0 then (F_X13_sheet_J82  a0 x1 x3 x1 a69p w67) else (F_X13_sheet_J82  a0 x1 0 x1 a69p w67)) else (cb (F_X13_finding a0 (-1000001) w) fun i57 w57 => some (i57, w57))) else (cb (F_X13_finding a0 (-1000007) w) fun i44 w44 => some (i44, w44))
def F_X13_sheet_J29 (a0 : Option Nat) (w : cH) : Option (Int32 × cH) :=
  cb (F_X13_finding a0 (-1000001) w) fun i32 w32 => some (i32, w32)
def F_X13_sheet (a0 : Option Nat) (x1 : Int32) (x2 : Int32) (x3 : Int32) (w : cH) : Option (Int32 × cH) :=
  if tg w a0 = some 13 then (if (F_X13_isSheet x1) = 0 then (F_X13_sheet_J29  a0 w) else (if x2 = 0 then (F_X13_sheet_J36  a0 x1 x2 x3 w) else (if x2 = 8 then (F_X13_sheet_J36  a0 x1 x2 x3 w) else (if x2 = 16 then (F_X13_sheet_J36  a0 x1 x2 x3 w) else (if x2 = 32 then (F_X13_sheet_J36  a0 x1 x2 x3 w) else (F_X13_sheet_J29  a0 w)))))) else none
abbrev rm_X13_sheet : Room := { frames := 2, cells := 0, slots := 0, locals := 42 }
set_option maxHeartbeats 4000000 in
set_option maxRecDepth 100000 in
theorem ct_X13_sheet {l : Launch} {g : Gt} (G : Gok g) {a0 : Option Nat} {x1 : Int32} {x2 : Int32} {x3 : Int32} {w : cH} {r9 : Int32} {w9 : cH} (hF : F_X13_sheet a0 x1 x2 x3 w = some (r9, w9)) : tg w a0 = some 13 ∧ Mx l yX13_sheet (ws_ yX13_sheet cX13_sheet 5 (some .int)) rm_X13_sheet g [va_rf a0, .int x1, .int x2, .int x3] w (.returned (some (.int r9))) w9 0 0 := by
  unfold F_X13_sheet at hF
  obtain ⟨ht, hF⟩ := bg hF
  refine ⟨ht, mk_ct cX13_sheet 5 (some .int) "CarryFairModel" (plainFor_of_name (by decide)) rfl (lg_le ⟨cr _, rfl, rfl, rfl, trivial⟩ (Nat.le_of_ble_eq_true rfl)) (av_ok ⟨cr _, rfl, rfl, rfl, trivial⟩) G (fun x B hl hR hin hh => ?_)⟩
  show J g x _ _ 0 0 w 0 0 0 [some (va_rf a0), some (.int x1), some (.int x2), some (.int x3), none] []
  have lp86 : ∀ (n9 : Nat) (a0 : Option Nat) (x1 : Int32) (x4 : Int32) (w : cH), F_X13_sheet_L86  n9 a0 x1 x4 w = some (r9, w9) → J g x (.returned (some (.int r9))) w9 0 0 w 0 0 86 [some (va_rf a0), some (.int x1), none, none, some (.int x4)] [] := by
    intro n9
    induction n9 with
    | zero => intro a0 x1 x4 w hF; cases hF
    | succ n86 ih86 =>
      intro a0 x1 x4 w hF
      have hF : F_X13_sheet_B86  (F_X13_sheet_L86  n86) a0 x1 x4 w = some (r9, w9) := hF
      unfold F_X13_sheet_B86 at hF
      refine j_iload B dX13_sheet_86 rfl ?_
      refine j_bipush (v := 40) B dX13_sheet_88 (by decide) ?_
      refine j_icmp_ge (tgt := 112) B dX13_sheet_90 (by decide) hF (fun h90 hF => ?_) (fun h90 hF => ?_)
      · refine j_aload_n B dX13_sheet_112 rfl ?_
        refine j_getA B fl_X13_63 dX13_sheet_113 hF (fun a113p hF => ?_)
        refine j_iload_n B dX13_sheet_116 rfl ?_
        refine j_iaload B dX13_sheet_117 hF (fun i117 hF => ?_)
        exact j_lIw B rfl dX13_sheet_118 hF (by decide) (by decide)
      · refine j_aload_n B dX13_sheet_93 rfl ?_
        refine j_getA B fl_X13_66 dX13_sheet_94 hF (fun a94p hF => ?_)
        refine j_bipush (v := 40) B dX13_sheet_97 (by decide) ?_
        refine j_iload_n B dX13_sheet_99 rfl ?_
        refine j_imul B dX13_sheet_100 ?_
        refine j_iload B dX13_sheet_101 rfl ?_
        refine j_iadd B dX13_sheet_103 ?_
        refine j_iconst (v := 0) B dX13_sheet_104 (by decide) ?_
        refine j_iastore B dX13_sheet_105 hF (fun w105 hF => ?_)
        refine j_iinc (v := x4 + 1) (vs' := [some (va_rf a0), some (.int x1), none, none, some (.int (x4 + 1))]) B dX13_sheet_106 (by decide) rfl rfl rfl ?_
        refine j_goto (tgt := 86) B dX13_sheet_109 (by decide) ?_
        exact ih86 a0 x1 (x4 + 1) w105 hF
  have jb82 : ∀ (a0 : Option Nat) (x1 : Int32) (s0 : Int32) (s1 : Int32) (s2 : Option Nat) (w : cH), F_X13_sheet_J82  a0 x1 s0 s1 s2 w = some (r9, w9) → J g x (.returned (some (.int r9))) w9 0 0 w 0 0 82 [some (va_rf a0), some (.int x1), none, none, none] [.int s0, .int s1, va_rf s2] := by
    intro a0 x1 s0 s1 s2 w hF
    unfold F_X13_sheet_J82 at hF
    refine j_iastore B dX13_sheet_82 hF (fun w82 hF => ?_)
    refine j_iconst (v := 0) B dX13_sheet_83 (by decide) ?_
    refine j_istore (vs' := [some (va_rf a0), some (.int x1), none, none, some (.int 0)]) B dX13_sheet_84 (by decide) rfl ?_
    exact lp86 fu a0 x1 0 w82 hF
  have jb36 : ∀ (a0 : Option Nat) (x1 : Int32) (x2 : Int32) (x3 : Int32) (w : cH), F_X13_sheet_J36  a0 x1 x2 x3 w = some (r9, w9) → J g x (.returned (some (.int r9))) w9 0 0 w 0 0 36 [some (va_rf a0), some (.int x1), some (.int x2), some (.int x3), none] [] := by
    intro a0 x1 x2 x3 w hF
    unfold F_X13_sheet_J36 at hF
    refine j_iload_n B dX13_sheet_36 rfl ?_
    refine j_if_ge (tgt := 48) B dX13_sheet_37 (by decide) hF (fun h37 hF => ?_) (fun h37 hF => ?_)
    · refine j_iload_n B dX13_sheet_48 rfl ?_
      refine j_bipush (v := 40) B dX13_sheet_49 (by decide) ?_
      refine j_icmp_le (tgt := 61) B dX13_sheet_51 (by decide) hF (fun h51 hF => ?_) (fun h51 hF => ?_)
      · refine j_aload_n B dX13_sheet_61 rfl ?_
        refine j_getA B fl_X13_60 dX13_sheet_62 hF (fun a62p hF => ?_)
        refine j_iload_n B dX13_sheet_65 rfl ?_
        refine j_iload_n B dX13_sheet_66 rfl ?_
        refine j_iastore B dX13_sheet_67 hF (fun w67 hF => ?_)
        refine j_aload_n B dX13_sheet_68 rfl ?_
        refine j_getA B fl_X13_63 dX13_sheet_69 hF (fun a69p hF => ?_)
        refine j_iload_n B dX13_sheet_72 rfl ?_
        refine j_iload_n B dX13_sheet_73 rfl ?_
        refine j_if_ne (tgt := 81) B dX13_sheet_74 (by decide) hF (fun h74 hF => ?_) (fun h74 hF => ?_)
        · refine j_iload_n B dX13_sheet_81 rfl ?_
          refine j_msk [true, true, false, false, false] rfl ?_
          exact jb82 a0 x1 x3 x1 a69p w67 hF
        · refine j_iconst (v := 0) B dX13_sheet_77 (by decide) ?_
          refine j_goto (tgt := 82) B dX13_sheet_78 (by decide) ?_
          refine j_msk [true, true, false, false, false] rfl ?_
          exact jb82 a0 x1 0 x1 a69p w67 hF
      · refine j_aload_n B dX13_sheet_54 rfl ?_
        refine j_ldc (v := (-1000001)) B q1436 dX13_sheet_55 ?_
        obtain ⟨i57, w57, e57, hF⟩ := bc hF
        refine j_rV (st2 := [.int i57]) B [.int (-1000001)] [] cv_X13_92 dX13_sheet_57 hl hR (ct_X13_finding G e57) rfl rfl rfl rfl trivial (Nat.le_of_ble_eq_true rfl) ?_
        exact j_lIw B rfl dX13_sheet_60 hF (by decide) (by decide)
    · refine j_aload_n B dX13_sheet_40 rfl ?_
      refine j_ldcw (v := (-1000007)) B q1873 dX13_sheet_41 ?_
      obtain ⟨i44, w44, e44, hF⟩ := bc hF
      refine j_rV (st2 := [.int i44]) B [.int (-1000007)] [] cv_X13_92 dX13_sheet_44 hl hR (ct_X13_finding G e44) rfl rfl rfl rfl trivial (Nat.le_of_ble_eq_true rfl) ?_
      exact j_lIw B rfl dX13_sheet_47 hF (by decide) (by decide)
  have jb29 : ∀ (a0 : Option Nat) (w : cH), F_X13_sheet_J29  a0 w = some (r9, w9) → J g x (.returned (some (.int r9))) w9 0 0 w 0 0 29 [some (va_rf a0), none, none, none, none] [] := by
    intro a0 w hF
    unfold F_X13_sheet_J29 at hF
    refine j_aload_n B dX13_sheet_29 rfl ?_
    refine j_ldc (v := (-1000001)) B q1436 dX13_sheet_30 ?_
    obtain ⟨i32, w32, e32, hF⟩ := bc hF
    refine j_rV (st2 := [.int i32]) B [.int (-1000001)] [] cv_X13_92 dX13_sheet_32 hl hR (ct_X13_finding G e32) rfl rfl rfl rfl trivial (Nat.le_of_ble_eq_true rfl) ?_
    exact j_lIw B rfl dX13_sheet_35 hF (by decide) (by decide)
  refine j_iload_n B dX13_sheet_0 rfl ?_
  refine j_rS (st2 := [.int (F_X13_isSheet x1)]) B [.int x1] [] cs_X13_374 dX13_sheet_1 hl hR (ct_X13_isSheet G) rfl rfl rfl rfl trivial (Nat.le_of_ble_eq_true rfl) ?_
  refine j_if_eq (tgt := 29) B dX13_sheet_4 (by decide) hF (fun h4 hF => ?_) (fun h4 hF => ?_)
  · refine j_msk [true, false, false, false, false] rfl ?_
    exact jb29 a0 w hF
  · refine j_iload_n B dX13_sheet_7 rfl ?_
    refine j_if_eq (tgt := 36) B dX13_sheet_8 (by decide) hF (fun h8 hF => ?_) (fun h8 hF => ?_)
    · exact jb36 a0 x1 x2 x3 w hF
    · refine j_iload_n B dX13_sheet_11 rfl ?_
      refine j_bipush (v := 8) B dX13_sheet_12 (by decide) ?_
      refine j_icmp_eq (tgt := 36) B dX13_sheet_14 (by decide) hF (fun h14 hF => ?_) (fun h14 hF => ?_)
      · exact jb36 a0 x1 x2 x3 w hF
      · refine j_iload_n B dX13_sheet_17 rfl ?_
        refine j_bipush (v := 16) B dX13_sheet_18 (by decide) ?_
        refine j_icmp_eq (tgt := 36) B dX13_sheet_20 (by decide) hF (fun h20 hF => ?_) (fun h20 hF => ?_)
        · exact jb36 a0 x1 x2 x3 w hF
        · refine j_iload_n B dX13_sheet_23 rfl ?_
          refine j_bipush (v := 32) B dX13_sheet_24 (by decide) ?_
          refine j_icmp_eq (tgt := 36) B dX13_sheet_26 (by decide) hF (fun h26 hF => ?_) (fun h26 hF => ?_)
          · exact jb36 a0 x1 x2 x3 w hF
          · refine j_msk [true, false, false, false, false] rfl ?_
            exact jb29 a0 w hF
def F_X13_cutTo (x0 : Int32) (x1 : Int32) : Int32 :=
  if ¬ x1 = 8 then (if ¬ x1 = 16 then (x0) else (x0.toInt16.toInt32)) else (x0.toInt8.toInt32)
abbrev rm_X13_cutTo : Room := { frames := 0, cells := 0, slots := 0, locals := 0 }
set_option maxHeartbeats 4000000 in
set_option maxRecDepth 100000 in
theorem ct_X13_cutTo {l : Launch} {g : Gt} (G : Gok g) {x0 : Int32} {x1 : Int32} {w : cH} : Mx l yX13_cutTo (ws_ yX13_cutTo cX13_cutTo 2 (some .int)) rm_X13_cutTo g [.int x0, .int x1] w (.returned (some (.int (F_X13_cutTo x0 x1)))) w 0 0 := by
  generalize hF : F_X13_cutTo x0 x1 = r9
  unfold F_X13_cutTo at hF
  refine mk_ct cX13_cutTo 2 (some .int) "CarryFairModel" (plainFor_of_name (by decide)) rfl (lg_le ⟨rfl, rfl, trivial⟩ (Nat.le_of_ble_eq_true rfl)) (av_ok ⟨rfl, rfl, trivial⟩) G (fun x B hl hR hin hh => ?_)
  show J g x _ _ 0 0 w 0 0 0 [some (.int x0), some (.int x1)] []
  refine j_iload_n B dX13_cutTo_0 rfl ?_
  refine j_bipush (v := 8) B dX13_cutTo_1 (by decide) ?_
  refine j_icmp_ne (tgt := 11) B dX13_cutTo_3 (by decide) hF (fun h3 hF => ?_) (fun h3 hF => ?_)
  · refine j_iload_n B dX13_cutTo_11 rfl ?_
    refine j_bipush (v := 16) B dX13_cutTo_12 (by decide) ?_
    refine j_icmp_ne (tgt := 22) B dX13_cutTo_14 (by decide) hF (fun h14 hF => ?_) (fun h14 hF => ?_)
    · refine j_iload_n B dX13_cutTo_22 rfl ?_
      exact j_lIp B rfl dX13_cutTo_23 hF (by decide) (by decide)
    · refine j_iload_n B dX13_cutTo_17 rfl ?_
      refine j_i2s B dX13_cutTo_18 ?_
      refine j_goto (tgt := 23) B dX13_cutTo_19 (by decide) ?_
      exact j_lIp B rfl dX13_cutTo_23 hF (by decide) (by decide)
  · refine j_iload_n B dX13_cutTo_6 rfl ?_
    refine j_i2b B dX13_cutTo_7 ?_
    refine j_goto (tgt := 23) B dX13_cutTo_8 (by decide) ?_
    exact j_lIp B rfl dX13_cutTo_23 hF (by decide) (by decide)
theorem cs_X13_378 : CS "CarryFairModel" 378 yX13_cutTo cX13_cutTo 2 (some .int) 2 := ⟨Or.inl (lw_S q1878 q1879 q142 q1880), by decide +kernel⟩
def F_X13_write (a0 : Option Nat) (x1 : Int32) (x2 : Int32) (x3 : Int32) (w : cH) : Option (Int32 × cH) :=
  if tg w a0 = some 13 then (if ¬ (F_X13_isSheet x1) = 0 then ((fA w a0 13 26).bind fun a15p => (aI w a15p 100 x1).bind fun i19 =>if ¬ i19 = 0 then ((fA w a0 13 27).bind fun a34p => (aI w a34p 100 x1).bind fun i38 =>if ¬ (F_X13_within x2 0 (i38 - 1)) = 0 then ((fA w a0 13 28).bind fun a55p => (fA w a0 13 26).bind fun a66p => (aI w a66p 100 x1).bind fun i70 => (aS w a55p 100 ((40 * x1) + x2) (.int (F_X13_cutTo x3 i70))).bind fun w74 => some (1, w74)) else (cb (F_X13_finding a0 (-1000001) w) fun i50 w50 => some (i50, w50))) else (cb (F_X13_finding a0 (-1000006) w) fun i27 w27 => some (i27, w27))) else (cb (F_X13_finding a0 (-1000001) w) fun i10 w10 => some (i10, w10))) else none
abbrev rm_X13_write : Room := { frames := 2, cells := 0, slots := 0, locals := 42 }
set_option maxHeartbeats 4000000 in
set_option maxRecDepth 100000 in
theorem ct_X13_write {l : Launch} {g : Gt} (G : Gok g) {a0 : Option Nat} {x1 : Int32} {x2 : Int32} {x3 : Int32} {w : cH} {r9 : Int32} {w9 : cH} (hF : F_X13_write a0 x1 x2 x3 w = some (r9, w9)) : tg w a0 = some 13 ∧ Mx l yX13_write (ws_ yX13_write cX13_write 4 (some .int)) rm_X13_write g [va_rf a0, .int x1, .int x2, .int x3] w (.returned (some (.int r9))) w9 0 0 := by
  unfold F_X13_write at hF
  obtain ⟨ht, hF⟩ := bg hF
  refine ⟨ht, mk_ct cX13_write 4 (some .int) "CarryFairModel" (plainFor_of_name (by decide)) rfl (lg_le ⟨cr _, rfl, rfl, rfl, trivial⟩ (Nat.le_of_ble_eq_true rfl)) (av_ok ⟨cr _, rfl, rfl, rfl, trivial⟩) G (fun x B hl hR hin hh => ?_)⟩
  show J g x _ _ 0 0 w 0 0 0 [some (va_rf a0), some (.int x1), some (.int x2), some (.int x3)] []
  refine j_iload_n B dX13_write_0 rfl ?_
  refine j_rS (st2 := [.int (F_X13_isSheet x1)]) B [.int x1] [] cs_X13_374 dX13_write_1 hl hR (ct_X13_isSheet G) rfl rfl rfl rfl trivial (Nat.le_of_ble_eq_true rfl) ?_
  refine j_if_ne (tgt := 14) B dX13_write_4 (by decide) hF (fun h4 hF => ?_) (fun h4 hF => ?_)
  · refine j_aload_n B dX13_write_14 rfl ?_
    refine j_getA B fl_X13_60 dX13_write_15 hF (fun a15p hF => ?_)
    refine j_iload_n B dX13_write_18 rfl ?_
    refine j_iaload B dX13_write_19 hF (fun i19 hF => ?_)
    refine j_if_ne (tgt := 31) B dX13_write_20 (by decide) hF (fun h20 hF => ?_) (fun h20 hF => ?_)
    · refine j_iload_n B dX13_write_31 rfl ?_
      refine j_iconst (v := 0) B dX13_write_32 (by decide) ?_
      refine j_aload_n B dX13_write_33 rfl ?_
      refine j_getA B fl_X13_63 dX13_write_34 hF (fun a34p hF => ?_)
      refine j_iload_n B dX13_write_37 rfl ?_
      refine j_iaload B dX13_write_38 hF (fun i38 hF => ?_)
      refine j_iconst (v := 1) B dX13_write_39 (by decide) ?_
      refine j_isub B dX13_write_40 ?_
      refine j_rS (st2 := [.int (F_X13_within x2 0 (i38 - 1))]) B [.int x2, .int 0, .int (i38 - 1)] [] cs_X13_77 dX13_write_41 hl hR (ct_X13_within G) rfl rfl rfl rfl trivial (Nat.le_of_ble_eq_true rfl) ?_
      refine j_if_ne (tgt := 54) B dX13_write_44 (by decide) hF (fun h44 hF => ?_) (fun h44 hF => ?_)
      · refine j_aload_n B dX13_write_54 rfl ?_
        refine j_getA B fl_X13_66 dX13_write_55 hF (fun a55p hF => ?_)
        refine j_bipush (v := 40) B dX13_write_58 (by decide) ?_
        refine j_iload_n B dX13_write_60 rfl ?_
        refine j_imul B dX13_write_61 ?_
        refine j_iload_n B dX13_write_62 rfl ?_
        refine j_iadd B dX13_write_63 ?_
        refine j_iload_n B dX13_write_64 rfl ?_
        refine j_aload_n B dX13_write_65 rfl ?_
        refine j_getA B fl_X13_60 dX13_write_66 hF (fun a66p hF => ?_)
        refine j_iload_n B dX13_write_69 rfl ?_
        refine j_iaload B dX13_write_70 hF (fun i70 hF => ?_)
        refine j_rS (st2 := [.int (F_X13_cutTo x3 i70), .int ((40 * x1) + x2), va_rf a55p]) B [.int x3, .int i70] [.int ((40 * x1) + x2), va_rf a55p] cs_X13_378 dX13_write_71 hl hR (ct_X13_cutTo G) rfl rfl rfl rfl ⟨rfl, cr _, trivial⟩ (Nat.le_of_ble_eq_true rfl) ?_
        refine j_iastore B dX13_write_74 hF (fun w74 hF => ?_)
        refine j_iconst (v := 1) B dX13_write_75 (by decide) ?_
        exact j_lIw B rfl dX13_write_76 hF (by decide) (by decide)
      · refine j_aload_n B dX13_write_47 rfl ?_
        refine j_ldc (v := (-1000001)) B q1436 dX13_write_48 ?_
        obtain ⟨i50, w50, e50, hF⟩ := bc hF
        refine j_rV (st2 := [.int i50]) B [.int (-1000001)] [] cv_X13_92 dX13_write_50 hl hR (ct_X13_finding G e50) rfl rfl rfl rfl trivial (Nat.le_of_ble_eq_true rfl) ?_
        exact j_lIw B rfl dX13_write_53 hF (by decide) (by decide)
    · refine j_aload_n B dX13_write_23 rfl ?_
      refine j_ldcw (v := (-1000006)) B q1864 dX13_write_24 ?_
      obtain ⟨i27, w27, e27, hF⟩ := bc hF
      refine j_rV (st2 := [.int i27]) B [.int (-1000006)] [] cv_X13_92 dX13_write_27 hl hR (ct_X13_finding G e27) rfl rfl rfl rfl trivial (Nat.le_of_ble_eq_true rfl) ?_
      exact j_lIw B rfl dX13_write_30 hF (by decide) (by decide)
  · refine j_aload_n B dX13_write_7 rfl ?_
    refine j_ldc (v := (-1000001)) B q1436 dX13_write_8 ?_
    obtain ⟨i10, w10, e10, hF⟩ := bc hF
    refine j_rV (st2 := [.int i10]) B [.int (-1000001)] [] cv_X13_92 dX13_write_10 hl hR (ct_X13_finding G e10) rfl rfl rfl rfl trivial (Nat.le_of_ble_eq_true rfl) ?_
    exact j_lIw B rfl dX13_write_13 hF (by decide) (by decide)
theorem fl_X13_69 : FL "CarryFairModel" 69 13 29 := ⟨RX13, TX13, 30, rfl, by decide, in_X13, Or.inl q1364⟩
def F_X13_copy_B166 (rc166 : Option Nat → Int32 → Int32 → Int32 → Int32 → cH → Option (Int32 × cH)) (a0 : Option Nat) (x3 : Int32) (x4 : Int32) (x5 : Int32) (x6 : Int32) (w : cH) : Option (Int32 × cH) :=
  if x5 ≤ x6 then (some (x5, w)) else ((fA w a0 13 28).bind fun a174p => (fA w a0 13 29).bind fun a188p => (aI w a188p 100 x6).bind fun i193 => (aS w a174p 100 (((40 * x3) + x4) + x6) (.int i193)).bind fun w194 => rc166 a0 x3 x4 x5 (x6 + 1) w194)
def F_X13_copy_L166 : Nat → Option Nat → Int32 → Int32 → Int32 → Int32 → cH → Option (Int32 × cH)
  | 0, _, _, _, _, _, _ => none
  | n9 + 1, a0, x3, x4, x5, x6, w => F_X13_copy_B166  (F_X13_copy_L166  n9) a0 x3 x4 x5 x6 w
def F_X13_copy_B129 (rc129 : Option Nat → Int32 → Int32 → Int32 → Int32 → Int32 → Int32 → cH → Option (Int32 × cH)) (a0 : Option Nat) (x1 : Int32) (x2 : Int32) (x3 : Int32) (x4 : Int32) (x5 : Int32) (x6 : Int32) (w : cH) : Option (Int32 × cH) :=
  if x5 ≤ x6 then (F_X13_copy_L166  fu a0 x3 x4 x5 0 w) else ((fA w a0 13 29).bind fun a137p => (fA w a0 13 28).bind fun a143p => (aI w a143p 100 (((40 * x1) + x2) + x6)).bind fun i155 => (aS w a137p 100 x6 (.int i155)).bind fun w156 => rc129 a0 x1 x2 x3 x4 x5 (x6 + 1) w156)
def F_X13_copy_L129 : Nat → Option Nat → Int32 → Int32 → Int32 → Int32 → Int32 → Int32 → cH → Option (Int32 × cH)
  | 0, _, _, _, _, _, _, _, _ => none
  | n9 + 1, a0, x1, x2, x3, x4, x5, x6, w => F_X13_copy_B129  (F_X13_copy_L129  n9) a0 x1 x2 x3 x4 x5 x6 w
def F_X13_copy_J119 (a0 : Option Nat) (w : cH) : Option (Int32 × cH) :=
  cb (F_X13_finding a0 (-1000001) w) fun i122 w122 => some (i122, w122)
def F_X13_copy_J39 (a0 : Option Nat) (w : cH) : Option (Int32 × cH) :=
  cb (F_X13_finding a0 (-1000006) w) fun i43 w43 => some (i43, w43)
def F_X13_copy_J14 (a0 : Option Nat) (w : cH) : Option (Int32 × cH) :=
  cb (F_X13_finding a0 (-1000001) w) fun i17 w17 => some (i17, w17)
def F_X13_copy (a0 : Option Nat) (x1 : Int32) (x2 : Int32) (x3 : Int32) (x4 : Int32) (x5 : Int32) (w : cH) : Option (Int32 × cH) :=
  if tg w a0 = some 13 then (if (F_X13_isSheet x1) = 0 then (F_X13_copy_J14  a0 w) else (if ¬ (F_X13_isSheet x3) = 0 then ((fA w a0 13 26).bind fun a22p => (aI w a22p 100 x1).bind fun i26 =>if i26 = 0 then (F_X13_copy_J39  a0 w) else ((fA w a0 13 26).bind fun a31p => (aI w a31p 100 x3).bind fun i35 =>if ¬ i35 = 0 then ((fA w a0 13 26).bind fun a48p => (aI w a48p 100 x1).bind fun i52 => (fA w a0 13 26).bind fun a54p => (aI w a54p 100 x3).bind fun i58 =>if i52 = i58 then (if x2 < 0 then (F_X13_copy_J119  a0 w) else (if x4 < 0 then (F_X13_copy_J119  a0 w) else (if x5 < 0 then (F_X13_copy_J119  a0 w) else ((fA w a0 13 27).bind fun a91p => (aI w a91p 100 x1).bind fun i95 =>if 0 < (lg_cmp (x2.toInt64 + x5.toInt64) i95.toInt64) then (F_X13_copy_J119  a0 w) else ((fA w a0 13 27).bind fun a109p => (aI w a109p 100 x3).bind fun i113 =>if (lg_cmp (x4.toInt64 + x5.toInt64) i113.toInt64) ≤ 0 then (F_X13_copy_L129  fu a0 x1 x2 x3 x4 x5 0 w) else (F_X13_copy_J119  a0 w)))))) else (cb (F_X13_finding a0 (-1000003) w) fun i66 w66 => some (i66, w66))) else (F_X13_copy_J39  a0 w))) else (F_X13_copy_J14  a0 w))) else none
abbrev rm_X13_copy : Room := { frames := 2, cells := 0, slots := 0, locals := 42 }
set_option maxHeartbeats 4000000 in
set_option maxRecDepth 100000 in
theorem ct_X13_copy {l : Launch} {g : Gt} (G : Gok g) {a0 : Option Nat} {x1 : Int32} {x2 : Int32} {x3 : Int32} {x4 : Int32} {x5 : Int32} {w : cH} {r9 : Int32} {w9 : cH} (hF : F_X13_copy a0 x1 x2 x3 x4 x5 w = some (r9, w9)) : tg w a0 = some 13 ∧ Mx l yX13_copy (ws_ yX13_copy cX13_copy 7 (some .int)) rm_X13_copy g [va_rf a0, .int x1, .int x2, .int x3, .int x4, .int x5] w (.returned (some (.int r9))) w9 0 0 := by
  unfold F_X13_copy at hF
  obtain ⟨ht, hF⟩ := bg hF
  refine ⟨ht, mk_ct cX13_copy 7 (some .int) "CarryFairModel" (plainFor_of_name (by decide)) rfl (lg_le ⟨cr _, rfl, rfl, rfl, rfl, rfl, trivial⟩ (Nat.le_of_ble_eq_true rfl)) (av_ok ⟨cr _, rfl, rfl, rfl, rfl, rfl, trivial⟩) G (fun x B hl hR hin hh => ?_)⟩
  show J g x _ _ 0 0 w 0 0 0 [some (va_rf a0), some (.int x1), some (.int x2), some (.int x3), some (.int x4), some (.int x5), none] []
  have lp166 : ∀ (n9 : Nat) (a0 : Option Nat) (x3 : Int32) (x4 : Int32) (x5 : Int32) (x6 : Int32) (w : cH), F_X13_copy_L166  n9 a0 x3 x4 x5 x6 w = some (r9, w9) → J g x (.returned (some (.int r9))) w9 0 0 w 0 0 166 [some (va_rf a0), none, none, some (.int x3), some (.int x4), some (.int x5), some (.int x6)] [] := by
    intro n9
    induction n9 with
    | zero => intro a0 x3 x4 x5 x6 w hF; cases hF
    | succ n166 ih166 =>
      intro a0 x3 x4 x5 x6 w hF
      have hF : F_X13_copy_B166  (F_X13_copy_L166  n166) a0 x3 x4 x5 x6 w = some (r9, w9) := hF
      unfold F_X13_copy_B166 at hF
      refine j_iload B dX13_copy_166 rfl ?_
      refine j_iload B dX13_copy_168 rfl ?_
      refine j_icmp_ge (tgt := 201) B dX13_copy_170 (by decide) hF (fun h170 hF => ?_) (fun h170 hF => ?_)
      · refine j_iload B dX13_copy_201 rfl ?_
        exact j_lIw B rfl dX13_copy_203 hF (by decide) (by decide)
      · refine j_aload_n B dX13_copy_173 rfl ?_
        refine j_getA B fl_X13_66 dX13_copy_174 hF (fun a174p hF => ?_)
        refine j_bipush (v := 40) B dX13_copy_177 (by decide) ?_
        refine j_iload_n B dX13_copy_179 rfl ?_
        refine j_imul B dX13_copy_180 ?_
        refine j_iload B dX13_copy_181 rfl ?_
        refine j_iadd B dX13_copy_183 ?_
        refine j_iload B dX13_copy_184 rfl ?_
        refine j_iadd B dX13_copy_186 ?_
        refine j_aload_n B dX13_copy_187 rfl ?_
        refine j_getA B fl_X13_69 dX13_copy_188 hF (fun a188p hF => ?_)
        refine j_iload B dX13_copy_191 rfl ?_
        refine j_iaload B dX13_copy_193 hF (fun i193 hF => ?_)
        refine j_iastore B dX13_copy_194 hF (fun w194 hF => ?_)
        refine j_iinc (v := x6 + 1) (vs' := [some (va_rf a0), none, none, some (.int x3), some (.int x4), some (.int x5), some (.int (x6 + 1))]) B dX13_copy_195 (by decide) rfl rfl rfl ?_
        refine j_goto (tgt := 166) B dX13_copy_198 (by decide) ?_
        exact ih166 a0 x3 x4 x5 (x6 + 1) w194 hF
  have lp129 : ∀ (n9 : Nat) (a0 : Option Nat) (x1 : Int32) (x2 : Int32) (x3 : Int32) (x4 : Int32) (x5 : Int32) (x6 : Int32) (w : cH), F_X13_copy_L129  n9 a0 x1 x2 x3 x4 x5 x6 w = some (r9, w9) → J g x (.returned (some (.int r9))) w9 0 0 w 0 0 129 [some (va_rf a0), some (.int x1), some (.int x2), some (.int x3), some (.int x4), some (.int x5), some (.int x6)] [] := by
    intro n9
    induction n9 with
    | zero => intro a0 x1 x2 x3 x4 x5 x6 w hF; cases hF
    | succ n129 ih129 =>
      intro a0 x1 x2 x3 x4 x5 x6 w hF
      have hF : F_X13_copy_B129  (F_X13_copy_L129  n129) a0 x1 x2 x3 x4 x5 x6 w = some (r9, w9) := hF
      unfold F_X13_copy_B129 at hF
      refine j_iload B dX13_copy_129 rfl ?_
      refine j_iload B dX13_copy_131 rfl ?_
      refine j_icmp_ge (tgt := 163) B dX13_copy_133 (by decide) hF (fun h133 hF => ?_) (fun h133 hF => ?_)
      · refine j_iconst (v := 0) B dX13_copy_163 (by decide) ?_
        refine j_istore (vs' := [some (va_rf a0), some (.int x1), some (.int x2), some (.int x3), some (.int x4), some (.int x5), some (.int 0)]) B dX13_copy_164 (by decide) rfl ?_
        refine j_msk [true, false, false, true, true, true, true] rfl ?_
        exact lp166 fu a0 x3 x4 x5 0 w hF
      · refine j_aload_n B dX13_copy_136 rfl ?_
        refine j_getA B fl_X13_69 dX13_copy_137 hF (fun a137p hF => ?_)
        refine j_iload B dX13_copy_140 rfl ?_
        refine j_aload_n B dX13_copy_142 rfl ?_
        refine j_getA B fl_X13_66 dX13_copy_143 hF (fun a143p hF => ?_)
        refine j_bipush (v := 40) B dX13_copy_146 (by decide) ?_
        refine j_iload_n B dX13_copy_148 rfl ?_
        refine j_imul B dX13_copy_149 ?_
        refine j_iload_n B dX13_copy_150 rfl ?_
        refine j_iadd B dX13_copy_151 ?_
        refine j_iload B dX13_copy_152 rfl ?_
        refine j_iadd B dX13_copy_154 ?_
        refine j_iaload B dX13_copy_155 hF (fun i155 hF => ?_)
        refine j_iastore B dX13_copy_156 hF (fun w156 hF => ?_)
        refine j_iinc (v := x6 + 1) (vs' := [some (va_rf a0), some (.int x1), some (.int x2), some (.int x3), some (.int x4), some (.int x5), some (.int (x6 + 1))]) B dX13_copy_157 (by decide) rfl rfl rfl ?_
        refine j_goto (tgt := 129) B dX13_copy_160 (by decide) ?_
        exact ih129 a0 x1 x2 x3 x4 x5 (x6 + 1) w156 hF
  have jb119 : ∀ (a0 : Option Nat) (w : cH), F_X13_copy_J119  a0 w = some (r9, w9) → J g x (.returned (some (.int r9))) w9 0 0 w 0 0 119 [some (va_rf a0), none, none, none, none, none, none] [] := by
    intro a0 w hF
    unfold F_X13_copy_J119 at hF
    refine j_aload_n B dX13_copy_119 rfl ?_
    refine j_ldc (v := (-1000001)) B q1436 dX13_copy_120 ?_
    obtain ⟨i122, w122, e122, hF⟩ := bc hF
    refine j_rV (st2 := [.int i122]) B [.int (-1000001)] [] cv_X13_92 dX13_copy_122 hl hR (ct_X13_finding G e122) rfl rfl rfl rfl trivial (Nat.le_of_ble_eq_true rfl) ?_
    exact j_lIw B rfl dX13_copy_125 hF (by decide) (by decide)
  have jb39 : ∀ (a0 : Option Nat) (w : cH), F_X13_copy_J39  a0 w = some (r9, w9) → J g x (.returned (some (.int r9))) w9 0 0 w 0 0 39 [some (va_rf a0), none, none, none, none, none, none] [] := by
    intro a0 w hF
    unfold F_X13_copy_J39 at hF
    refine j_aload_n B dX13_copy_39 rfl ?_
    refine j_ldcw (v := (-1000006)) B q1864 dX13_copy_40 ?_
    obtain ⟨i43, w43, e43, hF⟩ := bc hF
    refine j_rV (st2 := [.int i43]) B [.int (-1000006)] [] cv_X13_92 dX13_copy_43 hl hR (ct_X13_finding G e43) rfl rfl rfl rfl trivial (Nat.le_of_ble_eq_true rfl) ?_
    exact j_lIw B rfl dX13_copy_46 hF (by decide) (by decide)
  have jb14 : ∀ (a0 : Option Nat) (w : cH), F_X13_copy_J14  a0 w = some (r9, w9) → J g x (.returned (some (.int r9))) w9 0 0 w 0 0 14 [some (va_rf a0), none, none, none, none, none, none] [] := by
    intro a0 w hF
    unfold F_X13_copy_J14 at hF
    refine j_aload_n B dX13_copy_14 rfl ?_
    refine j_ldc (v := (-1000001)) B q1436 dX13_copy_15 ?_
    obtain ⟨i17, w17, e17, hF⟩ := bc hF
    refine j_rV (st2 := [.int i17]) B [.int (-1000001)] [] cv_X13_92 dX13_copy_17 hl hR (ct_X13_finding G e17) rfl rfl rfl rfl trivial (Nat.le_of_ble_eq_true rfl) ?_
    exact j_lIw B rfl dX13_copy_20 hF (by decide) (by decide)
  refine j_iload_n B dX13_copy_0 rfl ?_
  refine j_rS (st2 := [.int (F_X13_isSheet x1)]) B [.int x1] [] cs_X13_374 dX13_copy_1 hl hR (ct_X13_isSheet G) rfl rfl rfl rfl trivial (Nat.le_of_ble_eq_true rfl) ?_
  refine j_if_eq (tgt := 14) B dX13_copy_4 (by decide) hF (fun h4 hF => ?_) (fun h4 hF => ?_)
  · refine j_msk [true, false, false, false, false, false, false] rfl ?_
    exact jb14 a0 w hF
  · refine j_iload_n B dX13_copy_7 rfl ?_
    refine j_rS (st2 := [.int (F_X13_isSheet x3)]) B [.int x3] [] cs_X13_374 dX13_copy_8 hl hR (ct_X13_isSheet G) rfl rfl rfl rfl trivial (Nat.le_of_ble_eq_true rfl) ?_
    refine j_if_ne (tgt := 21) B dX13_copy_11 (by decide) hF (fun h11 hF => ?_) (fun h11 hF => ?_)
    · refine j_aload_n B dX13_copy_21 rfl ?_
      refine j_getA B fl_X13_60 dX13_copy_22 hF (fun a22p hF => ?_)
      refine j_iload_n B dX13_copy_25 rfl ?_
      refine j_iaload B dX13_copy_26 hF (fun i26 hF => ?_)
      refine j_if_eq (tgt := 39) B dX13_copy_27 (by decide) hF (fun h27 hF => ?_) (fun h27 hF => ?_)
      · refine j_msk [true, false, false, false, false, false, false] rfl ?_
        exact jb39 a0 w hF
      · refine j_aload_n B dX13_copy_30 rfl ?_
        refine j_getA B fl_X13_60 dX13_copy_31 hF (fun a31p hF => ?_)
        refine j_iload_n B dX13_copy_34 rfl ?_
        refine j_iaload B dX13_copy_35 hF (fun i35 hF => ?_)
        refine j_if_ne (tgt := 47) B dX13_copy_36 (by decide) hF (fun h36 hF => ?_) (fun h36 hF => ?_)
        · refine j_aload_n B dX13_copy_47 rfl ?_
          refine j_getA B fl_X13_60 dX13_copy_48 hF (fun a48p hF => ?_)
          refine j_iload_n B dX13_copy_51 rfl ?_
          refine j_iaload B dX13_copy_52 hF (fun i52 hF => ?_)
          refine j_aload_n B dX13_copy_53 rfl ?_
          refine j_getA B fl_X13_60 dX13_copy_54 hF (fun a54p hF => ?_)
          refine j_iload_n B dX13_copy_57 rfl ?_
          refine j_iaload B dX13_copy_58 hF (fun i58 hF => ?_)
          refine j_icmp_eq (tgt := 70) B dX13_copy_59 (by decide) hF (fun h59 hF => ?_) (fun h59 hF => ?_)
          · refine j_iload_n B dX13_copy_70 rfl ?_
            refine j_if_lt (tgt := 119) B dX13_copy_71 (by decide) hF (fun h71 hF => ?_) (fun h71 hF => ?_)
            · refine j_msk [true, false, false, false, false, false, false] rfl ?_
              exact jb119 a0 w hF
            · refine j_iload B dX13_copy_74 rfl ?_
              refine j_if_lt (tgt := 119) B dX13_copy_76 (by decide) hF (fun h76 hF => ?_) (fun h76 hF => ?_)
              · refine j_msk [true, false, false, false, false, false, false] rfl ?_
                exact jb119 a0 w hF
              · refine j_iload B dX13_copy_79 rfl ?_
                refine j_if_lt (tgt := 119) B dX13_copy_81 (by decide) hF (fun h81 hF => ?_) (fun h81 hF => ?_)
                · refine j_msk [true, false, false, false, false, false, false] rfl ?_
                  exact jb119 a0 w hF
                · refine j_iload_n B dX13_copy_84 rfl ?_
                  refine j_i2l B dX13_copy_85 ?_
                  refine j_iload B dX13_copy_86 rfl ?_
                  refine j_i2l B dX13_copy_88 ?_
                  refine j_ladd B dX13_copy_89 ?_
                  refine j_aload_n B dX13_copy_90 rfl ?_
                  refine j_getA B fl_X13_63 dX13_copy_91 hF (fun a91p hF => ?_)
                  refine j_iload_n B dX13_copy_94 rfl ?_
                  refine j_iaload B dX13_copy_95 hF (fun i95 hF => ?_)
                  refine j_i2l B dX13_copy_96 ?_
                  refine j_lcmp B dX13_copy_97 ?_
                  refine j_if_gt (tgt := 119) B dX13_copy_98 (by decide) hF (fun h98 hF => ?_) (fun h98 hF => ?_)
                  · refine j_msk [true, false, false, false, false, false, false] rfl ?_
                    exact jb119 a0 w hF
                  · refine j_iload B dX13_copy_101 rfl ?_
                    refine j_i2l B dX13_copy_103 ?_
                    refine j_iload B dX13_copy_104 rfl ?_
                    refine j_i2l B dX13_copy_106 ?_
                    refine j_ladd B dX13_copy_107 ?_
                    refine j_aload_n B dX13_copy_108 rfl ?_
                    refine j_getA B fl_X13_63 dX13_copy_109 hF (fun a109p hF => ?_)
                    refine j_iload_n B dX13_copy_112 rfl ?_
                    refine j_iaload B dX13_copy_113 hF (fun i113 hF => ?_)
                    refine j_i2l B dX13_copy_114 ?_
                    refine j_lcmp B dX13_copy_115 ?_
                    refine j_if_le (tgt := 126) B dX13_copy_116 (by decide) hF (fun h116 hF => ?_) (fun h116 hF => ?_)
                    · refine j_iconst (v := 0) B dX13_copy_126 (by decide) ?_
                      refine j_istore (vs' := [some (va_rf a0), some (.int x1), some (.int x2), some (.int x3), some (.int x4), some (.int x5), some (.int 0)]) B dX13_copy_127 (by decide) rfl ?_
                      exact lp129 fu a0 x1 x2 x3 x4 x5 0 w hF
                    · refine j_msk [true, false, false, false, false, false, false] rfl ?_
                      exact jb119 a0 w hF
          · refine j_aload_n B dX13_copy_62 rfl ?_
            refine j_ldcw (v := (-1000003)) B q1865 dX13_copy_63 ?_
            obtain ⟨i66, w66, e66, hF⟩ := bc hF
            refine j_rV (st2 := [.int i66]) B [.int (-1000003)] [] cv_X13_92 dX13_copy_66 hl hR (ct_X13_finding G e66) rfl rfl rfl rfl trivial (Nat.le_of_ble_eq_true rfl) ?_
            exact j_lIw B rfl dX13_copy_69 hF (by decide) (by decide)
        · refine j_msk [true, false, false, false, false, false, false] rfl ?_
          exact jb39 a0 w hF
    · refine j_msk [true, false, false, false, false, false, false] rfl ?_
      exact jb14 a0 w hF
def F_X13_load_B33 (rc33 : Option Nat → Int32 → Int32 → cH → Option (Int32 × cH)) (a0 : Option Nat) (x1 : Int32) (x2 : Int32) (w : cH) : Option (Int32 × cH) :=
  (fA w a0 13 27).bind fun a35p => (aI w a35p 100 x1).bind fun i39 =>if i39 ≤ x2 then (some (x2, w)) else ((F_X13_isWare a0 x2 w).bind fun i45 =>if i45 = 0 then (some (x2, w)) else ((fA w a0 13 28).bind fun a52p => (aI w a52p 100 ((40 * x1) + x2)).bind fun i61 =>if (F_X13_within i61 1 9999) = 0 then (some (x2, w)) else ((fA w a0 13 0).bind fun a73p => (fA w a0 13 28).bind fun a82p => (aI w a82p 100 ((40 * x1) + x2)).bind fun i91 => (aS w a73p 100 (F_X13_wAt x2 0) (.int i91)).bind fun w92 => rc33 a0 x1 (x2 + 1) w92)))
def F_X13_load_L33 : Nat → Option Nat → Int32 → Int32 → cH → Option (Int32 × cH)
  | 0, _, _, _, _ => none
  | n9 + 1, a0, x1, x2, w => F_X13_load_B33  (F_X13_load_L33  n9) a0 x1 x2 w
def F_X13_load (a0 : Option Nat) (x1 : Int32) (w : cH) : Option (Int32 × cH) :=
  if tg w a0 = some 13 then (if ¬ (F_X13_isSheet x1) = 0 then ((fA w a0 13 26).bind fun a15p => (aI w a15p 100 x1).bind fun i19 =>if ¬ i19 = 0 then (F_X13_load_L33  fu a0 x1 0 w) else (cb (F_X13_finding a0 (-1000006) w) fun i27 w27 => some (i27, w27))) else (cb (F_X13_finding a0 (-1000001) w) fun i10 w10 => some (i10, w10))) else none
abbrev rm_X13_load : Room := { frames := 2, cells := 0, slots := 0, locals := 43 }
set_option maxHeartbeats 4000000 in
set_option maxRecDepth 100000 in
theorem ct_X13_load {l : Launch} {g : Gt} (G : Gok g) {a0 : Option Nat} {x1 : Int32} {w : cH} {r9 : Int32} {w9 : cH} (hF : F_X13_load a0 x1 w = some (r9, w9)) : tg w a0 = some 13 ∧ Mx l yX13_load (ws_ yX13_load cX13_load 3 (some .int)) rm_X13_load g [va_rf a0, .int x1] w (.returned (some (.int r9))) w9 0 0 := by
  unfold F_X13_load at hF
  obtain ⟨ht, hF⟩ := bg hF
  refine ⟨ht, mk_ct cX13_load 3 (some .int) "CarryFairModel" (plainFor_of_name (by decide)) rfl (lg_le ⟨cr _, rfl, trivial⟩ (Nat.le_of_ble_eq_true rfl)) (av_ok ⟨cr _, rfl, trivial⟩) G (fun x B hl hR hin hh => ?_)⟩
  show J g x _ _ 0 0 w 0 0 0 [some (va_rf a0), some (.int x1), none] []
  have lp33 : ∀ (n9 : Nat) (a0 : Option Nat) (x1 : Int32) (x2 : Int32) (w : cH), F_X13_load_L33  n9 a0 x1 x2 w = some (r9, w9) → J g x (.returned (some (.int r9))) w9 0 0 w 0 0 33 [some (va_rf a0), some (.int x1), some (.int x2)] [] := by
    intro n9
    induction n9 with
    | zero => intro a0 x1 x2 w hF; cases hF
    | succ n33 ih33 =>
      intro a0 x1 x2 w hF
      have hF : F_X13_load_B33  (F_X13_load_L33  n33) a0 x1 x2 w = some (r9, w9) := hF
      unfold F_X13_load_B33 at hF
      refine j_iload_n B dX13_load_33 rfl ?_
      refine j_aload_n B dX13_load_34 rfl ?_
      refine j_getA B fl_X13_63 dX13_load_35 hF (fun a35p hF => ?_)
      refine j_iload_n B dX13_load_38 rfl ?_
      refine j_iaload B dX13_load_39 hF (fun i39 hF => ?_)
      refine j_icmp_ge (tgt := 99) B dX13_load_40 (by decide) hF (fun h40 hF => ?_) (fun h40 hF => ?_)
      · refine j_iload_n B dX13_load_99 rfl ?_
        exact j_lIw B rfl dX13_load_100 hF (by decide) (by decide)
      · refine j_aload_n B dX13_load_43 rfl ?_
        refine j_iload_n B dX13_load_44 rfl ?_
        obtain ⟨i45, e45, hF⟩ := bo hF
        refine j_rV (st2 := [.int i45]) B [.int x2] [] cv_X13_167 dX13_load_45 hl hR (ct_X13_isWare G e45) rfl rfl rfl rfl trivial (Nat.le_of_ble_eq_true rfl) ?_
        refine j_if_eq (tgt := 99) B dX13_load_48 (by decide) hF (fun h48 hF => ?_) (fun h48 hF => ?_)
        · refine j_iload_n B dX13_load_99 rfl ?_
          exact j_lIw B rfl dX13_load_100 hF (by decide) (by decide)
        · refine j_aload_n B dX13_load_51 rfl ?_
          refine j_getA B fl_X13_66 dX13_load_52 hF (fun a52p hF => ?_)
          refine j_bipush (v := 40) B dX13_load_55 (by decide) ?_
          refine j_iload_n B dX13_load_57 rfl ?_
          refine j_imul B dX13_load_58 ?_
          refine j_iload_n B dX13_load_59 rfl ?_
          refine j_iadd B dX13_load_60 ?_
          refine j_iaload B dX13_load_61 hF (fun i61 hF => ?_)
          refine j_iconst (v := 1) B dX13_load_62 (by decide) ?_
          refine j_sipush (v := 9999) B dX13_load_63 (by decide) ?_
          refine j_rS (st2 := [.int (F_X13_within i61 1 9999)]) B [.int i61, .int 1, .int 9999] [] cs_X13_77 dX13_load_66 hl hR (ct_X13_within G) rfl rfl rfl rfl trivial (Nat.le_of_ble_eq_true rfl) ?_
          refine j_if_eq (tgt := 99) B dX13_load_69 (by decide) hF (fun h69 hF => ?_) (fun h69 hF => ?_)
          · refine j_iload_n B dX13_load_99 rfl ?_
            exact j_lIw B rfl dX13_load_100 hF (by decide) (by decide)
          · refine j_aload_n B dX13_load_72 rfl ?_
            refine j_getA B fl_X13_9 dX13_load_73 hF (fun a73p hF => ?_)
            refine j_iload_n B dX13_load_76 rfl ?_
            refine j_iconst (v := 0) B dX13_load_77 (by decide) ?_
            refine j_rS (st2 := [.int (F_X13_wAt x2 0), va_rf a73p]) B [.int x2, .int 0] [va_rf a73p] cs_X13_161 dX13_load_78 hl hR (ct_X13_wAt G) rfl rfl rfl rfl ⟨cr _, trivial⟩ (Nat.le_of_ble_eq_true rfl) ?_
            refine j_aload_n B dX13_load_81 rfl ?_
            refine j_getA B fl_X13_66 dX13_load_82 hF (fun a82p hF => ?_)
            refine j_bipush (v := 40) B dX13_load_85 (by decide) ?_
            refine j_iload_n B dX13_load_87 rfl ?_
            refine j_imul B dX13_load_88 ?_
            refine j_iload_n B dX13_load_89 rfl ?_
            refine j_iadd B dX13_load_90 ?_
            refine j_iaload B dX13_load_91 hF (fun i91 hF => ?_)
            refine j_iastore B dX13_load_92 hF (fun w92 hF => ?_)
            refine j_iinc (v := x2 + 1) (vs' := [some (va_rf a0), some (.int x1), some (.int (x2 + 1))]) B dX13_load_93 (by decide) rfl rfl rfl ?_
            refine j_goto (tgt := 33) B dX13_load_96 (by decide) ?_
            exact ih33 a0 x1 (x2 + 1) w92 hF
  refine j_iload_n B dX13_load_0 rfl ?_
  refine j_rS (st2 := [.int (F_X13_isSheet x1)]) B [.int x1] [] cs_X13_374 dX13_load_1 hl hR (ct_X13_isSheet G) rfl rfl rfl rfl trivial (Nat.le_of_ble_eq_true rfl) ?_
  refine j_if_ne (tgt := 14) B dX13_load_4 (by decide) hF (fun h4 hF => ?_) (fun h4 hF => ?_)
  · refine j_aload_n B dX13_load_14 rfl ?_
    refine j_getA B fl_X13_60 dX13_load_15 hF (fun a15p hF => ?_)
    refine j_iload_n B dX13_load_18 rfl ?_
    refine j_iaload B dX13_load_19 hF (fun i19 hF => ?_)
    refine j_if_ne (tgt := 31) B dX13_load_20 (by decide) hF (fun h20 hF => ?_) (fun h20 hF => ?_)
    · refine j_iconst (v := 0) B dX13_load_31 (by decide) ?_
      refine j_istore_n (vs' := [some (va_rf a0), some (.int x1), some (.int 0)]) B dX13_load_32 (by decide) rfl ?_
      exact lp33 fu a0 x1 0 w hF
    · refine j_aload_n B dX13_load_23 rfl ?_
      refine j_ldcw (v := (-1000006)) B q1864 dX13_load_24 ?_
      obtain ⟨i27, w27, e27, hF⟩ := bc hF
      refine j_rV (st2 := [.int i27]) B [.int (-1000006)] [] cv_X13_92 dX13_load_27 hl hR (ct_X13_finding G e27) rfl rfl rfl rfl trivial (Nat.le_of_ble_eq_true rfl) ?_
      exact j_lIw B rfl dX13_load_30 hF (by decide) (by decide)
  · refine j_aload_n B dX13_load_7 rfl ?_
    refine j_ldc (v := (-1000001)) B q1436 dX13_load_8 ?_
    obtain ⟨i10, w10, e10, hF⟩ := bc hF
    refine j_rV (st2 := [.int i10]) B [.int (-1000001)] [] cv_X13_92 dX13_load_10 hl hR (ct_X13_finding G e10) rfl rfl rfl rfl trivial (Nat.le_of_ble_eq_true rfl) ?_
    exact j_lIw B rfl dX13_load_13 hF (by decide) (by decide)
def F_X13_judge_J132 (a0 : Option Nat) (x3 : Int32) (x4 : Int32) (w : cH) : Option (Int32 × cH) :=
  cb (F_X13_putBack a0 x4 w) fun i135 w135 =>if 0 ≤ i135 then (some (x3, w135)) else (cb (F_X13_finding a0 (-1000004) w135) fun i144 w144 => some (i144, w144))
def F_X13_judge_J119 (rc65 : (Option Nat) → Int32 → Int32 → Int32 → Int32 → Int32 → cH → Option (Int32 × cH)) (a0 : Option Nat) (x1 : Int32) (x2 : Int32) (x3 : Int32) (x5 : Int32) (s0 : Int32) (w : cH) : Option (Int32 × cH) :=
  rc65 a0 x1 x2 (x3 + s0) s0 (x5 + 1) w
def F_X13_judge_B65 (rc65 : Option Nat → Int32 → Int32 → Int32 → Int32 → Int32 → cH → Option (Int32 × cH)) (a0 : Option Nat) (x1 : Int32) (x2 : Int32) (x3 : Int32) (x4 : Int32) (x5 : Int32) (w : cH) : Option (Int32 × cH) :=
  (fA w a0 13 27).bind fun a68p => (aI w a68p 100 x1).bind fun i72 =>if i72 ≤ x5 then (F_X13_judge_J132  a0 x3 x4 w) else (if x4 < 0 then (F_X13_judge_J132  a0 x3 x4 w) else ((fA w a0 13 28).bind fun a82p => (aI w a82p 100 ((40 * x1) + x5)).bind fun i92 => (F_X13_takesAll a0 x2 w).bind fun w97 =>if (F_X13_isPlace i92) = 0 then (F_X13_judge_J119  rc65 a0 x1 x2 x3 x5 (-1) w97) else (cb (F_X13_walked a0 x2 i92 w97) fun i112 w112 => F_X13_judge_J119  rc65 a0 x1 x2 x3 x5 i112 w112)))
def F_X13_judge_L65 : Nat → Option Nat → Int32 → Int32 → Int32 → Int32 → Int32 → cH → Option (Int32 × cH)
  | 0, _, _, _, _, _, _, _ => none
  | n9 + 1, a0, x1, x2, x3, x4, x5, w => F_X13_judge_B65  (F_X13_judge_L65  n9) a0 x1 x2 x3 x4 x5 w
def F_X13_judge (a0 : Option Nat) (x1 : Int32) (x2 : Int32) (w : cH) : Option (Int32 × cH) :=
  if tg w a0 = some 13 then (if ¬ (F_X13_isSheet x1) = 0 then ((fA w a0 13 26).bind fun a15p => (aI w a15p 100 x1).bind fun i19 =>if ¬ i19 = 0 then ((F_X13_isCarrier a0 x2 w).bind fun i33 =>if ¬ i33 = 0 then ((fA w a0 13 0).bind fun a47p => (fA w a0 13 2).bind fun a51p => (F_X13_copyRow a47p a51p w).bind fun w54 => F_X13_judge_L65  fu a0 x1 x2 0 0 0 w54) else (cb (F_X13_finding a0 (-1000001) w) fun i42 w42 => some (i42, w42))) else (cb (F_X13_finding a0 (-1000006) w) fun i27 w27 => some (i27, w27))) else (cb (F_X13_finding a0 (-1000001) w) fun i10 w10 => some (i10, w10))) else none
abbrev rm_X13_judge : Room := { frames := 7, cells := 0, slots := 0, locals := 164 }
set_option maxHeartbeats 4000000 in
set_option maxRecDepth 100000 in
theorem ct_X13_judge {l : Launch} {g : Gt} (G : Gok g) {a0 : Option Nat} {x1 : Int32} {x2 : Int32} {w : cH} {r9 : Int32} {w9 : cH} (hF : F_X13_judge a0 x1 x2 w = some (r9, w9)) : tg w a0 = some 13 ∧ Mx l yX13_judge (ws_ yX13_judge cX13_judge 7 (some .int)) rm_X13_judge g [va_rf a0, .int x1, .int x2] w (.returned (some (.int r9))) w9 0 0 := by
  unfold F_X13_judge at hF
  obtain ⟨ht, hF⟩ := bg hF
  refine ⟨ht, mk_ct cX13_judge 7 (some .int) "CarryFairModel" (plainFor_of_name (by decide)) rfl (lg_le ⟨cr _, rfl, rfl, trivial⟩ (Nat.le_of_ble_eq_true rfl)) (av_ok ⟨cr _, rfl, rfl, trivial⟩) G (fun x B hl hR hin hh => ?_)⟩
  show J g x _ _ 0 0 w 0 0 0 [some (va_rf a0), some (.int x1), some (.int x2), none, none, none, none] []
  have jb132 : ∀ (a0 : Option Nat) (x3 : Int32) (x4 : Int32) (w : cH), F_X13_judge_J132  a0 x3 x4 w = some (r9, w9) → J g x (.returned (some (.int r9))) w9 0 0 w 0 0 132 [some (va_rf a0), none, none, some (.int x3), some (.int x4), none, none] [] := by
    intro a0 x3 x4 w hF
    unfold F_X13_judge_J132 at hF
    refine j_aload_n B dX13_judge_132 rfl ?_
    refine j_iload B dX13_judge_133 rfl ?_
    obtain ⟨i135, w135, e135, hF⟩ := bc hF
    refine j_rV (st2 := [.int i135]) B [.int x4] [] cv_X13_273 dX13_judge_135 hl hR (ct_X13_putBack G e135) rfl rfl rfl rfl trivial (Nat.le_of_ble_eq_true rfl) ?_
    refine j_if_ge (tgt := 150) B dX13_judge_138 (by decide) hF (fun h138 hF => ?_) (fun h138 hF => ?_)
    · refine j_iload_n B dX13_judge_150 rfl ?_
      exact j_lIw B rfl dX13_judge_151 hF (by decide) (by decide)
    · refine j_aload_n B dX13_judge_141 rfl ?_
      refine j_ldc (v := (-1000004)) B q1551 dX13_judge_142 ?_
      obtain ⟨i144, w144, e144, hF⟩ := bc hF
      refine j_rV (st2 := [.int i144]) B [.int (-1000004)] [] cv_X13_92 dX13_judge_144 hl hR (ct_X13_finding G e144) rfl rfl rfl rfl trivial (Nat.le_of_ble_eq_true rfl) ?_
      refine j_goto (tgt := 151) B dX13_judge_147 (by decide) ?_
      exact j_lIw B rfl dX13_judge_151 hF (by decide) (by decide)
  have lp65 : ∀ (n9 : Nat) (a0 : Option Nat) (x1 : Int32) (x2 : Int32) (x3 : Int32) (x4 : Int32) (x5 : Int32) (w : cH), F_X13_judge_L65  n9 a0 x1 x2 x3 x4 x5 w = some (r9, w9) → J g x (.returned (some (.int r9))) w9 0 0 w 0 0 65 [some (va_rf a0), some (.int x1), some (.int x2), some (.int x3), some (.int x4), some (.int x5), none] [] := by
    intro n9
    induction n9 with
    | zero => intro a0 x1 x2 x3 x4 x5 w hF; cases hF
    | succ n65 ih65 =>
      intro a0 x1 x2 x3 x4 x5 w hF
      have hF : F_X13_judge_B65  (F_X13_judge_L65  n65) a0 x1 x2 x3 x4 x5 w = some (r9, w9) := hF
      unfold F_X13_judge_B65 at hF
      have jb119 : ∀ (a0 : Option Nat) (x1 : Int32) (x2 : Int32) (x3 : Int32) (x5 : Int32) (s0 : Int32) (w : cH), F_X13_judge_J119  (F_X13_judge_L65  n65) a0 x1 x2 x3 x5 s0 w = some (r9, w9) → J g x (.returned (some (.int r9))) w9 0 0 w 0 0 119 [some (va_rf a0), some (.int x1), some (.int x2), some (.int x3), none, some (.int x5), none] [.int s0] := by
        intro a0 x1 x2 x3 x5 s0 w hF
        unfold F_X13_judge_J119 at hF
        refine j_istore (vs' := [some (va_rf a0), some (.int x1), some (.int x2), some (.int x3), some (.int s0), some (.int x5), none]) B dX13_judge_119 (by decide) rfl ?_
        refine j_iload_n B dX13_judge_121 rfl ?_
        refine j_iload B dX13_judge_122 rfl ?_
        refine j_iadd B dX13_judge_124 ?_
        refine j_istore_n (vs' := [some (va_rf a0), some (.int x1), some (.int x2), some (.int (x3 + s0)), some (.int s0), some (.int x5), none]) B dX13_judge_125 (by decide) rfl ?_
        refine j_iinc (v := x5 + 1) (vs' := [some (va_rf a0), some (.int x1), some (.int x2), some (.int (x3 + s0)), some (.int s0), some (.int (x5 + 1)), none]) B dX13_judge_126 (by decide) rfl rfl rfl ?_
        refine j_goto (tgt := 65) B dX13_judge_129 (by decide) ?_
        exact ih65 a0 x1 x2 (x3 + s0) s0 (x5 + 1) w hF
      refine j_iload B dX13_judge_65 rfl ?_
      refine j_aload_n B dX13_judge_67 rfl ?_
      refine j_getA B fl_X13_63 dX13_judge_68 hF (fun a68p hF => ?_)
      refine j_iload_n B dX13_judge_71 rfl ?_
      refine j_iaload B dX13_judge_72 hF (fun i72 hF => ?_)
      refine j_icmp_ge (tgt := 132) B dX13_judge_73 (by decide) hF (fun h73 hF => ?_) (fun h73 hF => ?_)
      · refine j_msk [true, false, false, true, true, false, false] rfl ?_
        exact jb132 a0 x3 x4 w hF
      · refine j_iload B dX13_judge_76 rfl ?_
        refine j_if_lt (tgt := 132) B dX13_judge_78 (by decide) hF (fun h78 hF => ?_) (fun h78 hF => ?_)
        · refine j_msk [true, false, false, true, true, false, false] rfl ?_
          exact jb132 a0 x3 x4 w hF
        · refine j_aload_n B dX13_judge_81 rfl ?_
          refine j_getA B fl_X13_66 dX13_judge_82 hF (fun a82p hF => ?_)
          refine j_bipush (v := 40) B dX13_judge_85 (by decide) ?_
          refine j_iload_n B dX13_judge_87 rfl ?_
          refine j_imul B dX13_judge_88 ?_
          refine j_iload B dX13_judge_89 rfl ?_
          refine j_iadd B dX13_judge_91 ?_
          refine j_iaload B dX13_judge_92 hF (fun i92 hF => ?_)
          refine j_istore (vs' := [some (va_rf a0), some (.int x1), some (.int x2), some (.int x3), some (.int x4), some (.int x5), some (.int i92)]) B dX13_judge_93 (by decide) rfl ?_
          refine j_aload_n B dX13_judge_95 rfl ?_
          refine j_iload_n B dX13_judge_96 rfl ?_
          obtain ⟨w97, e97, hF⟩ := bo hF
          refine j_rV (st2 := []) B [.int x2] [] cv_X13_264 dX13_judge_97 hl hR (ct_X13_takesAll G e97) rfl rfl rfl rfl trivial (Nat.le_of_ble_eq_true rfl) ?_
          refine j_iload B dX13_judge_100 rfl ?_
          refine j_rS (st2 := [.int (F_X13_isPlace i92)]) B [.int i92] [] cs_X13_129 dX13_judge_102 hl hR (ct_X13_isPlace G) rfl rfl rfl rfl trivial (Nat.le_of_ble_eq_true rfl) ?_
          refine j_if_eq (tgt := 118) B dX13_judge_105 (by decide) hF (fun h105 hF => ?_) (fun h105 hF => ?_)
          · refine j_iconst (v := (-1)) B dX13_judge_118 (by decide) ?_
            refine j_msk [true, true, true, true, false, true, false] rfl ?_
            exact jb119 a0 x1 x2 x3 x5 (-1) w97 hF
          · refine j_aload_n B dX13_judge_108 rfl ?_
            refine j_iload_n B dX13_judge_109 rfl ?_
            refine j_iload B dX13_judge_110 rfl ?_
            obtain ⟨i112, w112, e112, hF⟩ := bc hF
            refine j_rV (st2 := [.int i112]) B [.int x2, .int i92] [] cv_X13_199 dX13_judge_112 hl hR (ct_X13_walked G e112) rfl rfl rfl rfl trivial (Nat.le_of_ble_eq_true rfl) ?_
            refine j_goto (tgt := 119) B dX13_judge_115 (by decide) ?_
            refine j_msk [true, true, true, true, false, true, false] rfl ?_
            exact jb119 a0 x1 x2 x3 x5 i112 w112 hF
  refine j_iload_n B dX13_judge_0 rfl ?_
  refine j_rS (st2 := [.int (F_X13_isSheet x1)]) B [.int x1] [] cs_X13_374 dX13_judge_1 hl hR (ct_X13_isSheet G) rfl rfl rfl rfl trivial (Nat.le_of_ble_eq_true rfl) ?_
  refine j_if_ne (tgt := 14) B dX13_judge_4 (by decide) hF (fun h4 hF => ?_) (fun h4 hF => ?_)
  · refine j_aload_n B dX13_judge_14 rfl ?_
    refine j_getA B fl_X13_60 dX13_judge_15 hF (fun a15p hF => ?_)
    refine j_iload_n B dX13_judge_18 rfl ?_
    refine j_iaload B dX13_judge_19 hF (fun i19 hF => ?_)
    refine j_if_ne (tgt := 31) B dX13_judge_20 (by decide) hF (fun h20 hF => ?_) (fun h20 hF => ?_)
    · refine j_aload_n B dX13_judge_31 rfl ?_
      refine j_iload_n B dX13_judge_32 rfl ?_
      obtain ⟨i33, e33, hF⟩ := bo hF
      refine j_rV (st2 := [.int i33]) B [.int x2] [] cv_X13_117 dX13_judge_33 hl hR (ct_X13_isCarrier G e33) rfl rfl rfl rfl trivial (Nat.le_of_ble_eq_true rfl) ?_
      refine j_if_ne (tgt := 46) B dX13_judge_36 (by decide) hF (fun h36 hF => ?_) (fun h36 hF => ?_)
      · refine j_aload_n B dX13_judge_46 rfl ?_
        refine j_getA B fl_X13_9 dX13_judge_47 hF (fun a47p hF => ?_)
        refine j_aload_n B dX13_judge_50 rfl ?_
        refine j_getA B fl_X13_16 dX13_judge_51 hF (fun a51p hF => ?_)
        obtain ⟨w54, e54, hF⟩ := bo hF
        refine j_rS (st2 := []) B [va_rf a47p, va_rf a51p] [] cs_X13_73 dX13_judge_54 hl hR (ct_X13_copyRow G e54) rfl rfl rfl rfl trivial (Nat.le_of_ble_eq_true rfl) ?_
        refine j_iconst (v := 0) B dX13_judge_57 (by decide) ?_
        refine j_istore_n (vs' := [some (va_rf a0), some (.int x1), some (.int x2), some (.int 0), none, none, none]) B dX13_judge_58 (by decide) rfl ?_
        refine j_iconst (v := 0) B dX13_judge_59 (by decide) ?_
        refine j_istore (vs' := [some (va_rf a0), some (.int x1), some (.int x2), some (.int 0), some (.int 0), none, none]) B dX13_judge_60 (by decide) rfl ?_
        refine j_iconst (v := 0) B dX13_judge_62 (by decide) ?_
        refine j_istore (vs' := [some (va_rf a0), some (.int x1), some (.int x2), some (.int 0), some (.int 0), some (.int 0), none]) B dX13_judge_63 (by decide) rfl ?_
        exact lp65 fu a0 x1 x2 0 0 0 w54 hF
      · refine j_aload_n B dX13_judge_39 rfl ?_
        refine j_ldc (v := (-1000001)) B q1436 dX13_judge_40 ?_
        obtain ⟨i42, w42, e42, hF⟩ := bc hF
        refine j_rV (st2 := [.int i42]) B [.int (-1000001)] [] cv_X13_92 dX13_judge_42 hl hR (ct_X13_finding G e42) rfl rfl rfl rfl trivial (Nat.le_of_ble_eq_true rfl) ?_
        exact j_lIw B rfl dX13_judge_45 hF (by decide) (by decide)
    · refine j_aload_n B dX13_judge_23 rfl ?_
      refine j_ldcw (v := (-1000006)) B q1864 dX13_judge_24 ?_
      obtain ⟨i27, w27, e27, hF⟩ := bc hF
      refine j_rV (st2 := [.int i27]) B [.int (-1000006)] [] cv_X13_92 dX13_judge_27 hl hR (ct_X13_finding G e27) rfl rfl rfl rfl trivial (Nat.le_of_ble_eq_true rfl) ?_
      exact j_lIw B rfl dX13_judge_30 hF (by decide) (by decide)
  · refine j_aload_n B dX13_judge_7 rfl ?_
    refine j_ldc (v := (-1000001)) B q1436 dX13_judge_8 ?_
    obtain ⟨i10, w10, e10, hF⟩ := bc hF
    refine j_rV (st2 := [.int i10]) B [.int (-1000001)] [] cv_X13_92 dX13_judge_10 hl hR (ct_X13_finding G e10) rfl rfl rfl rfl trivial (Nat.le_of_ble_eq_true rfl) ?_
    exact j_lIw B rfl dX13_judge_13 hF (by decide) (by decide)
theorem fl_X13_13 : FL "CarryFairModel" 13 13 1 := ⟨RX13, TX13, 30, rfl, by decide, in_X13, Or.inl q1336⟩
theorem fp_X13_381 : FP "CarryFairModel" 381 13 3 .boolean false := ⟨RX13, TX13, 30, rfl, by decide, in_X13, Or.inl q1338, rfl, (fun h => by cases h), by decide +kernel, ap_X13, tyX13, tyX13_ok⟩
def F_X13_image (a0 : Option Nat) (w : cH) : Option (Int32 × cH) :=
  if tg w a0 = some 13 then ((fA w a0 13 0).bind fun a1p => (fA w a0 13 1).bind fun a5p => (F_X13_copyRow a1p a5p w).bind fun w8 => (pV w8 a0 13 3 (.int 1)).bind fun w13 => some (1, w13)) else none
abbrev rm_X13_image : Room := { frames := 1, cells := 0, slots := 0, locals := 22 }
set_option maxHeartbeats 4000000 in
set_option maxRecDepth 100000 in
theorem ct_X13_image {l : Launch} {g : Gt} (G : Gok g) {a0 : Option Nat} {w : cH} {r9 : Int32} {w9 : cH} (hF : F_X13_image a0 w = some (r9, w9)) : tg w a0 = some 13 ∧ Mx l yX13_image (ws_ yX13_image cX13_image 1 (some .int)) rm_X13_image g [va_rf a0] w (.returned (some (.int r9))) w9 0 0 := by
  unfold F_X13_image at hF
  obtain ⟨ht, hF⟩ := bg hF
  refine ⟨ht, mk_ct cX13_image 1 (some .int) "CarryFairModel" (plainFor_of_name (by decide)) rfl (lg_le ⟨cr _, trivial⟩ (Nat.le_of_ble_eq_true rfl)) (av_ok ⟨cr _, trivial⟩) G (fun x B hl hR hin hh => ?_)⟩
  show J g x _ _ 0 0 w 0 0 0 [some (va_rf a0)] []
  refine j_aload_n B dX13_image_0 rfl ?_
  refine j_getA B fl_X13_9 dX13_image_1 hF (fun a1p hF => ?_)
  refine j_aload_n B dX13_image_4 rfl ?_
  refine j_getA B fl_X13_13 dX13_image_5 hF (fun a5p hF => ?_)
  obtain ⟨w8, e8, hF⟩ := bo hF
  refine j_rS (st2 := []) B [va_rf a1p, va_rf a5p] [] cs_X13_73 dX13_image_8 hl hR (ct_X13_copyRow G e8) rfl rfl rfl rfl trivial (Nat.le_of_ble_eq_true rfl) ?_
  refine j_aload_n B dX13_image_11 rfl ?_
  refine j_iconst (v := 1) B dX13_image_12 (by decide) ?_
  refine j_putV B fp_X13_381 (fun h => by cases h) rfl rfl dX13_image_13 hF (fun w13 hF => ?_)
  refine j_iconst (v := 1) B dX13_image_16 (by decide) ?_
  exact j_lIw B rfl dX13_image_17 hF (by decide) (by decide)
theorem fl_X13_381 : FL "CarryFairModel" 381 13 3 := ⟨RX13, TX13, 30, rfl, by decide, in_X13, Or.inl q1338⟩
def F_X13_undo (a0 : Option Nat) (w : cH) : Option (Int32 × cH) :=
  if tg w a0 = some 13 then ((fI w a0 13 3).bind fun i1 =>if ¬ i1 = 0 then ((fA w a0 13 1).bind fun a15p => (fA w a0 13 0).bind fun a19p => (F_X13_copyRow a15p a19p w).bind fun w22 => (fA w22 a0 13 0).bind fun a26p => (aI w22 a26p 100 43).bind fun i31 => some (i31, w22)) else (cb (F_X13_finding a0 (-1000004) w) fun i10 w10 => some (i10, w10))) else none
abbrev rm_X13_undo : Room := { frames := 1, cells := 0, slots := 0, locals := 22 }
set_option maxHeartbeats 4000000 in
set_option maxRecDepth 100000 in
theorem ct_X13_undo {l : Launch} {g : Gt} (G : Gok g) {a0 : Option Nat} {w : cH} {r9 : Int32} {w9 : cH} (hF : F_X13_undo a0 w = some (r9, w9)) : tg w a0 = some 13 ∧ Mx l yX13_undo (ws_ yX13_undo cX13_undo 1 (some .int)) rm_X13_undo g [va_rf a0] w (.returned (some (.int r9))) w9 0 0 := by
  unfold F_X13_undo at hF
  obtain ⟨ht, hF⟩ := bg hF
  refine ⟨ht, mk_ct cX13_undo 1 (some .int) "CarryFairModel" (plainFor_of_name (by decide)) rfl (lg_le ⟨cr _, trivial⟩ (Nat.le_of_ble_eq_true rfl)) (av_ok ⟨cr _, trivial⟩) G (fun x B hl hR hin hh => ?_)⟩
  show J g x _ _ 0 0 w 0 0 0 [some (va_rf a0)] []
  refine j_aload_n B dX13_undo_0 rfl ?_
  refine j_getI B fl_X13_381 dX13_undo_1 hF (fun i1 hF => ?_)
  refine j_if_ne (tgt := 14) B dX13_undo_4 (by decide) hF (fun h4 hF => ?_) (fun h4 hF => ?_)
  · refine j_aload_n B dX13_undo_14 rfl ?_
    refine j_getA B fl_X13_13 dX13_undo_15 hF (fun a15p hF => ?_)
    refine j_aload_n B dX13_undo_18 rfl ?_
    refine j_getA B fl_X13_9 dX13_undo_19 hF (fun a19p hF => ?_)
    obtain ⟨w22, e22, hF⟩ := bo hF
    refine j_rS (st2 := []) B [va_rf a15p, va_rf a19p] [] cs_X13_73 dX13_undo_22 hl hR (ct_X13_copyRow G e22) rfl rfl rfl rfl trivial (Nat.le_of_ble_eq_true rfl) ?_
    refine j_aload_n B dX13_undo_25 rfl ?_
    refine j_getA B fl_X13_9 dX13_undo_26 hF (fun a26p hF => ?_)
    refine j_bipush (v := 43) B dX13_undo_29 (by decide) ?_
    refine j_iaload B dX13_undo_31 hF (fun i31 hF => ?_)
    exact j_lIw B rfl dX13_undo_32 hF (by decide) (by decide)
  · refine j_aload_n B dX13_undo_7 rfl ?_
    refine j_ldc (v := (-1000004)) B q1551 dX13_undo_8 ?_
    obtain ⟨i10, w10, e10, hF⟩ := bc hF
    refine j_rV (st2 := [.int i10]) B [.int (-1000004)] [] cv_X13_92 dX13_undo_10 hl hR (ct_X13_finding G e10) rfl rfl rfl rfl trivial (Nat.le_of_ble_eq_true rfl) ?_
    exact j_lIw B rfl dX13_undo_13 hF (by decide) (by decide)
def F_X13_tear_J12 (a0 : Option Nat) (s0 : Int32) (w : cH) : Option (Int32 × cH) :=
  (pV w a0 13 3 (.int 0)).bind fun w15 => some (s0, w15)
def F_X13_tear (a0 : Option Nat) (w : cH) : Option (Int32 × cH) :=
  if tg w a0 = some 13 then ((fI w a0 13 3).bind fun i1 =>if i1 = 0 then (F_X13_tear_J12  a0 0 w) else (F_X13_tear_J12  a0 1 w)) else none
abbrev rm_X13_tear : Room := { frames := 0, cells := 0, slots := 0, locals := 0 }
set_option maxHeartbeats 4000000 in
set_option maxRecDepth 100000 in
theorem ct_X13_tear {l : Launch} {g : Gt} (G : Gok g) {a0 : Option Nat} {w : cH} {r9 : Int32} {w9 : cH} (hF : F_X13_tear a0 w = some (r9, w9)) : tg w a0 = some 13 ∧ Mx l yX13_tear (ws_ yX13_tear cX13_tear 2 (some .int)) rm_X13_tear g [va_rf a0] w (.returned (some (.int r9))) w9 0 0 := by
  unfold F_X13_tear at hF
  obtain ⟨ht, hF⟩ := bg hF
  refine ⟨ht, mk_ct cX13_tear 2 (some .int) "CarryFairModel" (plainFor_of_name (by decide)) rfl (lg_le ⟨cr _, trivial⟩ (Nat.le_of_ble_eq_true rfl)) (av_ok ⟨cr _, trivial⟩) G (fun x B hl hR hin hh => ?_)⟩
  show J g x _ _ 0 0 w 0 0 0 [some (va_rf a0), none] []
  have jb12 : ∀ (a0 : Option Nat) (s0 : Int32) (w : cH), F_X13_tear_J12  a0 s0 w = some (r9, w9) → J g x (.returned (some (.int r9))) w9 0 0 w 0 0 12 [some (va_rf a0), none] [.int s0] := by
    intro a0 s0 w hF
    unfold F_X13_tear_J12 at hF
    refine j_istore_n (vs' := [some (va_rf a0), some (.int s0)]) B dX13_tear_12 (by decide) rfl ?_
    refine j_aload_n B dX13_tear_13 rfl ?_
    refine j_iconst (v := 0) B dX13_tear_14 (by decide) ?_
    refine j_putV B fp_X13_381 (fun h => by cases h) rfl rfl dX13_tear_15 hF (fun w15 hF => ?_)
    refine j_iload_n B dX13_tear_18 rfl ?_
    exact j_lIw B rfl dX13_tear_19 hF (by decide) (by decide)
  refine j_aload_n B dX13_tear_0 rfl ?_
  refine j_getI B fl_X13_381 dX13_tear_1 hF (fun i1 hF => ?_)
  refine j_if_eq (tgt := 11) B dX13_tear_4 (by decide) hF (fun h4 hF => ?_) (fun h4 hF => ?_)
  · refine j_iconst (v := 0) B dX13_tear_11 (by decide) ?_
    exact jb12 a0 0 w hF
  · refine j_iconst (v := 1) B dX13_tear_7 (by decide) ?_
    refine j_goto (tgt := 12) B dX13_tear_8 (by decide) ?_
    exact jb12 a0 1 w hF
def F_X13_count_J123 (rc99 : (Option Nat) → Int32 → Int32 → cH → Option (Int32 × cH)) (a0 : Option Nat) (x3 : Int32) (s0 : Int32) (s1 : Int32) (w : cH) : Option (Int32 × cH) :=
  rc99 a0 (s1 + s0) (x3 + 1) w
def F_X13_count_B99 (rc99 : Option Nat → Int32 → Int32 → cH → Option (Int32 × cH)) (a0 : Option Nat) (x2 : Int32) (x3 : Int32) (w : cH) : Option (Int32 × cH) :=
  if 10 ≤ x3 then (some (x2, w)) else ((fA w a0 13 0).bind fun a107p => (aI w a107p 100 (46 + x3)).bind fun i114 =>if 0 ≤ i114 then (F_X13_count_J123  rc99 a0 x3 1 x2 w) else (F_X13_count_J123  rc99 a0 x3 0 x2 w))
def F_X13_count_L99 : Nat → Option Nat → Int32 → Int32 → cH → Option (Int32 × cH)
  | 0, _, _, _, _ => none
  | n9 + 1, a0, x2, x3, w => F_X13_count_B99  (F_X13_count_L99  n9) a0 x2 x3 w
def F_X13_count (a0 : Option Nat) (x1 : Int32) (w : cH) : Option (Int32 × cH) :=
  if tg w a0 = some 13 then (if x1 = 0 then ((fA w a0 13 0).bind fun a49p => (aI w a49p 100 42).bind fun i54 => some (i54, w)) else if x1 = 1 then ((fA w a0 13 0).bind fun a57p => (aI w a57p 100 43).bind fun i62 => some (i62, w)) else if x1 = 2 then ((fA w a0 13 0).bind fun a65p => (aI w a65p 100 44).bind fun i70 => some (i70, w)) else if x1 = 3 then ((F_X13_ofAll a0 3 w).bind fun i74 => some (i74, w)) else if x1 = 4 then ((F_X13_ofAll a0 4 w).bind fun i80 => some (i80, w)) else if x1 = 5 then ((fI w a0 13 14).bind fun i85 => some (i85, w)) else if x1 = 6 then ((fA w a0 13 0).bind fun a90p => (aI w a90p 100 45).bind fun i95 => some (i95, w)) else if x1 = 7 then (F_X13_count_L99  fu a0 0 0 w) else (cb (F_X13_finding a0 (-1000001) w) fun i136 w136 => some (i136, w136))) else none
abbrev rm_X13_count : Room := { frames := 3, cells := 0, slots := 0, locals := 66 }
set_option maxHeartbeats 4000000 in
set_option maxRecDepth 100000 in
theorem ct_X13_count {l : Launch} {g : Gt} (G : Gok g) {a0 : Option Nat} {x1 : Int32} {w : cH} {r9 : Int32} {w9 : cH} (hF : F_X13_count a0 x1 w = some (r9, w9)) : tg w a0 = some 13 ∧ Mx l yX13_count (ws_ yX13_count cX13_count 4 (some .int)) rm_X13_count g [va_rf a0, .int x1] w (.returned (some (.int r9))) w9 0 0 := by
  unfold F_X13_count at hF
  obtain ⟨ht, hF⟩ := bg hF
  refine ⟨ht, mk_ct cX13_count 4 (some .int) "CarryFairModel" (plainFor_of_name (by decide)) rfl (lg_le ⟨cr _, rfl, trivial⟩ (Nat.le_of_ble_eq_true rfl)) (av_ok ⟨cr _, rfl, trivial⟩) G (fun x B hl hR hin hh => ?_)⟩
  show J g x _ _ 0 0 w 0 0 0 [some (va_rf a0), some (.int x1), none, none] []
  have lp99 : ∀ (n9 : Nat) (a0 : Option Nat) (x2 : Int32) (x3 : Int32) (w : cH), F_X13_count_L99  n9 a0 x2 x3 w = some (r9, w9) → J g x (.returned (some (.int r9))) w9 0 0 w 0 0 99 [some (va_rf a0), none, some (.int x2), some (.int x3)] [] := by
    intro n9
    induction n9 with
    | zero => intro a0 x2 x3 w hF; cases hF
    | succ n99 ih99 =>
      intro a0 x2 x3 w hF
      have hF : F_X13_count_B99  (F_X13_count_L99  n99) a0 x2 x3 w = some (r9, w9) := hF
      unfold F_X13_count_B99 at hF
      have jb123 : ∀ (a0 : Option Nat) (x3 : Int32) (s0 : Int32) (s1 : Int32) (w : cH), F_X13_count_J123  (F_X13_count_L99  n99) a0 x3 s0 s1 w = some (r9, w9) → J g x (.returned (some (.int r9))) w9 0 0 w 0 0 123 [some (va_rf a0), none, none, some (.int x3)] [.int s0, .int s1] := by
        intro a0 x3 s0 s1 w hF
        unfold F_X13_count_J123 at hF
        refine j_iadd B dX13_count_123 ?_
        refine j_istore_n (vs' := [some (va_rf a0), none, some (.int (s1 + s0)), some (.int x3)]) B dX13_count_124 (by decide) rfl ?_
        refine j_iinc (v := x3 + 1) (vs' := [some (va_rf a0), none, some (.int (s1 + s0)), some (.int (x3 + 1))]) B dX13_count_125 (by decide) rfl rfl rfl ?_
        refine j_goto (tgt := 99) B dX13_count_128 (by decide) ?_
        exact ih99 a0 (s1 + s0) (x3 + 1) w hF
      refine j_iload_n B dX13_count_99 rfl ?_
      refine j_bipush (v := 10) B dX13_count_100 (by decide) ?_
      refine j_icmp_ge (tgt := 131) B dX13_count_102 (by decide) hF (fun h102 hF => ?_) (fun h102 hF => ?_)
      · refine j_iload_n B dX13_count_131 rfl ?_
        exact j_lIw B rfl dX13_count_132 hF (by decide) (by decide)
      · refine j_iload_n B dX13_count_105 rfl ?_
        refine j_aload_n B dX13_count_106 rfl ?_
        refine j_getA B fl_X13_9 dX13_count_107 hF (fun a107p hF => ?_)
        refine j_bipush (v := 46) B dX13_count_110 (by decide) ?_
        refine j_iload_n B dX13_count_112 rfl ?_
        refine j_iadd B dX13_count_113 ?_
        refine j_iaload B dX13_count_114 hF (fun i114 hF => ?_)
        refine j_if_ge (tgt := 122) B dX13_count_115 (by decide) hF (fun h115 hF => ?_) (fun h115 hF => ?_)
        · refine j_iconst (v := 1) B dX13_count_122 (by decide) ?_
          refine j_msk [true, false, false, true] rfl ?_
          exact jb123 a0 x3 1 x2 w hF
        · refine j_iconst (v := 0) B dX13_count_118 (by decide) ?_
          refine j_goto (tgt := 123) B dX13_count_119 (by decide) ?_
          refine j_msk [true, false, false, true] rfl ?_
          exact jb123 a0 x3 0 x2 w hF
  refine j_iconst (v := 0) B dX13_count_0 (by decide) ?_
  refine j_istore_n (vs' := [some (va_rf a0), some (.int x1), some (.int 0), none]) B dX13_count_1 (by decide) rfl ?_
  refine j_iload_n B dX13_count_2 rfl ?_
  by_cases t3_0 : x1 = 0
  · rw [if_pos t3_0] at hF
    refine j_tblIn (tgt := 48) B 0 dX13_count_3 t3_0 (by decide) rfl (by decide) ?_
    refine j_aload_n B dX13_count_48 rfl ?_
    refine j_getA B fl_X13_9 dX13_count_49 hF (fun a49p hF => ?_)
    refine j_bipush (v := 42) B dX13_count_52 (by decide) ?_
    refine j_iaload B dX13_count_54 hF (fun i54 hF => ?_)
    exact j_lIw B rfl dX13_count_55 hF (by decide) (by decide)
  rw [if_neg t3_0] at hF
  by_cases t3_1 : x1 = 1
  · rw [if_pos t3_1] at hF
    refine j_tblIn (tgt := 56) B 1 dX13_count_3 t3_1 (by decide) rfl (by decide) ?_
    refine j_aload_n B dX13_count_56 rfl ?_
    refine j_getA B fl_X13_9 dX13_count_57 hF (fun a57p hF => ?_)
    refine j_bipush (v := 43) B dX13_count_60 (by decide) ?_
    refine j_iaload B dX13_count_62 hF (fun i62 hF => ?_)
    exact j_lIw B rfl dX13_count_63 hF (by decide) (by decide)
  rw [if_neg t3_1] at hF
  by_cases t3_2 : x1 = 2
  · rw [if_pos t3_2] at hF
    refine j_tblIn (tgt := 64) B 2 dX13_count_3 t3_2 (by decide) rfl (by decide) ?_
    refine j_aload_n B dX13_count_64 rfl ?_
    refine j_getA B fl_X13_9 dX13_count_65 hF (fun a65p hF => ?_)
    refine j_bipush (v := 44) B dX13_count_68 (by decide) ?_
    refine j_iaload B dX13_count_70 hF (fun i70 hF => ?_)
    exact j_lIw B rfl dX13_count_71 hF (by decide) (by decide)
  rw [if_neg t3_2] at hF
  by_cases t3_3 : x1 = 3
  · rw [if_pos t3_3] at hF
    refine j_tblIn (tgt := 72) B 3 dX13_count_3 t3_3 (by decide) rfl (by decide) ?_
    refine j_aload_n B dX13_count_72 rfl ?_
    refine j_iconst (v := 3) B dX13_count_73 (by decide) ?_
    obtain ⟨i74, e74, hF⟩ := bo hF
    refine j_rV (st2 := [.int i74]) B [.int 3] [] cv_X13_205 dX13_count_74 hl hR (ct_X13_ofAll G e74) rfl rfl rfl rfl trivial (Nat.le_of_ble_eq_true rfl) ?_
    exact j_lIw B rfl dX13_count_77 hF (by decide) (by decide)
  rw [if_neg t3_3] at hF
  by_cases t3_4 : x1 = 4
  · rw [if_pos t3_4] at hF
    refine j_tblIn (tgt := 78) B 4 dX13_count_3 t3_4 (by decide) rfl (by decide) ?_
    refine j_aload_n B dX13_count_78 rfl ?_
    refine j_iconst (v := 4) B dX13_count_79 (by decide) ?_
    obtain ⟨i80, e80, hF⟩ := bo hF
    refine j_rV (st2 := [.int i80]) B [.int 4] [] cv_X13_205 dX13_count_80 hl hR (ct_X13_ofAll G e80) rfl rfl rfl rfl trivial (Nat.le_of_ble_eq_true rfl) ?_
    exact j_lIw B rfl dX13_count_83 hF (by decide) (by decide)
  rw [if_neg t3_4] at hF
  by_cases t3_5 : x1 = 5
  · rw [if_pos t3_5] at hF
    refine j_tblIn (tgt := 84) B 5 dX13_count_3 t3_5 (by decide) rfl (by decide) ?_
    refine j_aload_n B dX13_count_84 rfl ?_
    refine j_getI B fl_X13_276 dX13_count_85 hF (fun i85 hF => ?_)
    exact j_lIw B rfl dX13_count_88 hF (by decide) (by decide)
  rw [if_neg t3_5] at hF
  by_cases t3_6 : x1 = 6
  · rw [if_pos t3_6] at hF
    refine j_tblIn (tgt := 89) B 6 dX13_count_3 t3_6 (by decide) rfl (by decide) ?_
    refine j_aload_n B dX13_count_89 rfl ?_
    refine j_getA B fl_X13_9 dX13_count_90 hF (fun a90p hF => ?_)
    refine j_bipush (v := 45) B dX13_count_93 (by decide) ?_
    refine j_iaload B dX13_count_95 hF (fun i95 hF => ?_)
    exact j_lIw B rfl dX13_count_96 hF (by decide) (by decide)
  rw [if_neg t3_6] at hF
  by_cases t3_7 : x1 = 7
  · rw [if_pos t3_7] at hF
    refine j_tblIn (tgt := 97) B 7 dX13_count_3 t3_7 (by decide) rfl (by decide) ?_
    refine j_iconst (v := 0) B dX13_count_97 (by decide) ?_
    refine j_istore_n (vs' := [some (va_rf a0), some (.int x1), some (.int 0), some (.int 0)]) B dX13_count_98 (by decide) rfl ?_
    refine j_msk [true, false, true, true] rfl ?_
    exact lp99 fu a0 0 0 w hF
  rw [if_neg t3_7] at hF
  refine j_tblOut (tgt := 133) B dX13_count_3 (tbl_out 0 7 (fun z h1 h2 => ?_)) (by decide) ?_
  · rcases (show z = 0 ∨ z = 1 ∨ z = 2 ∨ z = 3 ∨ z = 4 ∨ z = 5 ∨ z = 6 ∨ z = 7 by omega) with h | h | h | h | h | h | h | h
    · rw [h]; exact lv_neT t3_0 (by decide)
    · rw [h]; exact lv_neT t3_1 (by decide)
    · rw [h]; exact lv_neT t3_2 (by decide)
    · rw [h]; exact lv_neT t3_3 (by decide)
    · rw [h]; exact lv_neT t3_4 (by decide)
    · rw [h]; exact lv_neT t3_5 (by decide)
    · rw [h]; exact lv_neT t3_6 (by decide)
    · rw [h]; exact lv_neT t3_7 (by decide)
  refine j_aload_n B dX13_count_133 rfl ?_
  refine j_ldc (v := (-1000001)) B q1436 dX13_count_134 ?_
  obtain ⟨i136, w136, e136, hF⟩ := bc hF
  refine j_rV (st2 := [.int i136]) B [.int (-1000001)] [] cv_X13_92 dX13_count_136 hl hR (ct_X13_finding G e136) rfl rfl rfl rfl trivial (Nat.le_of_ble_eq_true rfl) ?_
  exact j_lIw B rfl dX13_count_139 hF (by decide) (by decide)
def F_X13_status (a0 : Option Nat) (x1 : Int32) (w : cH) : Option (Int32 × cH) :=
  if tg w a0 = some 13 then (if (F_X13_within x1 (-1) 6) = 0 then (cb (F_X13_finding a0 (-1000001) w) fun i24 w24 => some (i24, w24)) else ((fA w a0 13 4).bind fun a11p => (aI w a11p 100 (x1 + 1)).bind fun i17 => some (i17, w))) else none
abbrev rm_X13_status : Room := { frames := 1, cells := 0, slots := 0, locals := 22 }
set_option maxHeartbeats 4000000 in
set_option maxRecDepth 100000 in
theorem ct_X13_status {l : Launch} {g : Gt} (G : Gok g) {a0 : Option Nat} {x1 : Int32} {w : cH} {r9 : Int32} {w9 : cH} (hF : F_X13_status a0 x1 w = some (r9, w9)) : tg w a0 = some 13 ∧ Mx l yX13_status (ws_ yX13_status cX13_status 2 (some .int)) rm_X13_status g [va_rf a0, .int x1] w (.returned (some (.int r9))) w9 0 0 := by
  unfold F_X13_status at hF
  obtain ⟨ht, hF⟩ := bg hF
  refine ⟨ht, mk_ct cX13_status 2 (some .int) "CarryFairModel" (plainFor_of_name (by decide)) rfl (lg_le ⟨cr _, rfl, trivial⟩ (Nat.le_of_ble_eq_true rfl)) (av_ok ⟨cr _, rfl, trivial⟩) G (fun x B hl hR hin hh => ?_)⟩
  show J g x _ _ 0 0 w 0 0 0 [some (va_rf a0), some (.int x1)] []
  refine j_iload_n B dX13_status_0 rfl ?_
  refine j_iconst (v := (-1)) B dX13_status_1 (by decide) ?_
  refine j_bipush (v := 6) B dX13_status_2 (by decide) ?_
  refine j_rS (st2 := [.int (F_X13_within x1 (-1) 6)]) B [.int x1, .int (-1), .int 6] [] cs_X13_77 dX13_status_4 hl hR (ct_X13_within G) rfl rfl rfl rfl trivial (Nat.le_of_ble_eq_true rfl) ?_
  refine j_if_eq (tgt := 21) B dX13_status_7 (by decide) hF (fun h7 hF => ?_) (fun h7 hF => ?_)
  · refine j_aload_n B dX13_status_21 rfl ?_
    refine j_ldc (v := (-1000001)) B q1436 dX13_status_22 ?_
    obtain ⟨i24, w24, e24, hF⟩ := bc hF
    refine j_rV (st2 := [.int i24]) B [.int (-1000001)] [] cv_X13_92 dX13_status_24 hl hR (ct_X13_finding G e24) rfl rfl rfl rfl trivial (Nat.le_of_ble_eq_true rfl) ?_
    exact j_lIw B rfl dX13_status_27 hF (by decide) (by decide)
  · refine j_aload_n B dX13_status_10 rfl ?_
    refine j_getA B fl_X13_19 dX13_status_11 hF (fun a11p hF => ?_)
    refine j_iload_n B dX13_status_14 rfl ?_
    refine j_iconst (v := 1) B dX13_status_15 (by decide) ?_
    refine j_iadd B dX13_status_16 ?_
    refine j_iaload B dX13_status_17 hF (fun i17 hF => ?_)
    refine j_goto (tgt := 27) B dX13_status_18 (by decide) ?_
    exact j_lIw B rfl dX13_status_27 hF (by decide) (by decide)
