theorem cx_X2_85 : CX "CarryFair$Reader" 85 2 yX2_number (ws_ yX2_number cX2_number 4 (some .int)) 4 2 := ⟨⟨_, _, rfl⟩, q1158, q1160, qs56, q131, wsOk_code q1161, by decide +kernel, by decide +kernel⟩
def F_X2_behind (g : Gt) (a0 : Option Nat) (x1 : Int32) (x2 : Int32) (w : cH) : Option (Except Nat (Int32) × cH) :=
  if tg w a0 = some 2 then (xb (F_X2_next g a0 w) (fun a1t w1 => some (Except.error a1t, w1)) fun _ w1 => xb (F_X2_number g a0 x1 x2 w1) (fun a7t w7 => some (Except.error a7t, w7)) fun i7 w7 => some (Except.ok (i7), w7)) else none
abbrev rm_X2_behind : Room := { frames := 9, cells := 0, slots := 0, locals := 210 }
set_option maxHeartbeats 4000000 in
set_option maxRecDepth 100000 in
theorem ct_X2_behind {l : Launch} {g : Gt} (G : Gok g) {a0 : Option Nat} {x1 : Int32} {x2 : Int32} {w : cH} {r9 : Except Nat Int32} {w9 : cH} (hF : F_X2_behind g a0 x1 x2 w = some (r9, w9)) : tg w a0 = some 2 ∧ Mx l yX2_behind (ws_ yX2_behind cX2_behind 3 (some .int)) rm_X2_behind g [va_rf a0, .int x1, .int x2] w (oxI r9) w9 0 0 := by
  unfold F_X2_behind at hF
  obtain ⟨ht, hF⟩ := bg hF
  refine ⟨ht, mk_ct cX2_behind 3 (some .int) "CarryFair$Reader" (plainFor_of_name (by decide)) rfl (lg_le ⟨cr _, rfl, rfl, trivial⟩ (Nat.le_of_ble_eq_true rfl)) (av_ok ⟨cr _, rfl, rfl, trivial⟩) G (fun x B hl hR hin hh => ?_)⟩
  show J g x _ _ 0 0 w 0 0 0 [some (va_rf a0), some (.int x1), some (.int x2)] []
  refine j_aload_n B dX2_behind_0 rfl ?_
  rcases xbo hF with ⟨a1t, w1, e1, hF⟩ | ⟨_, w1, e1, hF⟩
  · refine j_rVT B [] [] cx_X2_82 dX2_behind_1 hl hR (ct_X2_next G e1) rfl rfl rfl trivial (Nat.le_of_ble_eq_true rfl) ?_
    exact jt_I B (Hh_nil hh) (by decide) hF (by decide) (by decide)
  refine j_rVX (st2 := []) B [] [] cx_X2_82 dX2_behind_1 hl hR (ct_X2_next G e1) rfl rfl rfl rfl trivial (Nat.le_of_ble_eq_true rfl) ?_
  refine j_aload_n B dX2_behind_4 rfl ?_
  refine j_iload_n B dX2_behind_5 rfl ?_
  refine j_iload_n B dX2_behind_6 rfl ?_
  rcases xbo hF with ⟨a7t, w7, e7, hF⟩ | ⟨i7, w7, e7, hF⟩
  · refine j_rVT B [.int x1, .int x2] [] cx_X2_85 dX2_behind_7 hl hR (ct_X2_number G e7) rfl rfl rfl trivial (Nat.le_of_ble_eq_true rfl) ?_
    exact jt_I B (Hh_nil hh) (by decide) hF (by decide) (by decide)
  refine j_rVX (st2 := [.int i7]) B [.int x1, .int x2] [] cx_X2_85 dX2_behind_7 hl hR (ct_X2_number G e7) rfl rfl rfl rfl trivial (Nat.le_of_ble_eq_true rfl) ?_
  exact j_xI B rfl dX2_behind_10 hF (by decide) (by decide)
def F_X2_unlike_J22 (g : Gt) (a0 : Option Nat) (s0 : Int32) (s1 : Option Nat) (w : cH) : Option (Except Nat (Int32) × cH) :=
  xb (F_X2_need s1 s0 w) (fun a22t w22 => some (Except.error a22t, w22)) fun _ w22 => xb (F_X2_number g a0 0 6 w22) (fun a29t w29 => some (Except.error a29t, w29)) fun i29 w29 => some (Except.ok (i29), w29)
def F_X2_unlike_J21 (g : Gt) (a0 : Option Nat) (s0 : Option Nat) (w : cH) : Option (Except Nat (Int32) × cH) :=
  F_X2_unlike_J22 g  a0 0 s0 w
def F_X2_unlike (g : Gt) (a0 : Option Nat) (x1 : Int32) (w : cH) : Option (Except Nat (Int32) × cH) :=
  if tg w a0 = some 2 then ((fI w a0 2 6).bind fun i2 =>if ¬ i2 = 1 then (F_X2_unlike_J21 g  a0 a0 w) else ((fI w a0 2 7).bind fun i10 =>if i10 = x1 then (F_X2_unlike_J21 g  a0 a0 w) else (F_X2_unlike_J22 g  a0 1 a0 w))) else none
abbrev rm_X2_unlike : Room := { frames := 9, cells := 0, slots := 0, locals := 210 }
set_option maxHeartbeats 4000000 in
set_option maxRecDepth 100000 in
theorem ct_X2_unlike {l : Launch} {g : Gt} (G : Gok g) {a0 : Option Nat} {x1 : Int32} {w : cH} {r9 : Except Nat Int32} {w9 : cH} (hF : F_X2_unlike g a0 x1 w = some (r9, w9)) : tg w a0 = some 2 ∧ Mx l yX2_unlike (ws_ yX2_unlike cX2_unlike 2 (some .int)) rm_X2_unlike g [va_rf a0, .int x1] w (oxI r9) w9 0 0 := by
  unfold F_X2_unlike at hF
  obtain ⟨ht, hF⟩ := bg hF
  refine ⟨ht, mk_ct cX2_unlike 2 (some .int) "CarryFair$Reader" (plainFor_of_name (by decide)) rfl (lg_le ⟨cr _, rfl, trivial⟩ (Nat.le_of_ble_eq_true rfl)) (av_ok ⟨cr _, rfl, trivial⟩) G (fun x B hl hR hin hh => ?_)⟩
  show J g x _ _ 0 0 w 0 0 0 [some (va_rf a0), some (.int x1)] []
  have jb22 : ∀ (a0 : Option Nat) (s0 : Int32) (s1 : Option Nat) (w : cH), F_X2_unlike_J22 g  a0 s0 s1 w = some (r9, w9) → J g x (oxI r9) w9 0 0 w 0 0 22 [some (va_rf a0), none] [.int s0, va_rf s1] := by
    intro a0 s0 s1 w hF
    unfold F_X2_unlike_J22 at hF
    rcases xbo hF with ⟨a22t, w22, e22, hF⟩ | ⟨_, w22, e22, hF⟩
    · refine j_rVT B [.int s0] [] cx_X2_63 dX2_unlike_22 hl hR (ct_X2_need G e22) rfl rfl rfl trivial (Nat.le_of_ble_eq_true rfl) ?_
      exact jt_I B (Hh_nil hh) (by decide) hF (by decide) (by decide)
    refine j_rVX (st2 := []) B [.int s0] [] cx_X2_63 dX2_unlike_22 hl hR (ct_X2_need G e22) rfl rfl rfl rfl trivial (Nat.le_of_ble_eq_true rfl) ?_
    refine j_aload_n B dX2_unlike_25 rfl ?_
    refine j_iconst (v := 0) B dX2_unlike_26 (by decide) ?_
    refine j_bipush (v := 6) B dX2_unlike_27 (by decide) ?_
    rcases xbo hF with ⟨a29t, w29, e29, hF⟩ | ⟨i29, w29, e29, hF⟩
    · refine j_rVT B [.int 0, .int 6] [] cx_X2_85 dX2_unlike_29 hl hR (ct_X2_number G e29) rfl rfl rfl trivial (Nat.le_of_ble_eq_true rfl) ?_
      exact jt_I B (Hh_nil hh) (by decide) hF (by decide) (by decide)
    refine j_rVX (st2 := [.int i29]) B [.int 0, .int 6] [] cx_X2_85 dX2_unlike_29 hl hR (ct_X2_number G e29) rfl rfl rfl rfl trivial (Nat.le_of_ble_eq_true rfl) ?_
    exact j_xI B rfl dX2_unlike_32 hF (by decide) (by decide)
  have jb21 : ∀ (a0 : Option Nat) (s0 : Option Nat) (w : cH), F_X2_unlike_J21 g  a0 s0 w = some (r9, w9) → J g x (oxI r9) w9 0 0 w 0 0 21 [some (va_rf a0), none] [va_rf s0] := by
    intro a0 s0 w hF
    unfold F_X2_unlike_J21 at hF
    refine j_iconst (v := 0) B dX2_unlike_21 (by decide) ?_
    exact jb22 a0 0 s0 w hF
  refine j_aload_n B dX2_unlike_0 rfl ?_
  refine j_aload_n B dX2_unlike_1 rfl ?_
  refine j_getI B fl_X2_47 dX2_unlike_2 hF (fun i2 hF => ?_)
  refine j_iconst (v := 1) B dX2_unlike_5 (by decide) ?_
  refine j_icmp_ne (tgt := 21) B dX2_unlike_6 (by decide) hF (fun h6 hF => ?_) (fun h6 hF => ?_)
  · refine j_msk [true, false] rfl ?_
    exact jb21 a0 a0 w hF
  · refine j_aload_n B dX2_unlike_9 rfl ?_
    refine j_getI B fl_X2_67 dX2_unlike_10 hF (fun i10 hF => ?_)
    refine j_iload_n B dX2_unlike_13 rfl ?_
    refine j_icmp_eq (tgt := 21) B dX2_unlike_14 (by decide) hF (fun h14 hF => ?_) (fun h14 hF => ?_)
    · refine j_msk [true, false] rfl ?_
      exact jb21 a0 a0 w hF
    · refine j_iconst (v := 1) B dX2_unlike_17 (by decide) ?_
      refine j_goto (tgt := 22) B dX2_unlike_18 (by decide) ?_
      refine j_msk [true, false] rfl ?_
      exact jb22 a0 1 a0 w hF
def F_X2_isWord (a0 : Option Nat) (x1 : Int32) (w : cH) : Option Int32 :=
  if tg w a0 = some 2 then ((fI w a0 2 6).bind fun i1 =>if ¬ i1 = 2 then (some (0)) else ((fI w a0 2 7).bind fun i9 =>if ¬ i9 = x1 then (some (0)) else (some (1)))) else none
abbrev rm_X2_isWord : Room := { frames := 0, cells := 0, slots := 0, locals := 0 }
set_option maxHeartbeats 4000000 in
set_option maxRecDepth 100000 in
theorem ct_X2_isWord {l : Launch} {g : Gt} (G : Gok g) {a0 : Option Nat} {x1 : Int32} {w : cH} {r9 : Int32} (hF : F_X2_isWord a0 x1 w = some r9) : tg w a0 = some 2 ∧ Mx l yX2_isWord (ws_ yX2_isWord cX2_isWord 2 (some .boolean)) rm_X2_isWord g [va_rf a0, .int x1] w (.returned (some (.int r9))) w 0 0 := by
  unfold F_X2_isWord at hF
  obtain ⟨ht, hF⟩ := bg hF
  refine ⟨ht, mk_ct cX2_isWord 2 (some .boolean) "CarryFair$Reader" (plainFor_of_name (by decide)) rfl (lg_le ⟨cr _, rfl, trivial⟩ (Nat.le_of_ble_eq_true rfl)) (av_ok ⟨cr _, rfl, trivial⟩) G (fun x B hl hR hin hh => ?_)⟩
  show J g x _ _ 0 0 w 0 0 0 [some (va_rf a0), some (.int x1)] []
  refine j_aload_n B dX2_isWord_0 rfl ?_
  refine j_getI B fl_X2_47 dX2_isWord_1 hF (fun i1 hF => ?_)
  refine j_iconst (v := 2) B dX2_isWord_4 (by decide) ?_
  refine j_icmp_ne (tgt := 20) B dX2_isWord_5 (by decide) hF (fun h5 hF => ?_) (fun h5 hF => ?_)
  · refine j_iconst (v := 0) B dX2_isWord_20 (by decide) ?_
    exact j_lZ B (by decide) rfl dX2_isWord_21 hF (by decide) (by decide)
  · refine j_aload_n B dX2_isWord_8 rfl ?_
    refine j_getI B fl_X2_67 dX2_isWord_9 hF (fun i9 hF => ?_)
    refine j_iload_n B dX2_isWord_12 rfl ?_
    refine j_icmp_ne (tgt := 20) B dX2_isWord_13 (by decide) hF (fun h13 hF => ?_) (fun h13 hF => ?_)
    · refine j_iconst (v := 0) B dX2_isWord_20 (by decide) ?_
      exact j_lZ B (by decide) rfl dX2_isWord_21 hF (by decide) (by decide)
    · refine j_iconst (v := 1) B dX2_isWord_16 (by decide) ?_
      refine j_goto (tgt := 21) B dX2_isWord_17 (by decide) ?_
      exact j_lZ B (by decide) rfl dX2_isWord_21 hF (by decide) (by decide)
theorem cx_X2_92 : CX "CarryFair$Reader" 92 2 yX2_behind (ws_ yX2_behind cX2_behind 3 (some .int)) 3 2 := ⟨⟨_, _, rfl⟩, q1154, q1156, qs55, q131, wsOk_code q1157, by decide +kernel, by decide +kernel⟩
theorem cv_X2_89 : CV "CarryFair$Reader" 89 2 yX2_isWord cX2_isWord 2 (some .boolean) 1 := ⟨_, _, rfl, lw_V q1170 q1172 qs59 q131 q1173, by decide +kernel⟩
def F_X2_after (g : Gt) (a0 : Option Nat) (x1 : Int32) (x2 : Int32) (x3 : Int32) (w : cH) : Option (Except Nat (Int32) × cH) :=
  if tg w a0 = some 2 then ((F_X2_isWord a0 x1 w).bind fun i3 => xb (F_X2_need a0 i3 w) (fun a6t w6 => some (Except.error a6t, w6)) fun _ w6 => xb (F_X2_behind g a0 x2 x3 w6) (fun a12t w12 => some (Except.error a12t, w12)) fun i12 w12 => some (Except.ok (i12), w12)) else none
abbrev rm_X2_after : Room := { frames := 10, cells := 0, slots := 0, locals := 232 }
set_option maxHeartbeats 4000000 in
set_option maxRecDepth 100000 in
theorem ct_X2_after {l : Launch} {g : Gt} (G : Gok g) {a0 : Option Nat} {x1 : Int32} {x2 : Int32} {x3 : Int32} {w : cH} {r9 : Except Nat Int32} {w9 : cH} (hF : F_X2_after g a0 x1 x2 x3 w = some (r9, w9)) : tg w a0 = some 2 ∧ Mx l yX2_after (ws_ yX2_after cX2_after 4 (some .int)) rm_X2_after g [va_rf a0, .int x1, .int x2, .int x3] w (oxI r9) w9 0 0 := by
  unfold F_X2_after at hF
  obtain ⟨ht, hF⟩ := bg hF
  refine ⟨ht, mk_ct cX2_after 4 (some .int) "CarryFair$Reader" (plainFor_of_name (by decide)) rfl (lg_le ⟨cr _, rfl, rfl, rfl, trivial⟩ (Nat.le_of_ble_eq_true rfl)) (av_ok ⟨cr _, rfl, rfl, rfl, trivial⟩) G (fun x B hl hR hin hh => ?_)⟩
  show J g x _ _ 0 0 w 0 0 0 [some (va_rf a0), some (.int x1), some (.int x2), some (.int x3)] []
  refine j_aload_n B dX2_after_0 rfl ?_
  refine j_aload_n B dX2_after_1 rfl ?_
  refine j_iload_n B dX2_after_2 rfl ?_
  obtain ⟨i3, e3, hF⟩ := bo hF
  refine j_rV (st2 := [.int i3, va_rf a0]) B [.int x1] [va_rf a0] cv_X2_89 dX2_after_3 hl hR (ct_X2_isWord G e3) rfl rfl rfl rfl ⟨cr _, trivial⟩ (Nat.le_of_ble_eq_true rfl) ?_
  rcases xbo hF with ⟨a6t, w6, e6, hF⟩ | ⟨_, w6, e6, hF⟩
  · refine j_rVT B [.int i3] [] cx_X2_63 dX2_after_6 hl hR (ct_X2_need G e6) rfl rfl rfl trivial (Nat.le_of_ble_eq_true rfl) ?_
    exact jt_I B (Hh_nil hh) (by decide) hF (by decide) (by decide)
  refine j_rVX (st2 := []) B [.int i3] [] cx_X2_63 dX2_after_6 hl hR (ct_X2_need G e6) rfl rfl rfl rfl trivial (Nat.le_of_ble_eq_true rfl) ?_
  refine j_aload_n B dX2_after_9 rfl ?_
  refine j_iload_n B dX2_after_10 rfl ?_
  refine j_iload_n B dX2_after_11 rfl ?_
  rcases xbo hF with ⟨a12t, w12, e12, hF⟩ | ⟨i12, w12, e12, hF⟩
  · refine j_rVT B [.int x2, .int x3] [] cx_X2_92 dX2_after_12 hl hR (ct_X2_behind G e12) rfl rfl rfl trivial (Nat.le_of_ble_eq_true rfl) ?_
    exact jt_I B (Hh_nil hh) (by decide) hF (by decide) (by decide)
  refine j_rVX (st2 := [.int i12]) B [.int x2, .int x3] [] cx_X2_92 dX2_after_12 hl hR (ct_X2_behind G e12) rfl rfl rfl rfl trivial (Nat.le_of_ble_eq_true rfl) ?_
  exact j_xI B rfl dX2_after_15 hF (by decide) (by decide)
theorem fl_X2_25 : FL "CarryFair$Reader" 25 2 2 := ⟨RX2, TX2, 8, rfl, by decide, in_X2, Or.inl q305⟩
theorem cx_X2_106 : CX "CarryFair$Reader" 106 2 yX2_unlike (ws_ yX2_unlike cX2_unlike 2 (some .int)) 2 1 := ⟨⟨_, _, rfl⟩, q1162, q1164, qs57, q131, wsOk_code q1165, by decide +kernel, by decide +kernel⟩
theorem cx_X2_109 : CX "CarryFair$Reader" 109 2 yX2_after (ws_ yX2_after cX2_after 4 (some .int)) 4 3 := ⟨⟨_, _, rfl⟩, q1166, q1168, qs58, q131, wsOk_code q1169, by decide +kernel, by decide +kernel⟩
theorem cv_X2_113 : CV "CarryFair$Reader" 113 4 yX4_lays cX4_lays 5 none 4 := ⟨_, _, rfl, lw_V q1174 q636 q637 q133 q638, by decide +kernel⟩
def F_X2_way_J58 (g : Gt) (s0 : Int32) (s1 : Int32) (s2 : Int32) (s3 : Int32) (s4 : Option Nat) (w : cH) : Option (Except Nat (Unit) × cH) :=
  (F_X4_lays s4 s3 s2 s1 s0 w).bind fun w58 => some (Except.ok (), w58)
def F_X2_way_J41 (g : Gt) (a0 : Option Nat) (x1 : Int32) (x2 : Int32) (x3 : Int32) (x4 : Int32) (w : cH) : Option (Except Nat (Unit) × cH) :=
  (fA w a0 2 2).bind fun a42p =>if x4 = 0 then (F_X2_way_J58 g  0 x3 x2 x1 a42p w) else (F_X2_way_J58 g  1 x3 x2 x1 a42p w)
def F_X2_way (g : Gt) (a0 : Option Nat) (w : cH) : Option (Except Nat (Unit) × cH) :=
  if tg w a0 = some 2 then (xb (F_X2_behind g a0 0 6 w) (fun a4t w4 => some (Except.error a4t, w4)) fun i4 w4 => xb (F_X2_unlike g a0 i4 w4) (fun a10t w10 => some (Except.error a10t, w10)) fun i10 w10 => xb (F_X2_after g a0 12 0 99 w10) (fun a20t w20 => some (Except.error a20t, w20)) fun i20 w20 => (F_X2_isWord a0 13 w20).bind fun i27 =>if i27 = 0 then (F_X2_way_J41 g  a0 i4 i10 i20 i27 w20) else (xb (F_X2_next g a0 w20) (fun a38t w38 => some (Except.error a38t, w38)) fun _ w38 => F_X2_way_J41 g  a0 i4 i10 i20 i27 w38)) else none
abbrev rm_X2_way : Room := { frames := 11, cells := 0, slots := 0, locals := 255 }
set_option maxHeartbeats 4000000 in
set_option maxRecDepth 100000 in
theorem ct_X2_way {l : Launch} {g : Gt} (G : Gok g) {a0 : Option Nat} {w : cH} {r9 : Except Nat Unit} {w9 : cH} (hF : F_X2_way g a0 w = some (r9, w9)) : tg w a0 = some 2 ∧ Mx l yX2_way (ws_ yX2_way cX2_way 5 none) rm_X2_way g [va_rf a0] w (oxV r9) w9 0 0 := by
  unfold F_X2_way at hF
  obtain ⟨ht, hF⟩ := bg hF
  refine ⟨ht, mk_ct cX2_way 5 none "CarryFair$Reader" (plainFor_of_name (by decide)) rfl (lg_le ⟨cr _, trivial⟩ (Nat.le_of_ble_eq_true rfl)) (av_ok ⟨cr _, trivial⟩) G (fun x B hl hR hin hh => ?_)⟩
  show J g x _ _ 0 0 w 0 0 0 [some (va_rf a0), none, none, none, none] []
  have jb58 : ∀ (s0 : Int32) (s1 : Int32) (s2 : Int32) (s3 : Int32) (s4 : Option Nat) (w : cH), F_X2_way_J58 g  s0 s1 s2 s3 s4 w = some (r9, w9) → J g x (oxV r9) w9 0 0 w 0 0 58 [none, none, none, none, none] [.int s0, .int s1, .int s2, .int s3, va_rf s4] := by
    intro s0 s1 s2 s3 s4 w hF
    unfold F_X2_way_J58 at hF
    obtain ⟨w58, e58, hF⟩ := bo hF
    refine j_rV (st2 := []) B [.int s3, .int s2, .int s1, .int s0] [] cv_X2_113 dX2_way_58 hl hR (ct_X4_lays G e58) rfl rfl rfl rfl trivial (Nat.le_of_ble_eq_true rfl) ?_
    exact j_xV B rfl dX2_way_61 hF (by decide) (by decide)
  have jb41 : ∀ (a0 : Option Nat) (x1 : Int32) (x2 : Int32) (x3 : Int32) (x4 : Int32) (w : cH), F_X2_way_J41 g  a0 x1 x2 x3 x4 w = some (r9, w9) → J g x (oxV r9) w9 0 0 w 0 0 41 [some (va_rf a0), some (.int x1), some (.int x2), some (.int x3), some (.int x4)] [] := by
    intro a0 x1 x2 x3 x4 w hF
    unfold F_X2_way_J41 at hF
    refine j_aload_n B dX2_way_41 rfl ?_
    refine j_getA B fl_X2_25 dX2_way_42 hF (fun a42p hF => ?_)
    refine j_iload_n B dX2_way_45 rfl ?_
    refine j_iload_n B dX2_way_46 rfl ?_
    refine j_iload_n B dX2_way_47 rfl ?_
    refine j_iload B dX2_way_48 rfl ?_
    refine j_if_eq (tgt := 57) B dX2_way_50 (by decide) hF (fun h50 hF => ?_) (fun h50 hF => ?_)
    · refine j_iconst (v := 0) B dX2_way_57 (by decide) ?_
      refine j_msk [false, false, false, false, false] rfl ?_
      exact jb58 0 x3 x2 x1 a42p w hF
    · refine j_iconst (v := 1) B dX2_way_53 (by decide) ?_
      refine j_goto (tgt := 58) B dX2_way_54 (by decide) ?_
      refine j_msk [false, false, false, false, false] rfl ?_
      exact jb58 1 x3 x2 x1 a42p w hF
  refine j_aload_n B dX2_way_0 rfl ?_
  refine j_iconst (v := 0) B dX2_way_1 (by decide) ?_
  refine j_bipush (v := 6) B dX2_way_2 (by decide) ?_
  rcases xbo hF with ⟨a4t, w4, e4, hF⟩ | ⟨i4, w4, e4, hF⟩
  · refine j_rVT B [.int 0, .int 6] [] cx_X2_92 dX2_way_4 hl hR (ct_X2_behind G e4) rfl rfl rfl trivial (Nat.le_of_ble_eq_true rfl) ?_
    exact jt_V B (Hh_nil hh) (by decide) hF (by decide) (by decide)
  refine j_rVX (st2 := [.int i4]) B [.int 0, .int 6] [] cx_X2_92 dX2_way_4 hl hR (ct_X2_behind G e4) rfl rfl rfl rfl trivial (Nat.le_of_ble_eq_true rfl) ?_
  refine j_istore_n (vs' := [some (va_rf a0), some (.int i4), none, none, none]) B dX2_way_7 (by decide) rfl ?_
  refine j_aload_n B dX2_way_8 rfl ?_
  refine j_iload_n B dX2_way_9 rfl ?_
  rcases xbo hF with ⟨a10t, w10, e10, hF⟩ | ⟨i10, w10, e10, hF⟩
  · refine j_rVT B [.int i4] [] cx_X2_106 dX2_way_10 hl hR (ct_X2_unlike G e10) rfl rfl rfl trivial (Nat.le_of_ble_eq_true rfl) ?_
    exact jt_V B (Hh_nil hh) (by decide) hF (by decide) (by decide)
  refine j_rVX (st2 := [.int i10]) B [.int i4] [] cx_X2_106 dX2_way_10 hl hR (ct_X2_unlike G e10) rfl rfl rfl rfl trivial (Nat.le_of_ble_eq_true rfl) ?_
  refine j_istore_n (vs' := [some (va_rf a0), some (.int i4), some (.int i10), none, none]) B dX2_way_13 (by decide) rfl ?_
  refine j_aload_n B dX2_way_14 rfl ?_
  refine j_bipush (v := 12) B dX2_way_15 (by decide) ?_
  refine j_iconst (v := 0) B dX2_way_17 (by decide) ?_
  refine j_bipush (v := 99) B dX2_way_18 (by decide) ?_
  rcases xbo hF with ⟨a20t, w20, e20, hF⟩ | ⟨i20, w20, e20, hF⟩
  · refine j_rVT B [.int 12, .int 0, .int 99] [] cx_X2_109 dX2_way_20 hl hR (ct_X2_after G e20) rfl rfl rfl trivial (Nat.le_of_ble_eq_true rfl) ?_
    exact jt_V B (Hh_nil hh) (by decide) hF (by decide) (by decide)
  refine j_rVX (st2 := [.int i20]) B [.int 12, .int 0, .int 99] [] cx_X2_109 dX2_way_20 hl hR (ct_X2_after G e20) rfl rfl rfl rfl trivial (Nat.le_of_ble_eq_true rfl) ?_
  refine j_istore_n (vs' := [some (va_rf a0), some (.int i4), some (.int i10), some (.int i20), none]) B dX2_way_23 (by decide) rfl ?_
  refine j_aload_n B dX2_way_24 rfl ?_
  refine j_bipush (v := 13) B dX2_way_25 (by decide) ?_
  obtain ⟨i27, e27, hF⟩ := bo hF
  refine j_rV (st2 := [.int i27]) B [.int 13] [] cv_X2_89 dX2_way_27 hl hR (ct_X2_isWord G e27) rfl rfl rfl rfl trivial (Nat.le_of_ble_eq_true rfl) ?_
  refine j_istore (vs' := [some (va_rf a0), some (.int i4), some (.int i10), some (.int i20), some (.int i27)]) B dX2_way_30 (by decide) rfl ?_
  refine j_iload B dX2_way_32 rfl ?_
  refine j_if_eq (tgt := 41) B dX2_way_34 (by decide) hF (fun h34 hF => ?_) (fun h34 hF => ?_)
  · exact jb41 a0 i4 i10 i20 i27 w20 hF
  · refine j_aload_n B dX2_way_37 rfl ?_
    rcases xbo hF with ⟨a38t, w38, e38, hF⟩ | ⟨_, w38, e38, hF⟩
    · refine j_rVT B [] [] cx_X2_82 dX2_way_38 hl hR (ct_X2_next G e38) rfl rfl rfl trivial (Nat.le_of_ble_eq_true rfl) ?_
      exact jt_V B (Hh_nil hh) (by decide) hF (by decide) (by decide)
    refine j_rVX (st2 := []) B [] [] cx_X2_82 dX2_way_38 hl hR (ct_X2_next G e38) rfl rfl rfl rfl trivial (Nat.le_of_ble_eq_true rfl) ?_
    exact jb41 a0 i4 i10 i20 i27 w38 hF
theorem fl_X2_117 : FL "CarryFair$Reader" 117 4 2 := ⟨RX4, TX4, 10, rfl, by decide, in_X4, Or.inr ⟨_, q263⟩⟩
theorem cv_X2_120 : CV "CarryFair$Reader" 120 4 yX4_addErrand cX4_addErrand 4 none 3 := ⟨_, _, rfl, lw_V q1179 q648 q649 q133 q650, by decide +kernel⟩
def F_X2_errand_J18 (g : Gt) (a0 : Option Nat) (s0 : Int32) (s1 : Option Nat) (w : cH) : Option (Except Nat (Unit) × cH) :=
  xb (F_X2_need s1 s0 w) (fun a18t w18 => some (Except.error a18t, w18)) fun _ w18 => xb (F_X2_behind g a0 1 60 w18) (fun a25t w25 => some (Except.error a25t, w25)) fun i25 w25 => xb (F_X2_after g a0 14 0 6 w25) (fun a35t w35 => some (Except.error a35t, w35)) fun i35 w35 => (F_X2_isWord a0 15 w35).bind fun i43 => xb (F_X2_need a0 i43 w35) (fun a46t w46 => some (Except.error a46t, w46)) fun _ w46 => xb (F_X2_next g a0 w46) (fun a50t w50 => some (Except.error a50t, w50)) fun _ w50 => (fA w50 a0 2 2).bind fun a54p => xb (F_X2_unlike g a0 i35 w50) (fun a61t w61 => some (Except.error a61t, w61)) fun i61 w61 => (F_X4_addErrand a54p i25 i35 i61 w61).bind fun w64 => some (Except.ok (), w64)
def F_X2_errand (g : Gt) (a0 : Option Nat) (w : cH) : Option (Except Nat (Unit) × cH) :=
  if tg w a0 = some 2 then ((fA w a0 2 2).bind fun a2p => (fI w a2p 4 2).bind fun i5 =>if 8 ≤ i5 then (F_X2_errand_J18 g  a0 0 a0 w) else (F_X2_errand_J18 g  a0 1 a0 w)) else none
abbrev rm_X2_errand : Room := { frames := 11, cells := 0, slots := 0, locals := 255 }
set_option maxHeartbeats 4000000 in
set_option maxRecDepth 100000 in
theorem ct_X2_errand {l : Launch} {g : Gt} (G : Gok g) {a0 : Option Nat} {w : cH} {r9 : Except Nat Unit} {w9 : cH} (hF : F_X2_errand g a0 w = some (r9, w9)) : tg w a0 = some 2 ∧ Mx l yX2_errand (ws_ yX2_errand cX2_errand 3 none) rm_X2_errand g [va_rf a0] w (oxV r9) w9 0 0 := by
  unfold F_X2_errand at hF
  obtain ⟨ht, hF⟩ := bg hF
  refine ⟨ht, mk_ct cX2_errand 3 none "CarryFair$Reader" (plainFor_of_name (by decide)) rfl (lg_le ⟨cr _, trivial⟩ (Nat.le_of_ble_eq_true rfl)) (av_ok ⟨cr _, trivial⟩) G (fun x B hl hR hin hh => ?_)⟩
  show J g x _ _ 0 0 w 0 0 0 [some (va_rf a0), none, none] []
  have jb18 : ∀ (a0 : Option Nat) (s0 : Int32) (s1 : Option Nat) (w : cH), F_X2_errand_J18 g  a0 s0 s1 w = some (r9, w9) → J g x (oxV r9) w9 0 0 w 0 0 18 [some (va_rf a0), none, none] [.int s0, va_rf s1] := by
    intro a0 s0 s1 w hF
    unfold F_X2_errand_J18 at hF
    rcases xbo hF with ⟨a18t, w18, e18, hF⟩ | ⟨_, w18, e18, hF⟩
    · refine j_rVT B [.int s0] [] cx_X2_63 dX2_errand_18 hl hR (ct_X2_need G e18) rfl rfl rfl trivial (Nat.le_of_ble_eq_true rfl) ?_
      exact jt_V B (Hh_nil hh) (by decide) hF (by decide) (by decide)
    refine j_rVX (st2 := []) B [.int s0] [] cx_X2_63 dX2_errand_18 hl hR (ct_X2_need G e18) rfl rfl rfl rfl trivial (Nat.le_of_ble_eq_true rfl) ?_
    refine j_aload_n B dX2_errand_21 rfl ?_
    refine j_iconst (v := 1) B dX2_errand_22 (by decide) ?_
    refine j_bipush (v := 60) B dX2_errand_23 (by decide) ?_
    rcases xbo hF with ⟨a25t, w25, e25, hF⟩ | ⟨i25, w25, e25, hF⟩
    · refine j_rVT B [.int 1, .int 60] [] cx_X2_92 dX2_errand_25 hl hR (ct_X2_behind G e25) rfl rfl rfl trivial (Nat.le_of_ble_eq_true rfl) ?_
      exact jt_V B (Hh_nil hh) (by decide) hF (by decide) (by decide)
    refine j_rVX (st2 := [.int i25]) B [.int 1, .int 60] [] cx_X2_92 dX2_errand_25 hl hR (ct_X2_behind G e25) rfl rfl rfl rfl trivial (Nat.le_of_ble_eq_true rfl) ?_
    refine j_istore_n (vs' := [some (va_rf a0), some (.int i25), none]) B dX2_errand_28 (by decide) rfl ?_
    refine j_aload_n B dX2_errand_29 rfl ?_
    refine j_bipush (v := 14) B dX2_errand_30 (by decide) ?_
    refine j_iconst (v := 0) B dX2_errand_32 (by decide) ?_
    refine j_bipush (v := 6) B dX2_errand_33 (by decide) ?_
    rcases xbo hF with ⟨a35t, w35, e35, hF⟩ | ⟨i35, w35, e35, hF⟩
    · refine j_rVT B [.int 14, .int 0, .int 6] [] cx_X2_109 dX2_errand_35 hl hR (ct_X2_after G e35) rfl rfl rfl trivial (Nat.le_of_ble_eq_true rfl) ?_
      exact jt_V B (Hh_nil hh) (by decide) hF (by decide) (by decide)
    refine j_rVX (st2 := [.int i35]) B [.int 14, .int 0, .int 6] [] cx_X2_109 dX2_errand_35 hl hR (ct_X2_after G e35) rfl rfl rfl rfl trivial (Nat.le_of_ble_eq_true rfl) ?_
    refine j_istore_n (vs' := [some (va_rf a0), some (.int i25), some (.int i35)]) B dX2_errand_38 (by decide) rfl ?_
    refine j_aload_n B dX2_errand_39 rfl ?_
    refine j_aload_n B dX2_errand_40 rfl ?_
    refine j_bipush (v := 15) B dX2_errand_41 (by decide) ?_
    obtain ⟨i43, e43, hF⟩ := bo hF
    refine j_rV (st2 := [.int i43, va_rf a0]) B [.int 15] [va_rf a0] cv_X2_89 dX2_errand_43 hl hR (ct_X2_isWord G e43) rfl rfl rfl rfl ⟨cr _, trivial⟩ (Nat.le_of_ble_eq_true rfl) ?_
    rcases xbo hF with ⟨a46t, w46, e46, hF⟩ | ⟨_, w46, e46, hF⟩
    · refine j_rVT B [.int i43] [] cx_X2_63 dX2_errand_46 hl hR (ct_X2_need G e46) rfl rfl rfl trivial (Nat.le_of_ble_eq_true rfl) ?_
      exact jt_V B (Hh_nil hh) (by decide) hF (by decide) (by decide)
    refine j_rVX (st2 := []) B [.int i43] [] cx_X2_63 dX2_errand_46 hl hR (ct_X2_need G e46) rfl rfl rfl rfl trivial (Nat.le_of_ble_eq_true rfl) ?_
    refine j_aload_n B dX2_errand_49 rfl ?_
    rcases xbo hF with ⟨a50t, w50, e50, hF⟩ | ⟨_, w50, e50, hF⟩
    · refine j_rVT B [] [] cx_X2_82 dX2_errand_50 hl hR (ct_X2_next G e50) rfl rfl rfl trivial (Nat.le_of_ble_eq_true rfl) ?_
      exact jt_V B (Hh_nil hh) (by decide) hF (by decide) (by decide)
    refine j_rVX (st2 := []) B [] [] cx_X2_82 dX2_errand_50 hl hR (ct_X2_next G e50) rfl rfl rfl rfl trivial (Nat.le_of_ble_eq_true rfl) ?_
    refine j_aload_n B dX2_errand_53 rfl ?_
    refine j_getA B fl_X2_25 dX2_errand_54 hF (fun a54p hF => ?_)
    refine j_iload_n B dX2_errand_57 rfl ?_
    refine j_iload_n B dX2_errand_58 rfl ?_
    refine j_aload_n B dX2_errand_59 rfl ?_
    refine j_iload_n B dX2_errand_60 rfl ?_
    rcases xbo hF with ⟨a61t, w61, e61, hF⟩ | ⟨i61, w61, e61, hF⟩
    · refine j_rVT B [.int i35] [.int i35, .int i25, va_rf a54p] cx_X2_106 dX2_errand_61 hl hR (ct_X2_unlike G e61) rfl rfl rfl ⟨rfl, rfl, cr _, trivial⟩ (Nat.le_of_ble_eq_true rfl) ?_
      exact jt_V B (Hh_nil hh) (by decide) hF (by decide) (by decide)
    refine j_rVX (st2 := [.int i61, .int i35, .int i25, va_rf a54p]) B [.int i35] [.int i35, .int i25, va_rf a54p] cx_X2_106 dX2_errand_61 hl hR (ct_X2_unlike G e61) rfl rfl rfl rfl ⟨rfl, rfl, cr _, trivial⟩ (Nat.le_of_ble_eq_true rfl) ?_
    obtain ⟨w64, e64, hF⟩ := bo hF
    refine j_rV (st2 := []) B [.int i25, .int i35, .int i61] [] cv_X2_120 dX2_errand_64 hl hR (ct_X4_addErrand G e64) rfl rfl rfl rfl trivial (Nat.le_of_ble_eq_true rfl) ?_
    exact j_xV B rfl dX2_errand_67 hF (by decide) (by decide)
  refine j_aload_n B dX2_errand_0 rfl ?_
  refine j_aload_n B dX2_errand_1 rfl ?_
  refine j_getA B fl_X2_25 dX2_errand_2 hF (fun a2p hF => ?_)
  refine j_getI B fl_X2_117 dX2_errand_5 hF (fun i5 hF => ?_)
  refine j_bipush (v := 8) B dX2_errand_8 (by decide) ?_
  refine j_icmp_ge (tgt := 17) B dX2_errand_10 (by decide) hF (fun h10 hF => ?_) (fun h10 hF => ?_)
  · refine j_iconst (v := 0) B dX2_errand_17 (by decide) ?_
    exact jb18 a0 0 a0 w hF
  · refine j_iconst (v := 1) B dX2_errand_13 (by decide) ?_
    refine j_goto (tgt := 18) B dX2_errand_14 (by decide) ?_
    exact jb18 a0 1 a0 w hF
theorem fl_X2_123 : FL "CarryFair$Reader" 123 4 4 := ⟨RX4, TX4, 10, rfl, by decide, in_X4, Or.inr ⟨_, q268⟩⟩
theorem cv_X2_126 : CV "CarryFair$Reader" 126 4 yX4_addWare cX4_addWare 2 none 1 := ⟨_, _, rfl, lw_V q1184 q719 q720 q133 q721, by decide +kernel⟩
def F_X2_ware_J18 (g : Gt) (a0 : Option Nat) (s0 : Int32) (s1 : Option Nat) (w : cH) : Option (Except Nat (Unit) × cH) :=
  xb (F_X2_need s1 s0 w) (fun a18t w18 => some (Except.error a18t, w18)) fun _ w18 => (fA w18 a0 2 2).bind fun a22p => xb (F_X2_behind g a0 1 9999 w18) (fun a30t w30 => some (Except.error a30t, w30)) fun i30 w30 => (F_X4_addWare a22p i30 w30).bind fun w33 => some (Except.ok (), w33)
def F_X2_ware (g : Gt) (a0 : Option Nat) (w : cH) : Option (Except Nat (Unit) × cH) :=
  if tg w a0 = some 2 then ((fA w a0 2 2).bind fun a2p => (fI w a2p 4 4).bind fun i5 =>if 6 ≤ i5 then (F_X2_ware_J18 g  a0 0 a0 w) else (F_X2_ware_J18 g  a0 1 a0 w)) else none
abbrev rm_X2_ware : Room := { frames := 10, cells := 0, slots := 0, locals := 232 }
set_option maxHeartbeats 4000000 in
set_option maxRecDepth 100000 in
theorem ct_X2_ware {l : Launch} {g : Gt} (G : Gok g) {a0 : Option Nat} {w : cH} {r9 : Except Nat Unit} {w9 : cH} (hF : F_X2_ware g a0 w = some (r9, w9)) : tg w a0 = some 2 ∧ Mx l yX2_ware (ws_ yX2_ware cX2_ware 1 none) rm_X2_ware g [va_rf a0] w (oxV r9) w9 0 0 := by
  unfold F_X2_ware at hF
  obtain ⟨ht, hF⟩ := bg hF
  refine ⟨ht, mk_ct cX2_ware 1 none "CarryFair$Reader" (plainFor_of_name (by decide)) rfl (lg_le ⟨cr _, trivial⟩ (Nat.le_of_ble_eq_true rfl)) (av_ok ⟨cr _, trivial⟩) G (fun x B hl hR hin hh => ?_)⟩
  show J g x _ _ 0 0 w 0 0 0 [some (va_rf a0)] []
  have jb18 : ∀ (a0 : Option Nat) (s0 : Int32) (s1 : Option Nat) (w : cH), F_X2_ware_J18 g  a0 s0 s1 w = some (r9, w9) → J g x (oxV r9) w9 0 0 w 0 0 18 [some (va_rf a0)] [.int s0, va_rf s1] := by
    intro a0 s0 s1 w hF
    unfold F_X2_ware_J18 at hF
    rcases xbo hF with ⟨a18t, w18, e18, hF⟩ | ⟨_, w18, e18, hF⟩
    · refine j_rVT B [.int s0] [] cx_X2_63 dX2_ware_18 hl hR (ct_X2_need G e18) rfl rfl rfl trivial (Nat.le_of_ble_eq_true rfl) ?_
      exact jt_V B (Hh_nil hh) (by decide) hF (by decide) (by decide)
    refine j_rVX (st2 := []) B [.int s0] [] cx_X2_63 dX2_ware_18 hl hR (ct_X2_need G e18) rfl rfl rfl rfl trivial (Nat.le_of_ble_eq_true rfl) ?_
    refine j_aload_n B dX2_ware_21 rfl ?_
    refine j_getA B fl_X2_25 dX2_ware_22 hF (fun a22p hF => ?_)
    refine j_aload_n B dX2_ware_25 rfl ?_
    refine j_iconst (v := 1) B dX2_ware_26 (by decide) ?_
    refine j_sipush (v := 9999) B dX2_ware_27 (by decide) ?_
    rcases xbo hF with ⟨a30t, w30, e30, hF⟩ | ⟨i30, w30, e30, hF⟩
    · refine j_rVT B [.int 1, .int 9999] [va_rf a22p] cx_X2_92 dX2_ware_30 hl hR (ct_X2_behind G e30) rfl rfl rfl ⟨cr _, trivial⟩ (Nat.le_of_ble_eq_true rfl) ?_
      exact jt_V B (Hh_nil hh) (by decide) hF (by decide) (by decide)
    refine j_rVX (st2 := [.int i30, va_rf a22p]) B [.int 1, .int 9999] [va_rf a22p] cx_X2_92 dX2_ware_30 hl hR (ct_X2_behind G e30) rfl rfl rfl rfl ⟨cr _, trivial⟩ (Nat.le_of_ble_eq_true rfl) ?_
    obtain ⟨w33, e33, hF⟩ := bo hF
    refine j_rV (st2 := []) B [.int i30] [] cv_X2_126 dX2_ware_33 hl hR (ct_X4_addWare G e33) rfl rfl rfl rfl trivial (Nat.le_of_ble_eq_true rfl) ?_
    exact j_xV B rfl dX2_ware_36 hF (by decide) (by decide)
  refine j_aload_n B dX2_ware_0 rfl ?_
  refine j_aload_n B dX2_ware_1 rfl ?_
  refine j_getA B fl_X2_25 dX2_ware_2 hF (fun a2p hF => ?_)
  refine j_getI B fl_X2_123 dX2_ware_5 hF (fun i5 hF => ?_)
  refine j_bipush (v := 6) B dX2_ware_8 (by decide) ?_
  refine j_icmp_ge (tgt := 17) B dX2_ware_10 (by decide) hF (fun h10 hF => ?_) (fun h10 hF => ?_)
  · refine j_iconst (v := 0) B dX2_ware_17 (by decide) ?_
    exact jb18 a0 0 a0 w hF
  · refine j_iconst (v := 1) B dX2_ware_13 (by decide) ?_
    refine j_goto (tgt := 18) B dX2_ware_14 (by decide) ?_
    exact jb18 a0 1 a0 w hF
def F_X2_perhaps (g : Gt) (a0 : Option Nat) (x1 : Int32) (x2 : Int32) (x3 : Int32) (x4 : Int32) (w : cH) : Option (Except Nat (Int32) × cH) :=
  if tg w a0 = some 2 then ((F_X2_isWord a0 x1 w).bind fun i2 =>if i2 = 0 then (some (Except.ok (x4), w)) else (xb (F_X2_behind g a0 x2 x3 w) (fun a11t w11 => some (Except.error a11t, w11)) fun i11 w11 => some (Except.ok (i11), w11))) else none
abbrev rm_X2_perhaps : Room := { frames := 10, cells := 0, slots := 0, locals := 232 }
set_option maxHeartbeats 4000000 in
set_option maxRecDepth 100000 in
theorem ct_X2_perhaps {l : Launch} {g : Gt} (G : Gok g) {a0 : Option Nat} {x1 : Int32} {x2 : Int32} {x3 : Int32} {x4 : Int32} {w : cH} {r9 : Except Nat Int32} {w9 : cH} (hF : F_X2_perhaps g a0 x1 x2 x3 x4 w = some (r9, w9)) : tg w a0 = some 2 ∧ Mx l yX2_perhaps (ws_ yX2_perhaps cX2_perhaps 5 (some .int)) rm_X2_perhaps g [va_rf a0, .int x1, .int x2, .int x3, .int x4] w (oxI r9) w9 0 0 := by
  unfold F_X2_perhaps at hF
  obtain ⟨ht, hF⟩ := bg hF
  refine ⟨ht, mk_ct cX2_perhaps 5 (some .int) "CarryFair$Reader" (plainFor_of_name (by decide)) rfl (lg_le ⟨cr _, rfl, rfl, rfl, rfl, trivial⟩ (Nat.le_of_ble_eq_true rfl)) (av_ok ⟨cr _, rfl, rfl, rfl, rfl, trivial⟩) G (fun x B hl hR hin hh => ?_)⟩
  show J g x _ _ 0 0 w 0 0 0 [some (va_rf a0), some (.int x1), some (.int x2), some (.int x3), some (.int x4)] []
  refine j_aload_n B dX2_perhaps_0 rfl ?_
  refine j_iload_n B dX2_perhaps_1 rfl ?_
  obtain ⟨i2, e2, hF⟩ := bo hF
  refine j_rV (st2 := [.int i2]) B [.int x1] [] cv_X2_89 dX2_perhaps_2 hl hR (ct_X2_isWord G e2) rfl rfl rfl rfl trivial (Nat.le_of_ble_eq_true rfl) ?_
  refine j_if_eq (tgt := 17) B dX2_perhaps_5 (by decide) hF (fun h5 hF => ?_) (fun h5 hF => ?_)
  · refine j_iload B dX2_perhaps_17 rfl ?_
    exact j_xI B rfl dX2_perhaps_19 hF (by decide) (by decide)
  · refine j_aload_n B dX2_perhaps_8 rfl ?_
    refine j_iload_n B dX2_perhaps_9 rfl ?_
    refine j_iload_n B dX2_perhaps_10 rfl ?_
    rcases xbo hF with ⟨a11t, w11, e11, hF⟩ | ⟨i11, w11, e11, hF⟩
    · refine j_rVT B [.int x2, .int x3] [] cx_X2_92 dX2_perhaps_11 hl hR (ct_X2_behind G e11) rfl rfl rfl trivial (Nat.le_of_ble_eq_true rfl) ?_
      exact jt_I B (Hh_nil hh) (by decide) hF (by decide) (by decide)
    refine j_rVX (st2 := [.int i11]) B [.int x2, .int x3] [] cx_X2_92 dX2_perhaps_11 hl hR (ct_X2_behind G e11) rfl rfl rfl rfl trivial (Nat.le_of_ble_eq_true rfl) ?_
    refine j_goto (tgt := 19) B dX2_perhaps_14 (by decide) ?_
    exact j_xI B rfl dX2_perhaps_19 hF (by decide) (by decide)
theorem fl_X2_95 : FL "CarryFair$Reader" 95 4 0 := ⟨RX4, TX4, 10, rfl, by decide, in_X4, Or.inr ⟨_, q256⟩⟩
theorem cx_X2_98 : CX "CarryFair$Reader" 98 2 yX2_perhaps (ws_ yX2_perhaps cX2_perhaps 5 (some .int)) 5 4 := ⟨⟨_, _, rfl⟩, q1189, q1191, qs63, q131, wsOk_code q1192, by decide +kernel, by decide +kernel⟩
theorem cv_X2_102 : CV "CarryFair$Reader" 102 4 yX4_addCarrier cX4_addCarrier 4 none 3 := ⟨_, _, rfl, lw_V q1193 q516 q517 q133 q518, by decide +kernel⟩
def F_X2_carrier_J18 (g : Gt) (a0 : Option Nat) (x1 : Int32) (s0 : Int32) (s1 : Option Nat) (w : cH) : Option (Except Nat (Unit) × cH) :=
  xb (F_X2_need s1 s0 w) (fun a18t w18 => some (Except.error a18t, w18)) fun _ w18 => xb (F_X2_next g a0 w18) (fun a22t w22 => some (Except.error a22t, w22)) fun _ w22 => xb (F_X2_perhaps g a0 10 0 6 0 w22) (fun a32t w32 => some (Except.error a32t, w32)) fun i32 w32 => (fA w32 a0 2 2).bind fun a37p => xb (F_X2_perhaps g a0 11 1 99 20 w32) (fun a50t w50 => some (Except.error a50t, w50)) fun i50 w50 => (F_X4_addCarrier a37p x1 i32 i50 w50).bind fun w53 => some (Except.ok (), w53)
def F_X2_carrier (g : Gt) (a0 : Option Nat) (x1 : Int32) (w : cH) : Option (Except Nat (Unit) × cH) :=
  if tg w a0 = some 2 then ((fA w a0 2 2).bind fun a2p => (fI w a2p 4 0).bind fun i5 =>if 6 ≤ i5 then (F_X2_carrier_J18 g  a0 x1 0 a0 w) else (F_X2_carrier_J18 g  a0 x1 1 a0 w)) else none
abbrev rm_X2_carrier : Room := { frames := 11, cells := 0, slots := 0, locals := 256 }
set_option maxHeartbeats 4000000 in
set_option maxRecDepth 100000 in
theorem ct_X2_carrier {l : Launch} {g : Gt} (G : Gok g) {a0 : Option Nat} {x1 : Int32} {w : cH} {r9 : Except Nat Unit} {w9 : cH} (hF : F_X2_carrier g a0 x1 w = some (r9, w9)) : tg w a0 = some 2 ∧ Mx l yX2_carrier (ws_ yX2_carrier cX2_carrier 3 none) rm_X2_carrier g [va_rf a0, .int x1] w (oxV r9) w9 0 0 := by
  unfold F_X2_carrier at hF
  obtain ⟨ht, hF⟩ := bg hF
  refine ⟨ht, mk_ct cX2_carrier 3 none "CarryFair$Reader" (plainFor_of_name (by decide)) rfl (lg_le ⟨cr _, rfl, trivial⟩ (Nat.le_of_ble_eq_true rfl)) (av_ok ⟨cr _, rfl, trivial⟩) G (fun x B hl hR hin hh => ?_)⟩
  show J g x _ _ 0 0 w 0 0 0 [some (va_rf a0), some (.int x1), none] []
  have jb18 : ∀ (a0 : Option Nat) (x1 : Int32) (s0 : Int32) (s1 : Option Nat) (w : cH), F_X2_carrier_J18 g  a0 x1 s0 s1 w = some (r9, w9) → J g x (oxV r9) w9 0 0 w 0 0 18 [some (va_rf a0), some (.int x1), none] [.int s0, va_rf s1] := by
    intro a0 x1 s0 s1 w hF
    unfold F_X2_carrier_J18 at hF
    rcases xbo hF with ⟨a18t, w18, e18, hF⟩ | ⟨_, w18, e18, hF⟩
    · refine j_rVT B [.int s0] [] cx_X2_63 dX2_carrier_18 hl hR (ct_X2_need G e18) rfl rfl rfl trivial (Nat.le_of_ble_eq_true rfl) ?_
      exact jt_V B (Hh_nil hh) (by decide) hF (by decide) (by decide)
    refine j_rVX (st2 := []) B [.int s0] [] cx_X2_63 dX2_carrier_18 hl hR (ct_X2_need G e18) rfl rfl rfl rfl trivial (Nat.le_of_ble_eq_true rfl) ?_
    refine j_aload_n B dX2_carrier_21 rfl ?_
    rcases xbo hF with ⟨a22t, w22, e22, hF⟩ | ⟨_, w22, e22, hF⟩
    · refine j_rVT B [] [] cx_X2_82 dX2_carrier_22 hl hR (ct_X2_next G e22) rfl rfl rfl trivial (Nat.le_of_ble_eq_true rfl) ?_
      exact jt_V B (Hh_nil hh) (by decide) hF (by decide) (by decide)
    refine j_rVX (st2 := []) B [] [] cx_X2_82 dX2_carrier_22 hl hR (ct_X2_next G e22) rfl rfl rfl rfl trivial (Nat.le_of_ble_eq_true rfl) ?_
    refine j_aload_n B dX2_carrier_25 rfl ?_
    refine j_bipush (v := 10) B dX2_carrier_26 (by decide) ?_
    refine j_iconst (v := 0) B dX2_carrier_28 (by decide) ?_
    refine j_bipush (v := 6) B dX2_carrier_29 (by decide) ?_
    refine j_iconst (v := 0) B dX2_carrier_31 (by decide) ?_
    rcases xbo hF with ⟨a32t, w32, e32, hF⟩ | ⟨i32, w32, e32, hF⟩
    · refine j_rVT B [.int 10, .int 0, .int 6, .int 0] [] cx_X2_98 dX2_carrier_32 hl hR (ct_X2_perhaps G e32) rfl rfl rfl trivial (Nat.le_of_ble_eq_true rfl) ?_
      exact jt_V B (Hh_nil hh) (by decide) hF (by decide) (by decide)
    refine j_rVX (st2 := [.int i32]) B [.int 10, .int 0, .int 6, .int 0] [] cx_X2_98 dX2_carrier_32 hl hR (ct_X2_perhaps G e32) rfl rfl rfl rfl trivial (Nat.le_of_ble_eq_true rfl) ?_
    refine j_istore_n (vs' := [some (va_rf a0), some (.int x1), some (.int i32)]) B dX2_carrier_35 (by decide) rfl ?_
    refine j_aload_n B dX2_carrier_36 rfl ?_
    refine j_getA B fl_X2_25 dX2_carrier_37 hF (fun a37p hF => ?_)
    refine j_iload_n B dX2_carrier_40 rfl ?_
    refine j_iload_n B dX2_carrier_41 rfl ?_
    refine j_aload_n B dX2_carrier_42 rfl ?_
    refine j_bipush (v := 11) B dX2_carrier_43 (by decide) ?_
    refine j_iconst (v := 1) B dX2_carrier_45 (by decide) ?_
    refine j_bipush (v := 99) B dX2_carrier_46 (by decide) ?_
    refine j_bipush (v := 20) B dX2_carrier_48 (by decide) ?_
    rcases xbo hF with ⟨a50t, w50, e50, hF⟩ | ⟨i50, w50, e50, hF⟩
    · refine j_rVT B [.int 11, .int 1, .int 99, .int 20] [.int i32, .int x1, va_rf a37p] cx_X2_98 dX2_carrier_50 hl hR (ct_X2_perhaps G e50) rfl rfl rfl ⟨rfl, rfl, cr _, trivial⟩ (Nat.le_of_ble_eq_true rfl) ?_
      exact jt_V B (Hh_nil hh) (by decide) hF (by decide) (by decide)
    refine j_rVX (st2 := [.int i50, .int i32, .int x1, va_rf a37p]) B [.int 11, .int 1, .int 99, .int 20] [.int i32, .int x1, va_rf a37p] cx_X2_98 dX2_carrier_50 hl hR (ct_X2_perhaps G e50) rfl rfl rfl rfl ⟨rfl, rfl, cr _, trivial⟩ (Nat.le_of_ble_eq_true rfl) ?_
    obtain ⟨w53, e53, hF⟩ := bo hF
    refine j_rV (st2 := []) B [.int x1, .int i32, .int i50] [] cv_X2_102 dX2_carrier_53 hl hR (ct_X4_addCarrier G e53) rfl rfl rfl rfl trivial (Nat.le_of_ble_eq_true rfl) ?_
    exact j_xV B rfl dX2_carrier_56 hF (by decide) (by decide)
  refine j_aload_n B dX2_carrier_0 rfl ?_
  refine j_aload_n B dX2_carrier_1 rfl ?_
  refine j_getA B fl_X2_25 dX2_carrier_2 hF (fun a2p hF => ?_)
  refine j_getI B fl_X2_95 dX2_carrier_5 hF (fun i5 hF => ?_)
  refine j_bipush (v := 6) B dX2_carrier_8 (by decide) ?_
  refine j_icmp_ge (tgt := 17) B dX2_carrier_10 (by decide) hF (fun h10 hF => ?_) (fun h10 hF => ?_)
  · refine j_iconst (v := 0) B dX2_carrier_17 (by decide) ?_
    exact jb18 a0 x1 0 a0 w hF
  · refine j_iconst (v := 1) B dX2_carrier_13 (by decide) ?_
    refine j_goto (tgt := 18) B dX2_carrier_14 (by decide) ?_
    exact jb18 a0 x1 1 a0 w hF
theorem cx_X2_130 : CX "CarryFair$Reader" 130 2 yX2_way (ws_ yX2_way cX2_way 5 none) 5 0 := ⟨⟨_, _, rfl⟩, q1150, q1152, qs54, q131, wsOk_code q1153, by decide +kernel, by decide +kernel⟩
theorem cx_X2_133 : CX "CarryFair$Reader" 133 2 yX2_errand (ws_ yX2_errand cX2_errand 3 none) 3 0 := ⟨⟨_, _, rfl⟩, q1175, q1177, qs60, q131, wsOk_code q1178, by decide +kernel, by decide +kernel⟩
theorem cx_X2_136 : CX "CarryFair$Reader" 136 2 yX2_ware (ws_ yX2_ware cX2_ware 1 none) 1 0 := ⟨⟨_, _, rfl⟩, q1180, q1182, qs61, q131, wsOk_code q1183, by decide +kernel, by decide +kernel⟩
theorem cx_X2_139 : CX "CarryFair$Reader" 139 2 yX2_carrier (ws_ yX2_carrier cX2_carrier 3 none) 3 1 := ⟨⟨_, _, rfl⟩, q1185, q1187, qs62, q131, wsOk_code q1188, by decide +kernel, by decide +kernel⟩
def F_X2_item_J23 (g : Gt) (a0 : Option Nat) (s0 : Int32) (s1 : Option Nat) (w : cH) : Option (Except Nat (Unit) × cH) :=
  xb (F_X2_need s1 s0 w) (fun a23t w23 => some (Except.error a23t, w23)) fun _ w23 => (fI w23 a0 2 7).bind fun i27 => if i27 = 7 then (xb (F_X2_way g a0 w23) (fun a57t w57 => some (Except.error a57t, w57)) fun _ w57 => some (Except.ok (), w57)) else if i27 = 8 then (xb (F_X2_errand g a0 w23) (fun a64t w64 => some (Except.error a64t, w64)) fun _ w64 => some (Except.ok (), w64)) else if i27 = 9 then (xb (F_X2_ware g a0 w23) (fun a71t w71 => some (Except.error a71t, w71)) fun _ w71 => some (Except.ok (), w71)) else ((fI w23 a0 2 7).bind fun i79 => xb (F_X2_carrier g a0 i79 w23) (fun a82t w82 => some (Except.error a82t, w82)) fun _ w82 => some (Except.ok (), w82))
def F_X2_item_J22 (g : Gt) (a0 : Option Nat) (s0 : Option Nat) (w : cH) : Option (Except Nat (Unit) × cH) :=
  F_X2_item_J23 g  a0 0 s0 w
def F_X2_item (g : Gt) (a0 : Option Nat) (w : cH) : Option (Except Nat (Unit) × cH) :=
  if tg w a0 = some 2 then ((fI w a0 2 6).bind fun i2 =>if ¬ i2 = 2 then (F_X2_item_J22 g  a0 a0 w) else ((fI w a0 2 7).bind fun i10 =>if 9 < i10 then (F_X2_item_J22 g  a0 a0 w) else (F_X2_item_J23 g  a0 1 a0 w))) else none
abbrev rm_X2_item : Room := { frames := 12, cells := 0, slots := 0, locals := 279 }
set_option maxHeartbeats 4000000 in
set_option maxRecDepth 100000 in
theorem ct_X2_item {l : Launch} {g : Gt} (G : Gok g) {a0 : Option Nat} {w : cH} {r9 : Except Nat Unit} {w9 : cH} (hF : F_X2_item g a0 w = some (r9, w9)) : tg w a0 = some 2 ∧ Mx l yX2_item (ws_ yX2_item cX2_item 1 none) rm_X2_item g [va_rf a0] w (oxV r9) w9 0 0 := by
  unfold F_X2_item at hF
  obtain ⟨ht, hF⟩ := bg hF
  refine ⟨ht, mk_ct cX2_item 1 none "CarryFair$Reader" (plainFor_of_name (by decide)) rfl (lg_le ⟨cr _, trivial⟩ (Nat.le_of_ble_eq_true rfl)) (av_ok ⟨cr _, trivial⟩) G (fun x B hl hR hin hh => ?_)⟩
  show J g x _ _ 0 0 w 0 0 0 [some (va_rf a0)] []
  have jb23 : ∀ (a0 : Option Nat) (s0 : Int32) (s1 : Option Nat) (w : cH), F_X2_item_J23 g  a0 s0 s1 w = some (r9, w9) → J g x (oxV r9) w9 0 0 w 0 0 23 [some (va_rf a0)] [.int s0, va_rf s1] := by
    intro a0 s0 s1 w hF
    unfold F_X2_item_J23 at hF
    rcases xbo hF with ⟨a23t, w23, e23, hF⟩ | ⟨_, w23, e23, hF⟩
    · refine j_rVT B [.int s0] [] cx_X2_63 dX2_item_23 hl hR (ct_X2_need G e23) rfl rfl rfl trivial (Nat.le_of_ble_eq_true rfl) ?_
      exact jt_V B (Hh_nil hh) (by decide) hF (by decide) (by decide)
    refine j_rVX (st2 := []) B [.int s0] [] cx_X2_63 dX2_item_23 hl hR (ct_X2_need G e23) rfl rfl rfl rfl trivial (Nat.le_of_ble_eq_true rfl) ?_
    refine j_aload_n B dX2_item_26 rfl ?_
    refine j_getI B fl_X2_67 dX2_item_27 hF (fun i27 hF => ?_)
    by_cases t30_0 : i27 = 7
    · rw [if_pos t30_0] at hF
      refine j_tblIn (tgt := 56) B 7 dX2_item_30 t30_0 (by decide) rfl (by decide) ?_
      refine j_aload_n B dX2_item_56 rfl ?_
      rcases xbo hF with ⟨a57t, w57, e57, hF⟩ | ⟨_, w57, e57, hF⟩
      · refine j_rVT B [] [] cx_X2_130 dX2_item_57 hl hR (ct_X2_way G e57) rfl rfl rfl trivial (Nat.le_of_ble_eq_true rfl) ?_
        exact jt_V B (Hh_nil hh) (by decide) hF (by decide) (by decide)
      refine j_rVX (st2 := []) B [] [] cx_X2_130 dX2_item_57 hl hR (ct_X2_way G e57) rfl rfl rfl rfl trivial (Nat.le_of_ble_eq_true rfl) ?_
      refine j_goto (tgt := 85) B dX2_item_60 (by decide) ?_
      exact j_xV B rfl dX2_item_85 hF (by decide) (by decide)
    rw [if_neg t30_0] at hF
    by_cases t30_1 : i27 = 8
    · rw [if_pos t30_1] at hF
      refine j_tblIn (tgt := 63) B 8 dX2_item_30 t30_1 (by decide) rfl (by decide) ?_
      refine j_aload_n B dX2_item_63 rfl ?_
      rcases xbo hF with ⟨a64t, w64, e64, hF⟩ | ⟨_, w64, e64, hF⟩
      · refine j_rVT B [] [] cx_X2_133 dX2_item_64 hl hR (ct_X2_errand G e64) rfl rfl rfl trivial (Nat.le_of_ble_eq_true rfl) ?_
        exact jt_V B (Hh_nil hh) (by decide) hF (by decide) (by decide)
      refine j_rVX (st2 := []) B [] [] cx_X2_133 dX2_item_64 hl hR (ct_X2_errand G e64) rfl rfl rfl rfl trivial (Nat.le_of_ble_eq_true rfl) ?_
      refine j_goto (tgt := 85) B dX2_item_67 (by decide) ?_
      exact j_xV B rfl dX2_item_85 hF (by decide) (by decide)
    rw [if_neg t30_1] at hF
    by_cases t30_2 : i27 = 9
    · rw [if_pos t30_2] at hF
      refine j_tblIn (tgt := 70) B 9 dX2_item_30 t30_2 (by decide) rfl (by decide) ?_
      refine j_aload_n B dX2_item_70 rfl ?_
      rcases xbo hF with ⟨a71t, w71, e71, hF⟩ | ⟨_, w71, e71, hF⟩
      · refine j_rVT B [] [] cx_X2_136 dX2_item_71 hl hR (ct_X2_ware G e71) rfl rfl rfl trivial (Nat.le_of_ble_eq_true rfl) ?_
        exact jt_V B (Hh_nil hh) (by decide) hF (by decide) (by decide)
      refine j_rVX (st2 := []) B [] [] cx_X2_136 dX2_item_71 hl hR (ct_X2_ware G e71) rfl rfl rfl rfl trivial (Nat.le_of_ble_eq_true rfl) ?_
      refine j_goto (tgt := 85) B dX2_item_74 (by decide) ?_
      exact j_xV B rfl dX2_item_85 hF (by decide) (by decide)
    rw [if_neg t30_2] at hF
    refine j_tblOut (tgt := 77) B dX2_item_30 (tbl_out 7 9 (fun z h1 h2 => ?_)) (by decide) ?_
    · rcases (show z = 7 ∨ z = 8 ∨ z = 9 by omega) with h | h | h
      · rw [h]; exact lv_neT t30_0 (by decide)
      · rw [h]; exact lv_neT t30_1 (by decide)
      · rw [h]; exact lv_neT t30_2 (by decide)
    refine j_aload_n B dX2_item_77 rfl ?_
    refine j_aload_n B dX2_item_78 rfl ?_
    refine j_getI B fl_X2_67 dX2_item_79 hF (fun i79 hF => ?_)
    rcases xbo hF with ⟨a82t, w82, e82, hF⟩ | ⟨_, w82, e82, hF⟩
    · refine j_rVT B [.int i79] [] cx_X2_139 dX2_item_82 hl hR (ct_X2_carrier G e82) rfl rfl rfl trivial (Nat.le_of_ble_eq_true rfl) ?_
      exact jt_V B (Hh_nil hh) (by decide) hF (by decide) (by decide)
    refine j_rVX (st2 := []) B [.int i79] [] cx_X2_139 dX2_item_82 hl hR (ct_X2_carrier G e82) rfl rfl rfl rfl trivial (Nat.le_of_ble_eq_true rfl) ?_
    exact j_xV B rfl dX2_item_85 hF (by decide) (by decide)
  have jb22 : ∀ (a0 : Option Nat) (s0 : Option Nat) (w : cH), F_X2_item_J22 g  a0 s0 w = some (r9, w9) → J g x (oxV r9) w9 0 0 w 0 0 22 [some (va_rf a0)] [va_rf s0] := by
    intro a0 s0 w hF
    unfold F_X2_item_J22 at hF
    refine j_iconst (v := 0) B dX2_item_22 (by decide) ?_
    exact jb23 a0 0 s0 w hF
  refine j_aload_n B dX2_item_0 rfl ?_
  refine j_aload_n B dX2_item_1 rfl ?_
  refine j_getI B fl_X2_47 dX2_item_2 hF (fun i2 hF => ?_)
  refine j_iconst (v := 2) B dX2_item_5 (by decide) ?_
  refine j_icmp_ne (tgt := 22) B dX2_item_6 (by decide) hF (fun h6 hF => ?_) (fun h6 hF => ?_)
  · exact jb22 a0 a0 w hF
  · refine j_aload_n B dX2_item_9 rfl ?_
    refine j_getI B fl_X2_67 dX2_item_10 hF (fun i10 hF => ?_)
    refine j_bipush (v := 9) B dX2_item_13 (by decide) ?_
    refine j_icmp_gt (tgt := 22) B dX2_item_15 (by decide) hF (fun h15 hF => ?_) (fun h15 hF => ?_)
    · exact jb22 a0 a0 w hF
    · refine j_iconst (v := 1) B dX2_item_18 (by decide) ?_
      refine j_goto (tgt := 23) B dX2_item_19 (by decide) ?_
      exact jb23 a0 1 a0 w hF
theorem cx_X2_142 : CX "CarryFair$Reader" 142 2 yX2_item (ws_ yX2_item cX2_item 1 none) 1 0 := ⟨⟨_, _, rfl⟩, q1146, q1148, qs53, q131, wsOk_code q1149, by decide +kernel, by decide +kernel⟩
def F_X2_whole_J50 (g : Gt) (x1 : Int32) (s0 : Int32) (s1 : Option Nat) (w : cH) : Option (Except Nat (Int32) × cH) :=
  xb (F_X2_need s1 s0 w) (fun a50t w50 => some (Except.error a50t, w50)) fun _ w50 => some (Except.ok (x1), w50)
def F_X2_whole_B15 (g : Gt) (rc15 : Option Nat → Int32 → cH → Option (Except Nat (Int32) × cH)) (a0 : Option Nat) (x1 : Int32) (w : cH) : Option (Except Nat (Int32) × cH) :=
  (fI w a0 2 6).bind fun i16 =>if ¬ i16 = 3 then ((fI w a0 2 6).bind fun i39 =>if ¬ i39 = 0 then (F_X2_whole_J50 g  x1 0 a0 w) else (F_X2_whole_J50 g  x1 1 a0 w)) else (xb (F_X2_next g a0 w) (fun a24t w24 => some (Except.error a24t, w24)) fun _ w24 => xb (F_X2_item g a0 w24) (fun a28t w28 => some (Except.error a28t, w28)) fun _ w28 => rc15 a0 (x1 + 1) w28)
def F_X2_whole_L15 (g : Gt) : Nat → Option Nat → Int32 → cH → Option (Except Nat (Int32) × cH)
  | 0, _, _, _ => none
  | n9 + 1, a0, x1, w => F_X2_whole_B15 g  (F_X2_whole_L15 g  n9) a0 x1 w
def F_X2_whole (g : Gt) (a0 : Option Nat) (w : cH) : Option (Except Nat (Int32) × cH) :=
  if tg w a0 = some 2 then ((pV w a0 2 4 (.int 0)).bind fun w2 => xb (F_X2_next g a0 w2) (fun a6t w6 => some (Except.error a6t, w6)) fun _ w6 => xb (F_X2_item g a0 w6) (fun a10t w10 => some (Except.error a10t, w10)) fun _ w10 => F_X2_whole_L15 g  fu a0 1 w10) else none
abbrev rm_X2_whole : Room := { frames := 13, cells := 0, slots := 0, locals := 299 }
set_option maxHeartbeats 4000000 in
set_option maxRecDepth 100000 in
theorem ct_X2_whole {l : Launch} {g : Gt} (G : Gok g) {a0 : Option Nat} {w : cH} {r9 : Except Nat Int32} {w9 : cH} (hF : F_X2_whole g a0 w = some (r9, w9)) : tg w a0 = some 2 ∧ Mx l yX2_whole (ws_ yX2_whole cX2_whole 2 (some .int)) rm_X2_whole g [va_rf a0] w (oxI r9) w9 0 0 := by
  unfold F_X2_whole at hF
  obtain ⟨ht, hF⟩ := bg hF
  refine ⟨ht, mk_ct cX2_whole 2 (some .int) "CarryFair$Reader" (plainFor_of_name (by decide)) rfl (lg_le ⟨cr _, trivial⟩ (Nat.le_of_ble_eq_true rfl)) (av_ok ⟨cr _, trivial⟩) G (fun x B hl hR hin hh => ?_)⟩
  show J g x _ _ 0 0 w 0 0 0 [some (va_rf a0), none] []
  have jb50 : ∀ (x1 : Int32) (s0 : Int32) (s1 : Option Nat) (w : cH), F_X2_whole_J50 g  x1 s0 s1 w = some (r9, w9) → J g x (oxI r9) w9 0 0 w 0 0 50 [none, some (.int x1)] [.int s0, va_rf s1] := by
    intro x1 s0 s1 w hF
    unfold F_X2_whole_J50 at hF
    rcases xbo hF with ⟨a50t, w50, e50, hF⟩ | ⟨_, w50, e50, hF⟩
    · refine j_rVT B [.int s0] [] cx_X2_63 dX2_whole_50 hl hR (ct_X2_need G e50) rfl rfl rfl trivial (Nat.le_of_ble_eq_true rfl) ?_
      exact jt_I B (Hh_nil hh) (by decide) hF (by decide) (by decide)
    refine j_rVX (st2 := []) B [.int s0] [] cx_X2_63 dX2_whole_50 hl hR (ct_X2_need G e50) rfl rfl rfl rfl trivial (Nat.le_of_ble_eq_true rfl) ?_
    refine j_iload_n B dX2_whole_53 rfl ?_
    exact j_xI B rfl dX2_whole_54 hF (by decide) (by decide)
  have lp15 : ∀ (n9 : Nat) (a0 : Option Nat) (x1 : Int32) (w : cH), F_X2_whole_L15 g  n9 a0 x1 w = some (r9, w9) → J g x (oxI r9) w9 0 0 w 0 0 15 [some (va_rf a0), some (.int x1)] [] := by
    intro n9
    induction n9 with
    | zero => intro a0 x1 w hF; cases hF
    | succ n15 ih15 =>
      intro a0 x1 w hF
      have hF : F_X2_whole_B15 g  (F_X2_whole_L15 g  n15) a0 x1 w = some (r9, w9) := hF
      unfold F_X2_whole_B15 at hF
      refine j_aload_n B dX2_whole_15 rfl ?_
      refine j_getI B fl_X2_47 dX2_whole_16 hF (fun i16 hF => ?_)
      refine j_iconst (v := 3) B dX2_whole_19 (by decide) ?_
      refine j_icmp_ne (tgt := 37) B dX2_whole_20 (by decide) hF (fun h20 hF => ?_) (fun h20 hF => ?_)
      · refine j_aload_n B dX2_whole_37 rfl ?_
        refine j_aload_n B dX2_whole_38 rfl ?_
        refine j_getI B fl_X2_47 dX2_whole_39 hF (fun i39 hF => ?_)
        refine j_if_ne (tgt := 49) B dX2_whole_42 (by decide) hF (fun h42 hF => ?_) (fun h42 hF => ?_)
        · refine j_iconst (v := 0) B dX2_whole_49 (by decide) ?_
          refine j_msk [false, true] rfl ?_
          exact jb50 x1 0 a0 w hF
        · refine j_iconst (v := 1) B dX2_whole_45 (by decide) ?_
          refine j_goto (tgt := 50) B dX2_whole_46 (by decide) ?_
          refine j_msk [false, true] rfl ?_
          exact jb50 x1 1 a0 w hF
      · refine j_aload_n B dX2_whole_23 rfl ?_
        rcases xbo hF with ⟨a24t, w24, e24, hF⟩ | ⟨_, w24, e24, hF⟩
        · refine j_rVT B [] [] cx_X2_82 dX2_whole_24 hl hR (ct_X2_next G e24) rfl rfl rfl trivial (Nat.le_of_ble_eq_true rfl) ?_
          exact jt_I B (Hh_nil hh) (by decide) hF (by decide) (by decide)
        refine j_rVX (st2 := []) B [] [] cx_X2_82 dX2_whole_24 hl hR (ct_X2_next G e24) rfl rfl rfl rfl trivial (Nat.le_of_ble_eq_true rfl) ?_
        refine j_aload_n B dX2_whole_27 rfl ?_
        rcases xbo hF with ⟨a28t, w28, e28, hF⟩ | ⟨_, w28, e28, hF⟩
        · refine j_rVT B [] [] cx_X2_142 dX2_whole_28 hl hR (ct_X2_item G e28) rfl rfl rfl trivial (Nat.le_of_ble_eq_true rfl) ?_
          exact jt_I B (Hh_nil hh) (by decide) hF (by decide) (by decide)
        refine j_rVX (st2 := []) B [] [] cx_X2_142 dX2_whole_28 hl hR (ct_X2_item G e28) rfl rfl rfl rfl trivial (Nat.le_of_ble_eq_true rfl) ?_
        refine j_iinc (v := x1 + 1) (vs' := [some (va_rf a0), some (.int (x1 + 1))]) B dX2_whole_31 (by decide) rfl rfl rfl ?_
        refine j_goto (tgt := 15) B dX2_whole_34 (by decide) ?_
        exact ih15 a0 (x1 + 1) w28 hF
  refine j_aload_n B dX2_whole_0 rfl ?_
  refine j_iconst (v := 0) B dX2_whole_1 (by decide) ?_
  refine j_putV B fp_X2_37 (fun h => by cases h) rfl rfl dX2_whole_2 hF (fun w2 hF => ?_)
  refine j_aload_n B dX2_whole_5 rfl ?_
  rcases xbo hF with ⟨a6t, w6, e6, hF⟩ | ⟨_, w6, e6, hF⟩
  · refine j_rVT B [] [] cx_X2_82 dX2_whole_6 hl hR (ct_X2_next G e6) rfl rfl rfl trivial (Nat.le_of_ble_eq_true rfl) ?_
    exact jt_I B (Hh_nil hh) (by decide) hF (by decide) (by decide)
  refine j_rVX (st2 := []) B [] [] cx_X2_82 dX2_whole_6 hl hR (ct_X2_next G e6) rfl rfl rfl rfl trivial (Nat.le_of_ble_eq_true rfl) ?_
  refine j_aload_n B dX2_whole_9 rfl ?_
  rcases xbo hF with ⟨a10t, w10, e10, hF⟩ | ⟨_, w10, e10, hF⟩
  · refine j_rVT B [] [] cx_X2_142 dX2_whole_10 hl hR (ct_X2_item G e10) rfl rfl rfl trivial (Nat.le_of_ble_eq_true rfl) ?_
    exact jt_I B (Hh_nil hh) (by decide) hF (by decide) (by decide)
  refine j_rVX (st2 := []) B [] [] cx_X2_142 dX2_whole_10 hl hR (ct_X2_item G e10) rfl rfl rfl rfl trivial (Nat.le_of_ble_eq_true rfl) ?_
  refine j_iconst (v := 1) B dX2_whole_13 (by decide) ?_
  refine j_istore_n (vs' := [some (va_rf a0), some (.int 1)]) B dX2_whole_14 (by decide) rfl ?_
  exact lp15 fu a0 1 w10 hF
theorem fl_X0_399 : FL "CarryFair" 399 2 2 := ⟨RX2, TX2, 8, rfl, by decide, in_X2, Or.inr ⟨_, q306⟩⟩
theorem fl_X0_407 : FL "CarryFair" 407 2 5 := ⟨RX2, TX2, 8, rfl, by decide, in_X2, Or.inr ⟨_, q311⟩⟩
theorem fp_X0_396 : FP "CarryFair" 396 2 3 .int false := ⟨RX2, TX2, 8, rfl, by decide, in_X2, Or.inr ⟨_, q308⟩, rfl, (fun h => by cases h), by decide +kernel, ap_X2, tyX2, tyX2_ok⟩
theorem cx_X0_402 : CX "CarryFair" 402 2 yX2_whole (ws_ yX2_whole cX2_whole 2 (some .int)) 2 0 := ⟨⟨_, _, rfl⟩, q1070, q1071, q1072, q131, wsOk_code q1073, by decide +kernel, by decide +kernel⟩
def F_X0_text (g : Gt) (a0 : Option Nat) (w : cH) : Option (Int32 × cH) :=
  if tg w a0 = some 0 then ((fA w a0 0 1).bind fun a1p => (fI w a0 0 2).bind fun i5 => (pV w a1p 2 3 (.int i5)).bind fun w8 => (pV w8 a0 0 2 (.int 0)).bind fun w13 => (fA w13 a0 0 1).bind fun a17p => (fA w13 a17p 2 2).bind fun a20p => (fA w13 a0 0 3).bind fun a24p => (F_X4_become a20p a24p w13).bind fun w27 => (fA w27 a0 0 1).bind fun a31p => xb (F_X2_whole g a31p w27) (fun a34t w34 => if tg w34 (some a34t) = some 3 then ((fA w34 a0 0 1).bind fun a57p => (fI w34 a57p 2 5).bind fun i60 => some ((-1) - i60, w34)) else none) fun i34 w34 => (fA w34 a0 0 3).bind fun a39p => (fA w34 a0 0 1).bind fun a43p => (fA w34 a43p 2 2).bind fun a46p => (F_X4_become a39p a46p w34).bind fun w49 => some (i34, w49)) else none
abbrev rm_X0_text : Room := { frames := 14, cells := 0, slots := 0, locals := 320 }
abbrev hh_X0_text : List (Nat × Nat × Nat × Nat) := [(30, 53, 54, 405)]
set_option maxHeartbeats 4000000 in
set_option maxRecDepth 100000 in
theorem ct_X0_text {l : Launch} {g : Gt} (G : Gok g) {a0 : Option Nat} {w : cH} {r9 : Int32} {w9 : cH} (hF : F_X0_text g a0 w = some (r9, w9)) : tg w a0 = some 0 ∧ Mx l yX0_text (wsW_ yX0_text cX0_text 2 (some .int) hh_X0_text) rm_X0_text g [va_rf a0] w (.returned (some (.int r9))) w9 0 0 := by
  unfold F_X0_text at hF
  obtain ⟨ht, hF⟩ := bg hF
  refine ⟨ht, mk_ctW cX0_text 2 (some .int) hh_X0_text "CarryFair" (plainFor_of_name (by decide)) rfl (lg_le ⟨cr _, trivial⟩ (Nat.le_of_ble_eq_true rfl)) (av_ok ⟨cr _, trivial⟩) G (fun x B hl hR hin hh => ?_)⟩
  show J g x _ _ 0 0 w 0 0 0 [some (va_rf a0), none] []
  refine j_aload_n B dX0_text_0 rfl ?_
  refine j_getA B fl_X0_54 dX0_text_1 hF (fun a1p hF => ?_)
  refine j_aload_n B dX0_text_4 rfl ?_
  refine j_getI B fl_X0_389 dX0_text_5 hF (fun i5 hF => ?_)
  refine j_putV B fp_X0_396 (fun h => by cases h) rfl rfl dX0_text_8 hF (fun w8 hF => ?_)
  refine j_aload_n B dX0_text_11 rfl ?_
  refine j_iconst (v := 0) B dX0_text_12 (by decide) ?_
  refine j_putV B fp_X0_389 (fun h => by cases h) rfl rfl dX0_text_13 hF (fun w13 hF => ?_)
  refine j_aload_n B dX0_text_16 rfl ?_
  refine j_getA B fl_X0_54 dX0_text_17 hF (fun a17p hF => ?_)
  refine j_getA B fl_X0_399 dX0_text_20 hF (fun a20p hF => ?_)
  refine j_aload_n B dX0_text_23 rfl ?_
  refine j_getA B fl_X0_61 dX0_text_24 hF (fun a24p hF => ?_)
  obtain ⟨w27, e27, hF⟩ := bo hF
  refine j_rV (st2 := []) B [va_rf a24p] [] cv_X0_382 dX0_text_27 hl hR (ct_X4_become G e27) rfl rfl rfl rfl trivial (Nat.le_of_ble_eq_true rfl) ?_
  refine j_aload_n B dX0_text_30 rfl ?_
  refine j_getA B fl_X0_54 dX0_text_31 hF (fun a31p hF => ?_)
  rcases xbo hF with ⟨a34t, w34, e34, hF⟩ | ⟨i34, w34, e34, hF⟩
  · refine j_rVT B [] [] cx_X0_402 dX0_text_34 hl hR (ct_X2_whole G e34) rfl rfl rfl trivial (Nat.le_of_ble_eq_true rfl) ?_
    obtain ⟨hz, hF⟩ := bg hF
    refine jt_cls B hh (by decide) (by decide) q1069 hz rfl ?_
    refine j_astore_n (vs' := [some (va_rf a0), some (va_rf (some a34t))]) B dX0_text_54 (by decide) rfl ?_
    refine j_iconst (v := (-1)) B dX0_text_55 (by decide) ?_
    refine j_aload_n B dX0_text_56 rfl ?_
    refine j_getA B fl_X0_54 dX0_text_57 hF (fun a57p hF => ?_)
    refine j_getI B fl_X0_407 dX0_text_60 hF (fun i60 hF => ?_)
    refine j_isub B dX0_text_63 ?_
    exact j_lIw B rfl dX0_text_64 hF (by decide) (by decide)
  refine j_rVX (st2 := [.int i34]) B [] [] cx_X0_402 dX0_text_34 hl hR (ct_X2_whole G e34) rfl rfl rfl rfl trivial (Nat.le_of_ble_eq_true rfl) ?_
  refine j_istore_n (vs' := [some (va_rf a0), some (.int i34)]) B dX0_text_37 (by decide) rfl ?_
  refine j_aload_n B dX0_text_38 rfl ?_
  refine j_getA B fl_X0_61 dX0_text_39 hF (fun a39p hF => ?_)
  refine j_aload_n B dX0_text_42 rfl ?_
  refine j_getA B fl_X0_54 dX0_text_43 hF (fun a43p hF => ?_)
  refine j_getA B fl_X0_399 dX0_text_46 hF (fun a46p hF => ?_)
  obtain ⟨w49, e49, hF⟩ := bo hF
  refine j_rV (st2 := []) B [va_rf a46p] [] cv_X0_382 dX0_text_49 hl hR (ct_X4_become G e49) rfl rfl rfl rfl trivial (Nat.le_of_ble_eq_true rfl) ?_
  refine j_iload_n B dX0_text_52 rfl ?_
  exact j_lIw B rfl dX0_text_53 hF (by decide) (by decide)
def F_X0_isSpot (x0 : Int32) : Int32 :=
  (F_X0_in x0 0 9) &&& 1
abbrev rm_X0_isSpot : Room := { frames := 1, cells := 0, slots := 0, locals := 22 }
set_option maxHeartbeats 4000000 in
set_option maxRecDepth 100000 in
theorem ct_X0_isSpot {l : Launch} {g : Gt} (G : Gok g) {x0 : Int32} {w : cH} : Mx l yX0_isSpot (ws_ yX0_isSpot cX0_isSpot 1 (some .boolean)) rm_X0_isSpot g [.int x0] w (.returned (some (.int (F_X0_isSpot x0)))) w 0 0 := by
  generalize hF : F_X0_isSpot x0 = r9
  unfold F_X0_isSpot at hF
  refine mk_ct cX0_isSpot 1 (some .boolean) "CarryFair" (plainFor_of_name (by decide)) rfl (lg_le ⟨rfl, trivial⟩ (Nat.le_of_ble_eq_true rfl)) (av_ok ⟨rfl, trivial⟩) G (fun x B hl hR hin hh => ?_)
  show J g x _ _ 0 0 w 0 0 0 [some (.int x0)] []
  refine j_iload_n B dX0_isSpot_0 rfl ?_
  refine j_iconst (v := 0) B dX0_isSpot_1 (by decide) ?_
  refine j_bipush (v := 9) B dX0_isSpot_2 (by decide) ?_
  refine j_rS (st2 := [.int (F_X0_in x0 0 9)]) B [.int x0, .int 0, .int 9] [] cs_X0_3 dX0_isSpot_4 hl hR (ct_X0_in G) rfl rfl rfl rfl trivial (Nat.le_of_ble_eq_true rfl) ?_
  exact j_lBp B rfl dX0_isSpot_7 hF (by decide) (by decide)
theorem fl_X0_410 : FL "CarryFair" 410 4 9 := ⟨RX4, TX4, 10, rfl, by decide, in_X4, Or.inr ⟨_, q278⟩⟩
theorem cs_X0_413 : CS "CarryFair" 413 yX0_isSpot cX0_isSpot 1 (some .boolean) 1 := ⟨Or.inl (lw_S q1198 q1199 q126 q1200), by decide +kernel⟩
def F_X0_hold_J26 (a0 : Option Nat) (x1 : Int32) (x2 : Int32) (w : cH) : Option (Int32 × cH) :=
  (fA w a0 0 3).bind fun a27p => (fA w a27p 4 9).bind fun a30p => (aS w a30p 100 x1 (.int x2)).bind fun w35 => some (1, w35)
def F_X0_hold_J20 (a0 : Option Nat) (w : cH) : Option (Int32 × cH) :=
  cb (F_X0_finding a0 0 w) fun i22 w22 => some (i22, w22)
def F_X0_hold (a0 : Option Nat) (x1 : Int32) (x2 : Int32) (w : cH) : Option (Int32 × cH) :=
  if tg w a0 = some 0 then (if (F_X0_isSpot x1) = 0 then (F_X0_hold_J20  a0 w) else (if x2 = (-1) then (F_X0_hold_J26  a0 x1 x2 w) else ((F_X0_isCarrier a0 x2 w).bind fun i14 =>if ¬ i14 = 0 then (F_X0_hold_J26  a0 x1 x2 w) else (F_X0_hold_J20  a0 w)))) else none
abbrev rm_X0_hold : Room := { frames := 2, cells := 0, slots := 0, locals := 43 }
set_option maxHeartbeats 4000000 in
set_option maxRecDepth 100000 in
theorem ct_X0_hold {l : Launch} {g : Gt} (G : Gok g) {a0 : Option Nat} {x1 : Int32} {x2 : Int32} {w : cH} {r9 : Int32} {w9 : cH} (hF : F_X0_hold a0 x1 x2 w = some (r9, w9)) : tg w a0 = some 0 ∧ Mx l yX0_hold (ws_ yX0_hold cX0_hold 3 (some .int)) rm_X0_hold g [va_rf a0, .int x1, .int x2] w (.returned (some (.int r9))) w9 0 0 := by
  unfold F_X0_hold at hF
  obtain ⟨ht, hF⟩ := bg hF
  refine ⟨ht, mk_ct cX0_hold 3 (some .int) "CarryFair" (plainFor_of_name (by decide)) rfl (lg_le ⟨cr _, rfl, rfl, trivial⟩ (Nat.le_of_ble_eq_true rfl)) (av_ok ⟨cr _, rfl, rfl, trivial⟩) G (fun x B hl hR hin hh => ?_)⟩
  show J g x _ _ 0 0 w 0 0 0 [some (va_rf a0), some (.int x1), some (.int x2)] []
  have jb26 : ∀ (a0 : Option Nat) (x1 : Int32) (x2 : Int32) (w : cH), F_X0_hold_J26  a0 x1 x2 w = some (r9, w9) → J g x (.returned (some (.int r9))) w9 0 0 w 0 0 26 [some (va_rf a0), some (.int x1), some (.int x2)] [] := by
    intro a0 x1 x2 w hF
    unfold F_X0_hold_J26 at hF
    refine j_aload_n B dX0_hold_26 rfl ?_
    refine j_getA B fl_X0_61 dX0_hold_27 hF (fun a27p hF => ?_)
    refine j_getA B fl_X0_410 dX0_hold_30 hF (fun a30p hF => ?_)
    refine j_iload_n B dX0_hold_33 rfl ?_
    refine j_iload_n B dX0_hold_34 rfl ?_
    refine j_iastore B dX0_hold_35 hF (fun w35 hF => ?_)
    refine j_iconst (v := 1) B dX0_hold_36 (by decide) ?_
    exact j_lIw B rfl dX0_hold_37 hF (by decide) (by decide)
  have jb20 : ∀ (a0 : Option Nat) (w : cH), F_X0_hold_J20  a0 w = some (r9, w9) → J g x (.returned (some (.int r9))) w9 0 0 w 0 0 20 [some (va_rf a0), none, none] [] := by
    intro a0 w hF
    unfold F_X0_hold_J20 at hF
    refine j_aload_n B dX0_hold_20 rfl ?_
    refine j_iconst (v := 0) B dX0_hold_21 (by decide) ?_
    obtain ⟨i22, w22, e22, hF⟩ := bc hF
    refine j_rV (st2 := [.int i22]) B [.int 0] [] cv_X0_142 dX0_hold_22 hl hR (ct_X0_finding G e22) rfl rfl rfl rfl trivial (Nat.le_of_ble_eq_true rfl) ?_
    exact j_lIw B rfl dX0_hold_25 hF (by decide) (by decide)
  refine j_iload_n B dX0_hold_0 rfl ?_
  refine j_rS (st2 := [.int (F_X0_isSpot x1)]) B [.int x1] [] cs_X0_413 dX0_hold_1 hl hR (ct_X0_isSpot G) rfl rfl rfl rfl trivial (Nat.le_of_ble_eq_true rfl) ?_
  refine j_if_eq (tgt := 20) B dX0_hold_4 (by decide) hF (fun h4 hF => ?_) (fun h4 hF => ?_)
  · refine j_msk [true, false, false] rfl ?_
    exact jb20 a0 w hF
  · refine j_iload_n B dX0_hold_7 rfl ?_
    refine j_iconst (v := (-1)) B dX0_hold_8 (by decide) ?_
    refine j_icmp_eq (tgt := 26) B dX0_hold_9 (by decide) hF (fun h9 hF => ?_) (fun h9 hF => ?_)
    · exact jb26 a0 x1 x2 w hF
    · refine j_aload_n B dX0_hold_12 rfl ?_
      refine j_iload_n B dX0_hold_13 rfl ?_
      obtain ⟨i14, e14, hF⟩ := bo hF
      refine j_rV (st2 := [.int i14]) B [.int x2] [] cv_X0_161 dX0_hold_14 hl hR (ct_X0_isCarrier G e14) rfl rfl rfl rfl trivial (Nat.le_of_ble_eq_true rfl) ?_
      refine j_if_ne (tgt := 26) B dX0_hold_17 (by decide) hF (fun h17 hF => ?_) (fun h17 hF => ?_)
      · exact jb26 a0 x1 x2 w hF
      · refine j_msk [true, false, false] rfl ?_
        exact jb20 a0 w hF
theorem ap_X5 : apT TX5 1 := by unfold apT; decide +kernel
theorem fl_X0_77 : FL "CarryFair" 77 0 8 := ⟨RX0, TX0, 20, rfl, by decide, in_X0, Or.inl q447⟩
theorem fp_X0_109 : FP "CarryFair" 109 5 0 (.object "java/lang/Object") false := ⟨RX5, TX5, 1, rfl, by decide, in_X5, Or.inr ⟨_, q341⟩, rfl, (fun h => by cases h), by decide +kernel, ap_X5, tyX5, tyX5_ok⟩
def F_X0_thingAt_J30 (a0 : Option Nat) (x1 : Int32) (s0 : Option Nat) (s1 : Option Nat) (w : cH) : Option (Option Nat × cH) :=
  (pV w s1 5 0 (va_rf s0)).bind fun w30 => (fA w30 a0 0 8).bind fun a34p => (aA w30 a34p 104 x1).bind fun a38p => (fA w30 a38p 5 0).bind fun a39p => some (a39p, w30)
def F_X0_thingAt (a0 : Option Nat) (x1 : Int32) (w : cH) : Option (Option Nat × cH) :=
  if tg w a0 = some 0 then ((fA w a0 0 3).bind fun a1p => (fA w a1p 4 9).bind fun a4p => (aI w a4p 100 x1).bind fun i8 => (fA w a0 0 8).bind fun a11p => (aA w a11p 104 x1).bind fun a15p =>if ¬ i8 = (-1) then ((F_X0_carrierAt a0 i8 w).bind fun a27p => F_X0_thingAt_J30  a0 x1 a27p a15p w) else (F_X0_thingAt_J30  a0 x1 none a15p w)) else none
abbrev rm_X0_thingAt : Room := { frames := 1, cells := 0, slots := 0, locals := 21 }
set_option maxHeartbeats 4000000 in
set_option maxRecDepth 100000 in
theorem ct_X0_thingAt {l : Launch} {g : Gt} (G : Gok g) {a0 : Option Nat} {x1 : Int32} {w : cH} {r9 : Option Nat} {w9 : cH} (hF : F_X0_thingAt a0 x1 w = some (r9, w9)) : tg w a0 = some 0 ∧ Mx l yX0_thingAt (ws_ yX0_thingAt cX0_thingAt 3 (some (.object "java/lang/Object"))) rm_X0_thingAt g [va_rf a0, .int x1] w (.returned (some (va_rf r9))) w9 0 0 := by
  unfold F_X0_thingAt at hF
  obtain ⟨ht, hF⟩ := bg hF
  refine ⟨ht, mk_ct cX0_thingAt 3 (some (.object "java/lang/Object")) "CarryFair" (plainFor_of_name (by decide)) rfl (lg_le ⟨cr _, rfl, trivial⟩ (Nat.le_of_ble_eq_true rfl)) (av_ok ⟨cr _, rfl, trivial⟩) G (fun x B hl hR hin hh => ?_)⟩
  show J g x _ _ 0 0 w 0 0 0 [some (va_rf a0), some (.int x1), none] []
  have jb30 : ∀ (a0 : Option Nat) (x1 : Int32) (s0 : Option Nat) (s1 : Option Nat) (w : cH), F_X0_thingAt_J30  a0 x1 s0 s1 w = some (r9, w9) → J g x (.returned (some (va_rf r9))) w9 0 0 w 0 0 30 [some (va_rf a0), some (.int x1), none] [va_rf s0, va_rf s1] := by
    intro a0 x1 s0 s1 w hF
    unfold F_X0_thingAt_J30 at hF
    refine j_putV B fp_X0_109 (fun h => by cases h) (nar_rf _ _ (Or.inl ⟨_, rfl⟩)) (fit_rf _ _ (Or.inl ⟨_, rfl⟩)) dX0_thingAt_30 hF (fun w30 hF => ?_)
    refine j_aload_n B dX0_thingAt_33 rfl ?_
    refine j_getA B fl_X0_77 dX0_thingAt_34 hF (fun a34p hF => ?_)
    refine j_iload_n B dX0_thingAt_37 rfl ?_
    refine j_aaload B 104 rfl rfl dX0_thingAt_38 hF (fun a38p hF => ?_)
    refine j_getA B fl_X0_109 dX0_thingAt_39 hF (fun a39p hF => ?_)
    exact j_lAw B rfl (Or.inl ⟨_, rfl⟩) dX0_thingAt_42 hF (by decide) (by decide)
  refine j_aload_n B dX0_thingAt_0 rfl ?_
  refine j_getA B fl_X0_61 dX0_thingAt_1 hF (fun a1p hF => ?_)
  refine j_getA B fl_X0_410 dX0_thingAt_4 hF (fun a4p hF => ?_)
  refine j_iload_n B dX0_thingAt_7 rfl ?_
  refine j_iaload B dX0_thingAt_8 hF (fun i8 hF => ?_)
  refine j_istore_n (vs' := [some (va_rf a0), some (.int x1), some (.int i8)]) B dX0_thingAt_9 (by decide) rfl ?_
  refine j_aload_n B dX0_thingAt_10 rfl ?_
  refine j_getA B fl_X0_77 dX0_thingAt_11 hF (fun a11p hF => ?_)
  refine j_iload_n B dX0_thingAt_14 rfl ?_
  refine j_aaload B 104 rfl rfl dX0_thingAt_15 hF (fun a15p hF => ?_)
  refine j_iload_n B dX0_thingAt_16 rfl ?_
  refine j_iconst (v := (-1)) B dX0_thingAt_17 (by decide) ?_
  refine j_icmp_ne (tgt := 25) B dX0_thingAt_18 (by decide) hF (fun h18 hF => ?_) (fun h18 hF => ?_)
  · refine j_aload_n B dX0_thingAt_25 rfl ?_
    refine j_iload_n B dX0_thingAt_26 rfl ?_
    obtain ⟨a27p, e27, hF⟩ := bo hF
    refine j_rV (st2 := [va_rf a27p, va_rf a15p]) B [.int i8] [va_rf a15p] cv_X0_148 dX0_thingAt_27 hl hR (ct_X0_carrierAt G e27) rfl rfl rfl rfl ⟨cr _, trivial⟩ (Nat.le_of_ble_eq_true rfl) ?_
    refine j_msk [true, true, false] rfl ?_
    exact jb30 a0 x1 a27p a15p w hF
  · refine j_null B dX0_thingAt_21 ?_
    refine j_goto (tgt := 30) B dX0_thingAt_22 (by decide) ?_
    refine j_msk [true, true, false] rfl ?_
    exact jb30 a0 x1 none a15p w hF
theorem cu_X6_19_6 : CV "CarryFair$Carrier" 19 6 yX6_kind cX6_kind 1 (some .int) 0 := ⟨_, _, rfl, lw_V q1229 q532 q533 q135 q559, by decide +kernel⟩
theorem cu_X6_19_7 : CUO "CarryFair$Carrier" 19 7 ⟨"CarryFair$Carrier", "kind", "()I"⟩ yX7_kind cX7_kind 1 (some .int) 0 := by
  refine ⟨lw_app ?_ (lw_meth q547), ⟨_, _, _, q559⟩, clsTag_of (by decide), by decide +kernel⟩
  intro w hw
  simp only [List.mem_cons, List.not_mem_nil, or_false] at hw
  rcases hw with e | e | e | e | e | e
  · rw [e]; exact q1229
  · rw [e]; exact q534
  · rw [e]; exact q532
  · rw [e]; exact q556
  · rw [e]; exact q546
  · rw [e]; exact q136
theorem cu_X6_19_8 : CUO "CarryFair$Carrier" 19 8 ⟨"CarryFair$Carrier", "kind", "()I"⟩ yX8_kind cX8_kind 1 (some .int) 0 := by
  refine ⟨lw_app ?_ (lw_meth q554), ⟨_, _, _, q559⟩, clsTag_of (by decide), by decide +kernel⟩
  intro w hw
  simp only [List.mem_cons, List.not_mem_nil, or_false] at hw
  rcases hw with e | e | e | e | e | e
  · rw [e]; exact q1229
  · rw [e]; exact q534
  · rw [e]; exact q532
  · rw [e]; exact q557
  · rw [e]; exact q553
  · rw [e]; exact q137
theorem cu_X6_19_9 : CUO "CarryFair$Carrier" 19 9 ⟨"CarryFair$Carrier", "kind", "()I"⟩ yX9_kind cX9_kind 1 (some .int) 0 := by
  refine ⟨lw_app ?_ (lw_meth q544), ⟨_, _, _, q559⟩, clsTag_of (by decide), by decide +kernel⟩
  intro w hw
  simp only [List.mem_cons, List.not_mem_nil, or_false] at hw
  rcases hw with e | e | e | e | e | e
  · rw [e]; exact q1229
  · rw [e]; exact q534
  · rw [e]; exact q532
  · rw [e]; exact q542
  · rw [e]; exact q543
  · rw [e]; exact q138
theorem cu_X6_19_10 : CUO "CarryFair$Carrier" 19 10 ⟨"CarryFair$Carrier", "kind", "()I"⟩ yX10_kind cX10_kind 1 (some .int) 0 := by
  refine ⟨lw_app ?_ (lw_meth q551), ⟨_, _, _, q559⟩, clsTag_of (by decide), by decide +kernel⟩
  intro w hw
  simp only [List.mem_cons, List.not_mem_nil, or_false] at hw
  rcases hw with e | e | e | e | e | e
  · rw [e]; exact q1229
  · rw [e]; exact q534
  · rw [e]; exact q532
  · rw [e]; exact q549
  · rw [e]; exact q550
  · rw [e]; exact q139
theorem cu_X6_19_11 : CUO "CarryFair$Carrier" 19 11 ⟨"CarryFair$Carrier", "kind", "()I"⟩ yX11_kind cX11_kind 1 (some .int) 0 := by
  refine ⟨lw_app ?_ (lw_meth q540), ⟨_, _, _, q559⟩, clsTag_of (by decide), by decide +kernel⟩
  intro w hw
  simp only [List.mem_cons, List.not_mem_nil, or_false] at hw
  rcases hw with e | e | e | e | e | e
  · rw [e]; exact q1229
  · rw [e]; exact q534
  · rw [e]; exact q532
  · rw [e]; exact q558
  · rw [e]; exact q539
  · rw [e]; exact q140
theorem cu_X6_19_12 : CUO "CarryFair$Carrier" 19 12 ⟨"CarryFair$Carrier", "kind", "()I"⟩ yX12_kind cX12_kind 1 (some .int) 0 := by
  refine ⟨lw_app ?_ (lw_meth q537), ⟨_, _, _, q559⟩, clsTag_of (by decide), by decide +kernel⟩
  intro w hw
  simp only [List.mem_cons, List.not_mem_nil, or_false] at hw
  rcases hw with e | e | e | e | e | e
  · rw [e]; exact q1229
  · rw [e]; exact q534
  · rw [e]; exact q532
  · rw [e]; exact q535
  · rw [e]; exact q536
  · rw [e]; exact q141
set_option maxHeartbeats 1000000 in
theorem vd_X6_19 {g : Gt} {x : Xt} {o : Outcome} {w1 : cH} {mc ms : Nat} {w : cH} {k n pc : Nat} {vs : List (Option Value)} {cc : ByteArray} {nL : Nat} {ret : Option FieldType} (B : Bd g x cc nL "CarryFair$Carrier" ret) (G : Gok g) {a0 : Option Nat}  {i9 : Int32} {l : Launch} {R : Room} (rest : List Value) (e : V_kind a0  w = some i9) (d : decode cc pc = .ok (.invokevirtual 19, 3)) (hl : x.2.1 = l) (hR : x.2.2.2.1 = R) (hr0 : rmOk rm_X6_kind R 1 k n 0 0 = true) (hr1 : rmOk rm_X7_kind R 1 k n 0 0 = true) (hr2 : rmOk rm_X8_kind R 1 k n 0 0 = true) (hr3 : rmOk rm_X9_kind R 1 k n 0 0 = true) (hr4 : rmOk rm_X10_kind R 1 k n 0 0 = true) (hr5 : rmOk rm_X11_kind R 1 k n 0 0 = true) (hr6 : rmOk rm_X12_kind R 1 k n 0 0 = true) (hc1 : cat1 rest) (hc8 : rest.length ≤ 8) (kk : J g x o w1 mc ms w k n (pc + 3) vs (.int i9 :: rest)) : J g x o w1 mc ms w k n pc vs (va_rf a0 :: rest) := by
  unfold V_kind at e
  by_cases h : tgi w a0 [6] = true
  · rw [if_pos h] at e
    exact j_rV (st2 := .int i9 :: rest) B [] rest cu_X6_19_6 d hl hR ⟨tgi_one h, (ct_X6_kind G e).2⟩ hr0 rfl rfl rfl hc1 hc8 kk
  rw [if_neg h] at e
  clear h
  by_cases h : tgi w a0 [7] = true
  · rw [if_pos h] at e
    exact j_rU (st2 := .int i9 :: rest) B [] rest cu_X6_19_7 (tgi_one h) d hl hR (ct_X7_kind G e).2 hr1 rfl rfl rfl hc1 hc8 kk
  rw [if_neg h] at e
  clear h
  by_cases h : tgi w a0 [8] = true
  · rw [if_pos h] at e
    exact j_rU (st2 := .int i9 :: rest) B [] rest cu_X6_19_8 (tgi_one h) d hl hR (ct_X8_kind G e).2 hr2 rfl rfl rfl hc1 hc8 kk
  rw [if_neg h] at e
  clear h
  by_cases h : tgi w a0 [9] = true
  · rw [if_pos h] at e
    exact j_rU (st2 := .int i9 :: rest) B [] rest cu_X6_19_9 (tgi_one h) d hl hR (ct_X9_kind G e).2 hr3 rfl rfl rfl hc1 hc8 kk
  rw [if_neg h] at e
  clear h
  by_cases h : tgi w a0 [10] = true
  · rw [if_pos h] at e
    exact j_rU (st2 := .int i9 :: rest) B [] rest cu_X6_19_10 (tgi_one h) d hl hR (ct_X10_kind G e).2 hr4 rfl rfl rfl hc1 hc8 kk
  rw [if_neg h] at e
  clear h
  by_cases h : tgi w a0 [11] = true
  · rw [if_pos h] at e
    exact j_rU (st2 := .int i9 :: rest) B [] rest cu_X6_19_11 (tgi_one h) d hl hR (ct_X11_kind G e).2 hr5 rfl rfl rfl hc1 hc8 kk
  rw [if_neg h] at e
  clear h
  by_cases h : tgi w a0 [12] = true
  · rw [if_pos h] at e
    exact j_rU (st2 := .int i9 :: rest) B [] rest cu_X6_19_12 (tgi_one h) d hl hR (ct_X12_kind G e).2 hr6 rfl rfl rfl hc1 hc8 kk
  rw [if_neg h] at e
  clear h
  cases e
def F_X6_isUnder_J12  (w : cH) : Option Int32 :=
  some (1)
def F_X6_isUnder (a0 : Option Nat) (x1 : Int32) (w : cH) : Option Int32 :=
  if tgi w a0 [6, 7, 8, 9, 10, 11, 12] = true then (if x1 = 0 then (F_X6_isUnder_J12   w) else ((V_kind a0  w).bind fun i6 =>if ¬ x1 = i6 then (some (0)) else (F_X6_isUnder_J12   w))) else none
abbrev rm_X6_isUnder : Room := { frames := 3, cells := 0, slots := 0, locals := 60 }
set_option maxHeartbeats 4000000 in
set_option maxRecDepth 100000 in
theorem ct_X6_isUnder {l : Launch} {g : Gt} (G : Gok g) {a0 : Option Nat} {x1 : Int32} {w : cH} {r9 : Int32} (hF : F_X6_isUnder a0 x1 w = some r9) : tgi w a0 [6, 7, 8, 9, 10, 11, 12] = true ∧ Mx l yX6_isUnder (ws_ yX6_isUnder cX6_isUnder 2 (some .boolean)) rm_X6_isUnder g [va_rf a0, .int x1] w (.returned (some (.int r9))) w 0 0 := by
  unfold F_X6_isUnder at hF
  obtain ⟨ht, hF⟩ := bg hF
  refine ⟨ht, mk_ct cX6_isUnder 2 (some .boolean) "CarryFair$Carrier" (plainFor_of_name (by decide)) rfl (lg_le ⟨cr _, rfl, trivial⟩ (Nat.le_of_ble_eq_true rfl)) (av_ok ⟨cr _, rfl, trivial⟩) G (fun x B hl hR hin hh => ?_)⟩
  show J g x _ _ 0 0 w 0 0 0 [some (va_rf a0), some (.int x1)] []
  obtain ⟨t9, ht9, hm9⟩ := tgi_some ht
  have hc9 : clsTag t9 := by
    simp only [List.mem_cons, List.not_mem_nil, or_false] at hm9
    exact clsTag_of (by omega)
  have jb12 : F_X6_isUnder_J12  w = some r9 → J g x (.returned (some (.int r9))) w 0 0 w 0 0 12 [none, none] [] := by
    intro  hF
    unfold F_X6_isUnder_J12 at hF
    refine j_iconst (v := 1) B dX6_isUnder_12 (by decide) ?_
    refine j_goto (tgt := 17) B dX6_isUnder_13 (by decide) ?_
    exact j_lZ B (by decide) rfl dX6_isUnder_17 hF (by decide) (by decide)
  refine j_iload_n B dX6_isUnder_0 rfl ?_
  refine j_if_eq (tgt := 12) B dX6_isUnder_1 (by decide) hF (fun h1 hF => ?_) (fun h1 hF => ?_)
  · refine j_msk [false, false] rfl ?_
    exact jb12  hF
  · refine j_iload_n B dX6_isUnder_4 rfl ?_
    refine j_aload_n B dX6_isUnder_5 rfl ?_
    obtain ⟨i6, e6, hF⟩ := bo hF
    refine vd_X6_19 B G [.int x1] e6 dX6_isUnder_6 hl hR rfl rfl rfl rfl rfl rfl rfl ⟨rfl, trivial⟩ (Nat.le_of_ble_eq_true rfl) ?_
    refine j_icmp_ne (tgt := 16) B dX6_isUnder_9 (by decide) hF (fun h9 hF => ?_) (fun h9 hF => ?_)
    · refine j_iconst (v := 0) B dX6_isUnder_16 (by decide) ?_
      exact j_lZ B (by decide) rfl dX6_isUnder_17 hF (by decide) (by decide)
    · refine j_msk [false, false] rfl ?_
      exact jb12  hF
theorem csu_X7_19 : CSU "CarryFair$Old" 19 ⟨"CarryFair$Carrier", "isUnder", "(I)Z"⟩ yX6_isUnder cX6_isUnder 2 (some .boolean) 1 := ⟨q1220, q1212, q368, Or.inl rfl, q1210, q135, q1228, rfl, by decide, by decide +kernel⟩
def F_X7_isUnder_J13  (w : cH) : Option Int32 :=
  some (1)
def F_X7_isUnder (a0 : Option Nat) (x1 : Int32) (w : cH) : Option Int32 :=
  if tgi w a0 [7, 9] = true then (if x1 = 1 then (F_X7_isUnder_J13   w) else ((F_X6_isUnder a0 x1 w).bind fun i7 =>if i7 = 0 then (some (0)) else (F_X7_isUnder_J13   w))) else none
abbrev rm_X7_isUnder : Room := { frames := 4, cells := 0, slots := 0, locals := 81 }
set_option maxHeartbeats 4000000 in
set_option maxRecDepth 100000 in
theorem ct_X7_isUnder {l : Launch} {g : Gt} (G : Gok g) {a0 : Option Nat} {x1 : Int32} {w : cH} {r9 : Int32} (hF : F_X7_isUnder a0 x1 w = some r9) : tgi w a0 [7, 9] = true ∧ Mx l yX7_isUnder (ws_ yX7_isUnder cX7_isUnder 2 (some .boolean)) rm_X7_isUnder g [va_rf a0, .int x1] w (.returned (some (.int r9))) w 0 0 := by
  unfold F_X7_isUnder at hF
  obtain ⟨ht, hF⟩ := bg hF
  refine ⟨ht, mk_ct cX7_isUnder 2 (some .boolean) "CarryFair$Old" (plainFor_of_name (by decide)) rfl (lg_le ⟨cr _, rfl, trivial⟩ (Nat.le_of_ble_eq_true rfl)) (av_ok ⟨cr _, rfl, trivial⟩) G (fun x B hl hR hin hh => ?_)⟩
  show J g x _ _ 0 0 w 0 0 0 [some (va_rf a0), some (.int x1)] []
  obtain ⟨t9, ht9, hm9⟩ := tgi_some ht
  have hc9 : clsTag t9 := by
    simp only [List.mem_cons, List.not_mem_nil, or_false] at hm9
    exact clsTag_of (by omega)
  have jb13 : F_X7_isUnder_J13  w = some r9 → J g x (.returned (some (.int r9))) w 0 0 w 0 0 13 [none, none] [] := by
    intro  hF
    unfold F_X7_isUnder_J13 at hF
    refine j_iconst (v := 1) B dX7_isUnder_13 (by decide) ?_
    refine j_goto (tgt := 18) B dX7_isUnder_14 (by decide) ?_
    exact j_lZ B (by decide) rfl dX7_isUnder_18 hF (by decide) (by decide)
  refine j_iload_n B dX7_isUnder_0 rfl ?_
  refine j_iconst (v := 1) B dX7_isUnder_1 (by decide) ?_
  refine j_icmp_eq (tgt := 13) B dX7_isUnder_2 (by decide) hF (fun h2 hF => ?_) (fun h2 hF => ?_)
  · refine j_msk [false, false] rfl ?_
    exact jb13  hF
  · refine j_aload_n B dX7_isUnder_5 rfl ?_
    refine j_iload_n B dX7_isUnder_6 rfl ?_
    obtain ⟨i7, e7, hF⟩ := bo hF
    refine j_rSU (st2 := [.int i7]) B [.int x1] [] csu_X7_19 ht9 hc9 dX7_isUnder_7 hl hR (ct_X6_isUnder G e7).2 rfl rfl rfl rfl trivial (Nat.le_of_ble_eq_true rfl) ?_
    refine j_if_eq (tgt := 17) B dX7_isUnder_10 (by decide) hF (fun h10 hF => ?_) (fun h10 hF => ?_)
    · refine j_iconst (v := 0) B dX7_isUnder_17 (by decide) ?_
      exact j_lZ B (by decide) rfl dX7_isUnder_18 hF (by decide) (by decide)
    · refine j_msk [false, false] rfl ?_
      exact jb13  hF
theorem csu_X8_19 : CSU "CarryFair$Paired" 19 ⟨"CarryFair$Carrier", "isUnder", "(I)Z"⟩ yX6_isUnder cX6_isUnder 2 (some .boolean) 1 := ⟨q1224, q1212, q380, Or.inl rfl, q1210, q135, q1228, rfl, by decide, by decide +kernel⟩
def F_X8_isUnder_J13  (w : cH) : Option Int32 :=
  some (1)
def F_X8_isUnder (a0 : Option Nat) (x1 : Int32) (w : cH) : Option Int32 :=
  if tgi w a0 [8, 10] = true then (if x1 = 2 then (F_X8_isUnder_J13   w) else ((F_X6_isUnder a0 x1 w).bind fun i7 =>if i7 = 0 then (some (0)) else (F_X8_isUnder_J13   w))) else none
abbrev rm_X8_isUnder : Room := { frames := 4, cells := 0, slots := 0, locals := 81 }
set_option maxHeartbeats 4000000 in
set_option maxRecDepth 100000 in
theorem ct_X8_isUnder {l : Launch} {g : Gt} (G : Gok g) {a0 : Option Nat} {x1 : Int32} {w : cH} {r9 : Int32} (hF : F_X8_isUnder a0 x1 w = some r9) : tgi w a0 [8, 10] = true ∧ Mx l yX8_isUnder (ws_ yX8_isUnder cX8_isUnder 2 (some .boolean)) rm_X8_isUnder g [va_rf a0, .int x1] w (.returned (some (.int r9))) w 0 0 := by
  unfold F_X8_isUnder at hF
  obtain ⟨ht, hF⟩ := bg hF
  refine ⟨ht, mk_ct cX8_isUnder 2 (some .boolean) "CarryFair$Paired" (plainFor_of_name (by decide)) rfl (lg_le ⟨cr _, rfl, trivial⟩ (Nat.le_of_ble_eq_true rfl)) (av_ok ⟨cr _, rfl, trivial⟩) G (fun x B hl hR hin hh => ?_)⟩
  show J g x _ _ 0 0 w 0 0 0 [some (va_rf a0), some (.int x1)] []
  obtain ⟨t9, ht9, hm9⟩ := tgi_some ht
  have hc9 : clsTag t9 := by
    simp only [List.mem_cons, List.not_mem_nil, or_false] at hm9
    exact clsTag_of (by omega)
  have jb13 : F_X8_isUnder_J13  w = some r9 → J g x (.returned (some (.int r9))) w 0 0 w 0 0 13 [none, none] [] := by
    intro  hF
    unfold F_X8_isUnder_J13 at hF
    refine j_iconst (v := 1) B dX8_isUnder_13 (by decide) ?_
    refine j_goto (tgt := 18) B dX8_isUnder_14 (by decide) ?_
    exact j_lZ B (by decide) rfl dX8_isUnder_18 hF (by decide) (by decide)
  refine j_iload_n B dX8_isUnder_0 rfl ?_
  refine j_iconst (v := 2) B dX8_isUnder_1 (by decide) ?_
  refine j_icmp_eq (tgt := 13) B dX8_isUnder_2 (by decide) hF (fun h2 hF => ?_) (fun h2 hF => ?_)
  · refine j_msk [false, false] rfl ?_
    exact jb13  hF
  · refine j_aload_n B dX8_isUnder_5 rfl ?_
    refine j_iload_n B dX8_isUnder_6 rfl ?_
    obtain ⟨i7, e7, hF⟩ := bo hF
    refine j_rSU (st2 := [.int i7]) B [.int x1] [] csu_X8_19 ht9 hc9 dX8_isUnder_7 hl hR (ct_X6_isUnder G e7).2 rfl rfl rfl rfl trivial (Nat.le_of_ble_eq_true rfl) ?_
    refine j_if_eq (tgt := 17) B dX8_isUnder_10 (by decide) hF (fun h10 hF => ?_) (fun h10 hF => ?_)
    · refine j_iconst (v := 0) B dX8_isUnder_17 (by decide) ?_
      exact j_lZ B (by decide) rfl dX8_isUnder_18 hF (by decide) (by decide)
    · refine j_msk [false, false] rfl ?_
      exact jb13  hF
theorem csu_X11_19 : CSU "CarryFair$Watery" 19 ⟨"CarryFair$Carrier", "isUnder", "(I)Z"⟩ yX6_isUnder cX6_isUnder 2 (some .boolean) 1 := ⟨q1216, q1212, q418, Or.inl rfl, q1210, q135, q1228, rfl, by decide, by decide +kernel⟩
def F_X11_isUnder_J13  (w : cH) : Option Int32 :=
  some (1)
def F_X11_isUnder (a0 : Option Nat) (x1 : Int32) (w : cH) : Option Int32 :=
  if tgi w a0 [11, 12] = true then (if x1 = 5 then (F_X11_isUnder_J13   w) else ((F_X6_isUnder a0 x1 w).bind fun i7 =>if i7 = 0 then (some (0)) else (F_X11_isUnder_J13   w))) else none
abbrev rm_X11_isUnder : Room := { frames := 4, cells := 0, slots := 0, locals := 81 }
set_option maxHeartbeats 4000000 in
set_option maxRecDepth 100000 in
theorem ct_X11_isUnder {l : Launch} {g : Gt} (G : Gok g) {a0 : Option Nat} {x1 : Int32} {w : cH} {r9 : Int32} (hF : F_X11_isUnder a0 x1 w = some r9) : tgi w a0 [11, 12] = true ∧ Mx l yX11_isUnder (ws_ yX11_isUnder cX11_isUnder 2 (some .boolean)) rm_X11_isUnder g [va_rf a0, .int x1] w (.returned (some (.int r9))) w 0 0 := by
  unfold F_X11_isUnder at hF
  obtain ⟨ht, hF⟩ := bg hF
  refine ⟨ht, mk_ct cX11_isUnder 2 (some .boolean) "CarryFair$Watery" (plainFor_of_name (by decide)) rfl (lg_le ⟨cr _, rfl, trivial⟩ (Nat.le_of_ble_eq_true rfl)) (av_ok ⟨cr _, rfl, trivial⟩) G (fun x B hl hR hin hh => ?_)⟩
  show J g x _ _ 0 0 w 0 0 0 [some (va_rf a0), some (.int x1)] []
  obtain ⟨t9, ht9, hm9⟩ := tgi_some ht
  have hc9 : clsTag t9 := by
    simp only [List.mem_cons, List.not_mem_nil, or_false] at hm9
    exact clsTag_of (by omega)
  have jb13 : F_X11_isUnder_J13  w = some r9 → J g x (.returned (some (.int r9))) w 0 0 w 0 0 13 [none, none] [] := by
    intro  hF
    unfold F_X11_isUnder_J13 at hF
    refine j_iconst (v := 1) B dX11_isUnder_13 (by decide) ?_
    refine j_goto (tgt := 18) B dX11_isUnder_14 (by decide) ?_
    exact j_lZ B (by decide) rfl dX11_isUnder_18 hF (by decide) (by decide)
  refine j_iload_n B dX11_isUnder_0 rfl ?_
  refine j_iconst (v := 5) B dX11_isUnder_1 (by decide) ?_
  refine j_icmp_eq (tgt := 13) B dX11_isUnder_2 (by decide) hF (fun h2 hF => ?_) (fun h2 hF => ?_)
  · refine j_msk [false, false] rfl ?_
    exact jb13  hF
  · refine j_aload_n B dX11_isUnder_5 rfl ?_
    refine j_iload_n B dX11_isUnder_6 rfl ?_
    obtain ⟨i7, e7, hF⟩ := bo hF
    refine j_rSU (st2 := [.int i7]) B [.int x1] [] csu_X11_19 ht9 hc9 dX11_isUnder_7 hl hR (ct_X6_isUnder G e7).2 rfl rfl rfl rfl trivial (Nat.le_of_ble_eq_true rfl) ?_
    refine j_if_eq (tgt := 17) B dX11_isUnder_10 (by decide) hF (fun h10 hF => ?_) (fun h10 hF => ?_)
    · refine j_iconst (v := 0) B dX11_isUnder_17 (by decide) ?_
      exact j_lZ B (by decide) rfl dX11_isUnder_18 hF (by decide) (by decide)
    · refine j_msk [false, false] rfl ?_
      exact jb13  hF
theorem ck_X0_15 : CK "CarryFair" 15 [7, 9] := by
  refine ⟨_, q349, fun t ht => ?_⟩
  simp only [List.mem_cons, List.not_mem_nil, or_false] at ht
  rcases ht with rfl | rfl
  · exact Or.inl (by decide)
  · exact Or.inr q1927
theorem ck_X0_21 : CK "CarryFair" 21 [8, 10] := by
  refine ⟨_, q369, fun t ht => ?_⟩
  simp only [List.mem_cons, List.not_mem_nil, or_false] at ht
  rcases ht with rfl | rfl
  · exact Or.inl (by decide)
  · exact Or.inr q1928
theorem ck_X0_24 : CK "CarryFair" 24 [9] := by
  refine ⟨_, q381, fun t ht => ?_⟩
  simp only [List.mem_cons, List.not_mem_nil, or_false] at ht
  rcases ht with rfl
  · exact Or.inl (by decide)
theorem ck_X0_27 : CK "CarryFair" 27 [10] := by
  refine ⟨_, q394, fun t ht => ?_⟩
  simp only [List.mem_cons, List.not_mem_nil, or_false] at ht
  rcases ht with rfl
  · exact Or.inl (by decide)
theorem ck_X0_30 : CK "CarryFair" 30 [11, 12] := by
  refine ⟨_, q407, fun t ht => ?_⟩
  simp only [List.mem_cons, List.not_mem_nil, or_false] at ht
  rcases ht with rfl | rfl
  · exact Or.inl (by decide)
  · exact Or.inr q1929
theorem ck_X0_33 : CK "CarryFair" 33 [12] := by
  refine ⟨_, q419, fun t ht => ?_⟩
  simp only [List.mem_cons, List.not_mem_nil, or_false] at ht
  rcases ht with rfl
  · exact Or.inl (by decide)
def F_X0_cast (a0 : Option Nat) (x1 : Int32) (w : cH) : Option (Option Nat) :=
  if x1 = 1 then (if ckc w a0 [7, 9] = true then (some (a0)) else none) else if x1 = 2 then (if ckc w a0 [8, 10] = true then (some (a0)) else none) else if x1 = 3 then (if ckc w a0 [9] = true then (some (a0)) else none) else if x1 = 4 then (if ckc w a0 [10] = true then (some (a0)) else none) else if x1 = 5 then (if ckc w a0 [11, 12] = true then (some (a0)) else none) else if x1 = 6 then (if ckc w a0 [12] = true then (some (a0)) else none) else (if ckc w a0 [6, 7, 8, 9, 10, 11, 12] = true then (some (a0)) else none)
abbrev rm_X0_cast : Room := { frames := 0, cells := 0, slots := 0, locals := 0 }
set_option maxHeartbeats 4000000 in
set_option maxRecDepth 100000 in
theorem ct_X0_cast {l : Launch} {g : Gt} (G : Gok g) {a0 : Option Nat} {x1 : Int32} {w : cH} {r9 : Option Nat} (hF : F_X0_cast a0 x1 w = some r9) : Mx l yX0_cast (ws_ yX0_cast cX0_cast 2 (some (.object "CarryFair$Carrier"))) rm_X0_cast g [va_rf a0, .int x1] w (.returned (some (va_rf r9))) w 0 0 := by
  unfold F_X0_cast at hF
  refine mk_ct cX0_cast 2 (some (.object "CarryFair$Carrier")) "CarryFair" (plainFor_of_name (by decide)) rfl (lg_le ⟨cr _, rfl, trivial⟩ (Nat.le_of_ble_eq_true rfl)) (av_ok ⟨cr _, rfl, trivial⟩) G (fun x B hl hR hin hh => ?_)
  show J g x _ _ 0 0 w 0 0 0 [some (va_rf a0), some (.int x1)] []
  refine j_iload_n B dX0_cast_0 rfl ?_
  by_cases t1_0 : x1 = 1
  · rw [if_pos t1_0] at hF
    refine j_tblIn (tgt := 40) B 1 dX0_cast_1 t1_0 (by decide) rfl (by decide) ?_
    refine j_aload_n B dX0_cast_40 rfl ?_
    obtain ⟨hz, hF⟩ := bg hF
    refine j_cast B ck_X0_15 hz dX0_cast_41 ?_
    exact j_lA B rfl (Or.inl ⟨_, rfl⟩) dX0_cast_44 hF (by decide) (by decide)
  rw [if_neg t1_0] at hF
  by_cases t1_1 : x1 = 2
  · rw [if_pos t1_1] at hF
    refine j_tblIn (tgt := 45) B 2 dX0_cast_1 t1_1 (by decide) rfl (by decide) ?_
    refine j_aload_n B dX0_cast_45 rfl ?_
    obtain ⟨hz, hF⟩ := bg hF
    refine j_cast B ck_X0_21 hz dX0_cast_46 ?_
    exact j_lA B rfl (Or.inl ⟨_, rfl⟩) dX0_cast_49 hF (by decide) (by decide)
  rw [if_neg t1_1] at hF
  by_cases t1_2 : x1 = 3
  · rw [if_pos t1_2] at hF
    refine j_tblIn (tgt := 50) B 3 dX0_cast_1 t1_2 (by decide) rfl (by decide) ?_
    refine j_aload_n B dX0_cast_50 rfl ?_
    obtain ⟨hz, hF⟩ := bg hF
    refine j_cast B ck_X0_24 hz dX0_cast_51 ?_
    exact j_lA B rfl (Or.inl ⟨_, rfl⟩) dX0_cast_54 hF (by decide) (by decide)
  rw [if_neg t1_2] at hF
  by_cases t1_3 : x1 = 4
  · rw [if_pos t1_3] at hF
    refine j_tblIn (tgt := 55) B 4 dX0_cast_1 t1_3 (by decide) rfl (by decide) ?_
    refine j_aload_n B dX0_cast_55 rfl ?_
    obtain ⟨hz, hF⟩ := bg hF
    refine j_cast B ck_X0_27 hz dX0_cast_56 ?_
    exact j_lA B rfl (Or.inl ⟨_, rfl⟩) dX0_cast_59 hF (by decide) (by decide)
  rw [if_neg t1_3] at hF
  by_cases t1_4 : x1 = 5
  · rw [if_pos t1_4] at hF
    refine j_tblIn (tgt := 60) B 5 dX0_cast_1 t1_4 (by decide) rfl (by decide) ?_
    refine j_aload_n B dX0_cast_60 rfl ?_
    obtain ⟨hz, hF⟩ := bg hF
    refine j_cast B ck_X0_30 hz dX0_cast_61 ?_
    exact j_lA B rfl (Or.inl ⟨_, rfl⟩) dX0_cast_64 hF (by decide) (by decide)
  rw [if_neg t1_4] at hF
  by_cases t1_5 : x1 = 6
  · rw [if_pos t1_5] at hF
    refine j_tblIn (tgt := 65) B 6 dX0_cast_1 t1_5 (by decide) rfl (by decide) ?_
    refine j_aload_n B dX0_cast_65 rfl ?_
    obtain ⟨hz, hF⟩ := bg hF
    refine j_cast B ck_X0_33 hz dX0_cast_66 ?_
    exact j_lA B rfl (Or.inl ⟨_, rfl⟩) dX0_cast_69 hF (by decide) (by decide)
  rw [if_neg t1_5] at hF
  refine j_tblOut (tgt := 70) B dX0_cast_1 (tbl_out 1 6 (fun z h1 h2 => ?_)) (by decide) ?_
  · rcases (show z = 1 ∨ z = 2 ∨ z = 3 ∨ z = 4 ∨ z = 5 ∨ z = 6 by omega) with h | h | h | h | h | h
    · rw [h]; exact lv_neT t1_0 (by decide)
    · rw [h]; exact lv_neT t1_1 (by decide)
    · rw [h]; exact lv_neT t1_2 (by decide)
    · rw [h]; exact lv_neT t1_3 (by decide)
    · rw [h]; exact lv_neT t1_4 (by decide)
    · rw [h]; exact lv_neT t1_5 (by decide)
  refine j_aload_n B dX0_cast_70 rfl ?_
  obtain ⟨hz, hF⟩ := bg hF
  refine j_cast B ck_X0_36 hz dX0_cast_71 ?_
  exact j_lA B rfl (Or.inl ⟨_, rfl⟩) dX0_cast_74 hF (by decide) (by decide)
theorem flc_X0_427 : FLc "CarryFair" 427 [6, 7, 8, 9, 10, 11, 12] 0 := by
  intro t ht
  simp only [List.mem_cons, List.not_mem_nil, or_false] at ht
  rcases ht with rfl | rfl | rfl | rfl | rfl | rfl | rfl
  · exact ⟨RX6, TX6, 2, rfl, by decide, in_X6, Or.inl q360⟩
  · exact ⟨RX7, TX7, 3, rfl, by decide, in_X7, Or.inl q360⟩
  · exact ⟨RX8, TX8, 3, rfl, by decide, in_X8, Or.inl q360⟩
  · exact ⟨RX9, TX9, 4, rfl, by decide, in_X9, Or.inl q360⟩
  · exact ⟨RX10, TX10, 4, rfl, by decide, in_X10, Or.inl q360⟩
  · exact ⟨RX11, TX11, 3, rfl, by decide, in_X11, Or.inl q360⟩
  · exact ⟨RX12, TX12, 4, rfl, by decide, in_X12, Or.inl q360⟩
theorem nk_X0_36 {g : Gt} (G : Gok g) : NK "CarryFair" 36 [] g := ⟨_, q432, fun t ht => by cases ht⟩
def V_isUnder (a0 : Option Nat) (x1 : Int32) (w : cH) : Option Int32 := if tgi w a0 [6] = true then F_X6_isUnder a0 x1 w else if tgi w a0 [7] = true then F_X7_isUnder a0 x1 w else if tgi w a0 [8] = true then F_X8_isUnder a0 x1 w else if tgi w a0 [9] = true then F_X7_isUnder a0 x1 w else if tgi w a0 [10] = true then F_X8_isUnder a0 x1 w else if tgi w a0 [11] = true then F_X11_isUnder a0 x1 w else if tgi w a0 [12] = true then F_X11_isUnder a0 x1 w else none
theorem cu_X0_420_6 : CV "CarryFair" 420 6 yX6_isUnder cX6_isUnder 2 (some .boolean) 1 := ⟨_, _, rfl, lw_V q1209 q1210 q1211 q135 q1228, by decide +kernel⟩
theorem cu_X0_420_7 : CUO "CarryFair" 420 7 ⟨"CarryFair$Carrier", "isUnder", "(I)Z"⟩ yX7_isUnder cX7_isUnder 2 (some .boolean) 1 := by
  refine ⟨lw_app ?_ (lw_meth q1219), ⟨_, _, _, q1228⟩, clsTag_of (by decide), by decide +kernel⟩
  intro w hw
  simp only [List.mem_cons, List.not_mem_nil, or_false] at hw
  rcases hw with e | e | e | e | e | e
  · rw [e]; exact q1209
  · rw [e]; exact q1212
  · rw [e]; exact q1210
  · rw [e]; exact q1225
  · rw [e]; exact q1218
  · rw [e]; exact q136
theorem cu_X0_420_8 : CUO "CarryFair" 420 8 ⟨"CarryFair$Carrier", "isUnder", "(I)Z"⟩ yX8_isUnder cX8_isUnder 2 (some .boolean) 1 := by
  refine ⟨lw_app ?_ (lw_meth q1223), ⟨_, _, _, q1228⟩, clsTag_of (by decide), by decide +kernel⟩
  intro w hw
  simp only [List.mem_cons, List.not_mem_nil, or_false] at hw
  rcases hw with e | e | e | e | e | e
  · rw [e]; exact q1209
  · rw [e]; exact q1212
  · rw [e]; exact q1210
  · rw [e]; exact q1226
  · rw [e]; exact q1222
  · rw [e]; exact q137
theorem cu_X0_420_9 : CUO "CarryFair" 420 9 ⟨"CarryFair$Carrier", "isUnder", "(I)Z"⟩ yX7_isUnder cX7_isUnder 2 (some .boolean) 1 := by
  refine ⟨lw_app ?_ (lw_meth q1219), ⟨_, _, _, q1228⟩, clsTag_of (by decide), by decide +kernel⟩
  intro w hw
  simp only [List.mem_cons, List.not_mem_nil, or_false] at hw
  rcases hw with e | e | e | e | e | e
  · rw [e]; exact q1209
  · rw [e]; exact q1212
  · rw [e]; exact q1210
  · rw [e]; exact q1217
  · rw [e]; exact q1218
  · rw [e]; exact q136
theorem cu_X0_420_10 : CUO "CarryFair" 420 10 ⟨"CarryFair$Carrier", "isUnder", "(I)Z"⟩ yX8_isUnder cX8_isUnder 2 (some .boolean) 1 := by
  refine ⟨lw_app ?_ (lw_meth q1223), ⟨_, _, _, q1228⟩, clsTag_of (by decide), by decide +kernel⟩
  intro w hw
  simp only [List.mem_cons, List.not_mem_nil, or_false] at hw
  rcases hw with e | e | e | e | e | e
  · rw [e]; exact q1209
  · rw [e]; exact q1212
  · rw [e]; exact q1210
  · rw [e]; exact q1221
  · rw [e]; exact q1222
  · rw [e]; exact q137
theorem cu_X0_420_11 : CUO "CarryFair" 420 11 ⟨"CarryFair$Carrier", "isUnder", "(I)Z"⟩ yX11_isUnder cX11_isUnder 2 (some .boolean) 1 := by
  refine ⟨lw_app ?_ (lw_meth q1215), ⟨_, _, _, q1228⟩, clsTag_of (by decide), by decide +kernel⟩
  intro w hw
  simp only [List.mem_cons, List.not_mem_nil, or_false] at hw
  rcases hw with e | e | e | e | e | e
  · rw [e]; exact q1209
  · rw [e]; exact q1212
  · rw [e]; exact q1210
  · rw [e]; exact q1227
  · rw [e]; exact q1214
  · rw [e]; exact q140
theorem cu_X0_420_12 : CUO "CarryFair" 420 12 ⟨"CarryFair$Carrier", "isUnder", "(I)Z"⟩ yX11_isUnder cX11_isUnder 2 (some .boolean) 1 := by
  refine ⟨lw_app ?_ (lw_meth q1215), ⟨_, _, _, q1228⟩, clsTag_of (by decide), by decide +kernel⟩
  intro w hw
  simp only [List.mem_cons, List.not_mem_nil, or_false] at hw
  rcases hw with e | e | e | e | e | e
  · rw [e]; exact q1209
  · rw [e]; exact q1212
  · rw [e]; exact q1210
  · rw [e]; exact q1213
  · rw [e]; exact q1214
  · rw [e]; exact q140
set_option maxHeartbeats 1000000 in
theorem vd_X0_420 {g : Gt} {x : Xt} {o : Outcome} {w1 : cH} {mc ms : Nat} {w : cH} {k n pc : Nat} {vs : List (Option Value)} {cc : ByteArray} {nL : Nat} {ret : Option FieldType} (B : Bd g x cc nL "CarryFair" ret) (G : Gok g) {a0 : Option Nat} {x1 : Int32} {i9 : Int32} {l : Launch} {R : Room} (rest : List Value) (e : V_isUnder a0 x1 w = some i9) (d : decode cc pc = .ok (.invokevirtual 420, 3)) (hl : x.2.1 = l) (hR : x.2.2.2.1 = R) (hr0 : rmOk rm_X6_isUnder R 2 k n 0 0 = true) (hr1 : rmOk rm_X7_isUnder R 2 k n 0 0 = true) (hr2 : rmOk rm_X8_isUnder R 2 k n 0 0 = true) (hr3 : rmOk rm_X11_isUnder R 2 k n 0 0 = true) (hc1 : cat1 rest) (hc8 : rest.length ≤ 8) (kk : J g x o w1 mc ms w k n (pc + 3) vs (.int i9 :: rest)) : J g x o w1 mc ms w k n pc vs (.int x1 :: va_rf a0 :: rest) := by
  unfold V_isUnder at e
  by_cases h : tgi w a0 [6] = true
  · rw [if_pos h] at e
    exact j_rV (st2 := .int i9 :: rest) B [.int x1] rest cu_X0_420_6 d hl hR ⟨tgi_one h, (ct_X6_isUnder G e).2⟩ hr0 rfl rfl rfl hc1 hc8 kk
  rw [if_neg h] at e
  clear h
  by_cases h : tgi w a0 [7] = true
  · rw [if_pos h] at e
    exact j_rU (st2 := .int i9 :: rest) B [.int x1] rest cu_X0_420_7 (tgi_one h) d hl hR (ct_X7_isUnder G e).2 hr1 rfl rfl rfl hc1 hc8 kk
  rw [if_neg h] at e
  clear h
  by_cases h : tgi w a0 [8] = true
  · rw [if_pos h] at e
    exact j_rU (st2 := .int i9 :: rest) B [.int x1] rest cu_X0_420_8 (tgi_one h) d hl hR (ct_X8_isUnder G e).2 hr2 rfl rfl rfl hc1 hc8 kk
  rw [if_neg h] at e
  clear h
  by_cases h : tgi w a0 [9] = true
  · rw [if_pos h] at e
    exact j_rU (st2 := .int i9 :: rest) B [.int x1] rest cu_X0_420_9 (tgi_one h) d hl hR (ct_X7_isUnder G e).2 hr1 rfl rfl rfl hc1 hc8 kk
  rw [if_neg h] at e
  clear h
  by_cases h : tgi w a0 [10] = true
  · rw [if_pos h] at e
    exact j_rU (st2 := .int i9 :: rest) B [.int x1] rest cu_X0_420_10 (tgi_one h) d hl hR (ct_X8_isUnder G e).2 hr2 rfl rfl rfl hc1 hc8 kk
  rw [if_neg h] at e
  clear h
  by_cases h : tgi w a0 [11] = true
  · rw [if_pos h] at e
    exact j_rU (st2 := .int i9 :: rest) B [.int x1] rest cu_X0_420_11 (tgi_one h) d hl hR (ct_X11_isUnder G e).2 hr3 rfl rfl rfl hc1 hc8 kk
  rw [if_neg h] at e
  clear h
  by_cases h : tgi w a0 [12] = true
  · rw [if_pos h] at e
    exact j_rU (st2 := .int i9 :: rest) B [.int x1] rest cu_X0_420_12 (tgi_one h) d hl hR (ct_X11_isUnder G e).2 hr3 rfl rfl rfl hc1 hc8 kk
  rw [if_neg h] at e
  clear h
  cases e
theorem cv_X0_416 : CV "CarryFair" 416 0 yX0_thingAt cX0_thingAt 3 (some (.object "java/lang/Object")) 1 := ⟨_, _, rfl, lw_V q1205 q1207 qs64 q126 q1208, by decide +kernel⟩
theorem cs_X0_423 : CS "CarryFair" 423 yX0_cast cX0_cast 2 (some (.object "CarryFair$Carrier")) 2 := ⟨Or.inl (lw_S q1230 q1231 q126 q1232), by decide +kernel⟩
def F_X0_as_J59 (a0 : Option Nat) (x2 : Int32) (a3 : Option Nat) (s0 : Int32) (w : cH) : Option (Int32 × cH) :=
  if s0 = 0 then (cb (F_X0_finding a0 2 w) fun i79 w79 => some (i79, w79)) else ((F_X0_cast a3 x2 w).bind fun a68p => (fIc w a68p [6, 7, 8, 9, 10, 11, 12] 0).bind fun i71 => some (i71, w))
def F_X0_as_J58 (a0 : Option Nat) (x2 : Int32) (a3 : Option Nat) (w : cH) : Option (Int32 × cH) :=
  F_X0_as_J59  a0 x2 a3 0 w
def F_X0_as_J14 (a0 : Option Nat) (w : cH) : Option (Int32 × cH) :=
  cb (F_X0_finding a0 0 w) fun i16 w16 => some (i16, w16)
def F_X0_as (a0 : Option Nat) (x1 : Int32) (x2 : Int32) (w : cH) : Option (Int32 × cH) :=
  if tg w a0 = some 0 then (if (F_X0_isSpot x1) = 0 then (F_X0_as_J14  a0 w) else (if ¬ (F_X0_isKind x2) = 0 then (cb (F_X0_thingAt a0 x1 w) fun a22p w22 =>if ¬ a22p = none then ((iof w22 a22p [6, 7, 8, 9, 10, 11, 12] []).bind fun i37 =>if i37 = 0 then (F_X0_as_J58  a0 x2 a22p w22) else (if ckc w22 a22p [6, 7, 8, 9, 10, 11, 12] = true then ((V_isUnder a22p x2 w22).bind fun i48 =>if i48 = 0 then (F_X0_as_J58  a0 x2 a22p w22) else (F_X0_as_J59  a0 x2 a22p 1 w22)) else none)) else (cb (F_X0_finding a0 5 w22) fun i32 w32 => some (i32, w32))) else (F_X0_as_J14  a0 w))) else none
abbrev rm_X0_as : Room := { frames := 5, cells := 0, slots := 0, locals := 102 }
set_option maxHeartbeats 4000000 in
set_option maxRecDepth 100000 in
theorem ct_X0_as {l : Launch} {g : Gt} (G : Gok g) {a0 : Option Nat} {x1 : Int32} {x2 : Int32} {w : cH} {r9 : Int32} {w9 : cH} (hF : F_X0_as a0 x1 x2 w = some (r9, w9)) : tg w a0 = some 0 ∧ Mx l yX0_as (ws_ yX0_as cX0_as 5 (some .int)) rm_X0_as g [va_rf a0, .int x1, .int x2] w (.returned (some (.int r9))) w9 0 0 := by
  unfold F_X0_as at hF
  obtain ⟨ht, hF⟩ := bg hF
  refine ⟨ht, mk_ct cX0_as 5 (some .int) "CarryFair" (plainFor_of_name (by decide)) rfl (lg_le ⟨cr _, rfl, rfl, trivial⟩ (Nat.le_of_ble_eq_true rfl)) (av_ok ⟨cr _, rfl, rfl, trivial⟩) G (fun x B hl hR hin hh => ?_)⟩
  show J g x _ _ 0 0 w 0 0 0 [some (va_rf a0), some (.int x1), some (.int x2), none, none] []
  have jb59 : ∀ (a0 : Option Nat) (x2 : Int32) (a3 : Option Nat) (s0 : Int32) (w : cH), F_X0_as_J59  a0 x2 a3 s0 w = some (r9, w9) → J g x (.returned (some (.int r9))) w9 0 0 w 0 0 59 [some (va_rf a0), none, some (.int x2), some (va_rf a3), none] [.int s0] := by
    intro a0 x2 a3 s0 w hF
    unfold F_X0_as_J59 at hF
    refine j_istore (vs' := [some (va_rf a0), none, some (.int x2), some (va_rf a3), some (.int s0)]) B dX0_as_59 (by decide) rfl ?_
    refine j_iload B dX0_as_61 rfl ?_
    refine j_if_eq (tgt := 77) B dX0_as_63 (by decide) hF (fun h63 hF => ?_) (fun h63 hF => ?_)
    · refine j_aload_n B dX0_as_77 rfl ?_
      refine j_iconst (v := 2) B dX0_as_78 (by decide) ?_
      obtain ⟨i79, w79, e79, hF⟩ := bc hF
      refine j_rV (st2 := [.int i79]) B [.int 2] [] cv_X0_142 dX0_as_79 hl hR (ct_X0_finding G e79) rfl rfl rfl rfl trivial (Nat.le_of_ble_eq_true rfl) ?_
      exact j_lIw B rfl dX0_as_82 hF (by decide) (by decide)
    · refine j_aload_n B dX0_as_66 rfl ?_
      refine j_iload_n B dX0_as_67 rfl ?_
      obtain ⟨a68p, e68, hF⟩ := bo hF
      refine j_rS (st2 := [va_rf a68p]) B [va_rf a3, .int x2] [] cs_X0_423 dX0_as_68 hl hR (ct_X0_cast G e68) rfl rfl rfl rfl trivial (Nat.le_of_ble_eq_true rfl) ?_
      refine j_getIc B flc_X0_427 dX0_as_71 hF (fun i71 hF => ?_)
      refine j_goto (tgt := 82) B dX0_as_74 (by decide) ?_
      exact j_lIw B rfl dX0_as_82 hF (by decide) (by decide)
  have jb58 : ∀ (a0 : Option Nat) (x2 : Int32) (a3 : Option Nat) (w : cH), F_X0_as_J58  a0 x2 a3 w = some (r9, w9) → J g x (.returned (some (.int r9))) w9 0 0 w 0 0 58 [some (va_rf a0), none, some (.int x2), some (va_rf a3), none] [] := by
    intro a0 x2 a3 w hF
    unfold F_X0_as_J58 at hF
    refine j_iconst (v := 0) B dX0_as_58 (by decide) ?_
    exact jb59 a0 x2 a3 0 w hF
  have jb14 : ∀ (a0 : Option Nat) (w : cH), F_X0_as_J14  a0 w = some (r9, w9) → J g x (.returned (some (.int r9))) w9 0 0 w 0 0 14 [some (va_rf a0), none, none, none, none] [] := by
    intro a0 w hF
    unfold F_X0_as_J14 at hF
    refine j_aload_n B dX0_as_14 rfl ?_
    refine j_iconst (v := 0) B dX0_as_15 (by decide) ?_
    obtain ⟨i16, w16, e16, hF⟩ := bc hF
    refine j_rV (st2 := [.int i16]) B [.int 0] [] cv_X0_142 dX0_as_16 hl hR (ct_X0_finding G e16) rfl rfl rfl rfl trivial (Nat.le_of_ble_eq_true rfl) ?_
    exact j_lIw B rfl dX0_as_19 hF (by decide) (by decide)
  refine j_iload_n B dX0_as_0 rfl ?_
  refine j_rS (st2 := [.int (F_X0_isSpot x1)]) B [.int x1] [] cs_X0_413 dX0_as_1 hl hR (ct_X0_isSpot G) rfl rfl rfl rfl trivial (Nat.le_of_ble_eq_true rfl) ?_
  refine j_if_eq (tgt := 14) B dX0_as_4 (by decide) hF (fun h4 hF => ?_) (fun h4 hF => ?_)
  · refine j_msk [true, false, false, false, false] rfl ?_
    exact jb14 a0 w hF
  · refine j_iload_n B dX0_as_7 rfl ?_
    refine j_rS (st2 := [.int (F_X0_isKind x2)]) B [.int x2] [] cs_X0_11 dX0_as_8 hl hR (ct_X0_isKind G) rfl rfl rfl rfl trivial (Nat.le_of_ble_eq_true rfl) ?_
    refine j_if_ne (tgt := 20) B dX0_as_11 (by decide) hF (fun h11 hF => ?_) (fun h11 hF => ?_)
    · refine j_aload_n B dX0_as_20 rfl ?_
      refine j_iload_n B dX0_as_21 rfl ?_
      obtain ⟨a22p, w22, e22, hF⟩ := bc hF
      refine j_rV (st2 := [va_rf a22p]) B [.int x1] [] cv_X0_416 dX0_as_22 hl hR (ct_X0_thingAt G e22) rfl rfl rfl rfl trivial (Nat.le_of_ble_eq_true rfl) ?_
      refine j_astore_n (vs' := [some (va_rf a0), some (.int x1), some (.int x2), some (va_rf a22p), none]) B dX0_as_25 (by decide) rfl ?_
      refine j_aload_n B dX0_as_26 rfl ?_
      refine j_ifnonnull (tgt := 36) B dX0_as_27 (by decide) hF (fun h27 hF => ?_) (fun h27 hF => ?_)
      · refine j_aload_n B dX0_as_36 rfl ?_
        refine j_inst B ck_X0_36 (nk_X0_36 G) dX0_as_37 hF (fun i37 hF => ?_)
        refine j_if_eq (tgt := 58) B dX0_as_40 (by decide) hF (fun h40 hF => ?_) (fun h40 hF => ?_)
        · refine j_msk [true, false, true, true, false] rfl ?_
          exact jb58 a0 x2 a22p w22 hF
        · refine j_aload_n B dX0_as_43 rfl ?_
          obtain ⟨hz, hF⟩ := bg hF
          refine j_cast B ck_X0_36 hz dX0_as_44 ?_
          refine j_iload_n B dX0_as_47 rfl ?_
          obtain ⟨i48, e48, hF⟩ := bo hF
          refine vd_X0_420 B G [] e48 dX0_as_48 hl hR rfl rfl rfl rfl trivial (Nat.le_of_ble_eq_true rfl) ?_
          refine j_if_eq (tgt := 58) B dX0_as_51 (by decide) hF (fun h51 hF => ?_) (fun h51 hF => ?_)
          · refine j_msk [true, false, true, true, false] rfl ?_
            exact jb58 a0 x2 a22p w22 hF
          · refine j_iconst (v := 1) B dX0_as_54 (by decide) ?_
            refine j_goto (tgt := 59) B dX0_as_55 (by decide) ?_
            refine j_msk [true, false, true, true, false] rfl ?_
            exact jb59 a0 x2 a22p 1 w22 hF
      · refine j_aload_n B dX0_as_30 rfl ?_
        refine j_iconst (v := 5) B dX0_as_31 (by decide) ?_
        obtain ⟨i32, w32, e32, hF⟩ := bc hF
        refine j_rV (st2 := [.int i32]) B [.int 5] [] cv_X0_142 dX0_as_32 hl hR (ct_X0_finding G e32) rfl rfl rfl rfl trivial (Nat.le_of_ble_eq_true rfl) ?_
        exact j_lIw B rfl dX0_as_35 hF (by decide) (by decide)
    · refine j_msk [true, false, false, false, false] rfl ?_
      exact jb14 a0 w hF
def F_X0_isSheet (x0 : Int32) : Int32 :=
  (F_X0_in x0 0 3) &&& 1
abbrev rm_X0_isSheet : Room := { frames := 1, cells := 0, slots := 0, locals := 22 }
set_option maxHeartbeats 4000000 in
set_option maxRecDepth 100000 in
theorem ct_X0_isSheet {l : Launch} {g : Gt} (G : Gok g) {x0 : Int32} {w : cH} : Mx l yX0_isSheet (ws_ yX0_isSheet cX0_isSheet 1 (some .boolean)) rm_X0_isSheet g [.int x0] w (.returned (some (.int (F_X0_isSheet x0)))) w 0 0 := by
  generalize hF : F_X0_isSheet x0 = r9
  unfold F_X0_isSheet at hF
  refine mk_ct cX0_isSheet 1 (some .boolean) "CarryFair" (plainFor_of_name (by decide)) rfl (lg_le ⟨rfl, trivial⟩ (Nat.le_of_ble_eq_true rfl)) (av_ok ⟨rfl, trivial⟩) G (fun x B hl hR hin hh => ?_)
  show J g x _ _ 0 0 w 0 0 0 [some (.int x0)] []
  refine j_iload_n B dX0_isSheet_0 rfl ?_
  refine j_iconst (v := 0) B dX0_isSheet_1 (by decide) ?_
  refine j_iconst (v := 3) B dX0_isSheet_2 (by decide) ?_
  refine j_rS (st2 := [.int (F_X0_in x0 0 3)]) B [.int x0, .int 0, .int 3] [] cs_X0_3 dX0_isSheet_3 hl hR (ct_X0_in G) rfl rfl rfl rfl trivial (Nat.le_of_ble_eq_true rfl) ?_
  exact j_lBp B rfl dX0_isSheet_6 hF (by decide) (by decide)
theorem fl_X0_80 : FL "CarryFair" 80 0 9 := ⟨RX0, TX0, 20, rfl, by decide, in_X0, Or.inl q448⟩
theorem cs_X0_430 : CS "CarryFair" 430 yX0_isSheet cX0_isSheet 1 (some .boolean) 1 := ⟨Or.inl (lw_S q1237 q1238 q126 q1239), by decide +kernel⟩
def F_X0_sheet_J101 (x2 : Int32) (x3 : Int32) (s0 : Option Nat) (s1 : Option Nat) (w : cH) : Option (Int32 × cH) :=
  (pV w s1 5 0 (va_rf s0)).bind fun w101 =>if ¬ x2 = 0 then (some (x3, w101)) else (some (0, w101))
def F_X0_sheet_J56 (s0 : Int32) (s1 : Option Nat) (w : cH) : Option (Int32 × cH) :=
  cb (F_X0_finding s1 s0 w) fun i56 w56 => some (i56, w56)
def F_X0_sheet_J45 (a0 : Option Nat) (x3 : Int32) (w : cH) : Option (Int32 × cH) :=
  if 0 ≤ x3 then (F_X0_sheet_J56  0 a0 w) else (F_X0_sheet_J56  6 a0 w)
def F_X0_sheet_J35 (a0 : Option Nat) (x1 : Int32) (x2 : Int32) (x3 : Int32) (w : cH) : Option (Int32 × cH) :=
  if x3 < 0 then (F_X0_sheet_J45  a0 x3 w) else (if x3 ≤ 40 then ((fA w a0 0 9).bind fun a61p => (aA w a61p 104 x1).bind fun a65p =>if ¬ x2 = 0 then (if ¬ x2 = 8 then (if ¬ x2 = 16 then (if ¬ x3 < 0 ∧ x3.toNatClampNeg ≤ 40 then ((some (nA w 100 x3)).bind fun w99 => F_X0_sheet_J101  x2 x3 (some w.2) a65p w99) else none) else (if ¬ x3 < 0 ∧ x3.toNatClampNeg ≤ 40 then ((some (nA w 102 x3)).bind fun w93 => F_X0_sheet_J101  x2 x3 (some w.2) a65p w93) else none)) else (if ¬ x3 < 0 ∧ x3.toNatClampNeg ≤ 40 then ((some (nA w 101 x3)).bind fun w81 => F_X0_sheet_J101  x2 x3 (some w.2) a65p w81) else none)) else (F_X0_sheet_J101  x2 x3 none a65p w)) else (F_X0_sheet_J45  a0 x3 w))
def F_X0_sheet_J29 (a0 : Option Nat) (w : cH) : Option (Int32 × cH) :=
  cb (F_X0_finding a0 0 w) fun i31 w31 => some (i31, w31)
def F_X0_sheet (a0 : Option Nat) (x1 : Int32) (x2 : Int32) (x3 : Int32) (w : cH) : Option (Int32 × cH) :=
  if tg w a0 = some 0 then (if (F_X0_isSheet x1) = 0 then (F_X0_sheet_J29  a0 w) else (if x2 = 0 then (F_X0_sheet_J35  a0 x1 x2 x3 w) else (if x2 = 8 then (F_X0_sheet_J35  a0 x1 x2 x3 w) else (if x2 = 16 then (F_X0_sheet_J35  a0 x1 x2 x3 w) else (if x2 = 32 then (F_X0_sheet_J35  a0 x1 x2 x3 w) else (F_X0_sheet_J29  a0 w)))))) else none
abbrev rm_X0_sheet : Room := { frames := 2, cells := 1, slots := 40, locals := 42 }
set_option maxHeartbeats 4000000 in
set_option maxRecDepth 100000 in
theorem ct_X0_sheet {l : Launch} {g : Gt} (G : Gok g) {a0 : Option Nat} {x1 : Int32} {x2 : Int32} {x3 : Int32} {w : cH} {r9 : Int32} {w9 : cH} (hF : F_X0_sheet a0 x1 x2 x3 w = some (r9, w9)) : tg w a0 = some 0 ∧ Mx l yX0_sheet (ws_ yX0_sheet cX0_sheet 4 (some .int)) rm_X0_sheet g [va_rf a0, .int x1, .int x2, .int x3] w (.returned (some (.int r9))) w9 1 40 := by
  unfold F_X0_sheet at hF
  obtain ⟨ht, hF⟩ := bg hF
  refine ⟨ht, mk_ct cX0_sheet 4 (some .int) "CarryFair" (plainFor_of_name (by decide)) rfl (lg_le ⟨cr _, rfl, rfl, rfl, trivial⟩ (Nat.le_of_ble_eq_true rfl)) (av_ok ⟨cr _, rfl, rfl, rfl, trivial⟩) G (fun x B hl hR hin hh => ?_)⟩
  show J g x _ _ 1 40 w 0 0 0 [some (va_rf a0), some (.int x1), some (.int x2), some (.int x3)] []
  have jb101 : ∀ (x2 : Int32) (x3 : Int32) (s0 : Option Nat) (s1 : Option Nat) (w : cH), F_X0_sheet_J101  x2 x3 s0 s1 w = some (r9, w9) → J g x (.returned (some (.int r9))) w9 1 40 w 1 40 101 [none, none, some (.int x2), some (.int x3)] [va_rf s0, va_rf s1] := by
    intro x2 x3 s0 s1 w hF
    unfold F_X0_sheet_J101 at hF
    refine j_putV B fp_X0_109 (fun h => by cases h) (nar_rf _ _ (Or.inl ⟨_, rfl⟩)) (fit_rf _ _ (Or.inl ⟨_, rfl⟩)) dX0_sheet_101 hF (fun w101 hF => ?_)
    refine j_iload_n B dX0_sheet_104 rfl ?_
    refine j_if_ne (tgt := 112) B dX0_sheet_105 (by decide) hF (fun h105 hF => ?_) (fun h105 hF => ?_)
    · refine j_iload_n B dX0_sheet_112 rfl ?_
      exact j_lIw B rfl dX0_sheet_113 hF (by decide) (by decide)
    · refine j_iconst (v := 0) B dX0_sheet_108 (by decide) ?_
      refine j_goto (tgt := 113) B dX0_sheet_109 (by decide) ?_
      exact j_lIw B rfl dX0_sheet_113 hF (by decide) (by decide)
  have jb56 : ∀ (s0 : Int32) (s1 : Option Nat) (w : cH), F_X0_sheet_J56  s0 s1 w = some (r9, w9) → J g x (.returned (some (.int r9))) w9 1 40 w 0 0 56 [none, none, none, none] [.int s0, va_rf s1] := by
    intro s0 s1 w hF
    unfold F_X0_sheet_J56 at hF
    obtain ⟨i56, w56, e56, hF⟩ := bc hF
    refine j_rV (st2 := [.int i56]) B [.int s0] [] cv_X0_142 dX0_sheet_56 hl hR (ct_X0_finding G e56) rfl rfl rfl rfl trivial (Nat.le_of_ble_eq_true rfl) ?_
    exact j_lIw B rfl dX0_sheet_59 hF (by decide) (by decide)
  have jb45 : ∀ (a0 : Option Nat) (x3 : Int32) (w : cH), F_X0_sheet_J45  a0 x3 w = some (r9, w9) → J g x (.returned (some (.int r9))) w9 1 40 w 0 0 45 [some (va_rf a0), none, none, some (.int x3)] [] := by
    intro a0 x3 w hF
    unfold F_X0_sheet_J45 at hF
    refine j_aload_n B dX0_sheet_45 rfl ?_
    refine j_iload_n B dX0_sheet_46 rfl ?_
    refine j_if_ge (tgt := 55) B dX0_sheet_47 (by decide) hF (fun h47 hF => ?_) (fun h47 hF => ?_)
    · refine j_iconst (v := 0) B dX0_sheet_55 (by decide) ?_
      refine j_msk [false, false, false, false] rfl ?_
      exact jb56 0 a0 w hF
    · refine j_bipush (v := 6) B dX0_sheet_50 (by decide) ?_
      refine j_goto (tgt := 56) B dX0_sheet_52 (by decide) ?_
      refine j_msk [false, false, false, false] rfl ?_
      exact jb56 6 a0 w hF
  have jb35 : ∀ (a0 : Option Nat) (x1 : Int32) (x2 : Int32) (x3 : Int32) (w : cH), F_X0_sheet_J35  a0 x1 x2 x3 w = some (r9, w9) → J g x (.returned (some (.int r9))) w9 1 40 w 0 0 35 [some (va_rf a0), some (.int x1), some (.int x2), some (.int x3)] [] := by
    intro a0 x1 x2 x3 w hF
    unfold F_X0_sheet_J35 at hF
    refine j_iload_n B dX0_sheet_35 rfl ?_
    refine j_if_lt (tgt := 45) B dX0_sheet_36 (by decide) hF (fun h36 hF => ?_) (fun h36 hF => ?_)
    · refine j_msk [true, false, false, true] rfl ?_
      exact jb45 a0 x3 w hF
    · refine j_iload_n B dX0_sheet_39 rfl ?_
      refine j_bipush (v := 40) B dX0_sheet_40 (by decide) ?_
      refine j_icmp_le (tgt := 60) B dX0_sheet_42 (by decide) hF (fun h42 hF => ?_) (fun h42 hF => ?_)
      · refine j_aload_n B dX0_sheet_60 rfl ?_
        refine j_getA B fl_X0_80 dX0_sheet_61 hF (fun a61p hF => ?_)
        refine j_iload_n B dX0_sheet_64 rfl ?_
        refine j_aaload B 104 rfl rfl dX0_sheet_65 hF (fun a65p hF => ?_)
        refine j_iload_n B dX0_sheet_66 rfl ?_
        refine j_if_ne (tgt := 74) B dX0_sheet_67 (by decide) hF (fun h67 hF => ?_) (fun h67 hF => ?_)
        · refine j_iload_n B dX0_sheet_74 rfl ?_
          refine j_bipush (v := 8) B dX0_sheet_75 (by decide) ?_
          refine j_icmp_ne (tgt := 86) B dX0_sheet_77 (by decide) hF (fun h77 hF => ?_) (fun h77 hF => ?_)
          · refine j_iload_n B dX0_sheet_86 rfl ?_
            refine j_bipush (v := 16) B dX0_sheet_87 (by decide) ?_
            refine j_icmp_ne (tgt := 98) B dX0_sheet_89 (by decide) hF (fun h89 hF => ?_) (fun h89 hF => ?_)
            · refine j_iload_n B dX0_sheet_98 rfl ?_
              obtain ⟨hz, hF⟩ := bg hF
              obtain ⟨w99, e99, hF⟩ := bo hF
              refine j_newarray (at9 := .int) (ty := .int) (N := 40) B 100 rfl rfl rfl q301 dX0_sheet_99 hz.1 hz.2 (by decide) hR (by decide) (by decide) ?_
              rw [Option.some.inj e99]
              refine j_msk [false, false, true, true] rfl ?_
              exact jb101 x2 x3 (some w.2) a65p w99 hF
            · refine j_iload_n B dX0_sheet_92 rfl ?_
              obtain ⟨hz, hF⟩ := bg hF
              obtain ⟨w93, e93, hF⟩ := bo hF
              refine j_newarray (at9 := .short) (ty := .short) (N := 40) B 102 rfl rfl rfl q1240 dX0_sheet_93 hz.1 hz.2 (by decide) hR (by decide) (by decide) ?_
              rw [Option.some.inj e93]
              refine j_goto (tgt := 101) B dX0_sheet_95 (by decide) ?_
              refine j_msk [false, false, true, true] rfl ?_
              exact jb101 x2 x3 (some w.2) a65p w93 hF
          · refine j_iload_n B dX0_sheet_80 rfl ?_
            obtain ⟨hz, hF⟩ := bg hF
            obtain ⟨w81, e81, hF⟩ := bo hF
            refine j_newarray (at9 := .byte) (ty := .byte) (N := 40) B 101 rfl rfl rfl q300 dX0_sheet_81 hz.1 hz.2 (by decide) hR (by decide) (by decide) ?_
            rw [Option.some.inj e81]
            refine j_goto (tgt := 101) B dX0_sheet_83 (by decide) ?_
            refine j_msk [false, false, true, true] rfl ?_
            exact jb101 x2 x3 (some w.2) a65p w81 hF
        · refine j_null B dX0_sheet_70 ?_
          refine j_goto (tgt := 101) B dX0_sheet_71 (by decide) ?_
          refine j_msk [false, false, true, true] rfl ?_
          refine j_widen (k' := 1) (n' := 40) (by decide) (by decide) ?_
          exact jb101 x2 x3 none a65p w hF
      · refine j_msk [true, false, false, true] rfl ?_
        exact jb45 a0 x3 w hF
  have jb29 : ∀ (a0 : Option Nat) (w : cH), F_X0_sheet_J29  a0 w = some (r9, w9) → J g x (.returned (some (.int r9))) w9 1 40 w 0 0 29 [some (va_rf a0), none, none, none] [] := by
    intro a0 w hF
    unfold F_X0_sheet_J29 at hF
    refine j_aload_n B dX0_sheet_29 rfl ?_
    refine j_iconst (v := 0) B dX0_sheet_30 (by decide) ?_
    obtain ⟨i31, w31, e31, hF⟩ := bc hF
    refine j_rV (st2 := [.int i31]) B [.int 0] [] cv_X0_142 dX0_sheet_31 hl hR (ct_X0_finding G e31) rfl rfl rfl rfl trivial (Nat.le_of_ble_eq_true rfl) ?_
    exact j_lIw B rfl dX0_sheet_34 hF (by decide) (by decide)
  refine j_iload_n B dX0_sheet_0 rfl ?_
  refine j_rS (st2 := [.int (F_X0_isSheet x1)]) B [.int x1] [] cs_X0_430 dX0_sheet_1 hl hR (ct_X0_isSheet G) rfl rfl rfl rfl trivial (Nat.le_of_ble_eq_true rfl) ?_
  refine j_if_eq (tgt := 29) B dX0_sheet_4 (by decide) hF (fun h4 hF => ?_) (fun h4 hF => ?_)
  · refine j_msk [true, false, false, false] rfl ?_
    exact jb29 a0 w hF
  · refine j_iload_n B dX0_sheet_7 rfl ?_
    refine j_if_eq (tgt := 35) B dX0_sheet_8 (by decide) hF (fun h8 hF => ?_) (fun h8 hF => ?_)
    · exact jb35 a0 x1 x2 x3 w hF
    · refine j_iload_n B dX0_sheet_11 rfl ?_
      refine j_bipush (v := 8) B dX0_sheet_12 (by decide) ?_
      refine j_icmp_eq (tgt := 35) B dX0_sheet_14 (by decide) hF (fun h14 hF => ?_) (fun h14 hF => ?_)
      · exact jb35 a0 x1 x2 x3 w hF
      · refine j_iload_n B dX0_sheet_17 rfl ?_
        refine j_bipush (v := 16) B dX0_sheet_18 (by decide) ?_
        refine j_icmp_eq (tgt := 35) B dX0_sheet_20 (by decide) hF (fun h20 hF => ?_) (fun h20 hF => ?_)
        · exact jb35 a0 x1 x2 x3 w hF
        · refine j_iload_n B dX0_sheet_23 rfl ?_
          refine j_bipush (v := 32) B dX0_sheet_24 (by decide) ?_
          refine j_icmp_eq (tgt := 35) B dX0_sheet_26 (by decide) hF (fun h26 hF => ?_) (fun h26 hF => ?_)
          · exact jb35 a0 x1 x2 x3 w hF
          · refine j_msk [true, false, false, false] rfl ?_
            exact jb29 a0 w hF
theorem fl_X0_47 : FL "CarryFair" 47 0 0 := ⟨RX0, TX0, 20, rfl, by decide, in_X0, Or.inl q438⟩
theorem fp_X0_117 : FP "CarryFair" 117 1 6 .int false := ⟨RX1, TX1, 7, rfl, by decide, in_X1, Or.inr ⟨_, q210⟩, rfl, (fun h => by cases h), by decide +kernel, ap_X1, tyX1, tyX1_ok⟩
def F_X0_refused (a0 : Option Nat) (x1 : Int32) (w : cH) : Option (Option Nat × cH) :=
  if tg w a0 = some 0 then ((fA w a0 0 0).bind fun a1p => (pV w a1p 1 6 (.int x1)).bind fun w5 => (fA w5 a0 0 0).bind fun a9p => some (a9p, w5)) else none
abbrev rm_X0_refused : Room := { frames := 0, cells := 0, slots := 0, locals := 0 }
set_option maxHeartbeats 4000000 in
set_option maxRecDepth 100000 in
theorem ct_X0_refused {l : Launch} {g : Gt} (G : Gok g) {a0 : Option Nat} {x1 : Int32} {w : cH} {r9 : Option Nat} {w9 : cH} (hF : F_X0_refused a0 x1 w = some (r9, w9)) : tg w a0 = some 0 ∧ Mx l yX0_refused (ws_ yX0_refused cX0_refused 2 (some (.object "CarryFair$Refusal"))) rm_X0_refused g [va_rf a0, .int x1] w (.returned (some (va_rf r9))) w9 0 0 := by
  unfold F_X0_refused at hF
  obtain ⟨ht, hF⟩ := bg hF
  refine ⟨ht, mk_ct cX0_refused 2 (some (.object "CarryFair$Refusal")) "CarryFair" (plainFor_of_name (by decide)) rfl (lg_le ⟨cr _, rfl, trivial⟩ (Nat.le_of_ble_eq_true rfl)) (av_ok ⟨cr _, rfl, trivial⟩) G (fun x B hl hR hin hh => ?_)⟩
  show J g x _ _ 0 0 w 0 0 0 [some (va_rf a0), some (.int x1)] []
  refine j_aload_n B dX0_refused_0 rfl ?_
  refine j_getA B fl_X0_47 dX0_refused_1 hF (fun a1p hF => ?_)
  refine j_iload_n B dX0_refused_4 rfl ?_
  refine j_putV B fp_X0_117 (fun h => by cases h) rfl rfl dX0_refused_5 hF (fun w5 hF => ?_)
  refine j_aload_n B dX0_refused_8 rfl ?_
  refine j_getA B fl_X0_47 dX0_refused_9 hF (fun a9p hF => ?_)
  exact j_lAw B rfl (Or.inl ⟨_, rfl⟩) dX0_refused_12 hF (by decide) (by decide)
theorem cv_X0_121 : CV "CarryFair" 121 0 yX0_refused cX0_refused 2 (some (.object "CarryFair$Refusal")) 1 := ⟨_, _, rfl, lw_V q1253 q1255 qs67 q126 q1256, by decide +kernel⟩
def F_X0_need (a0 : Option Nat) (x1 : Int32) (x2 : Int32) (w : cH) : Option (Except Nat (Unit) × cH) :=
  if tg w a0 = some 0 then (if ¬ x1 = 0 then (some (Except.ok (), w)) else (cb (F_X0_refused a0 x2 w) fun a6p w6 => Option.bind a6p fun a9t => some (Except.error a9t, w6))) else none
abbrev rm_X0_need : Room := { frames := 1, cells := 0, slots := 0, locals := 21 }
set_option maxHeartbeats 4000000 in
set_option maxRecDepth 100000 in
theorem ct_X0_need {l : Launch} {g : Gt} (G : Gok g) {a0 : Option Nat} {x1 : Int32} {x2 : Int32} {w : cH} {r9 : Except Nat Unit} {w9 : cH} (hF : F_X0_need a0 x1 x2 w = some (r9, w9)) : tg w a0 = some 0 ∧ Mx l yX0_need (ws_ yX0_need cX0_need 3 none) rm_X0_need g [va_rf a0, .int x1, .int x2] w (oxV r9) w9 0 0 := by
  unfold F_X0_need at hF
  obtain ⟨ht, hF⟩ := bg hF
  refine ⟨ht, mk_ct cX0_need 3 none "CarryFair" (plainFor_of_name (by decide)) rfl (lg_le ⟨cr _, rfl, rfl, trivial⟩ (Nat.le_of_ble_eq_true rfl)) (av_ok ⟨cr _, rfl, rfl, trivial⟩) G (fun x B hl hR hin hh => ?_)⟩
  show J g x _ _ 0 0 w 0 0 0 [some (va_rf a0), some (.int x1), some (.int x2)] []
  refine j_iload_n B dX0_need_0 rfl ?_
  refine j_if_ne (tgt := 10) B dX0_need_1 (by decide) hF (fun h1 hF => ?_) (fun h1 hF => ?_)
  · exact j_xV B rfl dX0_need_10 hF (by decide) (by decide)
  · refine j_aload_n B dX0_need_4 rfl ?_
    refine j_iload_n B dX0_need_5 rfl ?_
    obtain ⟨a6p, w6, e6, hF⟩ := bc hF
    refine j_rV (st2 := [va_rf a6p]) B [.int x2] [] cv_X0_121 dX0_need_6 hl hR (ct_X0_refused G e6) rfl rfl rfl rfl trivial (Nat.le_of_ble_eq_true rfl) ?_
    obtain ⟨a9t, rfl, hF⟩ := bo hF
    refine j_athrow B dX0_need_9 ?_
    exact jt_V B (Hh_nil hh) (by decide) hF (by decide) (by decide)
theorem cx_X0_433 : CX "CarryFair" 433 0 yX0_need (ws_ yX0_need cX0_need 3 none) 3 2 := ⟨⟨_, _, rfl⟩, q1249, q1251, qs66, q126, wsOk_code q1252, by decide +kernel, by decide +kernel⟩
def F_X0_rowAt (a0 : Option Nat) (x1 : Int32) (w : cH) : Option (Except Nat (Option Nat) × cH) :=
  if tg w a0 = some 0 then (xb (F_X0_need a0 (F_X0_isSheet x1) 0 w) (fun a6t w6 => some (Except.error a6t, w6)) fun _ w6 => (fA w6 a0 0 9).bind fun a10p => (aA w6 a10p 104 x1).bind fun a14p => (fA w6 a14p 5 0).bind fun a15p => some (Except.ok (a15p), w6)) else none
abbrev rm_X0_rowAt : Room := { frames := 2, cells := 0, slots := 0, locals := 43 }
set_option maxHeartbeats 4000000 in
set_option maxRecDepth 100000 in
theorem ct_X0_rowAt {l : Launch} {g : Gt} (G : Gok g) {a0 : Option Nat} {x1 : Int32} {w : cH} {r9 : Except Nat (Option Nat)} {w9 : cH} (hF : F_X0_rowAt a0 x1 w = some (r9, w9)) : tg w a0 = some 0 ∧ Mx l yX0_rowAt (ws_ yX0_rowAt cX0_rowAt 2 (some (.object "java/lang/Object"))) rm_X0_rowAt g [va_rf a0, .int x1] w (oxA r9) w9 0 0 := by
  unfold F_X0_rowAt at hF
  obtain ⟨ht, hF⟩ := bg hF
  refine ⟨ht, mk_ct cX0_rowAt 2 (some (.object "java/lang/Object")) "CarryFair" (plainFor_of_name (by decide)) rfl (lg_le ⟨cr _, rfl, trivial⟩ (Nat.le_of_ble_eq_true rfl)) (av_ok ⟨cr _, rfl, trivial⟩) G (fun x B hl hR hin hh => ?_)⟩
  show J g x _ _ 0 0 w 0 0 0 [some (va_rf a0), some (.int x1)] []
  refine j_aload_n B dX0_rowAt_0 rfl ?_
  refine j_iload_n B dX0_rowAt_1 rfl ?_
  refine j_rS (st2 := [.int (F_X0_isSheet x1), va_rf a0]) B [.int x1] [va_rf a0] cs_X0_430 dX0_rowAt_2 hl hR (ct_X0_isSheet G) rfl rfl rfl rfl ⟨cr _, trivial⟩ (Nat.le_of_ble_eq_true rfl) ?_
  refine j_iconst (v := 0) B dX0_rowAt_5 (by decide) ?_
  rcases xbo hF with ⟨a6t, w6, e6, hF⟩ | ⟨_, w6, e6, hF⟩
  · refine j_rVT B [.int (F_X0_isSheet x1), .int 0] [] cx_X0_433 dX0_rowAt_6 hl hR (ct_X0_need G e6) rfl rfl rfl trivial (Nat.le_of_ble_eq_true rfl) ?_
    exact jt_A B (Hh_nil hh) (by decide) hF (by decide) (by decide)
  refine j_rVX (st2 := []) B [.int (F_X0_isSheet x1), .int 0] [] cx_X0_433 dX0_rowAt_6 hl hR (ct_X0_need G e6) rfl rfl rfl rfl trivial (Nat.le_of_ble_eq_true rfl) ?_
  refine j_aload_n B dX0_rowAt_9 rfl ?_
  refine j_getA B fl_X0_80 dX0_rowAt_10 hF (fun a10p hF => ?_)
  refine j_iload_n B dX0_rowAt_13 rfl ?_
  refine j_aaload B 104 rfl rfl dX0_rowAt_14 hF (fun a14p hF => ?_)
  refine j_getA B fl_X0_109 dX0_rowAt_15 hF (fun a15p hF => ?_)
  exact j_xA B rfl (Or.inl ⟨_, rfl⟩) dX0_rowAt_18 hF (by decide) (by decide)
theorem ck_X0_437 : CK "CarryFair" 437 [101] := by
  refine ⟨_, q1260, fun t ht => ?_⟩
  simp only [List.mem_cons, List.not_mem_nil, or_false] at ht
  rcases ht with rfl
  · exact Or.inl (by decide)
theorem ck_X0_438 : CK "CarryFair" 438 [102] := by
  refine ⟨_, q1261, fun t ht => ?_⟩
  simp only [List.mem_cons, List.not_mem_nil, or_false] at ht
  rcases ht with rfl
  · exact Or.inl (by decide)
theorem ck_X0_440 : CK "CarryFair" 440 [100] := by
  refine ⟨_, q1262, fun t ht => ?_⟩
  simp only [List.mem_cons, List.not_mem_nil, or_false] at ht
  rcases ht with rfl
  · exact Or.inl (by decide)
theorem nk_X0_437 {g : Gt} (G : Gok g) : NK "CarryFair" 437 [100, 102] g := by
  refine ⟨_, q1260, fun t ht => ?_⟩
  simp only [List.mem_cons, List.not_mem_nil, or_false] at ht
  rcases ht with rfl | rfl
  · rw [show cnm 100 = "[I" by decide]; exact va_Nc.of (nar_of G (by decide +kernel))
  · rw [show cnm 102 = "[S" by decide]; exact va_Nc.of (nar_of G (by decide +kernel))
theorem nk_X0_438 {g : Gt} (G : Gok g) : NK "CarryFair" 438 [100, 101] g := by
  refine ⟨_, q1261, fun t ht => ?_⟩
  simp only [List.mem_cons, List.not_mem_nil, or_false] at ht
  rcases ht with rfl | rfl
  · rw [show cnm 100 = "[I" by decide]; exact va_Nc.of (nar_of G (by decide +kernel))
  · rw [show cnm 101 = "[B" by decide]; exact va_Nc.of (nar_of G (by decide +kernel))
def F_X0_length (a0 : Option Nat) (w : cH) : Option Int32 :=
  (iof w a0 [101] [100, 102]).bind fun i1 =>if i1 = 0 then ((iof w a0 [102] [100, 101]).bind fun i16 =>if i16 = 0 then (if ckc w a0 [100] = true then ((aL w a0).bind fun i34 => some (i34)) else none) else (if ckc w a0 [102] = true then ((aL w a0).bind fun i26 => some (i26)) else none)) else (if ckc w a0 [101] = true then ((aL w a0).bind fun i11 => some (i11)) else none)
abbrev rm_X0_length : Room := { frames := 0, cells := 0, slots := 0, locals := 0 }
set_option maxHeartbeats 4000000 in
set_option maxRecDepth 100000 in
theorem ct_X0_length {l : Launch} {g : Gt} (G : Gok g) {a0 : Option Nat} {w : cH} {r9 : Int32} (hF : F_X0_length a0 w = some r9) : Mx l yX0_length (ws_ yX0_length cX0_length 1 (some .int)) rm_X0_length g [va_rf a0] w (.returned (some (.int r9))) w 0 0 := by
  unfold F_X0_length at hF
  refine mk_ct cX0_length 1 (some .int) "CarryFair" (plainFor_of_name (by decide)) rfl (lg_le ⟨cr _, trivial⟩ (Nat.le_of_ble_eq_true rfl)) (av_ok ⟨cr _, trivial⟩) G (fun x B hl hR hin hh => ?_)
  show J g x _ _ 0 0 w 0 0 0 [some (va_rf a0)] []
  refine j_aload_n B dX0_length_0 rfl ?_
  refine j_inst B ck_X0_437 (nk_X0_437 G) dX0_length_1 hF (fun i1 hF => ?_)
  refine j_if_eq (tgt := 15) B dX0_length_4 (by decide) hF (fun h4 hF => ?_) (fun h4 hF => ?_)
  · refine j_aload_n B dX0_length_15 rfl ?_
    refine j_inst B ck_X0_438 (nk_X0_438 G) dX0_length_16 hF (fun i16 hF => ?_)
    refine j_if_eq (tgt := 30) B dX0_length_19 (by decide) hF (fun h19 hF => ?_) (fun h19 hF => ?_)
    · refine j_aload_n B dX0_length_30 rfl ?_
      obtain ⟨hz, hF⟩ := bg hF
      refine j_cast B ck_X0_440 hz dX0_length_31 ?_
      refine j_alen B dX0_length_34 hF (fun i34 hF => ?_)
      exact j_lI B rfl dX0_length_35 hF (by decide) (by decide)
    · refine j_aload_n B dX0_length_22 rfl ?_
      obtain ⟨hz, hF⟩ := bg hF
      refine j_cast B ck_X0_438 hz dX0_length_23 ?_
      refine j_alen B dX0_length_26 hF (fun i26 hF => ?_)
      refine j_goto (tgt := 35) B dX0_length_27 (by decide) ?_
      exact j_lI B rfl dX0_length_35 hF (by decide) (by decide)
  · refine j_aload_n B dX0_length_7 rfl ?_
    obtain ⟨hz, hF⟩ := bg hF
    refine j_cast B ck_X0_437 hz dX0_length_8 ?_
    refine j_alen B dX0_length_11 hF (fun i11 hF => ?_)
    refine j_goto (tgt := 35) B dX0_length_12 (by decide) ?_
    exact j_lI B rfl dX0_length_35 hF (by decide) (by decide)
def F_X0_lay (a0 : Option Nat) (x1 : Int32) (x2 : Int32) (w : cH) : Option cH :=
  (iof w a0 [101] [100, 102]).bind fun i1 =>if i1 = 0 then ((iof w a0 [102] [100, 101]).bind fun i19 =>if i19 = 0 then (if ckc w a0 [100] = true then ((aS w a0 100 x1 (.int x2)).bind fun w42 => some w42) else none) else (if ckc w a0 [102] = true then ((aS w a0 102 x1 (.int x2.toInt16.toInt32.toInt16.toInt32)).bind fun w32 => some w32) else none)) else (if ckc w a0 [101] = true then ((aS w a0 101 x1 (.int x2.toInt8.toInt32.toInt8.toInt32)).bind fun w14 => some w14) else none)
abbrev rm_X0_lay : Room := { frames := 0, cells := 0, slots := 0, locals := 0 }
set_option maxHeartbeats 4000000 in
set_option maxRecDepth 100000 in
theorem ct_X0_lay {l : Launch} {g : Gt} (G : Gok g) {a0 : Option Nat} {x1 : Int32} {x2 : Int32} {w : cH}  {w9 : cH} (hF : F_X0_lay a0 x1 x2 w = some w9) : Mx l yX0_lay (ws_ yX0_lay cX0_lay 3 none) rm_X0_lay g [va_rf a0, .int x1, .int x2] w (.returned none) w9 0 0 := by
  unfold F_X0_lay at hF
  refine mk_ct cX0_lay 3 none "CarryFair" (plainFor_of_name (by decide)) rfl (lg_le ⟨cr _, rfl, rfl, trivial⟩ (Nat.le_of_ble_eq_true rfl)) (av_ok ⟨cr _, rfl, rfl, trivial⟩) G (fun x B hl hR hin hh => ?_)
  show J g x _ _ 0 0 w 0 0 0 [some (va_rf a0), some (.int x1), some (.int x2)] []
  refine j_aload_n B dX0_lay_0 rfl ?_
  refine j_inst B ck_X0_437 (nk_X0_437 G) dX0_lay_1 hF (fun i1 hF => ?_)
  refine j_if_eq (tgt := 18) B dX0_lay_4 (by decide) hF (fun h4 hF => ?_) (fun h4 hF => ?_)
  · refine j_aload_n B dX0_lay_18 rfl ?_
    refine j_inst B ck_X0_438 (nk_X0_438 G) dX0_lay_19 hF (fun i19 hF => ?_)
    refine j_if_eq (tgt := 36) B dX0_lay_22 (by decide) hF (fun h22 hF => ?_) (fun h22 hF => ?_)
    · refine j_aload_n B dX0_lay_36 rfl ?_
      obtain ⟨hz, hF⟩ := bg hF
      refine j_cast B ck_X0_440 hz dX0_lay_37 ?_
      refine j_iload_n B dX0_lay_40 rfl ?_
      refine j_iload_n B dX0_lay_41 rfl ?_
      refine j_iastore B dX0_lay_42 hF (fun w42 hF => ?_)
      exact j_lV B rfl dX0_lay_43 hF (by decide) (by decide)
    · refine j_aload_n B dX0_lay_25 rfl ?_
      obtain ⟨hz, hF⟩ := bg hF
      refine j_cast B ck_X0_438 hz dX0_lay_26 ?_
      refine j_iload_n B dX0_lay_29 rfl ?_
      refine j_iload_n B dX0_lay_30 rfl ?_
      refine j_i2s B dX0_lay_31 ?_
      refine j_sastore B dX0_lay_32 hF (fun w32 hF => ?_)
      refine j_goto (tgt := 43) B dX0_lay_33 (by decide) ?_
      exact j_lV B rfl dX0_lay_43 hF (by decide) (by decide)
  · refine j_aload_n B dX0_lay_7 rfl ?_
    obtain ⟨hz, hF⟩ := bg hF
    refine j_cast B ck_X0_437 hz dX0_lay_8 ?_
    refine j_iload_n B dX0_lay_11 rfl ?_
    refine j_iload_n B dX0_lay_12 rfl ?_
    refine j_i2b B dX0_lay_13 ?_
    refine j_bastore B dX0_lay_14 hF (fun w14 hF => ?_)
    refine j_goto (tgt := 43) B dX0_lay_15 (by decide) ?_
    exact j_lV B rfl dX0_lay_43 hF (by decide) (by decide)
theorem fl_X0_117 : FL "CarryFair" 117 1 6 := ⟨RX1, TX1, 7, rfl, by decide, in_X1, Or.inr ⟨_, q210⟩⟩
theorem cx_X0_441 : CX "CarryFair" 441 0 yX0_rowAt (ws_ yX0_rowAt cX0_rowAt 2 (some (.object "java/lang/Object"))) 2 1 := ⟨⟨_, _, rfl⟩, q1245, q1247, qs65, q126, wsOk_code q1248, by decide +kernel, by decide +kernel⟩
theorem cs_X0_444 : CS "CarryFair" 444 yX0_length cX0_length 1 (some .int) 1 := ⟨Or.inl (lw_S q1257 q1258 q126 q1259), by decide +kernel⟩
theorem cs_X0_447 : CS "CarryFair" 447 yX0_lay cX0_lay 3 none 3 := ⟨Or.inl (lw_S q1263 q1264 q126 q1265), by decide +kernel⟩
def F_X0_write_J48 (a0 : Option Nat) (s0 : Option Nat) (w : cH) : Option (Int32 × cH) :=
  (fI w s0 1 6).bind fun i53 => cb (F_X0_finding a0 i53 w) fun i56 w56 => some (i56, w56)
def F_X0_write_J18 (a0 : Option Nat) (x2 : Int32) (x3 : Int32) (a4 : Option Nat) (s0 : Int32) (s1 : Option Nat) (w : cH) : Option (Int32 × cH) :=
  xb (F_X0_need s1 s0 5 w) (fun a19t w19 => if tg w19 (some a19t) = some 1 then (F_X0_write_J48  a0 (some a19t) w19) else none) fun _ w19 => (F_X0_length a4 w19).bind fun i27 => xb (F_X0_need a0 (F_X0_in x2 0 (i27 - 1)) 0 w19) (fun a36t w36 => if tg w36 (some a36t) = some 1 then (F_X0_write_J48  a0 (some a36t) w36) else none) fun _ w36 => (F_X0_lay a4 x2 x3 w36).bind fun w43 => some (1, w43)
def F_X0_write (a0 : Option Nat) (x1 : Int32) (x2 : Int32) (x3 : Int32) (w : cH) : Option (Int32 × cH) :=
  if tg w a0 = some 0 then (xb (F_X0_rowAt a0 x1 w) (fun a2t w2 => if tg w2 (some a2t) = some 1 then (F_X0_write_J48  a0 (some a2t) w2) else none) fun a2p w2 =>if a2p = none then (F_X0_write_J18  a0 x2 x3 a2p 0 a0 w2) else (F_X0_write_J18  a0 x2 x3 a2p 1 a0 w2)) else none
abbrev rm_X0_write : Room := { frames := 3, cells := 0, slots := 0, locals := 64 }
abbrev hh_X0_write : List (Nat × Nat × Nat × Nat) := [(0, 47, 48, 44)]
set_option maxHeartbeats 4000000 in
set_option maxRecDepth 100000 in
theorem ct_X0_write {l : Launch} {g : Gt} (G : Gok g) {a0 : Option Nat} {x1 : Int32} {x2 : Int32} {x3 : Int32} {w : cH} {r9 : Int32} {w9 : cH} (hF : F_X0_write a0 x1 x2 x3 w = some (r9, w9)) : tg w a0 = some 0 ∧ Mx l yX0_write (wsW_ yX0_write cX0_write 5 (some .int) hh_X0_write) rm_X0_write g [va_rf a0, .int x1, .int x2, .int x3] w (.returned (some (.int r9))) w9 0 0 := by
  unfold F_X0_write at hF
  obtain ⟨ht, hF⟩ := bg hF
  refine ⟨ht, mk_ctW cX0_write 5 (some .int) hh_X0_write "CarryFair" (plainFor_of_name (by decide)) rfl (lg_le ⟨cr _, rfl, rfl, rfl, trivial⟩ (Nat.le_of_ble_eq_true rfl)) (av_ok ⟨cr _, rfl, rfl, rfl, trivial⟩) G (fun x B hl hR hin hh => ?_)⟩
  show J g x _ _ 0 0 w 0 0 0 [some (va_rf a0), some (.int x1), some (.int x2), some (.int x3), none] []
  have jb48 : ∀ (a0 : Option Nat) (s0 : Option Nat) (w : cH), F_X0_write_J48  a0 s0 w = some (r9, w9) → J g x (.returned (some (.int r9))) w9 0 0 w 0 0 48 [some (va_rf a0), none, none, none, none] [va_rf s0] := by
    intro a0 s0 w hF
    unfold F_X0_write_J48 at hF
    refine j_astore (vs' := [some (va_rf a0), none, none, none, some (va_rf s0)]) B dX0_write_48 (by decide) rfl ?_
    refine j_aload_n B dX0_write_50 rfl ?_
    refine j_aload B dX0_write_51 rfl ?_
    refine j_getI B fl_X0_117 dX0_write_53 hF (fun i53 hF => ?_)
    obtain ⟨i56, w56, e56, hF⟩ := bc hF
    refine j_rV (st2 := [.int i56]) B [.int i53] [] cv_X0_142 dX0_write_56 hl hR (ct_X0_finding G e56) rfl rfl rfl rfl trivial (Nat.le_of_ble_eq_true rfl) ?_
    exact j_lIw B rfl dX0_write_59 hF (by decide) (by decide)
  have jb18 : ∀ (a0 : Option Nat) (x2 : Int32) (x3 : Int32) (a4 : Option Nat) (s0 : Int32) (s1 : Option Nat) (w : cH), F_X0_write_J18  a0 x2 x3 a4 s0 s1 w = some (r9, w9) → J g x (.returned (some (.int r9))) w9 0 0 w 0 0 18 [some (va_rf a0), none, some (.int x2), some (.int x3), some (va_rf a4)] [.int s0, va_rf s1] := by
    intro a0 x2 x3 a4 s0 s1 w hF
    unfold F_X0_write_J18 at hF
    refine j_iconst (v := 5) B dX0_write_18 (by decide) ?_
    rcases xbo hF with ⟨a19t, w19, e19, hF⟩ | ⟨_, w19, e19, hF⟩
    · refine j_rVT B [.int s0, .int 5] [] cx_X0_433 dX0_write_19 hl hR (ct_X0_need G e19) rfl rfl rfl trivial (Nat.le_of_ble_eq_true rfl) ?_
      obtain ⟨hz, hF⟩ := bg hF
      refine jt_cls B hh (by decide) (by decide) q158 hz rfl ?_
      refine j_msk [true, false, false, false, false] rfl ?_
      exact jb48 a0 (some a19t) w19 hF
    refine j_rVX (st2 := []) B [.int s0, .int 5] [] cx_X0_433 dX0_write_19 hl hR (ct_X0_need G e19) rfl rfl rfl rfl trivial (Nat.le_of_ble_eq_true rfl) ?_
    refine j_aload_n B dX0_write_22 rfl ?_
    refine j_iload_n B dX0_write_23 rfl ?_
    refine j_iconst (v := 0) B dX0_write_24 (by decide) ?_
    refine j_aload B dX0_write_25 rfl ?_
    obtain ⟨i27, e27, hF⟩ := bo hF
    refine j_rS (st2 := [.int i27, .int 0, .int x2, va_rf a0]) B [va_rf a4] [.int 0, .int x2, va_rf a0] cs_X0_444 dX0_write_27 hl hR (ct_X0_length G e27) rfl rfl rfl rfl ⟨rfl, rfl, cr _, trivial⟩ (Nat.le_of_ble_eq_true rfl) ?_
    refine j_iconst (v := 1) B dX0_write_30 (by decide) ?_
    refine j_isub B dX0_write_31 ?_
    refine j_rS (st2 := [.int (F_X0_in x2 0 (i27 - 1)), va_rf a0]) B [.int x2, .int 0, .int (i27 - 1)] [va_rf a0] cs_X0_3 dX0_write_32 hl hR (ct_X0_in G) rfl rfl rfl rfl ⟨cr _, trivial⟩ (Nat.le_of_ble_eq_true rfl) ?_
    refine j_iconst (v := 0) B dX0_write_35 (by decide) ?_
    rcases xbo hF with ⟨a36t, w36, e36, hF⟩ | ⟨_, w36, e36, hF⟩
    · refine j_rVT B [.int (F_X0_in x2 0 (i27 - 1)), .int 0] [] cx_X0_433 dX0_write_36 hl hR (ct_X0_need G e36) rfl rfl rfl trivial (Nat.le_of_ble_eq_true rfl) ?_
      obtain ⟨hz, hF⟩ := bg hF
      refine jt_cls B hh (by decide) (by decide) q158 hz rfl ?_
      refine j_msk [true, false, false, false, false] rfl ?_
      exact jb48 a0 (some a36t) w36 hF
    refine j_rVX (st2 := []) B [.int (F_X0_in x2 0 (i27 - 1)), .int 0] [] cx_X0_433 dX0_write_36 hl hR (ct_X0_need G e36) rfl rfl rfl rfl trivial (Nat.le_of_ble_eq_true rfl) ?_
    refine j_aload B dX0_write_39 rfl ?_
    refine j_iload_n B dX0_write_41 rfl ?_
    refine j_iload_n B dX0_write_42 rfl ?_
    obtain ⟨w43, e43, hF⟩ := bo hF
    refine j_rS (st2 := []) B [va_rf a4, .int x2, .int x3] [] cs_X0_447 dX0_write_43 hl hR (ct_X0_lay G e43) rfl rfl rfl rfl trivial (Nat.le_of_ble_eq_true rfl) ?_
    refine j_iconst (v := 1) B dX0_write_46 (by decide) ?_
    exact j_lIw B rfl dX0_write_47 hF (by decide) (by decide)
  refine j_aload_n B dX0_write_0 rfl ?_
  refine j_iload_n B dX0_write_1 rfl ?_
  rcases xbo hF with ⟨a2t, w2, e2, hF⟩ | ⟨a2p, w2, e2, hF⟩
  · refine j_rVT B [.int x1] [] cx_X0_441 dX0_write_2 hl hR (ct_X0_rowAt G e2) rfl rfl rfl trivial (Nat.le_of_ble_eq_true rfl) ?_
    obtain ⟨hz, hF⟩ := bg hF
    refine jt_cls B hh (by decide) (by decide) q158 hz rfl ?_
    refine j_msk [true, false, false, false, false] rfl ?_
    exact jb48 a0 (some a2t) w2 hF
  refine j_rVX (st2 := [va_rf a2p]) B [.int x1] [] cx_X0_441 dX0_write_2 hl hR (ct_X0_rowAt G e2) rfl rfl rfl rfl trivial (Nat.le_of_ble_eq_true rfl) ?_
  refine j_astore (vs' := [some (va_rf a0), some (.int x1), some (.int x2), some (.int x3), some (va_rf a2p)]) B dX0_write_5 (by decide) rfl ?_
  refine j_aload_n B dX0_write_7 rfl ?_
  refine j_aload B dX0_write_8 rfl ?_
  refine j_ifnull (tgt := 17) B dX0_write_10 (by decide) hF (fun h10 hF => ?_) (fun h10 hF => ?_)
  · refine j_iconst (v := 0) B dX0_write_17 (by decide) ?_
    refine j_msk [true, false, true, true, true] rfl ?_
    exact jb18 a0 x2 x3 a2p 0 a0 w2 hF
  · refine j_iconst (v := 1) B dX0_write_13 (by decide) ?_
    refine j_goto (tgt := 18) B dX0_write_14 (by decide) ?_
    refine j_msk [true, false, true, true, true] rfl ?_
    exact jb18 a0 x2 x3 a2p 1 a0 w2 hF
def F_X0_widthOf (a0 : Option Nat) (w : cH) : Option Int32 :=
  (iof w a0 [101] [100, 102]).bind fun i1 =>if i1 = 0 then ((iof w a0 [102] [100, 101]).bind fun i13 =>if i13 = 0 then (some (32)) else (some (16))) else (some (8))
abbrev rm_X0_widthOf : Room := { frames := 0, cells := 0, slots := 0, locals := 0 }
set_option maxHeartbeats 4000000 in
set_option maxRecDepth 100000 in
theorem ct_X0_widthOf {l : Launch} {g : Gt} (G : Gok g) {a0 : Option Nat} {w : cH} {r9 : Int32} (hF : F_X0_widthOf a0 w = some r9) : Mx l yX0_widthOf (ws_ yX0_widthOf cX0_widthOf 1 (some .int)) rm_X0_widthOf g [va_rf a0] w (.returned (some (.int r9))) w 0 0 := by
  unfold F_X0_widthOf at hF
  refine mk_ct cX0_widthOf 1 (some .int) "CarryFair" (plainFor_of_name (by decide)) rfl (lg_le ⟨cr _, trivial⟩ (Nat.le_of_ble_eq_true rfl)) (av_ok ⟨cr _, trivial⟩) G (fun x B hl hR hin hh => ?_)
  show J g x _ _ 0 0 w 0 0 0 [some (va_rf a0)] []
  refine j_aload_n B dX0_widthOf_0 rfl ?_
  refine j_inst B ck_X0_437 (nk_X0_437 G) dX0_widthOf_1 hF (fun i1 hF => ?_)
  refine j_if_eq (tgt := 12) B dX0_widthOf_4 (by decide) hF (fun h4 hF => ?_) (fun h4 hF => ?_)
  · refine j_aload_n B dX0_widthOf_12 rfl ?_
    refine j_inst B ck_X0_438 (nk_X0_438 G) dX0_widthOf_13 hF (fun i13 hF => ?_)
    refine j_if_eq (tgt := 24) B dX0_widthOf_16 (by decide) hF (fun h16 hF => ?_) (fun h16 hF => ?_)
    · refine j_bipush (v := 32) B dX0_widthOf_24 (by decide) ?_
      exact j_lI B rfl dX0_widthOf_26 hF (by decide) (by decide)
    · refine j_bipush (v := 16) B dX0_widthOf_19 (by decide) ?_
      refine j_goto (tgt := 26) B dX0_widthOf_21 (by decide) ?_
      exact j_lI B rfl dX0_widthOf_26 hF (by decide) (by decide)
  · refine j_bipush (v := 8) B dX0_widthOf_7 (by decide) ?_
    refine j_goto (tgt := 26) B dX0_widthOf_9 (by decide) ?_
    exact j_lI B rfl dX0_widthOf_26 hF (by decide) (by decide)
