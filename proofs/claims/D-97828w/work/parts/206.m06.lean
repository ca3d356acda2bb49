def F_X0_slide (a0 : Option Nat) (x1 : Int32) (a2 : Option Nat) (x3 : Int32) (x4 : Int32) (w : cH) : Option cH :=
  (iof w a0 [101] [100, 102]).bind fun i1 =>if i1 = 0 then ((iof w a0 [102] [100, 101]).bind fun i26 =>if i26 = 0 then (if ckc w a0 [100] = true then (if ckc w a2 [100] = true then ((cpA w a0 x1 a2 x3 x4 100).bind fun w62 => some w62) else none) else none) else (if ckc w a0 [102] = true then (if ckc w a2 [102] = true then ((cpA w a0 x1 a2 x3 x4 102).bind fun w44 => some w44) else none) else none)) else (if ckc w a0 [101] = true then (if ckc w a2 [101] = true then ((cpA w a0 x1 a2 x3 x4 101).bind fun w19 => some w19) else none) else none)
abbrev rm_X0_slide : Room := { frames := 1, cells := 0, slots := 0, locals := 26 }
set_option maxHeartbeats 4000000 in
set_option maxRecDepth 100000 in
theorem ct_X0_slide {l : Launch} {g : Gt} (G : Gok g) {a0 : Option Nat} {x1 : Int32} {a2 : Option Nat} {x3 : Int32} {x4 : Int32} {w : cH}  {w9 : cH} (hF : F_X0_slide a0 x1 a2 x3 x4 w = some w9) : Mx l yX0_slide (ws_ yX0_slide cX0_slide 5 none) rm_X0_slide g [va_rf a0, .int x1, va_rf a2, .int x3, .int x4] w (.returned none) w9 0 0 := by
  unfold F_X0_slide at hF
  refine mk_ct cX0_slide 5 none "CarryFair" (plainFor_of_name (by decide)) rfl (lg_le ⟨cr _, rfl, cr _, rfl, rfl, trivial⟩ (Nat.le_of_ble_eq_true rfl)) (av_ok ⟨cr _, rfl, cr _, rfl, rfl, trivial⟩) G (fun x B hl hR hin hh => ?_)
  show J g x _ _ 0 0 w 0 0 0 [some (va_rf a0), some (.int x1), some (va_rf a2), some (.int x3), some (.int x4)] []
  refine j_aload_n B dX0_slide_0 rfl ?_
  refine j_inst B ck_X0_437 (nk_X0_437 G) dX0_slide_1 hF (fun i1 hF => ?_)
  refine j_if_eq (tgt := 25) B dX0_slide_4 (by decide) hF (fun h4 hF => ?_) (fun h4 hF => ?_)
  · refine j_aload_n B dX0_slide_25 rfl ?_
    refine j_inst B ck_X0_438 (nk_X0_438 G) dX0_slide_26 hF (fun i26 hF => ?_)
    refine j_if_eq (tgt := 50) B dX0_slide_29 (by decide) hF (fun h29 hF => ?_) (fun h29 hF => ?_)
    · refine j_aload_n B dX0_slide_50 rfl ?_
      obtain ⟨hz, hF⟩ := bg hF
      refine j_cast B ck_X0_440 hz dX0_slide_51 ?_
      refine j_iload_n B dX0_slide_54 rfl ?_
      refine j_aload_n B dX0_slide_55 rfl ?_
      obtain ⟨hz, hF⟩ := bg hF
      refine j_cast B ck_X0_440 hz dX0_slide_56 ?_
      refine j_iload_n B dX0_slide_59 rfl ?_
      refine j_iload B dX0_slide_60 rfl ?_
      refine j_acopy (t := 100) B rfl rfl q1276 q1052 q1051 q145 dX0_slide_62 hR (by decide) (by decide) trivial hF (fun w62 hF => ?_)
      exact j_lV B rfl dX0_slide_65 hF (by decide) (by decide)
    · refine j_aload_n B dX0_slide_32 rfl ?_
      obtain ⟨hz, hF⟩ := bg hF
      refine j_cast B ck_X0_438 hz dX0_slide_33 ?_
      refine j_iload_n B dX0_slide_36 rfl ?_
      refine j_aload_n B dX0_slide_37 rfl ?_
      obtain ⟨hz, hF⟩ := bg hF
      refine j_cast B ck_X0_438 hz dX0_slide_38 ?_
      refine j_iload_n B dX0_slide_41 rfl ?_
      refine j_iload B dX0_slide_42 rfl ?_
      refine j_acopy (t := 102) B rfl rfl q1276 q1052 q1051 q145 dX0_slide_44 hR (by decide) (by decide) trivial hF (fun w44 hF => ?_)
      refine j_goto (tgt := 65) B dX0_slide_47 (by decide) ?_
      exact j_lV B rfl dX0_slide_65 hF (by decide) (by decide)
  · refine j_aload_n B dX0_slide_7 rfl ?_
    obtain ⟨hz, hF⟩ := bg hF
    refine j_cast B ck_X0_437 hz dX0_slide_8 ?_
    refine j_iload_n B dX0_slide_11 rfl ?_
    refine j_aload_n B dX0_slide_12 rfl ?_
    obtain ⟨hz, hF⟩ := bg hF
    refine j_cast B ck_X0_437 hz dX0_slide_13 ?_
    refine j_iload_n B dX0_slide_16 rfl ?_
    refine j_iload B dX0_slide_17 rfl ?_
    refine j_acopy (t := 101) B rfl rfl q1276 q1052 q1051 q145 dX0_slide_19 hR (by decide) (by decide) trivial hF (fun w19 hF => ?_)
    refine j_goto (tgt := 65) B dX0_slide_22 (by decide) ?_
    exact j_lV B rfl dX0_slide_65 hF (by decide) (by decide)
theorem cs_X0_457 : CS "CarryFair" 457 yX0_widthOf cX0_widthOf 1 (some .int) 1 := ⟨Or.inl (lw_S q1270 q1271 q126 q1272), by decide +kernel⟩
theorem cs_X0_460 : CS "CarryFair" 460 yX0_slide cX0_slide 5 none 5 := ⟨Or.inl (lw_S q1273 q1274 q126 q1275), by decide +kernel⟩
def F_X0_copy_J121 (a0 : Option Nat) (s0 : Option Nat) (w : cH) : Option (Int32 × cH) :=
  (fI w s0 1 6).bind fun i126 => cb (F_X0_finding a0 i126 w) fun i129 w129 => some (i129, w129)
def F_X0_copy_J102 (a0 : Option Nat) (x2 : Int32) (x4 : Int32) (x5 : Int32) (a6 : Option Nat) (a7 : Option Nat) (s0 : Int32) (s1 : Option Nat) (w : cH) : Option (Int32 × cH) :=
  xb (F_X0_need s1 s0 0 w) (fun a103t w103 => if tg w103 (some a103t) = some 1 then (F_X0_copy_J121  a0 (some a103t) w103) else none) fun _ w103 => (F_X0_slide a6 x2 a7 x4 x5 w103).bind fun w115 => some (x5, w115)
def F_X0_copy_J101 (a0 : Option Nat) (x2 : Int32) (x4 : Int32) (x5 : Int32) (a6 : Option Nat) (a7 : Option Nat) (s0 : Option Nat) (w : cH) : Option (Int32 × cH) :=
  F_X0_copy_J102  a0 x2 x4 x5 a6 a7 0 s0 w
def F_X0_copy_J53 (a0 : Option Nat) (x2 : Int32) (x4 : Int32) (x5 : Int32) (a6 : Option Nat) (a7 : Option Nat) (s0 : Int32) (s1 : Option Nat) (w : cH) : Option (Int32 × cH) :=
  xb (F_X0_need s1 s0 2 w) (fun a54t w54 => if tg w54 (some a54t) = some 1 then (F_X0_copy_J121  a0 (some a54t) w54) else none) fun _ w54 =>if x5 < 0 then (F_X0_copy_J101  a0 x2 x4 x5 a6 a7 a0 w54) else (if x2 < 0 then (F_X0_copy_J101  a0 x2 x4 x5 a6 a7 a0 w54) else (if x4 < 0 then (F_X0_copy_J101  a0 x2 x4 x5 a6 a7 a0 w54) else ((F_X0_length a6 w54).bind fun i75 =>if (i75 - x5) < x2 then (F_X0_copy_J101  a0 x2 x4 x5 a6 a7 a0 w54) else ((F_X0_length a7 w54).bind fun i88 =>if (i88 - x5) < x4 then (F_X0_copy_J101  a0 x2 x4 x5 a6 a7 a0 w54) else (F_X0_copy_J102  a0 x2 x4 x5 a6 a7 1 a0 w54)))))
def F_X0_copy_J30 (a0 : Option Nat) (x2 : Int32) (x4 : Int32) (x5 : Int32) (a6 : Option Nat) (a7 : Option Nat) (s0 : Int32) (s1 : Option Nat) (w : cH) : Option (Int32 × cH) :=
  xb (F_X0_need s1 s0 5 w) (fun a31t w31 => if tg w31 (some a31t) = some 1 then (F_X0_copy_J121  a0 (some a31t) w31) else none) fun _ w31 => (F_X0_widthOf a6 w31).bind fun i37 => (F_X0_widthOf a7 w31).bind fun i42 =>if ¬ i37 = i42 then (F_X0_copy_J53  a0 x2 x4 x5 a6 a7 0 a0 w31) else (F_X0_copy_J53  a0 x2 x4 x5 a6 a7 1 a0 w31)
def F_X0_copy_J29 (a0 : Option Nat) (x2 : Int32) (x4 : Int32) (x5 : Int32) (a6 : Option Nat) (a7 : Option Nat) (s0 : Option Nat) (w : cH) : Option (Int32 × cH) :=
  F_X0_copy_J30  a0 x2 x4 x5 a6 a7 0 s0 w
def F_X0_copy (a0 : Option Nat) (x1 : Int32) (x2 : Int32) (x3 : Int32) (x4 : Int32) (x5 : Int32) (w : cH) : Option (Int32 × cH) :=
  if tg w a0 = some 0 then (xb (F_X0_rowAt a0 x1 w) (fun a2t w2 => if tg w2 (some a2t) = some 1 then (F_X0_copy_J121  a0 (some a2t) w2) else none) fun a2p w2 => xb (F_X0_rowAt a0 x3 w2) (fun a9t w9 => if tg w9 (some a9t) = some 1 then (F_X0_copy_J121  a0 (some a9t) w9) else none) fun a9p w9 =>if a2p = none then (F_X0_copy_J29  a0 x2 x4 x5 a2p a9p a0 w9) else (if a9p = none then (F_X0_copy_J29  a0 x2 x4 x5 a2p a9p a0 w9) else (F_X0_copy_J30  a0 x2 x4 x5 a2p a9p 1 a0 w9))) else none
abbrev rm_X0_copy : Room := { frames := 3, cells := 0, slots := 0, locals := 64 }
abbrev hh_X0_copy : List (Nat × Nat × Nat × Nat) := [(0, 120, 121, 44)]
set_option maxHeartbeats 4000000 in
set_option maxRecDepth 100000 in
theorem ct_X0_copy {l : Launch} {g : Gt} (G : Gok g) {a0 : Option Nat} {x1 : Int32} {x2 : Int32} {x3 : Int32} {x4 : Int32} {x5 : Int32} {w : cH} {r9 : Int32} {w9 : cH} (hF : F_X0_copy a0 x1 x2 x3 x4 x5 w = some (r9, w9)) : tg w a0 = some 0 ∧ Mx l yX0_copy (wsW_ yX0_copy cX0_copy 8 (some .int) hh_X0_copy) rm_X0_copy g [va_rf a0, .int x1, .int x2, .int x3, .int x4, .int x5] w (.returned (some (.int r9))) w9 0 0 := by
  unfold F_X0_copy at hF
  obtain ⟨ht, hF⟩ := bg hF
  refine ⟨ht, mk_ctW cX0_copy 8 (some .int) hh_X0_copy "CarryFair" (plainFor_of_name (by decide)) rfl (lg_le ⟨cr _, rfl, rfl, rfl, rfl, rfl, trivial⟩ (Nat.le_of_ble_eq_true rfl)) (av_ok ⟨cr _, rfl, rfl, rfl, rfl, rfl, trivial⟩) G (fun x B hl hR hin hh => ?_)⟩
  show J g x _ _ 0 0 w 0 0 0 [some (va_rf a0), some (.int x1), some (.int x2), some (.int x3), some (.int x4), some (.int x5), none, none] []
  have jb121 : ∀ (a0 : Option Nat) (s0 : Option Nat) (w : cH), F_X0_copy_J121  a0 s0 w = some (r9, w9) → J g x (.returned (some (.int r9))) w9 0 0 w 0 0 121 [some (va_rf a0), none, none, none, none, none, none, none] [va_rf s0] := by
    intro a0 s0 w hF
    unfold F_X0_copy_J121 at hF
    refine j_astore (vs' := [some (va_rf a0), none, none, none, none, none, some (va_rf s0), none]) B dX0_copy_121 (by decide) rfl ?_
    refine j_aload_n B dX0_copy_123 rfl ?_
    refine j_aload B dX0_copy_124 rfl ?_
    refine j_getI B fl_X0_117 dX0_copy_126 hF (fun i126 hF => ?_)
    obtain ⟨i129, w129, e129, hF⟩ := bc hF
    refine j_rV (st2 := [.int i129]) B [.int i126] [] cv_X0_142 dX0_copy_129 hl hR (ct_X0_finding G e129) rfl rfl rfl rfl trivial (Nat.le_of_ble_eq_true rfl) ?_
    exact j_lIw B rfl dX0_copy_132 hF (by decide) (by decide)
  have jb102 : ∀ (a0 : Option Nat) (x2 : Int32) (x4 : Int32) (x5 : Int32) (a6 : Option Nat) (a7 : Option Nat) (s0 : Int32) (s1 : Option Nat) (w : cH), F_X0_copy_J102  a0 x2 x4 x5 a6 a7 s0 s1 w = some (r9, w9) → J g x (.returned (some (.int r9))) w9 0 0 w 0 0 102 [some (va_rf a0), none, some (.int x2), none, some (.int x4), some (.int x5), some (va_rf a6), some (va_rf a7)] [.int s0, va_rf s1] := by
    intro a0 x2 x4 x5 a6 a7 s0 s1 w hF
    unfold F_X0_copy_J102 at hF
    refine j_iconst (v := 0) B dX0_copy_102 (by decide) ?_
    rcases xbo hF with ⟨a103t, w103, e103, hF⟩ | ⟨_, w103, e103, hF⟩
    · refine j_rVT B [.int s0, .int 0] [] cx_X0_433 dX0_copy_103 hl hR (ct_X0_need G e103) rfl rfl rfl trivial (Nat.le_of_ble_eq_true rfl) ?_
      obtain ⟨hz, hF⟩ := bg hF
      refine jt_cls B hh (by decide) (by decide) q158 hz rfl ?_
      refine j_msk [true, false, false, false, false, false, false, false] rfl ?_
      exact jb121 a0 (some a103t) w103 hF
    refine j_rVX (st2 := []) B [.int s0, .int 0] [] cx_X0_433 dX0_copy_103 hl hR (ct_X0_need G e103) rfl rfl rfl rfl trivial (Nat.le_of_ble_eq_true rfl) ?_
    refine j_aload B dX0_copy_106 rfl ?_
    refine j_iload_n B dX0_copy_108 rfl ?_
    refine j_aload B dX0_copy_109 rfl ?_
    refine j_iload B dX0_copy_111 rfl ?_
    refine j_iload B dX0_copy_113 rfl ?_
    obtain ⟨w115, e115, hF⟩ := bo hF
    refine j_rS (st2 := []) B [va_rf a6, .int x2, va_rf a7, .int x4, .int x5] [] cs_X0_460 dX0_copy_115 hl hR (ct_X0_slide G e115) rfl rfl rfl rfl trivial (Nat.le_of_ble_eq_true rfl) ?_
    refine j_iload B dX0_copy_118 rfl ?_
    exact j_lIw B rfl dX0_copy_120 hF (by decide) (by decide)
  have jb101 : ∀ (a0 : Option Nat) (x2 : Int32) (x4 : Int32) (x5 : Int32) (a6 : Option Nat) (a7 : Option Nat) (s0 : Option Nat) (w : cH), F_X0_copy_J101  a0 x2 x4 x5 a6 a7 s0 w = some (r9, w9) → J g x (.returned (some (.int r9))) w9 0 0 w 0 0 101 [some (va_rf a0), none, some (.int x2), none, some (.int x4), some (.int x5), some (va_rf a6), some (va_rf a7)] [va_rf s0] := by
    intro a0 x2 x4 x5 a6 a7 s0 w hF
    unfold F_X0_copy_J101 at hF
    refine j_iconst (v := 0) B dX0_copy_101 (by decide) ?_
    exact jb102 a0 x2 x4 x5 a6 a7 0 s0 w hF
  have jb53 : ∀ (a0 : Option Nat) (x2 : Int32) (x4 : Int32) (x5 : Int32) (a6 : Option Nat) (a7 : Option Nat) (s0 : Int32) (s1 : Option Nat) (w : cH), F_X0_copy_J53  a0 x2 x4 x5 a6 a7 s0 s1 w = some (r9, w9) → J g x (.returned (some (.int r9))) w9 0 0 w 0 0 53 [some (va_rf a0), none, some (.int x2), none, some (.int x4), some (.int x5), some (va_rf a6), some (va_rf a7)] [.int s0, va_rf s1] := by
    intro a0 x2 x4 x5 a6 a7 s0 s1 w hF
    unfold F_X0_copy_J53 at hF
    refine j_iconst (v := 2) B dX0_copy_53 (by decide) ?_
    rcases xbo hF with ⟨a54t, w54, e54, hF⟩ | ⟨_, w54, e54, hF⟩
    · refine j_rVT B [.int s0, .int 2] [] cx_X0_433 dX0_copy_54 hl hR (ct_X0_need G e54) rfl rfl rfl trivial (Nat.le_of_ble_eq_true rfl) ?_
      obtain ⟨hz, hF⟩ := bg hF
      refine jt_cls B hh (by decide) (by decide) q158 hz rfl ?_
      refine j_msk [true, false, false, false, false, false, false, false] rfl ?_
      exact jb121 a0 (some a54t) w54 hF
    refine j_rVX (st2 := []) B [.int s0, .int 2] [] cx_X0_433 dX0_copy_54 hl hR (ct_X0_need G e54) rfl rfl rfl rfl trivial (Nat.le_of_ble_eq_true rfl) ?_
    refine j_aload_n B dX0_copy_57 rfl ?_
    refine j_iload B dX0_copy_58 rfl ?_
    refine j_if_lt (tgt := 101) B dX0_copy_60 (by decide) hF (fun h60 hF => ?_) (fun h60 hF => ?_)
    · exact jb101 a0 x2 x4 x5 a6 a7 a0 w54 hF
    · refine j_iload_n B dX0_copy_63 rfl ?_
      refine j_if_lt (tgt := 101) B dX0_copy_64 (by decide) hF (fun h64 hF => ?_) (fun h64 hF => ?_)
      · exact jb101 a0 x2 x4 x5 a6 a7 a0 w54 hF
      · refine j_iload B dX0_copy_67 rfl ?_
        refine j_if_lt (tgt := 101) B dX0_copy_69 (by decide) hF (fun h69 hF => ?_) (fun h69 hF => ?_)
        · exact jb101 a0 x2 x4 x5 a6 a7 a0 w54 hF
        · refine j_iload_n B dX0_copy_72 rfl ?_
          refine j_aload B dX0_copy_73 rfl ?_
          obtain ⟨i75, e75, hF⟩ := bo hF
          refine j_rS (st2 := [.int i75, .int x2, va_rf a0]) B [va_rf a6] [.int x2, va_rf a0] cs_X0_444 dX0_copy_75 hl hR (ct_X0_length G e75) rfl rfl rfl rfl ⟨rfl, cr _, trivial⟩ (Nat.le_of_ble_eq_true rfl) ?_
          refine j_iload B dX0_copy_78 rfl ?_
          refine j_isub B dX0_copy_80 ?_
          refine j_icmp_gt (tgt := 101) B dX0_copy_81 (by decide) hF (fun h81 hF => ?_) (fun h81 hF => ?_)
          · exact jb101 a0 x2 x4 x5 a6 a7 a0 w54 hF
          · refine j_iload B dX0_copy_84 rfl ?_
            refine j_aload B dX0_copy_86 rfl ?_
            obtain ⟨i88, e88, hF⟩ := bo hF
            refine j_rS (st2 := [.int i88, .int x4, va_rf a0]) B [va_rf a7] [.int x4, va_rf a0] cs_X0_444 dX0_copy_88 hl hR (ct_X0_length G e88) rfl rfl rfl rfl ⟨rfl, cr _, trivial⟩ (Nat.le_of_ble_eq_true rfl) ?_
            refine j_iload B dX0_copy_91 rfl ?_
            refine j_isub B dX0_copy_93 ?_
            refine j_icmp_gt (tgt := 101) B dX0_copy_94 (by decide) hF (fun h94 hF => ?_) (fun h94 hF => ?_)
            · exact jb101 a0 x2 x4 x5 a6 a7 a0 w54 hF
            · refine j_iconst (v := 1) B dX0_copy_97 (by decide) ?_
              refine j_goto (tgt := 102) B dX0_copy_98 (by decide) ?_
              exact jb102 a0 x2 x4 x5 a6 a7 1 a0 w54 hF
  have jb30 : ∀ (a0 : Option Nat) (x2 : Int32) (x4 : Int32) (x5 : Int32) (a6 : Option Nat) (a7 : Option Nat) (s0 : Int32) (s1 : Option Nat) (w : cH), F_X0_copy_J30  a0 x2 x4 x5 a6 a7 s0 s1 w = some (r9, w9) → J g x (.returned (some (.int r9))) w9 0 0 w 0 0 30 [some (va_rf a0), none, some (.int x2), none, some (.int x4), some (.int x5), some (va_rf a6), some (va_rf a7)] [.int s0, va_rf s1] := by
    intro a0 x2 x4 x5 a6 a7 s0 s1 w hF
    unfold F_X0_copy_J30 at hF
    refine j_iconst (v := 5) B dX0_copy_30 (by decide) ?_
    rcases xbo hF with ⟨a31t, w31, e31, hF⟩ | ⟨_, w31, e31, hF⟩
    · refine j_rVT B [.int s0, .int 5] [] cx_X0_433 dX0_copy_31 hl hR (ct_X0_need G e31) rfl rfl rfl trivial (Nat.le_of_ble_eq_true rfl) ?_
      obtain ⟨hz, hF⟩ := bg hF
      refine jt_cls B hh (by decide) (by decide) q158 hz rfl ?_
      refine j_msk [true, false, false, false, false, false, false, false] rfl ?_
      exact jb121 a0 (some a31t) w31 hF
    refine j_rVX (st2 := []) B [.int s0, .int 5] [] cx_X0_433 dX0_copy_31 hl hR (ct_X0_need G e31) rfl rfl rfl rfl trivial (Nat.le_of_ble_eq_true rfl) ?_
    refine j_aload_n B dX0_copy_34 rfl ?_
    refine j_aload B dX0_copy_35 rfl ?_
    obtain ⟨i37, e37, hF⟩ := bo hF
    refine j_rS (st2 := [.int i37, va_rf a0]) B [va_rf a6] [va_rf a0] cs_X0_457 dX0_copy_37 hl hR (ct_X0_widthOf G e37) rfl rfl rfl rfl ⟨cr _, trivial⟩ (Nat.le_of_ble_eq_true rfl) ?_
    refine j_aload B dX0_copy_40 rfl ?_
    obtain ⟨i42, e42, hF⟩ := bo hF
    refine j_rS (st2 := [.int i42, .int i37, va_rf a0]) B [va_rf a7] [.int i37, va_rf a0] cs_X0_457 dX0_copy_42 hl hR (ct_X0_widthOf G e42) rfl rfl rfl rfl ⟨rfl, cr _, trivial⟩ (Nat.le_of_ble_eq_true rfl) ?_
    refine j_icmp_ne (tgt := 52) B dX0_copy_45 (by decide) hF (fun h45 hF => ?_) (fun h45 hF => ?_)
    · refine j_iconst (v := 0) B dX0_copy_52 (by decide) ?_
      exact jb53 a0 x2 x4 x5 a6 a7 0 a0 w31 hF
    · refine j_iconst (v := 1) B dX0_copy_48 (by decide) ?_
      refine j_goto (tgt := 53) B dX0_copy_49 (by decide) ?_
      exact jb53 a0 x2 x4 x5 a6 a7 1 a0 w31 hF
  have jb29 : ∀ (a0 : Option Nat) (x2 : Int32) (x4 : Int32) (x5 : Int32) (a6 : Option Nat) (a7 : Option Nat) (s0 : Option Nat) (w : cH), F_X0_copy_J29  a0 x2 x4 x5 a6 a7 s0 w = some (r9, w9) → J g x (.returned (some (.int r9))) w9 0 0 w 0 0 29 [some (va_rf a0), none, some (.int x2), none, some (.int x4), some (.int x5), some (va_rf a6), some (va_rf a7)] [va_rf s0] := by
    intro a0 x2 x4 x5 a6 a7 s0 w hF
    unfold F_X0_copy_J29 at hF
    refine j_iconst (v := 0) B dX0_copy_29 (by decide) ?_
    exact jb30 a0 x2 x4 x5 a6 a7 0 s0 w hF
  refine j_aload_n B dX0_copy_0 rfl ?_
  refine j_iload_n B dX0_copy_1 rfl ?_
  rcases xbo hF with ⟨a2t, w2, e2, hF⟩ | ⟨a2p, w2, e2, hF⟩
  · refine j_rVT B [.int x1] [] cx_X0_441 dX0_copy_2 hl hR (ct_X0_rowAt G e2) rfl rfl rfl trivial (Nat.le_of_ble_eq_true rfl) ?_
    obtain ⟨hz, hF⟩ := bg hF
    refine jt_cls B hh (by decide) (by decide) q158 hz rfl ?_
    refine j_msk [true, false, false, false, false, false, false, false] rfl ?_
    exact jb121 a0 (some a2t) w2 hF
  refine j_rVX (st2 := [va_rf a2p]) B [.int x1] [] cx_X0_441 dX0_copy_2 hl hR (ct_X0_rowAt G e2) rfl rfl rfl rfl trivial (Nat.le_of_ble_eq_true rfl) ?_
  refine j_astore (vs' := [some (va_rf a0), some (.int x1), some (.int x2), some (.int x3), some (.int x4), some (.int x5), some (va_rf a2p), none]) B dX0_copy_5 (by decide) rfl ?_
  refine j_aload_n B dX0_copy_7 rfl ?_
  refine j_iload_n B dX0_copy_8 rfl ?_
  rcases xbo hF with ⟨a9t, w9, e9, hF⟩ | ⟨a9p, w9, e9, hF⟩
  · refine j_rVT B [.int x3] [] cx_X0_441 dX0_copy_9 hl hR (ct_X0_rowAt G e9) rfl rfl rfl trivial (Nat.le_of_ble_eq_true rfl) ?_
    obtain ⟨hz, hF⟩ := bg hF
    refine jt_cls B hh (by decide) (by decide) q158 hz rfl ?_
    refine j_msk [true, false, false, false, false, false, false, false] rfl ?_
    exact jb121 a0 (some a9t) w9 hF
  refine j_rVX (st2 := [va_rf a9p]) B [.int x3] [] cx_X0_441 dX0_copy_9 hl hR (ct_X0_rowAt G e9) rfl rfl rfl rfl trivial (Nat.le_of_ble_eq_true rfl) ?_
  refine j_astore (vs' := [some (va_rf a0), some (.int x1), some (.int x2), some (.int x3), some (.int x4), some (.int x5), some (va_rf a2p), some (va_rf a9p)]) B dX0_copy_12 (by decide) rfl ?_
  refine j_aload_n B dX0_copy_14 rfl ?_
  refine j_aload B dX0_copy_15 rfl ?_
  refine j_ifnull (tgt := 29) B dX0_copy_17 (by decide) hF (fun h17 hF => ?_) (fun h17 hF => ?_)
  · refine j_msk [true, false, true, false, true, true, true, true] rfl ?_
    exact jb29 a0 x2 x4 x5 a2p a9p a0 w9 hF
  · refine j_aload B dX0_copy_20 rfl ?_
    refine j_ifnull (tgt := 29) B dX0_copy_22 (by decide) hF (fun h22 hF => ?_) (fun h22 hF => ?_)
    · refine j_msk [true, false, true, false, true, true, true, true] rfl ?_
      exact jb29 a0 x2 x4 x5 a2p a9p a0 w9 hF
    · refine j_iconst (v := 1) B dX0_copy_25 (by decide) ?_
      refine j_goto (tgt := 30) B dX0_copy_26 (by decide) ?_
      refine j_msk [true, false, true, false, true, true, true, true] rfl ?_
      exact jb30 a0 x2 x4 x5 a2p a9p 1 a0 w9 hF
def F_X0_number (a0 : Option Nat) (x1 : Int32) (w : cH) : Option Int32 :=
  (iof w a0 [101] [100, 102]).bind fun i1 =>if i1 = 0 then ((iof w a0 [102] [100, 101]).bind fun i17 =>if i17 = 0 then (if ckc w a0 [100] = true then ((aI w a0 100 x1).bind fun i37 => some (i37)) else none) else (if ckc w a0 [102] = true then ((aI w a0 102 x1).bind fun i28 => some (i28)) else none)) else (if ckc w a0 [101] = true then ((aI w a0 101 x1).bind fun i12 => some (i12)) else none)
abbrev rm_X0_number : Room := { frames := 0, cells := 0, slots := 0, locals := 0 }
set_option maxHeartbeats 4000000 in
set_option maxRecDepth 100000 in
theorem ct_X0_number {l : Launch} {g : Gt} (G : Gok g) {a0 : Option Nat} {x1 : Int32} {w : cH} {r9 : Int32} (hF : F_X0_number a0 x1 w = some r9) : Mx l yX0_number (ws_ yX0_number cX0_number 2 (some .int)) rm_X0_number g [va_rf a0, .int x1] w (.returned (some (.int r9))) w 0 0 := by
  unfold F_X0_number at hF
  refine mk_ct cX0_number 2 (some .int) "CarryFair" (plainFor_of_name (by decide)) rfl (lg_le ⟨cr _, rfl, trivial⟩ (Nat.le_of_ble_eq_true rfl)) (av_ok ⟨cr _, rfl, trivial⟩) G (fun x B hl hR hin hh => ?_)
  show J g x _ _ 0 0 w 0 0 0 [some (va_rf a0), some (.int x1)] []
  refine j_aload_n B dX0_number_0 rfl ?_
  refine j_inst B ck_X0_437 (nk_X0_437 G) dX0_number_1 hF (fun i1 hF => ?_)
  refine j_if_eq (tgt := 16) B dX0_number_4 (by decide) hF (fun h4 hF => ?_) (fun h4 hF => ?_)
  · refine j_aload_n B dX0_number_16 rfl ?_
    refine j_inst B ck_X0_438 (nk_X0_438 G) dX0_number_17 hF (fun i17 hF => ?_)
    refine j_if_eq (tgt := 32) B dX0_number_20 (by decide) hF (fun h20 hF => ?_) (fun h20 hF => ?_)
    · refine j_aload_n B dX0_number_32 rfl ?_
      obtain ⟨hz, hF⟩ := bg hF
      refine j_cast B ck_X0_440 hz dX0_number_33 ?_
      refine j_iload_n B dX0_number_36 rfl ?_
      refine j_iaload B dX0_number_37 hF (fun i37 hF => ?_)
      exact j_lI B rfl dX0_number_38 hF (by decide) (by decide)
    · refine j_aload_n B dX0_number_23 rfl ?_
      obtain ⟨hz, hF⟩ := bg hF
      refine j_cast B ck_X0_438 hz dX0_number_24 ?_
      refine j_iload_n B dX0_number_27 rfl ?_
      refine j_saload B dX0_number_28 hF (fun i28 hF => ?_)
      refine j_goto (tgt := 38) B dX0_number_29 (by decide) ?_
      exact j_lI B rfl dX0_number_38 hF (by decide) (by decide)
  · refine j_aload_n B dX0_number_7 rfl ?_
    obtain ⟨hz, hF⟩ := bg hF
    refine j_cast B ck_X0_437 hz dX0_number_8 ?_
    refine j_iload_n B dX0_number_11 rfl ?_
    refine j_baload B dX0_number_12 hF (fun i12 hF => ?_)
    refine j_goto (tgt := 38) B dX0_number_13 (by decide) ?_
    exact j_lI B rfl dX0_number_38 hF (by decide) (by decide)
theorem cs_X0_463 : CS "CarryFair" 463 yX0_number cX0_number 2 (some .int) 2 := ⟨Or.inl (lw_S q1285 q1286 q126 q1287), by decide +kernel⟩
def F_X0_loads_B2 (rc2 : Option Nat → Option Nat → Int32 → cH → Option (Int32 × cH)) (a0 : Option Nat) (a1 : Option Nat) (x2 : Int32) (w : cH) : Option (Int32 × cH) :=
  (F_X0_length a1 w).bind fun i4 =>if i4 ≤ x2 then (some (x2, w)) else ((F_X0_isWare a0 x2 w).bind fun i12 =>if i12 = 0 then (some (x2, w)) else ((F_X0_number a1 x2 w).bind fun i20 =>if (F_X0_isPrice i20) = 0 then (some (x2, w)) else ((fA w a0 0 3).bind fun a30p => (fA w a30p 4 5).bind fun a33p => (aA w a33p 103 0).bind fun a37p => (F_X0_number a1 x2 w).bind fun i41 => (aS w a37p 100 x2 (.int i41)).bind fun w44 => rc2 a0 a1 (x2 + 1) w44)))
def F_X0_loads_L2 : Nat → Option Nat → Option Nat → Int32 → cH → Option (Int32 × cH)
  | 0, _, _, _, _ => none
  | n9 + 1, a0, a1, x2, w => F_X0_loads_B2  (F_X0_loads_L2  n9) a0 a1 x2 w
def F_X0_loads (a0 : Option Nat) (a1 : Option Nat) (w : cH) : Option (Int32 × cH) :=
  if tg w a0 = some 0 then (F_X0_loads_L2  fu a0 a1 0 w) else none
abbrev rm_X0_loads : Room := { frames := 2, cells := 0, slots := 0, locals := 43 }
set_option maxHeartbeats 4000000 in
set_option maxRecDepth 100000 in
theorem ct_X0_loads {l : Launch} {g : Gt} (G : Gok g) {a0 : Option Nat} {a1 : Option Nat} {w : cH} {r9 : Int32} {w9 : cH} (hF : F_X0_loads a0 a1 w = some (r9, w9)) : tg w a0 = some 0 ∧ Mx l yX0_loads (ws_ yX0_loads cX0_loads 3 (some .int)) rm_X0_loads g [va_rf a0, va_rf a1] w (.returned (some (.int r9))) w9 0 0 := by
  unfold F_X0_loads at hF
  obtain ⟨ht, hF⟩ := bg hF
  refine ⟨ht, mk_ct cX0_loads 3 (some .int) "CarryFair" (plainFor_of_name (by decide)) rfl (lg_le ⟨cr _, cr _, trivial⟩ (Nat.le_of_ble_eq_true rfl)) (av_ok ⟨cr _, cr _, trivial⟩) G (fun x B hl hR hin hh => ?_)⟩
  show J g x _ _ 0 0 w 0 0 0 [some (va_rf a0), some (va_rf a1), none] []
  have lp2 : ∀ (n9 : Nat) (a0 : Option Nat) (a1 : Option Nat) (x2 : Int32) (w : cH), F_X0_loads_L2  n9 a0 a1 x2 w = some (r9, w9) → J g x (.returned (some (.int r9))) w9 0 0 w 0 0 2 [some (va_rf a0), some (va_rf a1), some (.int x2)] [] := by
    intro n9
    induction n9 with
    | zero => intro a0 a1 x2 w hF; cases hF
    | succ n2 ih2 =>
      intro a0 a1 x2 w hF
      have hF : F_X0_loads_B2  (F_X0_loads_L2  n2) a0 a1 x2 w = some (r9, w9) := hF
      unfold F_X0_loads_B2 at hF
      refine j_iload_n B dX0_loads_2 rfl ?_
      refine j_aload_n B dX0_loads_3 rfl ?_
      obtain ⟨i4, e4, hF⟩ := bo hF
      refine j_rS (st2 := [.int i4, .int x2]) B [va_rf a1] [.int x2] cs_X0_444 dX0_loads_4 hl hR (ct_X0_length G e4) rfl rfl rfl rfl ⟨rfl, trivial⟩ (Nat.le_of_ble_eq_true rfl) ?_
      refine j_icmp_ge (tgt := 51) B dX0_loads_7 (by decide) hF (fun h7 hF => ?_) (fun h7 hF => ?_)
      · refine j_iload_n B dX0_loads_51 rfl ?_
        exact j_lIw B rfl dX0_loads_52 hF (by decide) (by decide)
      · refine j_aload_n B dX0_loads_10 rfl ?_
        refine j_iload_n B dX0_loads_11 rfl ?_
        obtain ⟨i12, e12, hF⟩ := bo hF
        refine j_rV (st2 := [.int i12]) B [.int x2] [] cv_X0_233 dX0_loads_12 hl hR (ct_X0_isWare G e12) rfl rfl rfl rfl trivial (Nat.le_of_ble_eq_true rfl) ?_
        refine j_if_eq (tgt := 51) B dX0_loads_15 (by decide) hF (fun h15 hF => ?_) (fun h15 hF => ?_)
        · refine j_iload_n B dX0_loads_51 rfl ?_
          exact j_lIw B rfl dX0_loads_52 hF (by decide) (by decide)
        · refine j_aload_n B dX0_loads_18 rfl ?_
          refine j_iload_n B dX0_loads_19 rfl ?_
          obtain ⟨i20, e20, hF⟩ := bo hF
          refine j_rS (st2 := [.int i20]) B [va_rf a1, .int x2] [] cs_X0_463 dX0_loads_20 hl hR (ct_X0_number G e20) rfl rfl rfl rfl trivial (Nat.le_of_ble_eq_true rfl) ?_
          refine j_rS (st2 := [.int (F_X0_isPrice i20)]) B [.int i20] [] cs_X0_226 dX0_loads_23 hl hR (ct_X0_isPrice G) rfl rfl rfl rfl trivial (Nat.le_of_ble_eq_true rfl) ?_
          refine j_if_eq (tgt := 51) B dX0_loads_26 (by decide) hF (fun h26 hF => ?_) (fun h26 hF => ?_)
          · refine j_iload_n B dX0_loads_51 rfl ?_
            exact j_lIw B rfl dX0_loads_52 hF (by decide) (by decide)
          · refine j_aload_n B dX0_loads_29 rfl ?_
            refine j_getA B fl_X0_61 dX0_loads_30 hF (fun a30p hF => ?_)
            refine j_getA B fl_X0_236 dX0_loads_33 hF (fun a33p hF => ?_)
            refine j_iconst (v := 0) B dX0_loads_36 (by decide) ?_
            refine j_aaload B 103 rfl rfl dX0_loads_37 hF (fun a37p hF => ?_)
            refine j_iload_n B dX0_loads_38 rfl ?_
            refine j_aload_n B dX0_loads_39 rfl ?_
            refine j_iload_n B dX0_loads_40 rfl ?_
            obtain ⟨i41, e41, hF⟩ := bo hF
            refine j_rS (st2 := [.int i41, .int x2, va_rf a37p]) B [va_rf a1, .int x2] [.int x2, va_rf a37p] cs_X0_463 dX0_loads_41 hl hR (ct_X0_number G e41) rfl rfl rfl rfl ⟨rfl, cr _, trivial⟩ (Nat.le_of_ble_eq_true rfl) ?_
            refine j_iastore B dX0_loads_44 hF (fun w44 hF => ?_)
            refine j_iinc (v := x2 + 1) (vs' := [some (va_rf a0), some (va_rf a1), some (.int (x2 + 1))]) B dX0_loads_45 (by decide) rfl rfl rfl ?_
            refine j_goto (tgt := 2) B dX0_loads_48 (by decide) ?_
            exact ih2 a0 a1 (x2 + 1) w44 hF
  refine j_iconst (v := 0) B dX0_loads_0 (by decide) ?_
  refine j_istore_n (vs' := [some (va_rf a0), some (va_rf a1), some (.int 0)]) B dX0_loads_1 (by decide) rfl ?_
  exact lp2 fu a0 a1 0 w hF
theorem cv_X0_466 : CV "CarryFair" 466 0 yX0_loads cX0_loads 3 (some .int) 1 := ⟨_, _, rfl, lw_V q1281 q1283 qs68 q126 q1284, by decide +kernel⟩
def F_X0_load_2_J26 (a0 : Option Nat) (s0 : Option Nat) (w : cH) : Option (Int32 × cH) :=
  (fI w s0 1 6).bind fun i29 => cb (F_X0_finding a0 i29 w) fun i32 w32 => some (i32, w32)
def F_X0_load_2_J16 (a0 : Option Nat) (a2 : Option Nat) (s0 : Int32) (s1 : Option Nat) (w : cH) : Option (Int32 × cH) :=
  xb (F_X0_need s1 s0 5 w) (fun a17t w17 => if tg w17 (some a17t) = some 1 then (F_X0_load_2_J26  a0 (some a17t) w17) else none) fun _ w17 => cb (F_X0_loads a0 a2 w17) fun i22 w22 => some (i22, w22)
def F_X0_load_2 (a0 : Option Nat) (x1 : Int32) (w : cH) : Option (Int32 × cH) :=
  if tg w a0 = some 0 then (xb (F_X0_rowAt a0 x1 w) (fun a2t w2 => if tg w2 (some a2t) = some 1 then (F_X0_load_2_J26  a0 (some a2t) w2) else none) fun a2p w2 =>if a2p = none then (F_X0_load_2_J16  a0 a2p 0 a0 w2) else (F_X0_load_2_J16  a0 a2p 1 a0 w2)) else none
abbrev rm_X0_load_2 : Room := { frames := 3, cells := 0, slots := 0, locals := 65 }
abbrev hh_X0_load_2 : List (Nat × Nat × Nat × Nat) := [(0, 25, 26, 44)]
set_option maxHeartbeats 4000000 in
set_option maxRecDepth 100000 in
theorem ct_X0_load_2 {l : Launch} {g : Gt} (G : Gok g) {a0 : Option Nat} {x1 : Int32} {w : cH} {r9 : Int32} {w9 : cH} (hF : F_X0_load_2 a0 x1 w = some (r9, w9)) : tg w a0 = some 0 ∧ Mx l yX0_load_2 (wsW_ yX0_load_2 cX0_load_2 3 (some .int) hh_X0_load_2) rm_X0_load_2 g [va_rf a0, .int x1] w (.returned (some (.int r9))) w9 0 0 := by
  unfold F_X0_load_2 at hF
  obtain ⟨ht, hF⟩ := bg hF
  refine ⟨ht, mk_ctW cX0_load_2 3 (some .int) hh_X0_load_2 "CarryFair" (plainFor_of_name (by decide)) rfl (lg_le ⟨cr _, rfl, trivial⟩ (Nat.le_of_ble_eq_true rfl)) (av_ok ⟨cr _, rfl, trivial⟩) G (fun x B hl hR hin hh => ?_)⟩
  show J g x _ _ 0 0 w 0 0 0 [some (va_rf a0), some (.int x1), none] []
  have jb26 : ∀ (a0 : Option Nat) (s0 : Option Nat) (w : cH), F_X0_load_2_J26  a0 s0 w = some (r9, w9) → J g x (.returned (some (.int r9))) w9 0 0 w 0 0 26 [some (va_rf a0), none, none] [va_rf s0] := by
    intro a0 s0 w hF
    unfold F_X0_load_2_J26 at hF
    refine j_astore_n (vs' := [some (va_rf a0), none, some (va_rf s0)]) B dX0_load_2_26 (by decide) rfl ?_
    refine j_aload_n B dX0_load_2_27 rfl ?_
    refine j_aload_n B dX0_load_2_28 rfl ?_
    refine j_getI B fl_X0_117 dX0_load_2_29 hF (fun i29 hF => ?_)
    obtain ⟨i32, w32, e32, hF⟩ := bc hF
    refine j_rV (st2 := [.int i32]) B [.int i29] [] cv_X0_142 dX0_load_2_32 hl hR (ct_X0_finding G e32) rfl rfl rfl rfl trivial (Nat.le_of_ble_eq_true rfl) ?_
    exact j_lIw B rfl dX0_load_2_35 hF (by decide) (by decide)
  have jb16 : ∀ (a0 : Option Nat) (a2 : Option Nat) (s0 : Int32) (s1 : Option Nat) (w : cH), F_X0_load_2_J16  a0 a2 s0 s1 w = some (r9, w9) → J g x (.returned (some (.int r9))) w9 0 0 w 0 0 16 [some (va_rf a0), none, some (va_rf a2)] [.int s0, va_rf s1] := by
    intro a0 a2 s0 s1 w hF
    unfold F_X0_load_2_J16 at hF
    refine j_iconst (v := 5) B dX0_load_2_16 (by decide) ?_
    rcases xbo hF with ⟨a17t, w17, e17, hF⟩ | ⟨_, w17, e17, hF⟩
    · refine j_rVT B [.int s0, .int 5] [] cx_X0_433 dX0_load_2_17 hl hR (ct_X0_need G e17) rfl rfl rfl trivial (Nat.le_of_ble_eq_true rfl) ?_
      obtain ⟨hz, hF⟩ := bg hF
      refine jt_cls B hh (by decide) (by decide) q158 hz rfl ?_
      refine j_msk [true, false, false] rfl ?_
      exact jb26 a0 (some a17t) w17 hF
    refine j_rVX (st2 := []) B [.int s0, .int 5] [] cx_X0_433 dX0_load_2_17 hl hR (ct_X0_need G e17) rfl rfl rfl rfl trivial (Nat.le_of_ble_eq_true rfl) ?_
    refine j_aload_n B dX0_load_2_20 rfl ?_
    refine j_aload_n B dX0_load_2_21 rfl ?_
    obtain ⟨i22, w22, e22, hF⟩ := bc hF
    refine j_rV (st2 := [.int i22]) B [va_rf a2] [] cv_X0_466 dX0_load_2_22 hl hR (ct_X0_loads G e22) rfl rfl rfl rfl trivial (Nat.le_of_ble_eq_true rfl) ?_
    exact j_lIw B rfl dX0_load_2_25 hF (by decide) (by decide)
  refine j_aload_n B dX0_load_2_0 rfl ?_
  refine j_iload_n B dX0_load_2_1 rfl ?_
  rcases xbo hF with ⟨a2t, w2, e2, hF⟩ | ⟨a2p, w2, e2, hF⟩
  · refine j_rVT B [.int x1] [] cx_X0_441 dX0_load_2_2 hl hR (ct_X0_rowAt G e2) rfl rfl rfl trivial (Nat.le_of_ble_eq_true rfl) ?_
    obtain ⟨hz, hF⟩ := bg hF
    refine jt_cls B hh (by decide) (by decide) q158 hz rfl ?_
    refine j_msk [true, false, false] rfl ?_
    exact jb26 a0 (some a2t) w2 hF
  refine j_rVX (st2 := [va_rf a2p]) B [.int x1] [] cx_X0_441 dX0_load_2_2 hl hR (ct_X0_rowAt G e2) rfl rfl rfl rfl trivial (Nat.le_of_ble_eq_true rfl) ?_
  refine j_astore_n (vs' := [some (va_rf a0), some (.int x1), some (va_rf a2p)]) B dX0_load_2_5 (by decide) rfl ?_
  refine j_aload_n B dX0_load_2_6 rfl ?_
  refine j_aload_n B dX0_load_2_7 rfl ?_
  refine j_ifnull (tgt := 15) B dX0_load_2_8 (by decide) hF (fun h8 hF => ?_) (fun h8 hF => ?_)
  · refine j_iconst (v := 0) B dX0_load_2_15 (by decide) ?_
    refine j_msk [true, false, true] rfl ?_
    exact jb16 a0 a2p 0 a0 w2 hF
  · refine j_iconst (v := 1) B dX0_load_2_11 (by decide) ?_
    refine j_goto (tgt := 16) B dX0_load_2_12 (by decide) ?_
    refine j_msk [true, false, true] rfl ?_
    exact jb16 a0 a2p 1 a0 w2 hF
def F_X0_gotOn_J124 (a0 : Option Nat) (s0 : Option Nat) (w : cH) : Option (Except Nat (Int32) × cH) :=
  (fA w a0 0 3).bind fun a127p => (fA w a0 0 5).bind fun a131p => (F_X4_become a127p a131p w).bind fun w134 => Option.bind s0 fun a139t => some (Except.error a139t, w134)
def F_X0_gotOn_J80 (rc21 : (Option Nat) → (Option Nat) → Int32 → Int32 → Int32 → cH → Option (Except Nat (Int32) × cH)) (a0 : Option Nat) (a1 : Option Nat) (x2 : Int32) (x3 : Int32) (x4 : Int32) (x5 : Int32) (x6 : Int32) (s0 : Int32) (s1 : Option Nat) (w : cH) : Option (Except Nat (Int32) × cH) :=
  xb (F_X0_need s1 s0 3 w) (fun a81t w81 => F_X0_gotOn_J124  a0 (some a81t) w81) fun _ w81 => cb (F_X0_walks a0 x2 x5 x6 w81) fun i91 w91 => (F_X0_takesAll a0 x2 w91).bind fun w98 => rc21 a0 a1 x2 (x3 + i91) (x4 + 1) w98
def F_X0_gotOn_B21 (rc21 : Option Nat → Option Nat → Int32 → Int32 → Int32 → cH → Option (Except Nat (Int32) × cH)) (a0 : Option Nat) (a1 : Option Nat) (x2 : Int32) (x3 : Int32) (x4 : Int32) (w : cH) : Option (Except Nat (Int32) × cH) :=
  (F_X0_length a1 w).bind fun i24 =>if i24 ≤ x4 then ((fA w a0 0 3).bind fun a111p => (fA w a0 0 5).bind fun a115p => (F_X4_become a111p a115p w).bind fun w118 => some (Except.ok (x3), w118)) else ((F_X0_number a1 x4 w).bind fun i33 => xb (F_X0_need a0 (F_X0_isPlace i33) 3 w) (fun a45t w45 => F_X0_gotOn_J124  a0 (some a45t) w45) fun _ w45 => (fA w45 a0 0 3).bind fun a51p => (fA w45 a51p 4 1).bind fun a54p => (aA w45 a54p 103 1).bind fun a58p => (aI w45 a58p 100 x2).bind fun i60 => cb (F_X0_farOf a0 x2 i60 i33 w45) fun i63 w63 =>if i63 = (-1) then (F_X0_gotOn_J80  rc21 a0 a1 x2 x3 x4 i33 i63 0 a0 w63) else (F_X0_gotOn_J80  rc21 a0 a1 x2 x3 x4 i33 i63 1 a0 w63))
def F_X0_gotOn_L21 : Nat → Option Nat → Option Nat → Int32 → Int32 → Int32 → cH → Option (Except Nat (Int32) × cH)
  | 0, _, _, _, _, _, _ => none
  | n9 + 1, a0, a1, x2, x3, x4, w => F_X0_gotOn_B21  (F_X0_gotOn_L21  n9) a0 a1 x2 x3 x4 w
def F_X0_gotOn (a0 : Option Nat) (a1 : Option Nat) (x2 : Int32) (w : cH) : Option (Except Nat (Int32) × cH) :=
  if tg w a0 = some 0 then ((fA w a0 0 5).bind fun a1p => (fA w a0 0 3).bind fun a5p => (F_X4_become a1p a5p w).bind fun w8 => (F_X0_takesAll a0 x2 w8).bind fun w15 => F_X0_gotOn_L21  fu a0 a1 x2 0 0 w15) else none
abbrev rm_X0_gotOn : Room := { frames := 7, cells := 0, slots := 0, locals := 166 }
abbrev hh_X0_gotOn : List (Nat × Nat × Nat × Nat) := [(11, 110, 124, 0), (124, 126, 124, 0)]
set_option maxHeartbeats 4000000 in
set_option maxRecDepth 100000 in
theorem ct_X0_gotOn {l : Launch} {g : Gt} (G : Gok g) {a0 : Option Nat} {a1 : Option Nat} {x2 : Int32} {w : cH} {r9 : Except Nat Int32} {w9 : cH} (hF : F_X0_gotOn a0 a1 x2 w = some (r9, w9)) : tg w a0 = some 0 ∧ Mx l yX0_gotOn (wsW_ yX0_gotOn cX0_gotOn 8 (some .int) hh_X0_gotOn) rm_X0_gotOn g [va_rf a0, va_rf a1, .int x2] w (oxI r9) w9 0 0 := by
  unfold F_X0_gotOn at hF
  obtain ⟨ht, hF⟩ := bg hF
  refine ⟨ht, mk_ctW cX0_gotOn 8 (some .int) hh_X0_gotOn "CarryFair" (plainFor_of_name (by decide)) rfl (lg_le ⟨cr _, cr _, rfl, trivial⟩ (Nat.le_of_ble_eq_true rfl)) (av_ok ⟨cr _, cr _, rfl, trivial⟩) G (fun x B hl hR hin hh => ?_)⟩
  show J g x _ _ 0 0 w 0 0 0 [some (va_rf a0), some (va_rf a1), some (.int x2), none, none, none, none, none] []
  have jb124 : ∀ (a0 : Option Nat) (s0 : Option Nat) (w : cH), F_X0_gotOn_J124  a0 s0 w = some (r9, w9) → J g x (oxI r9) w9 0 0 w 0 0 124 [some (va_rf a0), none, none, none, none, none, none, none] [va_rf s0] := by
    intro a0 s0 w hF
    unfold F_X0_gotOn_J124 at hF
    refine j_astore (vs' := [some (va_rf a0), none, none, none, none, none, none, some (va_rf s0)]) B dX0_gotOn_124 (by decide) rfl ?_
    refine j_aload_n B dX0_gotOn_126 rfl ?_
    refine j_getA B fl_X0_61 dX0_gotOn_127 hF (fun a127p hF => ?_)
    refine j_aload_n B dX0_gotOn_130 rfl ?_
    refine j_getA B fl_X0_68 dX0_gotOn_131 hF (fun a131p hF => ?_)
    obtain ⟨w134, e134, hF⟩ := bo hF
    refine j_rV (st2 := []) B [va_rf a131p] [] cv_X0_382 dX0_gotOn_134 hl hR (ct_X4_become G e134) rfl rfl rfl rfl trivial (Nat.le_of_ble_eq_true rfl) ?_
    refine j_aload B dX0_gotOn_137 rfl ?_
    obtain ⟨a139t, rfl, hF⟩ := bo hF
    refine j_athrow B dX0_gotOn_139 ?_
    exact jt_I B hh (by decide) hF (by decide) (by decide)
  have lp21 : ∀ (n9 : Nat) (a0 : Option Nat) (a1 : Option Nat) (x2 : Int32) (x3 : Int32) (x4 : Int32) (w : cH), F_X0_gotOn_L21  n9 a0 a1 x2 x3 x4 w = some (r9, w9) → J g x (oxI r9) w9 0 0 w 0 0 21 [some (va_rf a0), some (va_rf a1), some (.int x2), some (.int x3), some (.int x4), none, none, none] [] := by
    intro n9
    induction n9 with
    | zero => intro a0 a1 x2 x3 x4 w hF; cases hF
    | succ n21 ih21 =>
      intro a0 a1 x2 x3 x4 w hF
      have hF : F_X0_gotOn_B21  (F_X0_gotOn_L21  n21) a0 a1 x2 x3 x4 w = some (r9, w9) := hF
      unfold F_X0_gotOn_B21 at hF
      have jb80 : ∀ (a0 : Option Nat) (a1 : Option Nat) (x2 : Int32) (x3 : Int32) (x4 : Int32) (x5 : Int32) (x6 : Int32) (s0 : Int32) (s1 : Option Nat) (w : cH), F_X0_gotOn_J80  (F_X0_gotOn_L21  n21) a0 a1 x2 x3 x4 x5 x6 s0 s1 w = some (r9, w9) → J g x (oxI r9) w9 0 0 w 0 0 80 [some (va_rf a0), some (va_rf a1), some (.int x2), some (.int x3), some (.int x4), some (.int x5), some (.int x6), none] [.int s0, va_rf s1] := by
        intro a0 a1 x2 x3 x4 x5 x6 s0 s1 w hF
        unfold F_X0_gotOn_J80 at hF
        refine j_iconst (v := 3) B dX0_gotOn_80 (by decide) ?_
        rcases xbo hF with ⟨a81t, w81, e81, hF⟩ | ⟨_, w81, e81, hF⟩
        · refine j_rVT B [.int s0, .int 3] [] cx_X0_433 dX0_gotOn_81 hl hR (ct_X0_need G e81) rfl rfl rfl trivial (Nat.le_of_ble_eq_true rfl) ?_
          refine jt_any B hh (by decide) ?_
          refine j_msk [true, false, false, false, false, false, false, false] rfl ?_
          exact jb124 a0 (some a81t) w81 hF
        refine j_rVX (st2 := []) B [.int s0, .int 3] [] cx_X0_433 dX0_gotOn_81 hl hR (ct_X0_need G e81) rfl rfl rfl rfl trivial (Nat.le_of_ble_eq_true rfl) ?_
        refine j_iload_n B dX0_gotOn_84 rfl ?_
        refine j_aload_n B dX0_gotOn_85 rfl ?_
        refine j_iload_n B dX0_gotOn_86 rfl ?_
        refine j_iload B dX0_gotOn_87 rfl ?_
        refine j_iload B dX0_gotOn_89 rfl ?_
        obtain ⟨i91, w91, e91, hF⟩ := bc hF
        refine j_rV (st2 := [.int i91, .int x3]) B [.int x2, .int x5, .int x6] [.int x3] cv_X0_267 dX0_gotOn_91 hl hR (ct_X0_walks G e91) rfl rfl rfl rfl ⟨rfl, trivial⟩ (Nat.le_of_ble_eq_true rfl) ?_
        refine j_iadd B dX0_gotOn_94 ?_
        refine j_istore_n (vs' := [some (va_rf a0), some (va_rf a1), some (.int x2), some (.int (x3 + i91)), some (.int x4), some (.int x5), some (.int x6), none]) B dX0_gotOn_95 (by decide) rfl ?_
        refine j_aload_n B dX0_gotOn_96 rfl ?_
        refine j_iload_n B dX0_gotOn_97 rfl ?_
        obtain ⟨w98, e98, hF⟩ := bo hF
        refine j_rV (st2 := []) B [.int x2] [] cv_X0_373 dX0_gotOn_98 hl hR (ct_X0_takesAll G e98) rfl rfl rfl rfl trivial (Nat.le_of_ble_eq_true rfl) ?_
        refine j_iinc (v := x4 + 1) (vs' := [some (va_rf a0), some (va_rf a1), some (.int x2), some (.int (x3 + i91)), some (.int (x4 + 1)), some (.int x5), some (.int x6), none]) B dX0_gotOn_101 (by decide) rfl rfl rfl ?_
        refine j_goto (tgt := 21) B dX0_gotOn_104 (by decide) ?_
        refine j_msk [true, true, true, true, true, false, false, false] rfl ?_
        exact ih21 a0 a1 x2 (x3 + i91) (x4 + 1) w98 hF
      refine j_iload B dX0_gotOn_21 rfl ?_
      refine j_aload_n B dX0_gotOn_23 rfl ?_
      obtain ⟨i24, e24, hF⟩ := bo hF
      refine j_rS (st2 := [.int i24, .int x4]) B [va_rf a1] [.int x4] cs_X0_444 dX0_gotOn_24 hl hR (ct_X0_length G e24) rfl rfl rfl rfl ⟨rfl, trivial⟩ (Nat.le_of_ble_eq_true rfl) ?_
      refine j_icmp_ge (tgt := 107) B dX0_gotOn_27 (by decide) hF (fun h27 hF => ?_) (fun h27 hF => ?_)
      · refine j_iload_n B dX0_gotOn_107 rfl ?_
        refine j_istore (vs' := [some (va_rf a0), some (va_rf a1), some (.int x2), some (.int x3), some (.int x3), none, none, none]) B dX0_gotOn_108 (by decide) rfl ?_
        refine j_aload_n B dX0_gotOn_110 rfl ?_
        refine j_getA B fl_X0_61 dX0_gotOn_111 hF (fun a111p hF => ?_)
        refine j_aload_n B dX0_gotOn_114 rfl ?_
        refine j_getA B fl_X0_68 dX0_gotOn_115 hF (fun a115p hF => ?_)
        obtain ⟨w118, e118, hF⟩ := bo hF
        refine j_rV (st2 := []) B [va_rf a115p] [] cv_X0_382 dX0_gotOn_118 hl hR (ct_X4_become G e118) rfl rfl rfl rfl trivial (Nat.le_of_ble_eq_true rfl) ?_
        refine j_iload B dX0_gotOn_121 rfl ?_
        exact j_xI B rfl dX0_gotOn_123 hF (by decide) (by decide)
      · refine j_aload_n B dX0_gotOn_30 rfl ?_
        refine j_iload B dX0_gotOn_31 rfl ?_
        obtain ⟨i33, e33, hF⟩ := bo hF
        refine j_rS (st2 := [.int i33]) B [va_rf a1, .int x4] [] cs_X0_463 dX0_gotOn_33 hl hR (ct_X0_number G e33) rfl rfl rfl rfl trivial (Nat.le_of_ble_eq_true rfl) ?_
        refine j_istore (vs' := [some (va_rf a0), some (va_rf a1), some (.int x2), some (.int x3), some (.int x4), some (.int i33), none, none]) B dX0_gotOn_36 (by decide) rfl ?_
        refine j_aload_n B dX0_gotOn_38 rfl ?_
        refine j_iload B dX0_gotOn_39 rfl ?_
        refine j_rS (st2 := [.int (F_X0_isPlace i33), va_rf a0]) B [.int i33] [va_rf a0] cs_X0_7 dX0_gotOn_41 hl hR (ct_X0_isPlace G) rfl rfl rfl rfl ⟨cr _, trivial⟩ (Nat.le_of_ble_eq_true rfl) ?_
        refine j_iconst (v := 3) B dX0_gotOn_44 (by decide) ?_
        rcases xbo hF with ⟨a45t, w45, e45, hF⟩ | ⟨_, w45, e45, hF⟩
        · refine j_rVT B [.int (F_X0_isPlace i33), .int 3] [] cx_X0_433 dX0_gotOn_45 hl hR (ct_X0_need G e45) rfl rfl rfl trivial (Nat.le_of_ble_eq_true rfl) ?_
          refine jt_any B hh (by decide) ?_
          refine j_msk [true, false, false, false, false, false, false, false] rfl ?_
          exact jb124 a0 (some a45t) w45 hF
        refine j_rVX (st2 := []) B [.int (F_X0_isPlace i33), .int 3] [] cx_X0_433 dX0_gotOn_45 hl hR (ct_X0_need G e45) rfl rfl rfl rfl trivial (Nat.le_of_ble_eq_true rfl) ?_
        refine j_aload_n B dX0_gotOn_48 rfl ?_
        refine j_iload_n B dX0_gotOn_49 rfl ?_
        refine j_aload_n B dX0_gotOn_50 rfl ?_
        refine j_getA B fl_X0_61 dX0_gotOn_51 hF (fun a51p hF => ?_)
        refine j_getA B fl_X0_113 dX0_gotOn_54 hF (fun a54p hF => ?_)
        refine j_iconst (v := 1) B dX0_gotOn_57 (by decide) ?_
        refine j_aaload B 103 rfl rfl dX0_gotOn_58 hF (fun a58p hF => ?_)
        refine j_iload_n B dX0_gotOn_59 rfl ?_
        refine j_iaload B dX0_gotOn_60 hF (fun i60 hF => ?_)
        refine j_iload B dX0_gotOn_61 rfl ?_
        obtain ⟨i63, w63, e63, hF⟩ := bc hF
        refine j_rV (st2 := [.int i63]) B [.int x2, .int i60, .int i33] [] cv_X0_242 dX0_gotOn_63 hl hR (ct_X0_farOf G e63) rfl rfl rfl rfl trivial (Nat.le_of_ble_eq_true rfl) ?_
        refine j_istore (vs' := [some (va_rf a0), some (va_rf a1), some (.int x2), some (.int x3), some (.int x4), some (.int i33), some (.int i63), none]) B dX0_gotOn_66 (by decide) rfl ?_
        refine j_aload_n B dX0_gotOn_68 rfl ?_
        refine j_iload B dX0_gotOn_69 rfl ?_
        refine j_iconst (v := (-1)) B dX0_gotOn_71 (by decide) ?_
        refine j_icmp_eq (tgt := 79) B dX0_gotOn_72 (by decide) hF (fun h72 hF => ?_) (fun h72 hF => ?_)
        · refine j_iconst (v := 0) B dX0_gotOn_79 (by decide) ?_
          exact jb80 a0 a1 x2 x3 x4 i33 i63 0 a0 w63 hF
        · refine j_iconst (v := 1) B dX0_gotOn_75 (by decide) ?_
          refine j_goto (tgt := 80) B dX0_gotOn_76 (by decide) ?_
          exact jb80 a0 a1 x2 x3 x4 i33 i63 1 a0 w63 hF
  refine j_aload_n B dX0_gotOn_0 rfl ?_
  refine j_getA B fl_X0_68 dX0_gotOn_1 hF (fun a1p hF => ?_)
  refine j_aload_n B dX0_gotOn_4 rfl ?_
  refine j_getA B fl_X0_61 dX0_gotOn_5 hF (fun a5p hF => ?_)
  obtain ⟨w8, e8, hF⟩ := bo hF
  refine j_rV (st2 := []) B [va_rf a5p] [] cv_X0_382 dX0_gotOn_8 hl hR (ct_X4_become G e8) rfl rfl rfl rfl trivial (Nat.le_of_ble_eq_true rfl) ?_
  refine j_iconst (v := 0) B dX0_gotOn_11 (by decide) ?_
  refine j_istore_n (vs' := [some (va_rf a0), some (va_rf a1), some (.int x2), some (.int 0), none, none, none, none]) B dX0_gotOn_12 (by decide) rfl ?_
  refine j_aload_n B dX0_gotOn_13 rfl ?_
  refine j_iload_n B dX0_gotOn_14 rfl ?_
  obtain ⟨w15, e15, hF⟩ := bo hF
  refine j_rV (st2 := []) B [.int x2] [] cv_X0_373 dX0_gotOn_15 hl hR (ct_X0_takesAll G e15) rfl rfl rfl rfl trivial (Nat.le_of_ble_eq_true rfl) ?_
  refine j_iconst (v := 0) B dX0_gotOn_18 (by decide) ?_
  refine j_istore (vs' := [some (va_rf a0), some (va_rf a1), some (.int x2), some (.int 0), some (.int 0), none, none, none]) B dX0_gotOn_19 (by decide) rfl ?_
  exact lp21 fu a0 a1 x2 0 0 w15 hF
theorem cx_X0_469 : CX "CarryFair" 469 0 yX0_gotOn (wsW_ yX0_gotOn cX0_gotOn 8 (some .int) hh_X0_gotOn) 8 2 := ⟨⟨_, _, rfl⟩, q1292, q1294, qs69, q126, wsOk_codeW q1295, by decide +kernel, by decide +kernel⟩
def F_X0_judge_J37 (a0 : Option Nat) (s0 : Option Nat) (w : cH) : Option (Int32 × cH) :=
  (fI w s0 1 6).bind fun i40 => cb (F_X0_finding a0 i40 w) fun i43 w43 => some (i43, w43)
def F_X0_judge_J16 (a0 : Option Nat) (x2 : Int32) (a3 : Option Nat) (s0 : Int32) (s1 : Option Nat) (w : cH) : Option (Int32 × cH) :=
  xb (F_X0_need s1 s0 5 w) (fun a17t w17 => if tg w17 (some a17t) = some 1 then (F_X0_judge_J37  a0 (some a17t) w17) else none) fun _ w17 => (F_X0_isCarrier a0 x2 w17).bind fun i23 => xb (F_X0_need a0 i23 0 w17) (fun a27t w27 => if tg w27 (some a27t) = some 1 then (F_X0_judge_J37  a0 (some a27t) w27) else none) fun _ w27 => xb (F_X0_gotOn a0 a3 x2 w27) (fun a33t w33 => if tg w33 (some a33t) = some 1 then (F_X0_judge_J37  a0 (some a33t) w33) else none) fun i33 w33 => some (i33, w33)
def F_X0_judge (a0 : Option Nat) (x1 : Int32) (x2 : Int32) (w : cH) : Option (Int32 × cH) :=
  if tg w a0 = some 0 then (xb (F_X0_rowAt a0 x1 w) (fun a2t w2 => if tg w2 (some a2t) = some 1 then (F_X0_judge_J37  a0 (some a2t) w2) else none) fun a2p w2 =>if a2p = none then (F_X0_judge_J16  a0 x2 a2p 0 a0 w2) else (F_X0_judge_J16  a0 x2 a2p 1 a0 w2)) else none
abbrev rm_X0_judge : Room := { frames := 8, cells := 0, slots := 0, locals := 193 }
abbrev hh_X0_judge : List (Nat × Nat × Nat × Nat) := [(0, 36, 37, 44)]
set_option maxHeartbeats 4000000 in
set_option maxRecDepth 100000 in
theorem ct_X0_judge {l : Launch} {g : Gt} (G : Gok g) {a0 : Option Nat} {x1 : Int32} {x2 : Int32} {w : cH} {r9 : Int32} {w9 : cH} (hF : F_X0_judge a0 x1 x2 w = some (r9, w9)) : tg w a0 = some 0 ∧ Mx l yX0_judge (wsW_ yX0_judge cX0_judge 4 (some .int) hh_X0_judge) rm_X0_judge g [va_rf a0, .int x1, .int x2] w (.returned (some (.int r9))) w9 0 0 := by
  unfold F_X0_judge at hF
  obtain ⟨ht, hF⟩ := bg hF
  refine ⟨ht, mk_ctW cX0_judge 4 (some .int) hh_X0_judge "CarryFair" (plainFor_of_name (by decide)) rfl (lg_le ⟨cr _, rfl, rfl, trivial⟩ (Nat.le_of_ble_eq_true rfl)) (av_ok ⟨cr _, rfl, rfl, trivial⟩) G (fun x B hl hR hin hh => ?_)⟩
  show J g x _ _ 0 0 w 0 0 0 [some (va_rf a0), some (.int x1), some (.int x2), none] []
  have jb37 : ∀ (a0 : Option Nat) (s0 : Option Nat) (w : cH), F_X0_judge_J37  a0 s0 w = some (r9, w9) → J g x (.returned (some (.int r9))) w9 0 0 w 0 0 37 [some (va_rf a0), none, none, none] [va_rf s0] := by
    intro a0 s0 w hF
    unfold F_X0_judge_J37 at hF
    refine j_astore_n (vs' := [some (va_rf a0), none, none, some (va_rf s0)]) B dX0_judge_37 (by decide) rfl ?_
    refine j_aload_n B dX0_judge_38 rfl ?_
    refine j_aload_n B dX0_judge_39 rfl ?_
    refine j_getI B fl_X0_117 dX0_judge_40 hF (fun i40 hF => ?_)
    obtain ⟨i43, w43, e43, hF⟩ := bc hF
    refine j_rV (st2 := [.int i43]) B [.int i40] [] cv_X0_142 dX0_judge_43 hl hR (ct_X0_finding G e43) rfl rfl rfl rfl trivial (Nat.le_of_ble_eq_true rfl) ?_
    exact j_lIw B rfl dX0_judge_46 hF (by decide) (by decide)
  have jb16 : ∀ (a0 : Option Nat) (x2 : Int32) (a3 : Option Nat) (s0 : Int32) (s1 : Option Nat) (w : cH), F_X0_judge_J16  a0 x2 a3 s0 s1 w = some (r9, w9) → J g x (.returned (some (.int r9))) w9 0 0 w 0 0 16 [some (va_rf a0), none, some (.int x2), some (va_rf a3)] [.int s0, va_rf s1] := by
    intro a0 x2 a3 s0 s1 w hF
    unfold F_X0_judge_J16 at hF
    refine j_iconst (v := 5) B dX0_judge_16 (by decide) ?_
    rcases xbo hF with ⟨a17t, w17, e17, hF⟩ | ⟨_, w17, e17, hF⟩
    · refine j_rVT B [.int s0, .int 5] [] cx_X0_433 dX0_judge_17 hl hR (ct_X0_need G e17) rfl rfl rfl trivial (Nat.le_of_ble_eq_true rfl) ?_
      obtain ⟨hz, hF⟩ := bg hF
      refine jt_cls B hh (by decide) (by decide) q158 hz rfl ?_
      refine j_msk [true, false, false, false] rfl ?_
      exact jb37 a0 (some a17t) w17 hF
    refine j_rVX (st2 := []) B [.int s0, .int 5] [] cx_X0_433 dX0_judge_17 hl hR (ct_X0_need G e17) rfl rfl rfl rfl trivial (Nat.le_of_ble_eq_true rfl) ?_
    refine j_aload_n B dX0_judge_20 rfl ?_
    refine j_aload_n B dX0_judge_21 rfl ?_
    refine j_iload_n B dX0_judge_22 rfl ?_
    obtain ⟨i23, e23, hF⟩ := bo hF
    refine j_rV (st2 := [.int i23, va_rf a0]) B [.int x2] [va_rf a0] cv_X0_161 dX0_judge_23 hl hR (ct_X0_isCarrier G e23) rfl rfl rfl rfl ⟨cr _, trivial⟩ (Nat.le_of_ble_eq_true rfl) ?_
    refine j_iconst (v := 0) B dX0_judge_26 (by decide) ?_
    rcases xbo hF with ⟨a27t, w27, e27, hF⟩ | ⟨_, w27, e27, hF⟩
    · refine j_rVT B [.int i23, .int 0] [] cx_X0_433 dX0_judge_27 hl hR (ct_X0_need G e27) rfl rfl rfl trivial (Nat.le_of_ble_eq_true rfl) ?_
      obtain ⟨hz, hF⟩ := bg hF
      refine jt_cls B hh (by decide) (by decide) q158 hz rfl ?_
      refine j_msk [true, false, false, false] rfl ?_
      exact jb37 a0 (some a27t) w27 hF
    refine j_rVX (st2 := []) B [.int i23, .int 0] [] cx_X0_433 dX0_judge_27 hl hR (ct_X0_need G e27) rfl rfl rfl rfl trivial (Nat.le_of_ble_eq_true rfl) ?_
    refine j_aload_n B dX0_judge_30 rfl ?_
    refine j_aload_n B dX0_judge_31 rfl ?_
    refine j_iload_n B dX0_judge_32 rfl ?_
    rcases xbo hF with ⟨a33t, w33, e33, hF⟩ | ⟨i33, w33, e33, hF⟩
    · refine j_rVT B [va_rf a3, .int x2] [] cx_X0_469 dX0_judge_33 hl hR (ct_X0_gotOn G e33) rfl rfl rfl trivial (Nat.le_of_ble_eq_true rfl) ?_
      obtain ⟨hz, hF⟩ := bg hF
      refine jt_cls B hh (by decide) (by decide) q158 hz rfl ?_
      refine j_msk [true, false, false, false] rfl ?_
      exact jb37 a0 (some a33t) w33 hF
    refine j_rVX (st2 := [.int i33]) B [va_rf a3, .int x2] [] cx_X0_469 dX0_judge_33 hl hR (ct_X0_gotOn G e33) rfl rfl rfl rfl trivial (Nat.le_of_ble_eq_true rfl) ?_
    exact j_lIw B rfl dX0_judge_36 hF (by decide) (by decide)
  refine j_aload_n B dX0_judge_0 rfl ?_
  refine j_iload_n B dX0_judge_1 rfl ?_
  rcases xbo hF with ⟨a2t, w2, e2, hF⟩ | ⟨a2p, w2, e2, hF⟩
  · refine j_rVT B [.int x1] [] cx_X0_441 dX0_judge_2 hl hR (ct_X0_rowAt G e2) rfl rfl rfl trivial (Nat.le_of_ble_eq_true rfl) ?_
    obtain ⟨hz, hF⟩ := bg hF
    refine jt_cls B hh (by decide) (by decide) q158 hz rfl ?_
    refine j_msk [true, false, false, false] rfl ?_
    exact jb37 a0 (some a2t) w2 hF
  refine j_rVX (st2 := [va_rf a2p]) B [.int x1] [] cx_X0_441 dX0_judge_2 hl hR (ct_X0_rowAt G e2) rfl rfl rfl rfl trivial (Nat.le_of_ble_eq_true rfl) ?_
  refine j_astore_n (vs' := [some (va_rf a0), some (.int x1), some (.int x2), some (va_rf a2p)]) B dX0_judge_5 (by decide) rfl ?_
  refine j_aload_n B dX0_judge_6 rfl ?_
  refine j_aload_n B dX0_judge_7 rfl ?_
  refine j_ifnull (tgt := 15) B dX0_judge_8 (by decide) hF (fun h8 hF => ?_) (fun h8 hF => ?_)
  · refine j_iconst (v := 0) B dX0_judge_15 (by decide) ?_
    refine j_msk [true, false, true, true] rfl ?_
    exact jb16 a0 x2 a2p 0 a0 w2 hF
  · refine j_iconst (v := 1) B dX0_judge_11 (by decide) ?_
    refine j_goto (tgt := 16) B dX0_judge_12 (by decide) ?_
    refine j_msk [true, false, true, true] rfl ?_
    exact jb16 a0 x2 a2p 1 a0 w2 hF
theorem fl_X0_65 : FL "CarryFair" 65 0 4 := ⟨RX0, TX0, 20, rfl, by decide, in_X0, Or.inl q443⟩
theorem fp_X0_472 : FP "CarryFair" 472 0 6 .boolean false := ⟨RX0, TX0, 20, rfl, by decide, in_X0, Or.inl q445, rfl, (fun h => by cases h), by decide +kernel, ap_X0, tyX0, tyX0_ok⟩
def F_X0_image (a0 : Option Nat) (w : cH) : Option (Int32 × cH) :=
  if tg w a0 = some 0 then ((fA w a0 0 4).bind fun a1p => (fA w a0 0 3).bind fun a5p => (F_X4_become a1p a5p w).bind fun w8 => (pV w8 a0 0 6 (.int 1)).bind fun w13 => some (1, w13)) else none
abbrev rm_X0_image : Room := { frames := 4, cells := 0, slots := 0, locals := 90 }
set_option maxHeartbeats 4000000 in
set_option maxRecDepth 100000 in
theorem ct_X0_image {l : Launch} {g : Gt} (G : Gok g) {a0 : Option Nat} {w : cH} {r9 : Int32} {w9 : cH} (hF : F_X0_image a0 w = some (r9, w9)) : tg w a0 = some 0 ∧ Mx l yX0_image (ws_ yX0_image cX0_image 1 (some .int)) rm_X0_image g [va_rf a0] w (.returned (some (.int r9))) w9 0 0 := by
  unfold F_X0_image at hF
  obtain ⟨ht, hF⟩ := bg hF
  refine ⟨ht, mk_ct cX0_image 1 (some .int) "CarryFair" (plainFor_of_name (by decide)) rfl (lg_le ⟨cr _, trivial⟩ (Nat.le_of_ble_eq_true rfl)) (av_ok ⟨cr _, trivial⟩) G (fun x B hl hR hin hh => ?_)⟩
  show J g x _ _ 0 0 w 0 0 0 [some (va_rf a0)] []
  refine j_aload_n B dX0_image_0 rfl ?_
  refine j_getA B fl_X0_65 dX0_image_1 hF (fun a1p hF => ?_)
  refine j_aload_n B dX0_image_4 rfl ?_
  refine j_getA B fl_X0_61 dX0_image_5 hF (fun a5p hF => ?_)
  obtain ⟨w8, e8, hF⟩ := bo hF
  refine j_rV (st2 := []) B [va_rf a5p] [] cv_X0_382 dX0_image_8 hl hR (ct_X4_become G e8) rfl rfl rfl rfl trivial (Nat.le_of_ble_eq_true rfl) ?_
  refine j_aload_n B dX0_image_11 rfl ?_
  refine j_iconst (v := 1) B dX0_image_12 (by decide) ?_
  refine j_putV B fp_X0_472 (fun h => by cases h) rfl rfl dX0_image_13 hF (fun w13 hF => ?_)
  refine j_iconst (v := 1) B dX0_image_16 (by decide) ?_
  exact j_lIw B rfl dX0_image_17 hF (by decide) (by decide)
theorem fl_X0_472 : FL "CarryFair" 472 0 6 := ⟨RX0, TX0, 20, rfl, by decide, in_X0, Or.inl q445⟩
def F_X0_undo (a0 : Option Nat) (w : cH) : Option (Int32 × cH) :=
  if tg w a0 = some 0 then ((fI w a0 0 6).bind fun i1 =>if ¬ i1 = 0 then ((fA w a0 0 3).bind fun a14p => (fA w a0 0 4).bind fun a18p => (F_X4_become a14p a18p w).bind fun w21 => (fA w21 a0 0 3).bind fun a25p => (fI w21 a25p 4 2).bind fun i28 => some (i28, w21)) else (cb (F_X0_finding a0 3 w) fun i9 w9 => some (i9, w9))) else none
abbrev rm_X0_undo : Room := { frames := 4, cells := 0, slots := 0, locals := 90 }
set_option maxHeartbeats 4000000 in
set_option maxRecDepth 100000 in
theorem ct_X0_undo {l : Launch} {g : Gt} (G : Gok g) {a0 : Option Nat} {w : cH} {r9 : Int32} {w9 : cH} (hF : F_X0_undo a0 w = some (r9, w9)) : tg w a0 = some 0 ∧ Mx l yX0_undo (ws_ yX0_undo cX0_undo 1 (some .int)) rm_X0_undo g [va_rf a0] w (.returned (some (.int r9))) w9 0 0 := by
  unfold F_X0_undo at hF
  obtain ⟨ht, hF⟩ := bg hF
  refine ⟨ht, mk_ct cX0_undo 1 (some .int) "CarryFair" (plainFor_of_name (by decide)) rfl (lg_le ⟨cr _, trivial⟩ (Nat.le_of_ble_eq_true rfl)) (av_ok ⟨cr _, trivial⟩) G (fun x B hl hR hin hh => ?_)⟩
  show J g x _ _ 0 0 w 0 0 0 [some (va_rf a0)] []
  refine j_aload_n B dX0_undo_0 rfl ?_
  refine j_getI B fl_X0_472 dX0_undo_1 hF (fun i1 hF => ?_)
  refine j_if_ne (tgt := 13) B dX0_undo_4 (by decide) hF (fun h4 hF => ?_) (fun h4 hF => ?_)
  · refine j_aload_n B dX0_undo_13 rfl ?_
    refine j_getA B fl_X0_61 dX0_undo_14 hF (fun a14p hF => ?_)
    refine j_aload_n B dX0_undo_17 rfl ?_
    refine j_getA B fl_X0_65 dX0_undo_18 hF (fun a18p hF => ?_)
    obtain ⟨w21, e21, hF⟩ := bo hF
    refine j_rV (st2 := []) B [va_rf a18p] [] cv_X0_382 dX0_undo_21 hl hR (ct_X4_become G e21) rfl rfl rfl rfl trivial (Nat.le_of_ble_eq_true rfl) ?_
    refine j_aload_n B dX0_undo_24 rfl ?_
    refine j_getA B fl_X0_61 dX0_undo_25 hF (fun a25p hF => ?_)
    refine j_getI B fl_X0_127 dX0_undo_28 hF (fun i28 hF => ?_)
    exact j_lIw B rfl dX0_undo_31 hF (by decide) (by decide)
  · refine j_aload_n B dX0_undo_7 rfl ?_
    refine j_iconst (v := 3) B dX0_undo_8 (by decide) ?_
    obtain ⟨i9, w9, e9, hF⟩ := bc hF
    refine j_rV (st2 := [.int i9]) B [.int 3] [] cv_X0_142 dX0_undo_9 hl hR (ct_X0_finding G e9) rfl rfl rfl rfl trivial (Nat.le_of_ble_eq_true rfl) ?_
    exact j_lIw B rfl dX0_undo_12 hF (by decide) (by decide)
def F_X0_tear_J12 (a0 : Option Nat) (s0 : Int32) (w : cH) : Option (Int32 × cH) :=
  (pV w a0 0 6 (.int 0)).bind fun w15 => some (s0, w15)
def F_X0_tear (a0 : Option Nat) (w : cH) : Option (Int32 × cH) :=
  if tg w a0 = some 0 then ((fI w a0 0 6).bind fun i1 =>if i1 = 0 then (F_X0_tear_J12  a0 0 w) else (F_X0_tear_J12  a0 1 w)) else none
abbrev rm_X0_tear : Room := { frames := 0, cells := 0, slots := 0, locals := 0 }
set_option maxHeartbeats 4000000 in
set_option maxRecDepth 100000 in
theorem ct_X0_tear {l : Launch} {g : Gt} (G : Gok g) {a0 : Option Nat} {w : cH} {r9 : Int32} {w9 : cH} (hF : F_X0_tear a0 w = some (r9, w9)) : tg w a0 = some 0 ∧ Mx l yX0_tear (ws_ yX0_tear cX0_tear 2 (some .int)) rm_X0_tear g [va_rf a0] w (.returned (some (.int r9))) w9 0 0 := by
  unfold F_X0_tear at hF
  obtain ⟨ht, hF⟩ := bg hF
  refine ⟨ht, mk_ct cX0_tear 2 (some .int) "CarryFair" (plainFor_of_name (by decide)) rfl (lg_le ⟨cr _, trivial⟩ (Nat.le_of_ble_eq_true rfl)) (av_ok ⟨cr _, trivial⟩) G (fun x B hl hR hin hh => ?_)⟩
  show J g x _ _ 0 0 w 0 0 0 [some (va_rf a0), none] []
  have jb12 : ∀ (a0 : Option Nat) (s0 : Int32) (w : cH), F_X0_tear_J12  a0 s0 w = some (r9, w9) → J g x (.returned (some (.int r9))) w9 0 0 w 0 0 12 [some (va_rf a0), none] [.int s0] := by
    intro a0 s0 w hF
    unfold F_X0_tear_J12 at hF
    refine j_istore_n (vs' := [some (va_rf a0), some (.int s0)]) B dX0_tear_12 (by decide) rfl ?_
    refine j_aload_n B dX0_tear_13 rfl ?_
    refine j_iconst (v := 0) B dX0_tear_14 (by decide) ?_
    refine j_putV B fp_X0_472 (fun h => by cases h) rfl rfl dX0_tear_15 hF (fun w15 hF => ?_)
    refine j_iload_n B dX0_tear_18 rfl ?_
    exact j_lIw B rfl dX0_tear_19 hF (by decide) (by decide)
  refine j_aload_n B dX0_tear_0 rfl ?_
  refine j_getI B fl_X0_472 dX0_tear_1 hF (fun i1 hF => ?_)
  refine j_if_eq (tgt := 11) B dX0_tear_4 (by decide) hF (fun h4 hF => ?_) (fun h4 hF => ?_)
  · refine j_iconst (v := 0) B dX0_tear_11 (by decide) ?_
    exact jb12 a0 0 w hF
  · refine j_iconst (v := 1) B dX0_tear_7 (by decide) ?_
    refine j_goto (tgt := 12) B dX0_tear_8 (by decide) ?_
    exact jb12 a0 1 w hF
def F_X0_holding_J40 (rc16 : Int32 → (Option Nat) → Int32 → Int32 → cH → Option Int32) (a2 : Option Nat) (x3 : Int32) (x4 : Int32) (s0 : Int32) (s1 : Int32) (w : cH) : Option Int32 :=
  rc16 (s1 + s0) a2 x3 (x4 + 1) w
def F_X0_holding_B16 (rc16 : Int32 → Option Nat → Int32 → Int32 → cH → Option Int32) (x1 : Int32) (a2 : Option Nat) (x3 : Int32) (x4 : Int32) (w : cH) : Option Int32 :=
  if x3 ≤ x4 then (some (x1)) else ((aI w a2 100 x4).bind fun i25 =>if ¬ i25 = (-1) then (F_X0_holding_J40  rc16 a2 x3 x4 1 x1 w) else (F_X0_holding_J40  rc16 a2 x3 x4 0 x1 w))
def F_X0_holding_L16 : Nat → Int32 → Option Nat → Int32 → Int32 → cH → Option Int32
  | 0, _, _, _, _, _ => none
  | n9 + 1, x1, a2, x3, x4, w => F_X0_holding_B16  (F_X0_holding_L16  n9) x1 a2 x3 x4 w
def F_X0_holding (a0 : Option Nat) (w : cH) : Option Int32 :=
  if tg w a0 = some 0 then ((fA w a0 0 3).bind fun a3p => (fA w a3p 4 9).bind fun a6p => (aL w a6p).bind fun i11 => F_X0_holding_L16  fu 0 a6p i11 0 w) else none
abbrev rm_X0_holding : Room := { frames := 0, cells := 0, slots := 0, locals := 0 }
set_option maxHeartbeats 4000000 in
set_option maxRecDepth 100000 in
theorem ct_X0_holding {l : Launch} {g : Gt} (G : Gok g) {a0 : Option Nat} {w : cH} {r9 : Int32} (hF : F_X0_holding a0 w = some r9) : tg w a0 = some 0 ∧ Mx l yX0_holding (ws_ yX0_holding cX0_holding 6 (some .int)) rm_X0_holding g [va_rf a0] w (.returned (some (.int r9))) w 0 0 := by
  unfold F_X0_holding at hF
  obtain ⟨ht, hF⟩ := bg hF
  refine ⟨ht, mk_ct cX0_holding 6 (some .int) "CarryFair" (plainFor_of_name (by decide)) rfl (lg_le ⟨cr _, trivial⟩ (Nat.le_of_ble_eq_true rfl)) (av_ok ⟨cr _, trivial⟩) G (fun x B hl hR hin hh => ?_)⟩
  show J g x _ _ 0 0 w 0 0 0 [some (va_rf a0), none, none, none, none, none] []
  have lp16 : ∀ (n9 : Nat) (x1 : Int32) (a2 : Option Nat) (x3 : Int32) (x4 : Int32), F_X0_holding_L16  n9 x1 a2 x3 x4 w = some r9 → J g x (.returned (some (.int r9))) w 0 0 w 0 0 16 [none, some (.int x1), some (va_rf a2), some (.int x3), some (.int x4), none] [] := by
    intro n9
    induction n9 with
    | zero => intro x1 a2 x3 x4 hF; cases hF
    | succ n16 ih16 =>
      intro x1 a2 x3 x4 hF
      have hF : F_X0_holding_B16  (F_X0_holding_L16  n16) x1 a2 x3 x4 w = some r9 := hF
      unfold F_X0_holding_B16 at hF
      have jb40 : ∀ (a2 : Option Nat) (x3 : Int32) (x4 : Int32) (s0 : Int32) (s1 : Int32), F_X0_holding_J40  (F_X0_holding_L16  n16) a2 x3 x4 s0 s1 w = some r9 → J g x (.returned (some (.int r9))) w 0 0 w 0 0 40 [none, none, some (va_rf a2), some (.int x3), some (.int x4), none] [.int s0, .int s1] := by
        intro a2 x3 x4 s0 s1 hF
        unfold F_X0_holding_J40 at hF
        refine j_iadd B dX0_holding_40 ?_
        refine j_istore_n (vs' := [none, some (.int (s1 + s0)), some (va_rf a2), some (.int x3), some (.int x4), none]) B dX0_holding_41 (by decide) rfl ?_
        refine j_iinc (v := x4 + 1) (vs' := [none, some (.int (s1 + s0)), some (va_rf a2), some (.int x3), some (.int (x4 + 1)), none]) B dX0_holding_42 (by decide) rfl rfl rfl ?_
        refine j_goto (tgt := 16) B dX0_holding_45 (by decide) ?_
        exact ih16 (s1 + s0) a2 x3 (x4 + 1) hF
      refine j_iload B dX0_holding_16 rfl ?_
      refine j_iload_n B dX0_holding_18 rfl ?_
      refine j_icmp_ge (tgt := 48) B dX0_holding_19 (by decide) hF (fun h19 hF => ?_) (fun h19 hF => ?_)
      · refine j_iload_n B dX0_holding_48 rfl ?_
        exact j_lI B rfl dX0_holding_49 hF (by decide) (by decide)
      · refine j_aload_n B dX0_holding_22 rfl ?_
        refine j_iload B dX0_holding_23 rfl ?_
        refine j_iaload B dX0_holding_25 hF (fun i25 hF => ?_)
        refine j_istore (vs' := [none, some (.int x1), some (va_rf a2), some (.int x3), some (.int x4), some (.int i25)]) B dX0_holding_26 (by decide) rfl ?_
        refine j_iload_n B dX0_holding_28 rfl ?_
        refine j_iload B dX0_holding_29 rfl ?_
        refine j_iconst (v := (-1)) B dX0_holding_31 (by decide) ?_
        refine j_icmp_ne (tgt := 39) B dX0_holding_32 (by decide) hF (fun h32 hF => ?_) (fun h32 hF => ?_)
        · refine j_iconst (v := 1) B dX0_holding_39 (by decide) ?_
          refine j_msk [false, false, true, true, true, false] rfl ?_
          exact jb40 a2 x3 x4 1 x1 hF
        · refine j_iconst (v := 0) B dX0_holding_35 (by decide) ?_
          refine j_goto (tgt := 40) B dX0_holding_36 (by decide) ?_
          refine j_msk [false, false, true, true, true, false] rfl ?_
          exact jb40 a2 x3 x4 0 x1 hF
  refine j_iconst (v := 0) B dX0_holding_0 (by decide) ?_
  refine j_istore_n (vs' := [some (va_rf a0), some (.int 0), none, none, none, none]) B dX0_holding_1 (by decide) rfl ?_
  refine j_aload_n B dX0_holding_2 rfl ?_
  refine j_getA B fl_X0_61 dX0_holding_3 hF (fun a3p hF => ?_)
  refine j_getA B fl_X0_410 dX0_holding_6 hF (fun a6p hF => ?_)
  refine j_astore_n (vs' := [some (va_rf a0), some (.int 0), some (va_rf a6p), none, none, none]) B dX0_holding_9 (by decide) rfl ?_
  refine j_aload_n B dX0_holding_10 rfl ?_
  refine j_alen B dX0_holding_11 hF (fun i11 hF => ?_)
  refine j_istore_n (vs' := [some (va_rf a0), some (.int 0), some (va_rf a6p), some (.int i11), none, none]) B dX0_holding_12 (by decide) rfl ?_
  refine j_iconst (v := 0) B dX0_holding_13 (by decide) ?_
  refine j_istore (vs' := [some (va_rf a0), some (.int 0), some (va_rf a6p), some (.int i11), some (.int 0), none]) B dX0_holding_14 (by decide) rfl ?_
  refine j_msk [false, true, true, true, true, false] rfl ?_
  exact lp16 fu 0 a6p i11 0 hF
theorem cv_X0_476 : CV "CarryFair" 476 0 yX0_holding cX0_holding 6 (some .int) 0 := ⟨_, _, rfl, lw_V q1312 q1314 qs70 q126 q1315, by decide +kernel⟩
def F_X0_count (a0 : Option Nat) (x1 : Int32) (w : cH) : Option (Int32 × cH) :=
  if tg w a0 = some 0 then (if x1 = 0 then ((fA w a0 0 3).bind fun a49p => (fI w a49p 4 0).bind fun i52 => some (i52, w)) else if x1 = 1 then ((fA w a0 0 3).bind fun a57p => (fI w a57p 4 2).bind fun i60 => some (i60, w)) else if x1 = 2 then ((fA w a0 0 3).bind fun a65p => (fI w a65p 4 4).bind fun i68 => some (i68, w)) else if x1 = 3 then ((fA w a0 0 3).bind fun a73p => (F_X4_sumOf a73p 3 w).bind fun i77 => some (i77, w)) else if x1 = 4 then ((fA w a0 0 3).bind fun a82p => (F_X4_sumOf a82p 4 w).bind fun i86 => some (i86, w)) else if x1 = 5 then ((fI w a0 0 2).bind fun i91 => some (i91, w)) else if x1 = 6 then ((fA w a0 0 3).bind fun a96p => (fI w a96p 4 8).bind fun i99 => some (i99, w)) else if x1 = 7 then ((F_X0_holding a0 w).bind fun i104 => some (i104, w)) else (cb (F_X0_finding a0 0 w) fun i110 w110 => some (i110, w110))) else none
abbrev rm_X0_count : Room := { frames := 1, cells := 0, slots := 0, locals := 25 }
set_option maxHeartbeats 4000000 in
set_option maxRecDepth 100000 in
theorem ct_X0_count {l : Launch} {g : Gt} (G : Gok g) {a0 : Option Nat} {x1 : Int32} {w : cH} {r9 : Int32} {w9 : cH} (hF : F_X0_count a0 x1 w = some (r9, w9)) : tg w a0 = some 0 ∧ Mx l yX0_count (ws_ yX0_count cX0_count 2 (some .int)) rm_X0_count g [va_rf a0, .int x1] w (.returned (some (.int r9))) w9 0 0 := by
  unfold F_X0_count at hF
  obtain ⟨ht, hF⟩ := bg hF
  refine ⟨ht, mk_ct cX0_count 2 (some .int) "CarryFair" (plainFor_of_name (by decide)) rfl (lg_le ⟨cr _, rfl, trivial⟩ (Nat.le_of_ble_eq_true rfl)) (av_ok ⟨cr _, rfl, trivial⟩) G (fun x B hl hR hin hh => ?_)⟩
  show J g x _ _ 0 0 w 0 0 0 [some (va_rf a0), some (.int x1)] []
  refine j_iload_n B dX0_count_0 rfl ?_
  by_cases t1_0 : x1 = 0
  · rw [if_pos t1_0] at hF
    refine j_tblIn (tgt := 48) B 0 dX0_count_1 t1_0 (by decide) rfl (by decide) ?_
    refine j_aload_n B dX0_count_48 rfl ?_
    refine j_getA B fl_X0_61 dX0_count_49 hF (fun a49p hF => ?_)
    refine j_getI B fl_X0_125 dX0_count_52 hF (fun i52 hF => ?_)
    exact j_lIw B rfl dX0_count_55 hF (by decide) (by decide)
  rw [if_neg t1_0] at hF
  by_cases t1_1 : x1 = 1
  · rw [if_pos t1_1] at hF
    refine j_tblIn (tgt := 56) B 1 dX0_count_1 t1_1 (by decide) rfl (by decide) ?_
    refine j_aload_n B dX0_count_56 rfl ?_
    refine j_getA B fl_X0_61 dX0_count_57 hF (fun a57p hF => ?_)
    refine j_getI B fl_X0_127 dX0_count_60 hF (fun i60 hF => ?_)
    exact j_lIw B rfl dX0_count_63 hF (by decide) (by decide)
  rw [if_neg t1_1] at hF
  by_cases t1_2 : x1 = 2
  · rw [if_pos t1_2] at hF
    refine j_tblIn (tgt := 64) B 2 dX0_count_1 t1_2 (by decide) rfl (by decide) ?_
    refine j_aload_n B dX0_count_64 rfl ?_
    refine j_getA B fl_X0_61 dX0_count_65 hF (fun a65p hF => ?_)
    refine j_getI B fl_X0_130 dX0_count_68 hF (fun i68 hF => ?_)
    exact j_lIw B rfl dX0_count_71 hF (by decide) (by decide)
  rw [if_neg t1_2] at hF
  by_cases t1_3 : x1 = 3
  · rw [if_pos t1_3] at hF
    refine j_tblIn (tgt := 72) B 3 dX0_count_1 t1_3 (by decide) rfl (by decide) ?_
    refine j_aload_n B dX0_count_72 rfl ?_
    refine j_getA B fl_X0_61 dX0_count_73 hF (fun a73p hF => ?_)
    refine j_iconst (v := 3) B dX0_count_76 (by decide) ?_
    obtain ⟨i77, e77, hF⟩ := bo hF
    refine j_rV (st2 := [.int i77]) B [.int 3] [] cv_X0_276 dX0_count_77 hl hR (ct_X4_sumOf G e77) rfl rfl rfl rfl trivial (Nat.le_of_ble_eq_true rfl) ?_
    exact j_lIw B rfl dX0_count_80 hF (by decide) (by decide)
  rw [if_neg t1_3] at hF
  by_cases t1_4 : x1 = 4
  · rw [if_pos t1_4] at hF
    refine j_tblIn (tgt := 81) B 4 dX0_count_1 t1_4 (by decide) rfl (by decide) ?_
    refine j_aload_n B dX0_count_81 rfl ?_
    refine j_getA B fl_X0_61 dX0_count_82 hF (fun a82p hF => ?_)
    refine j_iconst (v := 4) B dX0_count_85 (by decide) ?_
    obtain ⟨i86, e86, hF⟩ := bo hF
    refine j_rV (st2 := [.int i86]) B [.int 4] [] cv_X0_276 dX0_count_86 hl hR (ct_X4_sumOf G e86) rfl rfl rfl rfl trivial (Nat.le_of_ble_eq_true rfl) ?_
    exact j_lIw B rfl dX0_count_89 hF (by decide) (by decide)
  rw [if_neg t1_4] at hF
  by_cases t1_5 : x1 = 5
  · rw [if_pos t1_5] at hF
    refine j_tblIn (tgt := 90) B 5 dX0_count_1 t1_5 (by decide) rfl (by decide) ?_
    refine j_aload_n B dX0_count_90 rfl ?_
    refine j_getI B fl_X0_389 dX0_count_91 hF (fun i91 hF => ?_)
    exact j_lIw B rfl dX0_count_94 hF (by decide) (by decide)
  rw [if_neg t1_5] at hF
  by_cases t1_6 : x1 = 6
  · rw [if_pos t1_6] at hF
    refine j_tblIn (tgt := 95) B 6 dX0_count_1 t1_6 (by decide) rfl (by decide) ?_
    refine j_aload_n B dX0_count_95 rfl ?_
    refine j_getA B fl_X0_61 dX0_count_96 hF (fun a96p hF => ?_)
    refine j_getI B fl_X0_386 dX0_count_99 hF (fun i99 hF => ?_)
    exact j_lIw B rfl dX0_count_102 hF (by decide) (by decide)
  rw [if_neg t1_6] at hF
  by_cases t1_7 : x1 = 7
  · rw [if_pos t1_7] at hF
    refine j_tblIn (tgt := 103) B 7 dX0_count_1 t1_7 (by decide) rfl (by decide) ?_
    refine j_aload_n B dX0_count_103 rfl ?_
    obtain ⟨i104, e104, hF⟩ := bo hF
    refine j_rV (st2 := [.int i104]) B [] [] cv_X0_476 dX0_count_104 hl hR (ct_X0_holding G e104) rfl rfl rfl rfl trivial (Nat.le_of_ble_eq_true rfl) ?_
    exact j_lIw B rfl dX0_count_107 hF (by decide) (by decide)
  rw [if_neg t1_7] at hF
  refine j_tblOut (tgt := 108) B dX0_count_1 (tbl_out 0 7 (fun z h1 h2 => ?_)) (by decide) ?_
  · rcases (show z = 0 ∨ z = 1 ∨ z = 2 ∨ z = 3 ∨ z = 4 ∨ z = 5 ∨ z = 6 ∨ z = 7 by omega) with h | h | h | h | h | h | h | h
    · rw [h]; exact lv_neT t1_0 (by decide)
    · rw [h]; exact lv_neT t1_1 (by decide)
    · rw [h]; exact lv_neT t1_2 (by decide)
    · rw [h]; exact lv_neT t1_3 (by decide)
    · rw [h]; exact lv_neT t1_4 (by decide)
    · rw [h]; exact lv_neT t1_5 (by decide)
    · rw [h]; exact lv_neT t1_6 (by decide)
    · rw [h]; exact lv_neT t1_7 (by decide)
  refine j_aload_n B dX0_count_108 rfl ?_
  refine j_iconst (v := 0) B dX0_count_109 (by decide) ?_
  obtain ⟨i110, w110, e110, hF⟩ := bc hF
  refine j_rV (st2 := [.int i110]) B [.int 0] [] cv_X0_142 dX0_count_110 hl hR (ct_X0_finding G e110) rfl rfl rfl rfl trivial (Nat.le_of_ble_eq_true rfl) ?_
  exact j_lIw B rfl dX0_count_113 hF (by decide) (by decide)
def F_X0_status_J50 (rc20 : (Option Nat) → Int32 → Int32 → Int32 → cH → Option (Int32 × cH)) (a0 : Option Nat) (x1 : Int32) (x3 : Int32) (s0 : Int32) (s1 : Int32) (w : cH) : Option (Int32 × cH) :=
  rc20 a0 x1 (s1 + s0) (x3 + 1) w
def F_X0_status_J40 (rc20 : (Option Nat) → Int32 → Int32 → Int32 → cH → Option (Int32 × cH)) (a0 : Option Nat) (x1 : Int32) (x3 : Int32) (s0 : Int32) (w : cH) : Option (Int32 × cH) :=
  (fA w a0 0 10).bind fun a41p => (aI w a41p 100 x3).bind fun i45 => F_X0_status_J50  rc20 a0 x1 x3 i45 s0 w
def F_X0_status_B20 (rc20 : Option Nat → Int32 → Int32 → Int32 → cH → Option (Int32 × cH)) (a0 : Option Nat) (x1 : Int32) (x2 : Int32) (x3 : Int32) (w : cH) : Option (Int32 × cH) :=
  (fA w a0 0 10).bind fun a22p => (aL w a22p).bind fun i25 =>if i25 ≤ x3 then (some (x2, w)) else (if x1 = (-1) then (F_X0_status_J40  rc20 a0 x1 x3 x2 w) else (if ¬ x1 = x3 then (F_X0_status_J50  rc20 a0 x1 x3 0 x2 w) else (F_X0_status_J40  rc20 a0 x1 x3 x2 w)))
def F_X0_status_L20 : Nat → Option Nat → Int32 → Int32 → Int32 → cH → Option (Int32 × cH)
  | 0, _, _, _, _, _ => none
  | n9 + 1, a0, x1, x2, x3, w => F_X0_status_B20  (F_X0_status_L20  n9) a0 x1 x2 x3 w
def F_X0_status (a0 : Option Nat) (x1 : Int32) (w : cH) : Option (Int32 × cH) :=
  if tg w a0 = some 0 then (if ¬ (F_X0_in x1 (-1) 6) = 0 then (F_X0_status_L20  fu a0 x1 0 0 w) else (cb (F_X0_finding a0 0 w) fun i12 w12 => some (i12, w12))) else none
abbrev rm_X0_status : Room := { frames := 1, cells := 0, slots := 0, locals := 22 }
set_option maxHeartbeats 4000000 in
set_option maxRecDepth 100000 in
theorem ct_X0_status {l : Launch} {g : Gt} (G : Gok g) {a0 : Option Nat} {x1 : Int32} {w : cH} {r9 : Int32} {w9 : cH} (hF : F_X0_status a0 x1 w = some (r9, w9)) : tg w a0 = some 0 ∧ Mx l yX0_status (ws_ yX0_status cX0_status 4 (some .int)) rm_X0_status g [va_rf a0, .int x1] w (.returned (some (.int r9))) w9 0 0 := by
  unfold F_X0_status at hF
  obtain ⟨ht, hF⟩ := bg hF
  refine ⟨ht, mk_ct cX0_status 4 (some .int) "CarryFair" (plainFor_of_name (by decide)) rfl (lg_le ⟨cr _, rfl, trivial⟩ (Nat.le_of_ble_eq_true rfl)) (av_ok ⟨cr _, rfl, trivial⟩) G (fun x B hl hR hin hh => ?_)⟩
  show J g x _ _ 0 0 w 0 0 0 [some (va_rf a0), some (.int x1), none, none] []
  have lp20 : ∀ (n9 : Nat) (a0 : Option Nat) (x1 : Int32) (x2 : Int32) (x3 : Int32) (w : cH), F_X0_status_L20  n9 a0 x1 x2 x3 w = some (r9, w9) → J g x (.returned (some (.int r9))) w9 0 0 w 0 0 20 [some (va_rf a0), some (.int x1), some (.int x2), some (.int x3)] [] := by
    intro n9
    induction n9 with
    | zero => intro a0 x1 x2 x3 w hF; cases hF
    | succ n20 ih20 =>
      intro a0 x1 x2 x3 w hF
      have hF : F_X0_status_B20  (F_X0_status_L20  n20) a0 x1 x2 x3 w = some (r9, w9) := hF
      unfold F_X0_status_B20 at hF
      have jb50 : ∀ (a0 : Option Nat) (x1 : Int32) (x3 : Int32) (s0 : Int32) (s1 : Int32) (w : cH), F_X0_status_J50  (F_X0_status_L20  n20) a0 x1 x3 s0 s1 w = some (r9, w9) → J g x (.returned (some (.int r9))) w9 0 0 w 0 0 50 [some (va_rf a0), some (.int x1), none, some (.int x3)] [.int s0, .int s1] := by
        intro a0 x1 x3 s0 s1 w hF
        unfold F_X0_status_J50 at hF
        refine j_iadd B dX0_status_50 ?_
        refine j_istore_n (vs' := [some (va_rf a0), some (.int x1), some (.int (s1 + s0)), some (.int x3)]) B dX0_status_51 (by decide) rfl ?_
        refine j_iinc (v := x3 + 1) (vs' := [some (va_rf a0), some (.int x1), some (.int (s1 + s0)), some (.int (x3 + 1))]) B dX0_status_52 (by decide) rfl rfl rfl ?_
        refine j_goto (tgt := 20) B dX0_status_55 (by decide) ?_
        exact ih20 a0 x1 (s1 + s0) (x3 + 1) w hF
      have jb40 : ∀ (a0 : Option Nat) (x1 : Int32) (x3 : Int32) (s0 : Int32) (w : cH), F_X0_status_J40  (F_X0_status_L20  n20) a0 x1 x3 s0 w = some (r9, w9) → J g x (.returned (some (.int r9))) w9 0 0 w 0 0 40 [some (va_rf a0), some (.int x1), none, some (.int x3)] [.int s0] := by
        intro a0 x1 x3 s0 w hF
        unfold F_X0_status_J40 at hF
        refine j_aload_n B dX0_status_40 rfl ?_
        refine j_getA B fl_X0_83 dX0_status_41 hF (fun a41p hF => ?_)
        refine j_iload_n B dX0_status_44 rfl ?_
        refine j_iaload B dX0_status_45 hF (fun i45 hF => ?_)
        refine j_goto (tgt := 50) B dX0_status_46 (by decide) ?_
        exact jb50 a0 x1 x3 i45 s0 w hF
      refine j_iload_n B dX0_status_20 rfl ?_
      refine j_aload_n B dX0_status_21 rfl ?_
      refine j_getA B fl_X0_83 dX0_status_22 hF (fun a22p hF => ?_)
      refine j_alen B dX0_status_25 hF (fun i25 hF => ?_)
      refine j_icmp_ge (tgt := 58) B dX0_status_26 (by decide) hF (fun h26 hF => ?_) (fun h26 hF => ?_)
      · refine j_iload_n B dX0_status_58 rfl ?_
        exact j_lIw B rfl dX0_status_59 hF (by decide) (by decide)
      · refine j_iload_n B dX0_status_29 rfl ?_
        refine j_iload_n B dX0_status_30 rfl ?_
        refine j_iconst (v := (-1)) B dX0_status_31 (by decide) ?_
        refine j_icmp_eq (tgt := 40) B dX0_status_32 (by decide) hF (fun h32 hF => ?_) (fun h32 hF => ?_)
        · refine j_msk [true, true, false, true] rfl ?_
          exact jb40 a0 x1 x3 x2 w hF
        · refine j_iload_n B dX0_status_35 rfl ?_
          refine j_iload_n B dX0_status_36 rfl ?_
          refine j_icmp_ne (tgt := 49) B dX0_status_37 (by decide) hF (fun h37 hF => ?_) (fun h37 hF => ?_)
          · refine j_iconst (v := 0) B dX0_status_49 (by decide) ?_
            refine j_msk [true, true, false, true] rfl ?_
            exact jb50 a0 x1 x3 0 x2 w hF
          · refine j_msk [true, true, false, true] rfl ?_
            exact jb40 a0 x1 x3 x2 w hF
  refine j_iload_n B dX0_status_0 rfl ?_
  refine j_iconst (v := (-1)) B dX0_status_1 (by decide) ?_
  refine j_bipush (v := 6) B dX0_status_2 (by decide) ?_
  refine j_rS (st2 := [.int (F_X0_in x1 (-1) 6)]) B [.int x1, .int (-1), .int 6] [] cs_X0_3 dX0_status_4 hl hR (ct_X0_in G) rfl rfl rfl rfl trivial (Nat.le_of_ble_eq_true rfl) ?_
  refine j_if_ne (tgt := 16) B dX0_status_7 (by decide) hF (fun h7 hF => ?_) (fun h7 hF => ?_)
  · refine j_iconst (v := 0) B dX0_status_16 (by decide) ?_
    refine j_istore_n (vs' := [some (va_rf a0), some (.int x1), some (.int 0), none]) B dX0_status_17 (by decide) rfl ?_
    refine j_iconst (v := 0) B dX0_status_18 (by decide) ?_
    refine j_istore_n (vs' := [some (va_rf a0), some (.int x1), some (.int 0), some (.int 0)]) B dX0_status_19 (by decide) rfl ?_
    exact lp20 fu a0 x1 0 0 w hF
  · refine j_aload_n B dX0_status_10 rfl ?_
    refine j_iconst (v := 0) B dX0_status_11 (by decide) ?_
    obtain ⟨i12, w12, e12, hF⟩ := bc hF
    refine j_rV (st2 := [.int i12]) B [.int 0] [] cv_X0_142 dX0_status_12 hl hR (ct_X0_finding G e12) rfl rfl rfl rfl trivial (Nat.le_of_ble_eq_true rfl) ?_
    exact j_lIw B rfl dX0_status_15 hF (by decide) (by decide)
theorem ap_X13 : apT TX13 30 := by unfold apT; decide +kernel
theorem fl_X13_9 : FL "CarryFairModel" 9 13 0 := ⟨RX13, TX13, 30, rfl, by decide, in_X13, Or.inl q1335⟩
theorem fp_X13_9 : FP "CarryFairModel" 9 13 0 (.array .int) true := ⟨RX13, TX13, 30, rfl, by decide, in_X13, Or.inl q1335, rfl, (fun _ => rfl), by decide +kernel, ap_X13, tyX13, tyX13_ok⟩
theorem fp_X13_13 : FP "CarryFairModel" 13 13 1 (.array .int) true := ⟨RX13, TX13, 30, rfl, by decide, in_X13, Or.inl q1336, rfl, (fun _ => rfl), by decide +kernel, ap_X13, tyX13, tyX13_ok⟩
theorem fp_X13_16 : FP "CarryFairModel" 16 13 2 (.array .int) true := ⟨RX13, TX13, 30, rfl, by decide, in_X13, Or.inl q1337, rfl, (fun _ => rfl), by decide +kernel, ap_X13, tyX13, tyX13_ok⟩
theorem fp_X13_19 : FP "CarryFairModel" 19 13 4 (.array .int) true := ⟨RX13, TX13, 30, rfl, by decide, in_X13, Or.inl q1339, rfl, (fun _ => rfl), by decide +kernel, ap_X13, tyX13, tyX13_ok⟩
theorem fp_X13_22 : FP "CarryFairModel" 22 13 5 (.array .int) true := ⟨RX13, TX13, 30, rfl, by decide, in_X13, Or.inl q1340, rfl, (fun _ => rfl), by decide +kernel, ap_X13, tyX13, tyX13_ok⟩
theorem fp_X13_25 : FP "CarryFairModel" 25 13 7 (.array .int) true := ⟨RX13, TX13, 30, rfl, by decide, in_X13, Or.inl q1342, rfl, (fun _ => rfl), by decide +kernel, ap_X13, tyX13, tyX13_ok⟩
theorem fp_X13_28 : FP "CarryFairModel" 28 13 8 (.array .int) true := ⟨RX13, TX13, 30, rfl, by decide, in_X13, Or.inl q1343, rfl, (fun _ => rfl), by decide +kernel, ap_X13, tyX13, tyX13_ok⟩
theorem fp_X13_31 : FP "CarryFairModel" 31 13 9 (.array .int) true := ⟨RX13, TX13, 30, rfl, by decide, in_X13, Or.inl q1344, rfl, (fun _ => rfl), by decide +kernel, ap_X13, tyX13, tyX13_ok⟩
theorem fp_X13_34 : FP "CarryFairModel" 34 13 13 (.array .int) true := ⟨RX13, TX13, 30, rfl, by decide, in_X13, Or.inl q1348, rfl, (fun _ => rfl), by decide +kernel, ap_X13, tyX13, tyX13_ok⟩
theorem fp_X13_53 : FP "CarryFairModel" 53 13 20 (.array (.object "java/lang/String")) true := ⟨RX13, TX13, 30, rfl, by decide, in_X13, Or.inl q1355, rfl, (fun _ => rfl), by decide +kernel, ap_X13, tyX13, tyX13_ok⟩
theorem fp_X13_57 : FP "CarryFairModel" 57 13 21 (.array .int) true := ⟨RX13, TX13, 30, rfl, by decide, in_X13, Or.inl q1356, rfl, (fun _ => rfl), by decide +kernel, ap_X13, tyX13, tyX13_ok⟩
theorem fp_X13_60 : FP "CarryFairModel" 60 13 26 (.array .int) true := ⟨RX13, TX13, 30, rfl, by decide, in_X13, Or.inl q1361, rfl, (fun _ => rfl), by decide +kernel, ap_X13, tyX13, tyX13_ok⟩
theorem fp_X13_63 : FP "CarryFairModel" 63 13 27 (.array .int) true := ⟨RX13, TX13, 30, rfl, by decide, in_X13, Or.inl q1362, rfl, (fun _ => rfl), by decide +kernel, ap_X13, tyX13, tyX13_ok⟩
theorem fp_X13_66 : FP "CarryFairModel" 66 13 28 (.array .int) true := ⟨RX13, TX13, 30, rfl, by decide, in_X13, Or.inl q1363, rfl, (fun _ => rfl), by decide +kernel, ap_X13, tyX13, tyX13_ok⟩
theorem fp_X13_69 : FP "CarryFairModel" 69 13 29 (.array .int) true := ⟨RX13, TX13, 30, rfl, by decide, in_X13, Or.inl q1364, rfl, (fun _ => rfl), by decide +kernel, ap_X13, tyX13, tyX13_ok⟩
def F_X13_init_B203 (g : Gt) (rc203 : Option Nat → Int32 → cH → Option cH) (a0 : Option Nat) (x1 : Int32) (w : cH) : Option cH :=
  if 10 ≤ x1 then (some w) else ((fA w a0 13 0).bind fun a210p => (aS w a210p 100 (46 + x1) (.int (-1))).bind fun w218 => rc203 a0 (x1 + 1) w218)
def F_X13_init_L203 (g : Gt) : Nat → Option Nat → Int32 → cH → Option cH
  | 0, _, _, _ => none
  | n9 + 1, a0, x1, w => F_X13_init_B203 g  (F_X13_init_L203 g  n9) a0 x1 w
def F_X13_init (g : Gt) (a0 : Nat) (w : cH) : Option cH :=
  if tg w (some a0) = some 13 then ((some (nA w 100 138)).bind fun w8 => (pV w8 (some a0) 13 0 (va_rf (some w.2))).bind fun w10 => (some (nA w10 100 138)).bind fun w17 => (pV w17 (some a0) 13 1 (va_rf (some w10.2))).bind fun w19 => (some (nA w19 100 138)).bind fun w26 => (pV w26 (some a0) 13 2 (va_rf (some w19.2))).bind fun w28 => (some (nA w28 100 8)).bind fun w34 => (pV w34 (some a0) 13 4 (va_rf (some w28.2))).bind fun w36 => (some (nA w36 100 49)).bind fun w42 => (pV w42 (some a0) 13 5 (va_rf (some w36.2))).bind fun w44 => (some (nA w44 100 1701)).bind fun w51 => (pV w51 (some a0) 13 7 (va_rf (some w44.2))).bind fun w53 => (some (nA w53 100 5)).bind fun w58 => (pV w58 (some a0) 13 8 (va_rf (some w53.2))).bind fun w60 => (some (nA w60 100 6)).bind fun w66 => (aS w66 (some w60.2) 100 0 (.int 1)).bind fun w71 => (aS w71 (some w60.2) 100 1 (.int 3)).bind fun w75 => (aS w75 (some w60.2) 100 2 (.int 9)).bind fun w80 => (aS w80 (some w60.2) 100 3 (.int 27)).bind fun w85 => (aS w85 (some w60.2) 100 4 (.int 81)).bind fun w90 => (aS w90 (some w60.2) 100 5 (.int 243)).bind fun w96 => (pV w96 (some a0) 13 9 (va_rf (some w60.2))).bind fun w97 => (some (nA w97 100 120)).bind fun w103 => (pV w103 (some a0) 13 13 (va_rf (some w97.2))).bind fun w105 => (some (nR w105 105 7)).bind fun w111 => if tg w111 (some (g.2.2.2.2 1)) = some 111 then ((aS w111 (some w105.2) 105 0 (.ref (g.2.2.2.2 1))).bind fun w118 => if tg w118 (some (g.2.2.2.2 2)) = some 111 then ((aS w118 (some w105.2) 105 1 (.ref (g.2.2.2.2 2))).bind fun w123 => if tg w123 (some (g.2.2.2.2 3)) = some 111 then ((aS w123 (some w105.2) 105 2 (.ref (g.2.2.2.2 3))).bind fun w128 => if tg w128 (some (g.2.2.2.2 4)) = some 111 then ((aS w128 (some w105.2) 105 3 (.ref (g.2.2.2.2 4))).bind fun w133 => if tg w133 (some (g.2.2.2.2 5)) = some 111 then ((aS w133 (some w105.2) 105 4 (.ref (g.2.2.2.2 5))).bind fun w138 => if tg w138 (some (g.2.2.2.2 6)) = some 111 then ((aS w138 (some w105.2) 105 5 (.ref (g.2.2.2.2 6))).bind fun w143 => if tg w143 (some (g.2.2.2.2 7)) = some 111 then ((aS w143 (some w105.2) 105 6 (.ref (g.2.2.2.2 7))).bind fun w149 => (pV w149 (some a0) 13 20 (va_rf (some w105.2))).bind fun w150 => (some (nA w150 100 600)).bind fun w157 => (pV w157 (some a0) 13 21 (va_rf (some w150.2))).bind fun w159 => (some (nA w159 100 4)).bind fun w164 => (pV w164 (some a0) 13 26 (va_rf (some w159.2))).bind fun w166 => (some (nA w166 100 4)).bind fun w171 => (pV w171 (some a0) 13 27 (va_rf (some w166.2))).bind fun w173 => (some (nA w173 100 160)).bind fun w180 => (pV w180 (some a0) 13 28 (va_rf (some w173.2))).bind fun w182 => (some (nA w182 100 40)).bind fun w188 => (pV w188 (some a0) 13 29 (va_rf (some w182.2))).bind fun w190 => (fA w190 (some a0) 13 0).bind fun a194p => (aS w190 a194p 100 45 (.int 1)).bind fun w200 => F_X13_init_L203 g  fu (some a0) 0 w200) else none) else none) else none) else none) else none) else none) else none) else none
abbrev rm_X13_init : Room := { frames := 1, cells := 15, slots := 3118, locals := 20 }
set_option maxHeartbeats 4000000 in
set_option maxRecDepth 100000 in
theorem ct_X13_init {l : Launch} {g : Gt} (G : Gok g) {a0 : Nat} {w : cH}  {w9 : cH} (hF : F_X13_init g a0 w = some w9) : tg w (some a0) = some 13 ∧ Mx l yX13_init (ws_ yX13_init cX13_init 2 none) rm_X13_init g [va_rf (some a0)] w (.returned none) w9 15 3118 := by
  unfold F_X13_init at hF
  obtain ⟨ht, hF⟩ := bg hF
  refine ⟨ht, mk_ct cX13_init 2 none "CarryFairModel" (plainFor_of_name (by decide)) rfl (lg_le ⟨cr _, trivial⟩ (Nat.le_of_ble_eq_true rfl)) (av_ok ⟨cr _, trivial⟩) G (fun x B hl hR hin hh => ?_)⟩
  show J g x _ _ 15 3118 w 0 0 0 [some (va_rf (some a0)), none] []
  have lp203 : ∀ (n9 : Nat) (a0 : Option Nat) (x1 : Int32) (w : cH), F_X13_init_L203 g  n9 a0 x1 w = some w9 → J g x (.returned none) w9 15 3118 w 15 3118 203 [some (va_rf a0), some (.int x1)] [] := by
    intro n9
    induction n9 with
    | zero => intro a0 x1 w hF; cases hF
    | succ n203 ih203 =>
      intro a0 x1 w hF
      have hF : F_X13_init_B203 g  (F_X13_init_L203 g  n203) a0 x1 w = some w9 := hF
      unfold F_X13_init_B203 at hF
      refine j_iload_n B dX13_init_203 rfl ?_
      refine j_bipush (v := 10) B dX13_init_204 (by decide) ?_
      refine j_icmp_ge (tgt := 225) B dX13_init_206 (by decide) hF (fun h206 hF => ?_) (fun h206 hF => ?_)
      · exact j_lV B rfl dX13_init_225 hF (by decide) (by decide)
      · refine j_aload_n B dX13_init_209 rfl ?_
        refine j_getA B fl_X13_9 dX13_init_210 hF (fun a210p hF => ?_)
        refine j_bipush (v := 46) B dX13_init_213 (by decide) ?_
        refine j_iload_n B dX13_init_215 rfl ?_
        refine j_iadd B dX13_init_216 ?_
        refine j_iconst (v := (-1)) B dX13_init_217 (by decide) ?_
        refine j_iastore B dX13_init_218 hF (fun w218 hF => ?_)
        refine j_iinc (v := x1 + 1) (vs' := [some (va_rf a0), some (.int (x1 + 1))]) B dX13_init_219 (by decide) rfl rfl rfl ?_
        refine j_goto (tgt := 203) B dX13_init_222 (by decide) ?_
        exact ih203 a0 (x1 + 1) w218 hF
  refine j_aload_n B dX13_init_0 rfl ?_
  refine j_objInit (a := a0) B q1325 q156 q157 dX13_init_1 hR (by decide) (by decide) trivial ?_
  refine j_aload_n B dX13_init_4 rfl ?_
  refine j_sipush (v := 138) B dX13_init_5 (by decide) ?_
  obtain ⟨w8, e8, hF⟩ := bo hF
  refine j_newarray (at9 := .int) (ty := .int) (N := 138) B 100 rfl rfl rfl q301 dX13_init_8 (by decide) (by decide) (by decide) hR (by decide) (by decide) ?_
  rw [Option.some.inj e8]
  refine j_putV B fp_X13_9 (fun _ => hin) (nar_rf _ _ (Or.inr ⟨_, rfl⟩)) (fit_rf _ _ (Or.inr ⟨_, rfl⟩)) dX13_init_10 hF (fun w10 hF => ?_)
  refine j_aload_n B dX13_init_13 rfl ?_
  refine j_sipush (v := 138) B dX13_init_14 (by decide) ?_
  obtain ⟨w17, e17, hF⟩ := bo hF
  refine j_newarray (at9 := .int) (ty := .int) (N := 138) B 100 rfl rfl rfl q301 dX13_init_17 (by decide) (by decide) (by decide) hR (by decide) (by decide) ?_
  rw [Option.some.inj e17]
  refine j_putV B fp_X13_13 (fun _ => hin) (nar_rf _ _ (Or.inr ⟨_, rfl⟩)) (fit_rf _ _ (Or.inr ⟨_, rfl⟩)) dX13_init_19 hF (fun w19 hF => ?_)
  refine j_aload_n B dX13_init_22 rfl ?_
  refine j_sipush (v := 138) B dX13_init_23 (by decide) ?_
  obtain ⟨w26, e26, hF⟩ := bo hF
  refine j_newarray (at9 := .int) (ty := .int) (N := 138) B 100 rfl rfl rfl q301 dX13_init_26 (by decide) (by decide) (by decide) hR (by decide) (by decide) ?_
  rw [Option.some.inj e26]
  refine j_putV B fp_X13_16 (fun _ => hin) (nar_rf _ _ (Or.inr ⟨_, rfl⟩)) (fit_rf _ _ (Or.inr ⟨_, rfl⟩)) dX13_init_28 hF (fun w28 hF => ?_)
  refine j_aload_n B dX13_init_31 rfl ?_
  refine j_bipush (v := 8) B dX13_init_32 (by decide) ?_
  obtain ⟨w34, e34, hF⟩ := bo hF
  refine j_newarray (at9 := .int) (ty := .int) (N := 8) B 100 rfl rfl rfl q301 dX13_init_34 (by decide) (by decide) (by decide) hR (by decide) (by decide) ?_
  rw [Option.some.inj e34]
  refine j_putV B fp_X13_19 (fun _ => hin) (nar_rf _ _ (Or.inr ⟨_, rfl⟩)) (fit_rf _ _ (Or.inr ⟨_, rfl⟩)) dX13_init_36 hF (fun w36 hF => ?_)
  refine j_aload_n B dX13_init_39 rfl ?_
  refine j_bipush (v := 49) B dX13_init_40 (by decide) ?_
  obtain ⟨w42, e42, hF⟩ := bo hF
  refine j_newarray (at9 := .int) (ty := .int) (N := 49) B 100 rfl rfl rfl q301 dX13_init_42 (by decide) (by decide) (by decide) hR (by decide) (by decide) ?_
  rw [Option.some.inj e42]
  refine j_putV B fp_X13_22 (fun _ => hin) (nar_rf _ _ (Or.inr ⟨_, rfl⟩)) (fit_rf _ _ (Or.inr ⟨_, rfl⟩)) dX13_init_44 hF (fun w44 hF => ?_)
  refine j_aload_n B dX13_init_47 rfl ?_
  refine j_sipush (v := 1701) B dX13_init_48 (by decide) ?_
  obtain ⟨w51, e51, hF⟩ := bo hF
  refine j_newarray (at9 := .int) (ty := .int) (N := 1701) B 100 rfl rfl rfl q301 dX13_init_51 (by decide) (by decide) (by decide) hR (by decide) (by decide) ?_
  rw [Option.some.inj e51]
  refine j_putV B fp_X13_25 (fun _ => hin) (nar_rf _ _ (Or.inr ⟨_, rfl⟩)) (fit_rf _ _ (Or.inr ⟨_, rfl⟩)) dX13_init_53 hF (fun w53 hF => ?_)
  refine j_aload_n B dX13_init_56 rfl ?_
  refine j_iconst (v := 5) B dX13_init_57 (by decide) ?_
  obtain ⟨w58, e58, hF⟩ := bo hF
  refine j_newarray (at9 := .int) (ty := .int) (N := 5) B 100 rfl rfl rfl q301 dX13_init_58 (by decide) (by decide) (by decide) hR (by decide) (by decide) ?_
  rw [Option.some.inj e58]
  refine j_putV B fp_X13_28 (fun _ => hin) (nar_rf _ _ (Or.inr ⟨_, rfl⟩)) (fit_rf _ _ (Or.inr ⟨_, rfl⟩)) dX13_init_60 hF (fun w60 hF => ?_)
  refine j_aload_n B dX13_init_63 rfl ?_
  refine j_bipush (v := 6) B dX13_init_64 (by decide) ?_
  obtain ⟨w66, e66, hF⟩ := bo hF
  refine j_newarray (at9 := .int) (ty := .int) (N := 6) B 100 rfl rfl rfl q301 dX13_init_66 (by decide) (by decide) (by decide) hR (by decide) (by decide) ?_
  rw [Option.some.inj e66]
  refine j_dup B dX13_init_68 (cr _) ?_
  refine j_iconst (v := 0) B dX13_init_69 (by decide) ?_
  refine j_iconst (v := 1) B dX13_init_70 (by decide) ?_
  refine j_iastore B dX13_init_71 hF (fun w71 hF => ?_)
  refine j_dup B dX13_init_72 (cr _) ?_
  refine j_iconst (v := 1) B dX13_init_73 (by decide) ?_
  refine j_iconst (v := 3) B dX13_init_74 (by decide) ?_
  refine j_iastore B dX13_init_75 hF (fun w75 hF => ?_)
  refine j_dup B dX13_init_76 (cr _) ?_
  refine j_iconst (v := 2) B dX13_init_77 (by decide) ?_
  refine j_bipush (v := 9) B dX13_init_78 (by decide) ?_
  refine j_iastore B dX13_init_80 hF (fun w80 hF => ?_)
  refine j_dup B dX13_init_81 (cr _) ?_
  refine j_iconst (v := 3) B dX13_init_82 (by decide) ?_
  refine j_bipush (v := 27) B dX13_init_83 (by decide) ?_
  refine j_iastore B dX13_init_85 hF (fun w85 hF => ?_)
  refine j_dup B dX13_init_86 (cr _) ?_
  refine j_iconst (v := 4) B dX13_init_87 (by decide) ?_
  refine j_bipush (v := 81) B dX13_init_88 (by decide) ?_
  refine j_iastore B dX13_init_90 hF (fun w90 hF => ?_)
  refine j_dup B dX13_init_91 (cr _) ?_
  refine j_iconst (v := 5) B dX13_init_92 (by decide) ?_
  refine j_sipush (v := 243) B dX13_init_93 (by decide) ?_
  refine j_iastore B dX13_init_96 hF (fun w96 hF => ?_)
  refine j_putV B fp_X13_31 (fun _ => hin) (nar_rf _ _ (Or.inr ⟨_, rfl⟩)) (fit_rf _ _ (Or.inr ⟨_, rfl⟩)) dX13_init_97 hF (fun w97 hF => ?_)
  refine j_aload_n B dX13_init_100 rfl ?_
  refine j_bipush (v := 120) B dX13_init_101 (by decide) ?_
  obtain ⟨w103, e103, hF⟩ := bo hF
  refine j_newarray (at9 := .int) (ty := .int) (N := 120) B 100 rfl rfl rfl q301 dX13_init_103 (by decide) (by decide) (by decide) hR (by decide) (by decide) ?_
  rw [Option.some.inj e103]
  refine j_putV B fp_X13_34 (fun _ => hin) (nar_rf _ _ (Or.inr ⟨_, rfl⟩)) (fit_rf _ _ (Or.inr ⟨_, rfl⟩)) dX13_init_105 hF (fun w105 hF => ?_)
  refine j_aload_n B dX13_init_108 rfl ?_
  refine j_bipush (v := 7) B dX13_init_109 (by decide) ?_
  obtain ⟨w111, e111, hF⟩ := bo hF
  refine j_anew (N := 7) B 105 rfl q1326 q1327 dX13_init_111 (by decide) (by decide) (by decide) hR (by decide) (by decide) ?_
  rw [Option.some.inj e111]
  refine j_dup B dX13_init_114 (cr _) ?_
  refine j_iconst (v := 0) B dX13_init_115 (by decide) ?_
  refine j_ldcS (i := 1) B (by decide) (by decide) (by decide) dX13_init_116 ?_
  obtain ⟨hz, hF⟩ := bg hF
  refine j_aastore B 105 rfl dX13_init_118 (cls_tg hz rfl) hF (fun w118 hF => ?_)
  refine j_dup B dX13_init_119 (cr _) ?_
  refine j_iconst (v := 1) B dX13_init_120 (by decide) ?_
  refine j_ldcS (i := 2) B (by decide) (by decide) (by decide) dX13_init_121 ?_
  obtain ⟨hz, hF⟩ := bg hF
  refine j_aastore B 105 rfl dX13_init_123 (cls_tg hz rfl) hF (fun w123 hF => ?_)
  refine j_dup B dX13_init_124 (cr _) ?_
  refine j_iconst (v := 2) B dX13_init_125 (by decide) ?_
  refine j_ldcS (i := 3) B (by decide) (by decide) (by decide) dX13_init_126 ?_
  obtain ⟨hz, hF⟩ := bg hF
  refine j_aastore B 105 rfl dX13_init_128 (cls_tg hz rfl) hF (fun w128 hF => ?_)
  refine j_dup B dX13_init_129 (cr _) ?_
  refine j_iconst (v := 3) B dX13_init_130 (by decide) ?_
  refine j_ldcS (i := 4) B (by decide) (by decide) (by decide) dX13_init_131 ?_
  obtain ⟨hz, hF⟩ := bg hF
  refine j_aastore B 105 rfl dX13_init_133 (cls_tg hz rfl) hF (fun w133 hF => ?_)
  refine j_dup B dX13_init_134 (cr _) ?_
  refine j_iconst (v := 4) B dX13_init_135 (by decide) ?_
  refine j_ldcS (i := 5) B (by decide) (by decide) (by decide) dX13_init_136 ?_
  obtain ⟨hz, hF⟩ := bg hF
  refine j_aastore B 105 rfl dX13_init_138 (cls_tg hz rfl) hF (fun w138 hF => ?_)
  refine j_dup B dX13_init_139 (cr _) ?_
  refine j_iconst (v := 5) B dX13_init_140 (by decide) ?_
  refine j_ldcS (i := 6) B (by decide) (by decide) (by decide) dX13_init_141 ?_
  obtain ⟨hz, hF⟩ := bg hF
  refine j_aastore B 105 rfl dX13_init_143 (cls_tg hz rfl) hF (fun w143 hF => ?_)
  refine j_dup B dX13_init_144 (cr _) ?_
  refine j_bipush (v := 6) B dX13_init_145 (by decide) ?_
  refine j_ldcS (i := 7) B (by decide) (by decide) (by decide) dX13_init_147 ?_
  obtain ⟨hz, hF⟩ := bg hF
  refine j_aastore B 105 rfl dX13_init_149 (cls_tg hz rfl) hF (fun w149 hF => ?_)
  refine j_putV B fp_X13_53 (fun _ => hin) (nar_rf _ _ (Or.inr ⟨_, rfl⟩)) (fit_rf _ _ (Or.inr ⟨_, rfl⟩)) dX13_init_150 hF (fun w150 hF => ?_)
  refine j_aload_n B dX13_init_153 rfl ?_
  refine j_sipush (v := 600) B dX13_init_154 (by decide) ?_
  obtain ⟨w157, e157, hF⟩ := bo hF
  refine j_newarray (at9 := .int) (ty := .int) (N := 600) B 100 rfl rfl rfl q301 dX13_init_157 (by decide) (by decide) (by decide) hR (by decide) (by decide) ?_
  rw [Option.some.inj e157]
  refine j_putV B fp_X13_57 (fun _ => hin) (nar_rf _ _ (Or.inr ⟨_, rfl⟩)) (fit_rf _ _ (Or.inr ⟨_, rfl⟩)) dX13_init_159 hF (fun w159 hF => ?_)
  refine j_aload_n B dX13_init_162 rfl ?_
  refine j_iconst (v := 4) B dX13_init_163 (by decide) ?_
  obtain ⟨w164, e164, hF⟩ := bo hF
  refine j_newarray (at9 := .int) (ty := .int) (N := 4) B 100 rfl rfl rfl q301 dX13_init_164 (by decide) (by decide) (by decide) hR (by decide) (by decide) ?_
  rw [Option.some.inj e164]
  refine j_putV B fp_X13_60 (fun _ => hin) (nar_rf _ _ (Or.inr ⟨_, rfl⟩)) (fit_rf _ _ (Or.inr ⟨_, rfl⟩)) dX13_init_166 hF (fun w166 hF => ?_)
  refine j_aload_n B dX13_init_169 rfl ?_
  refine j_iconst (v := 4) B dX13_init_170 (by decide) ?_
  obtain ⟨w171, e171, hF⟩ := bo hF
  refine j_newarray (at9 := .int) (ty := .int) (N := 4) B 100 rfl rfl rfl q301 dX13_init_171 (by decide) (by decide) (by decide) hR (by decide) (by decide) ?_
  rw [Option.some.inj e171]
  refine j_putV B fp_X13_63 (fun _ => hin) (nar_rf _ _ (Or.inr ⟨_, rfl⟩)) (fit_rf _ _ (Or.inr ⟨_, rfl⟩)) dX13_init_173 hF (fun w173 hF => ?_)
  refine j_aload_n B dX13_init_176 rfl ?_
  refine j_sipush (v := 160) B dX13_init_177 (by decide) ?_
  obtain ⟨w180, e180, hF⟩ := bo hF
  refine j_newarray (at9 := .int) (ty := .int) (N := 160) B 100 rfl rfl rfl q301 dX13_init_180 (by decide) (by decide) (by decide) hR (by decide) (by decide) ?_
  rw [Option.some.inj e180]
  refine j_putV B fp_X13_66 (fun _ => hin) (nar_rf _ _ (Or.inr ⟨_, rfl⟩)) (fit_rf _ _ (Or.inr ⟨_, rfl⟩)) dX13_init_182 hF (fun w182 hF => ?_)
  refine j_aload_n B dX13_init_185 rfl ?_
  refine j_bipush (v := 40) B dX13_init_186 (by decide) ?_
  obtain ⟨w188, e188, hF⟩ := bo hF
  refine j_newarray (at9 := .int) (ty := .int) (N := 40) B 100 rfl rfl rfl q301 dX13_init_188 (by decide) (by decide) (by decide) hR (by decide) (by decide) ?_
  rw [Option.some.inj e188]
  refine j_putV B fp_X13_69 (fun _ => hin) (nar_rf _ _ (Or.inr ⟨_, rfl⟩)) (fit_rf _ _ (Or.inr ⟨_, rfl⟩)) dX13_init_190 hF (fun w190 hF => ?_)
  refine j_aload_n B dX13_init_193 rfl ?_
  refine j_getA B fl_X13_9 dX13_init_194 hF (fun a194p hF => ?_)
  refine j_bipush (v := 45) B dX13_init_197 (by decide) ?_
  refine j_iconst (v := 1) B dX13_init_199 (by decide) ?_
  refine j_iastore B dX13_init_200 hF (fun w200 hF => ?_)
  refine j_iconst (v := 0) B dX13_init_201 (by decide) ?_
  refine j_istore_n (vs' := [some (va_rf (some a0)), some (.int 0)]) B dX13_init_202 (by decide) rfl ?_
  exact lp203 fu (some a0) 0 w200 hF
def F_X13_within (x0 : Int32) (x1 : Int32) (x2 : Int32) : Int32 :=
  if x0 < x1 then (0) else (if x2 < x0 then (0) else (1))
abbrev rm_X13_within : Room := { frames := 0, cells := 0, slots := 0, locals := 0 }
set_option maxHeartbeats 4000000 in
set_option maxRecDepth 100000 in
theorem ct_X13_within {l : Launch} {g : Gt} (G : Gok g) {x0 : Int32} {x1 : Int32} {x2 : Int32} {w : cH} : Mx l yX13_within (ws_ yX13_within cX13_within 3 (some .boolean)) rm_X13_within g [.int x0, .int x1, .int x2] w (.returned (some (.int (F_X13_within x0 x1 x2)))) w 0 0 := by
  generalize hF : F_X13_within x0 x1 x2 = r9
  unfold F_X13_within at hF
  refine mk_ct cX13_within 3 (some .boolean) "CarryFairModel" (plainFor_of_name (by decide)) rfl (lg_le ⟨rfl, rfl, rfl, trivial⟩ (Nat.le_of_ble_eq_true rfl)) (av_ok ⟨rfl, rfl, rfl, trivial⟩) G (fun x B hl hR hin hh => ?_)
  show J g x _ _ 0 0 w 0 0 0 [some (.int x0), some (.int x1), some (.int x2)] []
  refine j_iload_n B dX13_within_0 rfl ?_
  refine j_iload_n B dX13_within_1 rfl ?_
  refine j_icmp_lt (tgt := 14) B dX13_within_2 (by decide) hF (fun h2 hF => ?_) (fun h2 hF => ?_)
  · refine j_iconst (v := 0) B dX13_within_14 (by decide) ?_
    exact j_lZp B (by decide) rfl dX13_within_15 hF (by decide) (by decide)
  · refine j_iload_n B dX13_within_5 rfl ?_
    refine j_iload_n B dX13_within_6 rfl ?_
    refine j_icmp_gt (tgt := 14) B dX13_within_7 (by decide) hF (fun h7 hF => ?_) (fun h7 hF => ?_)
    · refine j_iconst (v := 0) B dX13_within_14 (by decide) ?_
      exact j_lZp B (by decide) rfl dX13_within_15 hF (by decide) (by decide)
    · refine j_iconst (v := 1) B dX13_within_10 (by decide) ?_
      refine j_goto (tgt := 15) B dX13_within_11 (by decide) ?_
      exact j_lZp B (by decide) rfl dX13_within_15 hF (by decide) (by decide)
theorem cs_X13_77 : CS "CarryFairModel" 77 yX13_within cX13_within 3 (some .boolean) 3 := ⟨Or.inl (lw_S q1433 q1434 q142 q1435), by decide +kernel⟩
def F_X13_isKind (x0 : Int32) : Int32 :=
  (F_X13_within x0 0 6) &&& 1
abbrev rm_X13_isKind : Room := { frames := 1, cells := 0, slots := 0, locals := 22 }
set_option maxHeartbeats 4000000 in
set_option maxRecDepth 100000 in
theorem ct_X13_isKind {l : Launch} {g : Gt} (G : Gok g) {x0 : Int32} {w : cH} : Mx l yX13_isKind (ws_ yX13_isKind cX13_isKind 1 (some .boolean)) rm_X13_isKind g [.int x0] w (.returned (some (.int (F_X13_isKind x0)))) w 0 0 := by
  generalize hF : F_X13_isKind x0 = r9
  unfold F_X13_isKind at hF
  refine mk_ct cX13_isKind 1 (some .boolean) "CarryFairModel" (plainFor_of_name (by decide)) rfl (lg_le ⟨rfl, trivial⟩ (Nat.le_of_ble_eq_true rfl)) (av_ok ⟨rfl, trivial⟩) G (fun x B hl hR hin hh => ?_)
  show J g x _ _ 0 0 w 0 0 0 [some (.int x0)] []
  refine j_iload_n B dX13_isKind_0 rfl ?_
  refine j_iconst (v := 0) B dX13_isKind_1 (by decide) ?_
  refine j_bipush (v := 6) B dX13_isKind_2 (by decide) ?_
  refine j_rS (st2 := [.int (F_X13_within x0 0 6)]) B [.int x0, .int 0, .int 6] [] cs_X13_77 dX13_isKind_4 hl hR (ct_X13_within G) rfl rfl rfl rfl trivial (Nat.le_of_ble_eq_true rfl) ?_
  exact j_lBp B rfl dX13_isKind_7 hF (by decide) (by decide)
theorem fl_X13_19 : FL "CarryFairModel" 19 13 4 := ⟨RX13, TX13, 30, rfl, by decide, in_X13, Or.inl q1339⟩
def F_X13_finding (a0 : Option Nat) (x1 : Int32) (w : cH) : Option (Int32 × cH) :=
  if tg w a0 = some 13 then ((fA w a0 13 4).bind fun a1p => (aI w a1p 100 (((-1000001) - x1) + 1)).bind fun i11 => (aS w a1p 100 (((-1000001) - x1) + 1) (.int (i11 + 1))).bind fun w14 => (fA w14 a0 13 4).bind fun a16p => (aI w14 a16p 100 0).bind fun i21 => (aS w14 a16p 100 0 (.int (i21 + 1))).bind fun w24 => some (x1, w24)) else none
abbrev rm_X13_finding : Room := { frames := 0, cells := 0, slots := 0, locals := 0 }
set_option maxHeartbeats 4000000 in
set_option maxRecDepth 100000 in
theorem ct_X13_finding {l : Launch} {g : Gt} (G : Gok g) {a0 : Option Nat} {x1 : Int32} {w : cH} {r9 : Int32} {w9 : cH} (hF : F_X13_finding a0 x1 w = some (r9, w9)) : tg w a0 = some 13 ∧ Mx l yX13_finding (ws_ yX13_finding cX13_finding 2 (some .int)) rm_X13_finding g [va_rf a0, .int x1] w (.returned (some (.int r9))) w9 0 0 := by
  unfold F_X13_finding at hF
  obtain ⟨ht, hF⟩ := bg hF
  refine ⟨ht, mk_ct cX13_finding 2 (some .int) "CarryFairModel" (plainFor_of_name (by decide)) rfl (lg_le ⟨cr _, rfl, trivial⟩ (Nat.le_of_ble_eq_true rfl)) (av_ok ⟨cr _, rfl, trivial⟩) G (fun x B hl hR hin hh => ?_)⟩
  show J g x _ _ 0 0 w 0 0 0 [some (va_rf a0), some (.int x1)] []
  refine j_aload_n B dX13_finding_0 rfl ?_
  refine j_getA B fl_X13_19 dX13_finding_1 hF (fun a1p hF => ?_)
  refine j_ldc (v := (-1000001)) B q1436 dX13_finding_4 ?_
  refine j_iload_n B dX13_finding_6 rfl ?_
  refine j_isub B dX13_finding_7 ?_
  refine j_iconst (v := 1) B dX13_finding_8 (by decide) ?_
  refine j_iadd B dX13_finding_9 ?_
  refine j_dup2 B dX13_finding_10 rfl (cr _) ?_
  refine j_iaload B dX13_finding_11 hF (fun i11 hF => ?_)
  refine j_iconst (v := 1) B dX13_finding_12 (by decide) ?_
  refine j_iadd B dX13_finding_13 ?_
  refine j_iastore B dX13_finding_14 hF (fun w14 hF => ?_)
  refine j_aload_n B dX13_finding_15 rfl ?_
  refine j_getA B fl_X13_19 dX13_finding_16 hF (fun a16p hF => ?_)
  refine j_iconst (v := 0) B dX13_finding_19 (by decide) ?_
  refine j_dup2 B dX13_finding_20 rfl (cr _) ?_
  refine j_iaload B dX13_finding_21 hF (fun i21 hF => ?_)
  refine j_iconst (v := 1) B dX13_finding_22 (by decide) ?_
  refine j_iadd B dX13_finding_23 ?_
  refine j_iastore B dX13_finding_24 hF (fun w24 hF => ?_)
  refine j_iload_n B dX13_finding_25 rfl ?_
  exact j_lIw B rfl dX13_finding_26 hF (by decide) (by decide)
def F_X13_cAt (x0 : Int32) (x1 : Int32) : Int32 :=
  (56 + (5 * x0)) + x1
abbrev rm_X13_cAt : Room := { frames := 0, cells := 0, slots := 0, locals := 0 }
set_option maxHeartbeats 4000000 in
set_option maxRecDepth 100000 in
theorem ct_X13_cAt {l : Launch} {g : Gt} (G : Gok g) {x0 : Int32} {x1 : Int32} {w : cH} : Mx l yX13_cAt (ws_ yX13_cAt cX13_cAt 2 (some .int)) rm_X13_cAt g [.int x0, .int x1] w (.returned (some (.int (F_X13_cAt x0 x1)))) w 0 0 := by
  generalize hF : F_X13_cAt x0 x1 = r9
  unfold F_X13_cAt at hF
  refine mk_ct cX13_cAt 2 (some .int) "CarryFairModel" (plainFor_of_name (by decide)) rfl (lg_le ⟨rfl, rfl, trivial⟩ (Nat.le_of_ble_eq_true rfl)) (av_ok ⟨rfl, rfl, trivial⟩) G (fun x B hl hR hin hh => ?_)
  show J g x _ _ 0 0 w 0 0 0 [some (.int x0), some (.int x1)] []
  refine j_bipush (v := 56) B dX13_cAt_0 (by decide) ?_
  refine j_iconst (v := 5) B dX13_cAt_2 (by decide) ?_
  refine j_iload_n B dX13_cAt_3 rfl ?_
  refine j_imul B dX13_cAt_4 ?_
  refine j_iadd B dX13_cAt_5 ?_
  refine j_iload_n B dX13_cAt_6 rfl ?_
  refine j_iadd B dX13_cAt_7 ?_
  exact j_lIp B rfl dX13_cAt_8 hF (by decide) (by decide)
theorem cs_X13_81 : CS "CarryFairModel" 81 yX13_cAt cX13_cAt 2 (some .int) 2 := ⟨Or.inl (lw_S q1446 q1447 q142 q1448), by decide +kernel⟩
def F_X13_newCarrier (a0 : Option Nat) (x1 : Int32) (x2 : Int32) (x3 : Int32) (w : cH) : Option (Int32 × cH) :=
  if tg w a0 = some 13 then ((fA w a0 13 0).bind fun a1p => (aI w a1p 100 42).bind fun i6 => (fA w a0 13 0).bind fun a10p => (aS w a10p 100 (F_X13_cAt i6 0) (.int x1)).bind fun w20 => (fA w20 a0 13 0).bind fun a22p => (aS w20 a22p 100 (F_X13_cAt i6 1) (.int x2)).bind fun w32 => (fA w32 a0 13 0).bind fun a34p => (aS w32 a34p 100 (F_X13_cAt i6 2) (.int x3)).bind fun w44 => (fA w44 a0 13 0).bind fun a46p => (aS w44 a46p 100 (F_X13_cAt i6 3) (.int 0)).bind fun w56 => (fA w56 a0 13 0).bind fun a58p => (aS w56 a58p 100 (F_X13_cAt i6 4) (.int 0)).bind fun w68 => (fA w68 a0 13 0).bind fun a70p => (aI w68 a70p 100 42).bind fun i76 => (aS w68 a70p 100 42 (.int (i76 + 1))).bind fun w79 => some (i6, w79)) else none
abbrev rm_X13_newCarrier : Room := { frames := 1, cells := 0, slots := 0, locals := 21 }
set_option maxHeartbeats 4000000 in
set_option maxRecDepth 100000 in
theorem ct_X13_newCarrier {l : Launch} {g : Gt} (G : Gok g) {a0 : Option Nat} {x1 : Int32} {x2 : Int32} {x3 : Int32} {w : cH} {r9 : Int32} {w9 : cH} (hF : F_X13_newCarrier a0 x1 x2 x3 w = some (r9, w9)) : tg w a0 = some 13 ∧ Mx l yX13_newCarrier (ws_ yX13_newCarrier cX13_newCarrier 5 (some .int)) rm_X13_newCarrier g [va_rf a0, .int x1, .int x2, .int x3] w (.returned (some (.int r9))) w9 0 0 := by
  unfold F_X13_newCarrier at hF
  obtain ⟨ht, hF⟩ := bg hF
  refine ⟨ht, mk_ct cX13_newCarrier 5 (some .int) "CarryFairModel" (plainFor_of_name (by decide)) rfl (lg_le ⟨cr _, rfl, rfl, rfl, trivial⟩ (Nat.le_of_ble_eq_true rfl)) (av_ok ⟨cr _, rfl, rfl, rfl, trivial⟩) G (fun x B hl hR hin hh => ?_)⟩
  show J g x _ _ 0 0 w 0 0 0 [some (va_rf a0), some (.int x1), some (.int x2), some (.int x3), none] []
  refine j_aload_n B dX13_newCarrier_0 rfl ?_
  refine j_getA B fl_X13_9 dX13_newCarrier_1 hF (fun a1p hF => ?_)
  refine j_bipush (v := 42) B dX13_newCarrier_4 (by decide) ?_
  refine j_iaload B dX13_newCarrier_6 hF (fun i6 hF => ?_)
  refine j_istore (vs' := [some (va_rf a0), some (.int x1), some (.int x2), some (.int x3), some (.int i6)]) B dX13_newCarrier_7 (by decide) rfl ?_
  refine j_aload_n B dX13_newCarrier_9 rfl ?_
  refine j_getA B fl_X13_9 dX13_newCarrier_10 hF (fun a10p hF => ?_)
  refine j_iload B dX13_newCarrier_13 rfl ?_
  refine j_iconst (v := 0) B dX13_newCarrier_15 (by decide) ?_
  refine j_rS (st2 := [.int (F_X13_cAt i6 0), va_rf a10p]) B [.int i6, .int 0] [va_rf a10p] cs_X13_81 dX13_newCarrier_16 hl hR (ct_X13_cAt G) rfl rfl rfl rfl ⟨cr _, trivial⟩ (Nat.le_of_ble_eq_true rfl) ?_
  refine j_iload_n B dX13_newCarrier_19 rfl ?_
  refine j_iastore B dX13_newCarrier_20 hF (fun w20 hF => ?_)
  refine j_aload_n B dX13_newCarrier_21 rfl ?_
  refine j_getA B fl_X13_9 dX13_newCarrier_22 hF (fun a22p hF => ?_)
  refine j_iload B dX13_newCarrier_25 rfl ?_
  refine j_iconst (v := 1) B dX13_newCarrier_27 (by decide) ?_
  refine j_rS (st2 := [.int (F_X13_cAt i6 1), va_rf a22p]) B [.int i6, .int 1] [va_rf a22p] cs_X13_81 dX13_newCarrier_28 hl hR (ct_X13_cAt G) rfl rfl rfl rfl ⟨cr _, trivial⟩ (Nat.le_of_ble_eq_true rfl) ?_
  refine j_iload_n B dX13_newCarrier_31 rfl ?_
  refine j_iastore B dX13_newCarrier_32 hF (fun w32 hF => ?_)
  refine j_aload_n B dX13_newCarrier_33 rfl ?_
  refine j_getA B fl_X13_9 dX13_newCarrier_34 hF (fun a34p hF => ?_)
  refine j_iload B dX13_newCarrier_37 rfl ?_
  refine j_iconst (v := 2) B dX13_newCarrier_39 (by decide) ?_
  refine j_rS (st2 := [.int (F_X13_cAt i6 2), va_rf a34p]) B [.int i6, .int 2] [va_rf a34p] cs_X13_81 dX13_newCarrier_40 hl hR (ct_X13_cAt G) rfl rfl rfl rfl ⟨cr _, trivial⟩ (Nat.le_of_ble_eq_true rfl) ?_
  refine j_iload_n B dX13_newCarrier_43 rfl ?_
  refine j_iastore B dX13_newCarrier_44 hF (fun w44 hF => ?_)
  refine j_aload_n B dX13_newCarrier_45 rfl ?_
  refine j_getA B fl_X13_9 dX13_newCarrier_46 hF (fun a46p hF => ?_)
  refine j_iload B dX13_newCarrier_49 rfl ?_
  refine j_iconst (v := 3) B dX13_newCarrier_51 (by decide) ?_
  refine j_rS (st2 := [.int (F_X13_cAt i6 3), va_rf a46p]) B [.int i6, .int 3] [va_rf a46p] cs_X13_81 dX13_newCarrier_52 hl hR (ct_X13_cAt G) rfl rfl rfl rfl ⟨cr _, trivial⟩ (Nat.le_of_ble_eq_true rfl) ?_
  refine j_iconst (v := 0) B dX13_newCarrier_55 (by decide) ?_
  refine j_iastore B dX13_newCarrier_56 hF (fun w56 hF => ?_)
  refine j_aload_n B dX13_newCarrier_57 rfl ?_
  refine j_getA B fl_X13_9 dX13_newCarrier_58 hF (fun a58p hF => ?_)
  refine j_iload B dX13_newCarrier_61 rfl ?_
  refine j_iconst (v := 4) B dX13_newCarrier_63 (by decide) ?_
  refine j_rS (st2 := [.int (F_X13_cAt i6 4), va_rf a58p]) B [.int i6, .int 4] [va_rf a58p] cs_X13_81 dX13_newCarrier_64 hl hR (ct_X13_cAt G) rfl rfl rfl rfl ⟨cr _, trivial⟩ (Nat.le_of_ble_eq_true rfl) ?_
  refine j_iconst (v := 0) B dX13_newCarrier_67 (by decide) ?_
  refine j_iastore B dX13_newCarrier_68 hF (fun w68 hF => ?_)
  refine j_aload_n B dX13_newCarrier_69 rfl ?_
  refine j_getA B fl_X13_9 dX13_newCarrier_70 hF (fun a70p hF => ?_)
  refine j_bipush (v := 42) B dX13_newCarrier_73 (by decide) ?_
  refine j_dup2 B dX13_newCarrier_75 rfl (cr _) ?_
  refine j_iaload B dX13_newCarrier_76 hF (fun i76 hF => ?_)
  refine j_iconst (v := 1) B dX13_newCarrier_77 (by decide) ?_
  refine j_iadd B dX13_newCarrier_78 ?_
  refine j_iastore B dX13_newCarrier_79 hF (fun w79 hF => ?_)
  refine j_iload B dX13_newCarrier_80 rfl ?_
  exact j_lIw B rfl dX13_newCarrier_82 hF (by decide) (by decide)
theorem cv_X13_97 : CV "CarryFairModel" 97 13 yX13_newCarrier cX13_newCarrier 5 (some .int) 3 := ⟨_, _, rfl, lw_V q1442 q1444 qs72 q142 q1445, by decide +kernel⟩
theorem cv_X13_92 : CV "CarryFairModel" 92 13 yX13_finding cX13_finding 2 (some .int) 1 := ⟨_, _, rfl, lw_V q1437 q1439 qs71 q142 q1440, by decide +kernel⟩
theorem cs_X13_88 : CS "CarryFairModel" 88 yX13_isKind cX13_isKind 1 (some .boolean) 1 := ⟨Or.inl (lw_S q1430 q1431 q142 q1432), by decide +kernel⟩
def F_X13_carrier (a0 : Option Nat) (x1 : Int32) (w : cH) : Option (Int32 × cH) :=
  if tg w a0 = some 13 then (if ¬ (F_X13_isKind x1) = 0 then ((fA w a0 13 0).bind fun a15p => (aI w a15p 100 42).bind fun i20 =>if ¬ i20 = 6 then (cb (F_X13_newCarrier a0 x1 0 20 w) fun i40 w40 => some (i40, w40)) else (cb (F_X13_finding a0 (-1000002) w) fun i29 w29 => some (i29, w29))) else (cb (F_X13_finding a0 (-1000001) w) fun i10 w10 => some (i10, w10))) else none
abbrev rm_X13_carrier : Room := { frames := 2, cells := 0, slots := 0, locals := 45 }
set_option maxHeartbeats 4000000 in
set_option maxRecDepth 100000 in
theorem ct_X13_carrier {l : Launch} {g : Gt} (G : Gok g) {a0 : Option Nat} {x1 : Int32} {w : cH} {r9 : Int32} {w9 : cH} (hF : F_X13_carrier a0 x1 w = some (r9, w9)) : tg w a0 = some 13 ∧ Mx l yX13_carrier (ws_ yX13_carrier cX13_carrier 2 (some .int)) rm_X13_carrier g [va_rf a0, .int x1] w (.returned (some (.int r9))) w9 0 0 := by
  unfold F_X13_carrier at hF
  obtain ⟨ht, hF⟩ := bg hF
  refine ⟨ht, mk_ct cX13_carrier 2 (some .int) "CarryFairModel" (plainFor_of_name (by decide)) rfl (lg_le ⟨cr _, rfl, trivial⟩ (Nat.le_of_ble_eq_true rfl)) (av_ok ⟨cr _, rfl, trivial⟩) G (fun x B hl hR hin hh => ?_)⟩
  show J g x _ _ 0 0 w 0 0 0 [some (va_rf a0), some (.int x1)] []
  refine j_iload_n B dX13_carrier_0 rfl ?_
  refine j_rS (st2 := [.int (F_X13_isKind x1)]) B [.int x1] [] cs_X13_88 dX13_carrier_1 hl hR (ct_X13_isKind G) rfl rfl rfl rfl trivial (Nat.le_of_ble_eq_true rfl) ?_
  refine j_if_ne (tgt := 14) B dX13_carrier_4 (by decide) hF (fun h4 hF => ?_) (fun h4 hF => ?_)
  · refine j_aload_n B dX13_carrier_14 rfl ?_
    refine j_getA B fl_X13_9 dX13_carrier_15 hF (fun a15p hF => ?_)
    refine j_bipush (v := 42) B dX13_carrier_18 (by decide) ?_
    refine j_iaload B dX13_carrier_20 hF (fun i20 hF => ?_)
    refine j_bipush (v := 6) B dX13_carrier_21 (by decide) ?_
    refine j_icmp_ne (tgt := 35) B dX13_carrier_23 (by decide) hF (fun h23 hF => ?_) (fun h23 hF => ?_)
    · refine j_aload_n B dX13_carrier_35 rfl ?_
      refine j_iload_n B dX13_carrier_36 rfl ?_
      refine j_iconst (v := 0) B dX13_carrier_37 (by decide) ?_
      refine j_bipush (v := 20) B dX13_carrier_38 (by decide) ?_
      obtain ⟨i40, w40, e40, hF⟩ := bc hF
      refine j_rV (st2 := [.int i40]) B [.int x1, .int 0, .int 20] [] cv_X13_97 dX13_carrier_40 hl hR (ct_X13_newCarrier G e40) rfl rfl rfl rfl trivial (Nat.le_of_ble_eq_true rfl) ?_
      exact j_lIw B rfl dX13_carrier_43 hF (by decide) (by decide)
    · refine j_aload_n B dX13_carrier_26 rfl ?_
      refine j_ldc (v := (-1000002)) B q1441 dX13_carrier_27 ?_
      obtain ⟨i29, w29, e29, hF⟩ := bc hF
      refine j_rV (st2 := [.int i29]) B [.int (-1000002)] [] cv_X13_92 dX13_carrier_29 hl hR (ct_X13_finding G e29) rfl rfl rfl rfl trivial (Nat.le_of_ble_eq_true rfl) ?_
      refine j_goto (tgt := 43) B dX13_carrier_32 (by decide) ?_
      exact j_lIw B rfl dX13_carrier_43 hF (by decide) (by decide)
  · refine j_aload_n B dX13_carrier_7 rfl ?_
    refine j_ldc (v := (-1000001)) B q1436 dX13_carrier_8 ?_
    obtain ⟨i10, w10, e10, hF⟩ := bc hF
    refine j_rV (st2 := [.int i10]) B [.int (-1000001)] [] cv_X13_92 dX13_carrier_10 hl hR (ct_X13_finding G e10) rfl rfl rfl rfl trivial (Nat.le_of_ble_eq_true rfl) ?_
    exact j_lIw B rfl dX13_carrier_13 hF (by decide) (by decide)
def F_X13_isCarrier (a0 : Option Nat) (x1 : Int32) (w : cH) : Option Int32 :=
  if tg w a0 = some 13 then ((fA w a0 13 0).bind fun a3p => (aI w a3p 100 42).bind fun i8 => some ((F_X13_within x1 0 (i8 - 1)) &&& 1)) else none
abbrev rm_X13_isCarrier : Room := { frames := 1, cells := 0, slots := 0, locals := 22 }
set_option maxHeartbeats 4000000 in
set_option maxRecDepth 100000 in
theorem ct_X13_isCarrier {l : Launch} {g : Gt} (G : Gok g) {a0 : Option Nat} {x1 : Int32} {w : cH} {r9 : Int32} (hF : F_X13_isCarrier a0 x1 w = some r9) : tg w a0 = some 13 ∧ Mx l yX13_isCarrier (ws_ yX13_isCarrier cX13_isCarrier 2 (some .boolean)) rm_X13_isCarrier g [va_rf a0, .int x1] w (.returned (some (.int r9))) w 0 0 := by
  unfold F_X13_isCarrier at hF
  obtain ⟨ht, hF⟩ := bg hF
  refine ⟨ht, mk_ct cX13_isCarrier 2 (some .boolean) "CarryFairModel" (plainFor_of_name (by decide)) rfl (lg_le ⟨cr _, rfl, trivial⟩ (Nat.le_of_ble_eq_true rfl)) (av_ok ⟨cr _, rfl, trivial⟩) G (fun x B hl hR hin hh => ?_)⟩
  show J g x _ _ 0 0 w 0 0 0 [some (va_rf a0), some (.int x1)] []
  refine j_iload_n B dX13_isCarrier_0 rfl ?_
  refine j_iconst (v := 0) B dX13_isCarrier_1 (by decide) ?_
  refine j_aload_n B dX13_isCarrier_2 rfl ?_
  refine j_getA B fl_X13_9 dX13_isCarrier_3 hF (fun a3p hF => ?_)
  refine j_bipush (v := 42) B dX13_isCarrier_6 (by decide) ?_
  refine j_iaload B dX13_isCarrier_8 hF (fun i8 hF => ?_)
  refine j_iconst (v := 1) B dX13_isCarrier_9 (by decide) ?_
  refine j_isub B dX13_isCarrier_10 ?_
  refine j_rS (st2 := [.int (F_X13_within x1 0 (i8 - 1))]) B [.int x1, .int 0, .int (i8 - 1)] [] cs_X13_77 dX13_isCarrier_11 hl hR (ct_X13_within G) rfl rfl rfl rfl trivial (Nat.le_of_ble_eq_true rfl) ?_
  exact j_lB B rfl dX13_isCarrier_14 hF (by decide) (by decide)
def F_X13_cIs (a0 : Option Nat) (x1 : Int32) (x2 : Int32) (w : cH) : Option Int32 :=
  if tg w a0 = some 13 then ((fA w a0 13 0).bind fun a1p => (aI w a1p 100 (F_X13_cAt x1 x2)).bind fun i9 => some (i9)) else none
abbrev rm_X13_cIs : Room := { frames := 1, cells := 0, slots := 0, locals := 21 }
set_option maxHeartbeats 4000000 in
set_option maxRecDepth 100000 in
theorem ct_X13_cIs {l : Launch} {g : Gt} (G : Gok g) {a0 : Option Nat} {x1 : Int32} {x2 : Int32} {w : cH} {r9 : Int32} (hF : F_X13_cIs a0 x1 x2 w = some r9) : tg w a0 = some 13 ∧ Mx l yX13_cIs (ws_ yX13_cIs cX13_cIs 3 (some .int)) rm_X13_cIs g [va_rf a0, .int x1, .int x2] w (.returned (some (.int r9))) w 0 0 := by
  unfold F_X13_cIs at hF
  obtain ⟨ht, hF⟩ := bg hF
  refine ⟨ht, mk_ct cX13_cIs 3 (some .int) "CarryFairModel" (plainFor_of_name (by decide)) rfl (lg_le ⟨cr _, rfl, rfl, trivial⟩ (Nat.le_of_ble_eq_true rfl)) (av_ok ⟨cr _, rfl, rfl, trivial⟩) G (fun x B hl hR hin hh => ?_)⟩
  show J g x _ _ 0 0 w 0 0 0 [some (va_rf a0), some (.int x1), some (.int x2)] []
  refine j_aload_n B dX13_cIs_0 rfl ?_
  refine j_getA B fl_X13_9 dX13_cIs_1 hF (fun a1p hF => ?_)
  refine j_iload_n B dX13_cIs_4 rfl ?_
  refine j_iload_n B dX13_cIs_5 rfl ?_
  refine j_rS (st2 := [.int (F_X13_cAt x1 x2), va_rf a1p]) B [.int x1, .int x2] [va_rf a1p] cs_X13_81 dX13_cIs_6 hl hR (ct_X13_cAt G) rfl rfl rfl rfl ⟨cr _, trivial⟩ (Nat.le_of_ble_eq_true rfl) ?_
  refine j_iaload B dX13_cIs_9 hF (fun i9 hF => ?_)
  exact j_lI B rfl dX13_cIs_10 hF (by decide) (by decide)
def F_X13_above (x0 : Int32) : Int32 :=
  if ¬ x0 = 0 then (if ¬ x0 = 3 then (if ¬ x0 = 4 then (if ¬ x0 = 6 then (0) else (5)) else (2)) else (1)) else ((-1))
abbrev rm_X13_above : Room := { frames := 0, cells := 0, slots := 0, locals := 0 }
set_option maxHeartbeats 4000000 in
set_option maxRecDepth 100000 in
theorem ct_X13_above {l : Launch} {g : Gt} (G : Gok g) {x0 : Int32} {w : cH} : Mx l yX13_above (ws_ yX13_above cX13_above 1 (some .int)) rm_X13_above g [.int x0] w (.returned (some (.int (F_X13_above x0)))) w 0 0 := by
  generalize hF : F_X13_above x0 = r9
  unfold F_X13_above at hF
  refine mk_ct cX13_above 1 (some .int) "CarryFairModel" (plainFor_of_name (by decide)) rfl (lg_le ⟨rfl, trivial⟩ (Nat.le_of_ble_eq_true rfl)) (av_ok ⟨rfl, trivial⟩) G (fun x B hl hR hin hh => ?_)
  show J g x _ _ 0 0 w 0 0 0 [some (.int x0)] []
  refine j_iload_n B dX13_above_0 rfl ?_
  refine j_if_ne (tgt := 8) B dX13_above_1 (by decide) hF (fun h1 hF => ?_) (fun h1 hF => ?_)
  · refine j_iload_n B dX13_above_8 rfl ?_
    refine j_iconst (v := 3) B dX13_above_9 (by decide) ?_
    refine j_icmp_ne (tgt := 17) B dX13_above_10 (by decide) hF (fun h10 hF => ?_) (fun h10 hF => ?_)
    · refine j_iload_n B dX13_above_17 rfl ?_
      refine j_iconst (v := 4) B dX13_above_18 (by decide) ?_
      refine j_icmp_ne (tgt := 26) B dX13_above_19 (by decide) hF (fun h19 hF => ?_) (fun h19 hF => ?_)
      · refine j_iload_n B dX13_above_26 rfl ?_
        refine j_bipush (v := 6) B dX13_above_27 (by decide) ?_
        refine j_icmp_ne (tgt := 36) B dX13_above_29 (by decide) hF (fun h29 hF => ?_) (fun h29 hF => ?_)
        · refine j_iconst (v := 0) B dX13_above_36 (by decide) ?_
          exact j_lIp B rfl dX13_above_37 hF (by decide) (by decide)
        · refine j_iconst (v := 5) B dX13_above_32 (by decide) ?_
          refine j_goto (tgt := 37) B dX13_above_33 (by decide) ?_
          exact j_lIp B rfl dX13_above_37 hF (by decide) (by decide)
      · refine j_iconst (v := 2) B dX13_above_22 (by decide) ?_
        refine j_goto (tgt := 37) B dX13_above_23 (by decide) ?_
        exact j_lIp B rfl dX13_above_37 hF (by decide) (by decide)
    · refine j_iconst (v := 1) B dX13_above_13 (by decide) ?_
      refine j_goto (tgt := 37) B dX13_above_14 (by decide) ?_
      exact j_lIp B rfl dX13_above_37 hF (by decide) (by decide)
  · refine j_iconst (v := (-1)) B dX13_above_4 (by decide) ?_
    refine j_goto (tgt := 37) B dX13_above_5 (by decide) ?_
    exact j_lIp B rfl dX13_above_37 hF (by decide) (by decide)
theorem cs_X13_101 : CS "CarryFairModel" 101 yX13_above cX13_above 1 (some .int) 1 := ⟨Or.inl (lw_S q1468 q1469 q142 q1470), by decide +kernel⟩
def F_X13_isUnder_J19 (x2 : Int32) (w : cH) : Option Int32 :=
  if x2 < 0 then (some (0)) else (some (1))
def F_X13_isUnder_B2 (rc2 : Int32 → Int32 → cH → Option Int32) (x1 : Int32) (x2 : Int32) (w : cH) : Option Int32 :=
  if x2 < 0 then (F_X13_isUnder_J19  x2 w) else (if x2 = x1 then (F_X13_isUnder_J19  x2 w) else (rc2 x1 (F_X13_above x2) w))
def F_X13_isUnder_L2 : Nat → Int32 → Int32 → cH → Option Int32
  | 0, _, _, _ => none
  | n9 + 1, x1, x2, w => F_X13_isUnder_B2  (F_X13_isUnder_L2  n9) x1 x2 w
def F_X13_isUnder (x0 : Int32) (x1 : Int32) (w : cH) : Option Int32 :=
  F_X13_isUnder_L2  fu x1 x0 w
abbrev rm_X13_isUnder : Room := { frames := 1, cells := 0, slots := 0, locals := 20 }
set_option maxHeartbeats 4000000 in
set_option maxRecDepth 100000 in
theorem ct_X13_isUnder {l : Launch} {g : Gt} (G : Gok g) {x0 : Int32} {x1 : Int32} {w : cH} {r9 : Int32} (hF : F_X13_isUnder x0 x1 w = some r9) : Mx l yX13_isUnder (ws_ yX13_isUnder cX13_isUnder 3 (some .boolean)) rm_X13_isUnder g [.int x0, .int x1] w (.returned (some (.int r9))) w 0 0 := by
  unfold F_X13_isUnder at hF
  refine mk_ct cX13_isUnder 3 (some .boolean) "CarryFairModel" (plainFor_of_name (by decide)) rfl (lg_le ⟨rfl, rfl, trivial⟩ (Nat.le_of_ble_eq_true rfl)) (av_ok ⟨rfl, rfl, trivial⟩) G (fun x B hl hR hin hh => ?_)
  show J g x _ _ 0 0 w 0 0 0 [some (.int x0), some (.int x1), none] []
  have jb19 : ∀ (x2 : Int32), F_X13_isUnder_J19  x2 w = some r9 → J g x (.returned (some (.int r9))) w 0 0 w 0 0 19 [none, none, some (.int x2)] [] := by
    intro x2 hF
    unfold F_X13_isUnder_J19 at hF
    refine j_iload_n B dX13_isUnder_19 rfl ?_
    refine j_if_lt (tgt := 27) B dX13_isUnder_20 (by decide) hF (fun h20 hF => ?_) (fun h20 hF => ?_)
    · refine j_iconst (v := 0) B dX13_isUnder_27 (by decide) ?_
      exact j_lZ B (by decide) rfl dX13_isUnder_28 hF (by decide) (by decide)
    · refine j_iconst (v := 1) B dX13_isUnder_23 (by decide) ?_
      refine j_goto (tgt := 28) B dX13_isUnder_24 (by decide) ?_
      exact j_lZ B (by decide) rfl dX13_isUnder_28 hF (by decide) (by decide)
  have lp2 : ∀ (n9 : Nat) (x1 : Int32) (x2 : Int32), F_X13_isUnder_L2  n9 x1 x2 w = some r9 → J g x (.returned (some (.int r9))) w 0 0 w 0 0 2 [none, some (.int x1), some (.int x2)] [] := by
    intro n9
    induction n9 with
    | zero => intro x1 x2 hF; cases hF
    | succ n2 ih2 =>
      intro x1 x2 hF
      have hF : F_X13_isUnder_B2  (F_X13_isUnder_L2  n2) x1 x2 w = some r9 := hF
      unfold F_X13_isUnder_B2 at hF
      refine j_iload_n B dX13_isUnder_2 rfl ?_
      refine j_if_lt (tgt := 19) B dX13_isUnder_3 (by decide) hF (fun h3 hF => ?_) (fun h3 hF => ?_)
      · refine j_msk [false, false, true] rfl ?_
        exact jb19 x2 hF
      · refine j_iload_n B dX13_isUnder_6 rfl ?_
        refine j_iload_n B dX13_isUnder_7 rfl ?_
        refine j_icmp_eq (tgt := 19) B dX13_isUnder_8 (by decide) hF (fun h8 hF => ?_) (fun h8 hF => ?_)
        · refine j_msk [false, false, true] rfl ?_
          exact jb19 x2 hF
        · refine j_iload_n B dX13_isUnder_11 rfl ?_
          refine j_rS (st2 := [.int (F_X13_above x2)]) B [.int x2] [] cs_X13_101 dX13_isUnder_12 hl hR (ct_X13_above G) rfl rfl rfl rfl trivial (Nat.le_of_ble_eq_true rfl) ?_
          refine j_istore_n (vs' := [none, some (.int x1), some (.int (F_X13_above x2))]) B dX13_isUnder_15 (by decide) rfl ?_
          refine j_goto (tgt := 2) B dX13_isUnder_16 (by decide) ?_
          exact ih2 x1 (F_X13_above x2) hF
  refine j_iload_n B dX13_isUnder_0 rfl ?_
  refine j_istore_n (vs' := [some (.int x0), some (.int x1), some (.int x0)]) B dX13_isUnder_1 (by decide) rfl ?_
  refine j_msk [false, true, true] rfl ?_
  exact lp2 fu x1 x0 hF
theorem cv_X13_104 : CV "CarryFairModel" 104 13 yX13_cIs cX13_cIs 3 (some .int) 2 := ⟨_, _, rfl, lw_V q1461 q1463 qs75 q142 q1464, by decide +kernel⟩
theorem cs_X13_107 : CS "CarryFairModel" 107 yX13_isUnder cX13_isUnder 3 (some .boolean) 2 := ⟨Or.inl (lw_S q1465 q1466 q142 q1467), by decide +kernel⟩
def F_X13_bears (a0 : Option Nat) (x1 : Int32) (w : cH) : Option Int32 :=
  if tg w a0 = some 13 then ((F_X13_cIs a0 x1 0 w).bind fun i3 => (F_X13_cIs a0 x1 2 w).bind fun i10 => (F_X13_isUnder i3 1 w).bind fun i16 =>if i16 = 0 then ((F_X13_isUnder i3 2 w).bind fun i30 =>if i30 = 0 then (some (i10)) else (some (2 * i10))) else (some (i10 / 2))) else none
abbrev rm_X13_bears : Room := { frames := 2, cells := 0, slots := 0, locals := 43 }
set_option maxHeartbeats 4000000 in
set_option maxRecDepth 100000 in
theorem ct_X13_bears {l : Launch} {g : Gt} (G : Gok g) {a0 : Option Nat} {x1 : Int32} {w : cH} {r9 : Int32} (hF : F_X13_bears a0 x1 w = some r9) : tg w a0 = some 13 ∧ Mx l yX13_bears (ws_ yX13_bears cX13_bears 4 (some .int)) rm_X13_bears g [va_rf a0, .int x1] w (.returned (some (.int r9))) w 0 0 := by
  unfold F_X13_bears at hF
  obtain ⟨ht, hF⟩ := bg hF
  refine ⟨ht, mk_ct cX13_bears 4 (some .int) "CarryFairModel" (plainFor_of_name (by decide)) rfl (lg_le ⟨cr _, rfl, trivial⟩ (Nat.le_of_ble_eq_true rfl)) (av_ok ⟨cr _, rfl, trivial⟩) G (fun x B hl hR hin hh => ?_)⟩
  show J g x _ _ 0 0 w 0 0 0 [some (va_rf a0), some (.int x1), none, none] []
  refine j_aload_n B dX13_bears_0 rfl ?_
  refine j_iload_n B dX13_bears_1 rfl ?_
  refine j_iconst (v := 0) B dX13_bears_2 (by decide) ?_
  obtain ⟨i3, e3, hF⟩ := bo hF
  refine j_rV (st2 := [.int i3]) B [.int x1, .int 0] [] cv_X13_104 dX13_bears_3 hl hR (ct_X13_cIs G e3) rfl rfl rfl rfl trivial (Nat.le_of_ble_eq_true rfl) ?_
  refine j_istore_n (vs' := [some (va_rf a0), some (.int x1), some (.int i3), none]) B dX13_bears_6 (by decide) rfl ?_
  refine j_aload_n B dX13_bears_7 rfl ?_
  refine j_iload_n B dX13_bears_8 rfl ?_
  refine j_iconst (v := 2) B dX13_bears_9 (by decide) ?_
  obtain ⟨i10, e10, hF⟩ := bo hF
  refine j_rV (st2 := [.int i10]) B [.int x1, .int 2] [] cv_X13_104 dX13_bears_10 hl hR (ct_X13_cIs G e10) rfl rfl rfl rfl trivial (Nat.le_of_ble_eq_true rfl) ?_
  refine j_istore_n (vs' := [some (va_rf a0), some (.int x1), some (.int i3), some (.int i10)]) B dX13_bears_13 (by decide) rfl ?_
  refine j_iload_n B dX13_bears_14 rfl ?_
  refine j_iconst (v := 1) B dX13_bears_15 (by decide) ?_
  obtain ⟨i16, e16, hF⟩ := bo hF
  refine j_rS (st2 := [.int i16]) B [.int i3, .int 1] [] cs_X13_107 dX13_bears_16 hl hR (ct_X13_isUnder G e16) rfl rfl rfl rfl trivial (Nat.le_of_ble_eq_true rfl) ?_
  refine j_if_eq (tgt := 28) B dX13_bears_19 (by decide) hF (fun h19 hF => ?_) (fun h19 hF => ?_)
  · refine j_iload_n B dX13_bears_28 rfl ?_
    refine j_iconst (v := 2) B dX13_bears_29 (by decide) ?_
    obtain ⟨i30, e30, hF⟩ := bo hF
    refine j_rS (st2 := [.int i30]) B [.int i3, .int 2] [] cs_X13_107 dX13_bears_30 hl hR (ct_X13_isUnder G e30) rfl rfl rfl rfl trivial (Nat.le_of_ble_eq_true rfl) ?_
    refine j_if_eq (tgt := 42) B dX13_bears_33 (by decide) hF (fun h33 hF => ?_) (fun h33 hF => ?_)
    · refine j_iload_n B dX13_bears_42 rfl ?_
      exact j_lI B rfl dX13_bears_43 hF (by decide) (by decide)
    · refine j_iconst (v := 2) B dX13_bears_36 (by decide) ?_
      refine j_iload_n B dX13_bears_37 rfl ?_
      refine j_imul B dX13_bears_38 ?_
      refine j_goto (tgt := 43) B dX13_bears_39 (by decide) ?_
      exact j_lI B rfl dX13_bears_43 hF (by decide) (by decide)
  · refine j_iload_n B dX13_bears_22 rfl ?_
    refine j_iconst (v := 2) B dX13_bears_23 (by decide) ?_
    refine j_idiv B dX13_bears_24 (by decide) ?_
    refine j_goto (tgt := 43) B dX13_bears_25 (by decide) ?_
    exact j_lI B rfl dX13_bears_43 hF (by decide) (by decide)
def F_X13_eAt (x0 : Int32) (x1 : Int32) : Int32 :=
  (86 + (5 * x0)) + x1
abbrev rm_X13_eAt : Room := { frames := 0, cells := 0, slots := 0, locals := 0 }
set_option maxHeartbeats 4000000 in
set_option maxRecDepth 100000 in
theorem ct_X13_eAt {l : Launch} {g : Gt} (G : Gok g) {x0 : Int32} {x1 : Int32} {w : cH} : Mx l yX13_eAt (ws_ yX13_eAt cX13_eAt 2 (some .int)) rm_X13_eAt g [.int x0, .int x1] w (.returned (some (.int (F_X13_eAt x0 x1)))) w 0 0 := by
  generalize hF : F_X13_eAt x0 x1 = r9
  unfold F_X13_eAt at hF
  refine mk_ct cX13_eAt 2 (some .int) "CarryFairModel" (plainFor_of_name (by decide)) rfl (lg_le ⟨rfl, rfl, trivial⟩ (Nat.le_of_ble_eq_true rfl)) (av_ok ⟨rfl, rfl, trivial⟩) G (fun x B hl hR hin hh => ?_)
  show J g x _ _ 0 0 w 0 0 0 [some (.int x0), some (.int x1)] []
  refine j_bipush (v := 86) B dX13_eAt_0 (by decide) ?_
  refine j_iconst (v := 5) B dX13_eAt_2 (by decide) ?_
  refine j_iload_n B dX13_eAt_3 rfl ?_
  refine j_imul B dX13_eAt_4 ?_
  refine j_iadd B dX13_eAt_5 ?_
  refine j_iload_n B dX13_eAt_6 rfl ?_
  refine j_iadd B dX13_eAt_7 ?_
  exact j_lIp B rfl dX13_eAt_8 hF (by decide) (by decide)
theorem cs_X13_85 : CS "CarryFairModel" 85 yX13_eAt cX13_eAt 2 (some .int) 2 := ⟨Or.inl (lw_S q1479 q1480 q142 q1481), by decide +kernel⟩
def F_X13_eIs (a0 : Option Nat) (x1 : Int32) (x2 : Int32) (w : cH) : Option Int32 :=
  if tg w a0 = some 13 then ((fA w a0 13 0).bind fun a1p => (aI w a1p 100 (F_X13_eAt x1 x2)).bind fun i9 => some (i9)) else none
abbrev rm_X13_eIs : Room := { frames := 1, cells := 0, slots := 0, locals := 21 }
set_option maxHeartbeats 4000000 in
set_option maxRecDepth 100000 in
theorem ct_X13_eIs {l : Launch} {g : Gt} (G : Gok g) {a0 : Option Nat} {x1 : Int32} {x2 : Int32} {w : cH} {r9 : Int32} (hF : F_X13_eIs a0 x1 x2 w = some r9) : tg w a0 = some 13 ∧ Mx l yX13_eIs (ws_ yX13_eIs cX13_eIs 3 (some .int)) rm_X13_eIs g [va_rf a0, .int x1, .int x2] w (.returned (some (.int r9))) w 0 0 := by
  unfold F_X13_eIs at hF
  obtain ⟨ht, hF⟩ := bg hF
  refine ⟨ht, mk_ct cX13_eIs 3 (some .int) "CarryFairModel" (plainFor_of_name (by decide)) rfl (lg_le ⟨cr _, rfl, rfl, trivial⟩ (Nat.le_of_ble_eq_true rfl)) (av_ok ⟨cr _, rfl, rfl, trivial⟩) G (fun x B hl hR hin hh => ?_)⟩
  show J g x _ _ 0 0 w 0 0 0 [some (va_rf a0), some (.int x1), some (.int x2)] []
  refine j_aload_n B dX13_eIs_0 rfl ?_
  refine j_getA B fl_X13_9 dX13_eIs_1 hF (fun a1p hF => ?_)
  refine j_iload_n B dX13_eIs_4 rfl ?_
  refine j_iload_n B dX13_eIs_5 rfl ?_
  refine j_rS (st2 := [.int (F_X13_eAt x1 x2), va_rf a1p]) B [.int x1, .int x2] [va_rf a1p] cs_X13_85 dX13_eIs_6 hl hR (ct_X13_eAt G) rfl rfl rfl rfl ⟨cr _, trivial⟩ (Nat.le_of_ble_eq_true rfl) ?_
  refine j_iaload B dX13_eIs_9 hF (fun i9 hF => ?_)
  exact j_lI B rfl dX13_eIs_10 hF (by decide) (by decide)
theorem cv_X13_111 : CV "CarryFairModel" 111 13 yX13_eIs cX13_eIs 3 (some .int) 2 := ⟨_, _, rfl, lw_V q1475 q1477 qs77 q142 q1478, by decide +kernel⟩
def F_X13_carries_J43 (rc4 : (Option Nat) → Int32 → Int32 → Int32 → cH → Option Int32) (a0 : Option Nat) (x1 : Int32) (x3 : Int32) (s0 : Int32) (s1 : Int32) (w : cH) : Option Int32 :=
  rc4 a0 x1 (s1 ||| s0) (x3 + 1) w
def F_X13_carries_J42 (rc4 : (Option Nat) → Int32 → Int32 → Int32 → cH → Option Int32) (a0 : Option Nat) (x1 : Int32) (x3 : Int32) (s0 : Int32) (w : cH) : Option Int32 :=
  F_X13_carries_J43  rc4 a0 x1 x3 0 s0 w
def F_X13_carries_B4 (rc4 : Option Nat → Int32 → Int32 → Int32 → cH → Option Int32) (a0 : Option Nat) (x1 : Int32) (x2 : Int32) (x3 : Int32) (w : cH) : Option Int32 :=
  (fA w a0 13 0).bind fun a6p => (aI w a6p 100 43).bind fun i11 =>if i11 ≤ x3 then (some (x2)) else ((F_X13_eIs a0 x3 3 w).bind fun i19 =>if ¬ i19 = 1 then (F_X13_carries_J42  rc4 a0 x1 x3 x2 w) else ((F_X13_eIs a0 x3 4 w).bind fun i29 =>if ¬ i29 = x1 then (F_X13_carries_J42  rc4 a0 x1 x3 x2 w) else (F_X13_carries_J43  rc4 a0 x1 x3 (1 <<< (x3 &&& 31)) x2 w)))
def F_X13_carries_L4 : Nat → Option Nat → Int32 → Int32 → Int32 → cH → Option Int32
  | 0, _, _, _, _, _ => none
  | n9 + 1, a0, x1, x2, x3, w => F_X13_carries_B4  (F_X13_carries_L4  n9) a0 x1 x2 x3 w
def F_X13_carries (a0 : Option Nat) (x1 : Int32) (w : cH) : Option Int32 :=
  if tg w a0 = some 13 then (F_X13_carries_L4  fu a0 x1 0 0 w) else none
abbrev rm_X13_carries : Room := { frames := 2, cells := 0, slots := 0, locals := 43 }
set_option maxHeartbeats 4000000 in
set_option maxRecDepth 100000 in
theorem ct_X13_carries {l : Launch} {g : Gt} (G : Gok g) {a0 : Option Nat} {x1 : Int32} {w : cH} {r9 : Int32} (hF : F_X13_carries a0 x1 w = some r9) : tg w a0 = some 13 ∧ Mx l yX13_carries (ws_ yX13_carries cX13_carries 4 (some .int)) rm_X13_carries g [va_rf a0, .int x1] w (.returned (some (.int r9))) w 0 0 := by
  unfold F_X13_carries at hF
  obtain ⟨ht, hF⟩ := bg hF
  refine ⟨ht, mk_ct cX13_carries 4 (some .int) "CarryFairModel" (plainFor_of_name (by decide)) rfl (lg_le ⟨cr _, rfl, trivial⟩ (Nat.le_of_ble_eq_true rfl)) (av_ok ⟨cr _, rfl, trivial⟩) G (fun x B hl hR hin hh => ?_)⟩
  show J g x _ _ 0 0 w 0 0 0 [some (va_rf a0), some (.int x1), none, none] []
  have lp4 : ∀ (n9 : Nat) (a0 : Option Nat) (x1 : Int32) (x2 : Int32) (x3 : Int32), F_X13_carries_L4  n9 a0 x1 x2 x3 w = some r9 → J g x (.returned (some (.int r9))) w 0 0 w 0 0 4 [some (va_rf a0), some (.int x1), some (.int x2), some (.int x3)] [] := by
    intro n9
    induction n9 with
    | zero => intro a0 x1 x2 x3 hF; cases hF
    | succ n4 ih4 =>
      intro a0 x1 x2 x3 hF
      have hF : F_X13_carries_B4  (F_X13_carries_L4  n4) a0 x1 x2 x3 w = some r9 := hF
      unfold F_X13_carries_B4 at hF
      have jb43 : ∀ (a0 : Option Nat) (x1 : Int32) (x3 : Int32) (s0 : Int32) (s1 : Int32), F_X13_carries_J43  (F_X13_carries_L4  n4) a0 x1 x3 s0 s1 w = some r9 → J g x (.returned (some (.int r9))) w 0 0 w 0 0 43 [some (va_rf a0), some (.int x1), none, some (.int x3)] [.int s0, .int s1] := by
        intro a0 x1 x3 s0 s1 hF
        unfold F_X13_carries_J43 at hF
        refine j_ior B dX13_carries_43 ?_
        refine j_istore_n (vs' := [some (va_rf a0), some (.int x1), some (.int (s1 ||| s0)), some (.int x3)]) B dX13_carries_44 (by decide) rfl ?_
        refine j_iinc (v := x3 + 1) (vs' := [some (va_rf a0), some (.int x1), some (.int (s1 ||| s0)), some (.int (x3 + 1))]) B dX13_carries_45 (by decide) rfl rfl rfl ?_
        refine j_goto (tgt := 4) B dX13_carries_48 (by decide) ?_
        exact ih4 a0 x1 (s1 ||| s0) (x3 + 1) hF
      have jb42 : ∀ (a0 : Option Nat) (x1 : Int32) (x3 : Int32) (s0 : Int32), F_X13_carries_J42  (F_X13_carries_L4  n4) a0 x1 x3 s0 w = some r9 → J g x (.returned (some (.int r9))) w 0 0 w 0 0 42 [some (va_rf a0), some (.int x1), none, some (.int x3)] [.int s0] := by
        intro a0 x1 x3 s0 hF
        unfold F_X13_carries_J42 at hF
        refine j_iconst (v := 0) B dX13_carries_42 (by decide) ?_
        exact jb43 a0 x1 x3 0 s0 hF
      refine j_iload_n B dX13_carries_4 rfl ?_
      refine j_aload_n B dX13_carries_5 rfl ?_
      refine j_getA B fl_X13_9 dX13_carries_6 hF (fun a6p hF => ?_)
      refine j_bipush (v := 43) B dX13_carries_9 (by decide) ?_
      refine j_iaload B dX13_carries_11 hF (fun i11 hF => ?_)
      refine j_icmp_ge (tgt := 51) B dX13_carries_12 (by decide) hF (fun h12 hF => ?_) (fun h12 hF => ?_)
      · refine j_iload_n B dX13_carries_51 rfl ?_
        exact j_lI B rfl dX13_carries_52 hF (by decide) (by decide)
      · refine j_iload_n B dX13_carries_15 rfl ?_
        refine j_aload_n B dX13_carries_16 rfl ?_
        refine j_iload_n B dX13_carries_17 rfl ?_
        refine j_iconst (v := 3) B dX13_carries_18 (by decide) ?_
        obtain ⟨i19, e19, hF⟩ := bo hF
        refine j_rV (st2 := [.int i19, .int x2]) B [.int x3, .int 3] [.int x2] cv_X13_111 dX13_carries_19 hl hR (ct_X13_eIs G e19) rfl rfl rfl rfl ⟨rfl, trivial⟩ (Nat.le_of_ble_eq_true rfl) ?_
        refine j_iconst (v := 1) B dX13_carries_22 (by decide) ?_
        refine j_icmp_ne (tgt := 42) B dX13_carries_23 (by decide) hF (fun h23 hF => ?_) (fun h23 hF => ?_)
        · refine j_msk [true, true, false, true] rfl ?_
          exact jb42 a0 x1 x3 x2 hF
        · refine j_aload_n B dX13_carries_26 rfl ?_
          refine j_iload_n B dX13_carries_27 rfl ?_
          refine j_iconst (v := 4) B dX13_carries_28 (by decide) ?_
          obtain ⟨i29, e29, hF⟩ := bo hF
          refine j_rV (st2 := [.int i29, .int x2]) B [.int x3, .int 4] [.int x2] cv_X13_111 dX13_carries_29 hl hR (ct_X13_eIs G e29) rfl rfl rfl rfl ⟨rfl, trivial⟩ (Nat.le_of_ble_eq_true rfl) ?_
          refine j_iload_n B dX13_carries_32 rfl ?_
          refine j_icmp_ne (tgt := 42) B dX13_carries_33 (by decide) hF (fun h33 hF => ?_) (fun h33 hF => ?_)
          · refine j_msk [true, true, false, true] rfl ?_
            exact jb42 a0 x1 x3 x2 hF
          · refine j_iconst (v := 1) B dX13_carries_36 (by decide) ?_
            refine j_iload_n B dX13_carries_37 rfl ?_
            refine j_ishl B dX13_carries_38 ?_
            refine j_goto (tgt := 43) B dX13_carries_39 (by decide) ?_
            refine j_msk [true, true, false, true] rfl ?_
            exact jb43 a0 x1 x3 (1 <<< (x3 &&& 31)) x2 hF
  refine j_iconst (v := 0) B dX13_carries_0 (by decide) ?_
  refine j_istore_n (vs' := [some (va_rf a0), some (.int x1), some (.int 0), none]) B dX13_carries_1 (by decide) rfl ?_
  refine j_iconst (v := 0) B dX13_carries_2 (by decide) ?_
  refine j_istore_n (vs' := [some (va_rf a0), some (.int x1), some (.int 0), some (.int 0)]) B dX13_carries_3 (by decide) rfl ?_
  exact lp4 fu a0 x1 0 0 hF
def F_X13_has (x0 : Int32) (x1 : Int32) : Int32 :=
  if ¬ ((x0 >>> (x1 &&& 31)) &&& 1) = 1 then (0) else (1)
abbrev rm_X13_has : Room := { frames := 0, cells := 0, slots := 0, locals := 0 }
set_option maxHeartbeats 4000000 in
set_option maxRecDepth 100000 in
theorem ct_X13_has {l : Launch} {g : Gt} (G : Gok g) {x0 : Int32} {x1 : Int32} {w : cH} : Mx l yX13_has (ws_ yX13_has cX13_has 2 (some .boolean)) rm_X13_has g [.int x0, .int x1] w (.returned (some (.int (F_X13_has x0 x1)))) w 0 0 := by
  generalize hF : F_X13_has x0 x1 = r9
  unfold F_X13_has at hF
  refine mk_ct cX13_has 2 (some .boolean) "CarryFairModel" (plainFor_of_name (by decide)) rfl (lg_le ⟨rfl, rfl, trivial⟩ (Nat.le_of_ble_eq_true rfl)) (av_ok ⟨rfl, rfl, trivial⟩) G (fun x B hl hR hin hh => ?_)
  show J g x _ _ 0 0 w 0 0 0 [some (.int x0), some (.int x1)] []
  refine j_iload_n B dX13_has_0 rfl ?_
  refine j_iload_n B dX13_has_1 rfl ?_
  refine j_ishr B dX13_has_2 ?_
  refine j_iconst (v := 1) B dX13_has_3 (by decide) ?_
  refine j_iand B dX13_has_4 ?_
  refine j_iconst (v := 1) B dX13_has_5 (by decide) ?_
  refine j_icmp_ne (tgt := 13) B dX13_has_6 (by decide) hF (fun h6 hF => ?_) (fun h6 hF => ?_)
  · refine j_iconst (v := 0) B dX13_has_13 (by decide) ?_
    exact j_lZp B (by decide) rfl dX13_has_14 hF (by decide) (by decide)
  · refine j_iconst (v := 1) B dX13_has_9 (by decide) ?_
    refine j_goto (tgt := 14) B dX13_has_10 (by decide) ?_
    exact j_lZp B (by decide) rfl dX13_has_14 hF (by decide) (by decide)
theorem cs_X13_114 : CS "CarryFairModel" 114 yX13_has cX13_has 2 (some .boolean) 2 := ⟨Or.inl (lw_S q1486 q1487 q142 q1488), by decide +kernel⟩
def F_X13_weighs_J34 (rc4 : (Option Nat) → Int32 → Int32 → Int32 → cH → Option Int32) (a0 : Option Nat) (x1 : Int32) (x3 : Int32) (s0 : Int32) (s1 : Int32) (w : cH) : Option Int32 :=
  rc4 a0 x1 (s1 + s0) (x3 + 1) w
def F_X13_weighs_B4 (rc4 : Option Nat → Int32 → Int32 → Int32 → cH → Option Int32) (a0 : Option Nat) (x1 : Int32) (x2 : Int32) (x3 : Int32) (w : cH) : Option Int32 :=
  (fA w a0 13 0).bind fun a6p => (aI w a6p 100 43).bind fun i11 =>if i11 ≤ x3 then (some (x2)) else (if (F_X13_has x1 x3) = 0 then (F_X13_weighs_J34  rc4 a0 x1 x3 0 x2 w) else ((F_X13_eIs a0 x3 0 w).bind fun i27 => F_X13_weighs_J34  rc4 a0 x1 x3 i27 x2 w))
def F_X13_weighs_L4 : Nat → Option Nat → Int32 → Int32 → Int32 → cH → Option Int32
  | 0, _, _, _, _, _ => none
  | n9 + 1, a0, x1, x2, x3, w => F_X13_weighs_B4  (F_X13_weighs_L4  n9) a0 x1 x2 x3 w
def F_X13_weighs (a0 : Option Nat) (x1 : Int32) (w : cH) : Option Int32 :=
  if tg w a0 = some 13 then (F_X13_weighs_L4  fu a0 x1 0 0 w) else none
abbrev rm_X13_weighs : Room := { frames := 2, cells := 0, slots := 0, locals := 43 }
set_option maxHeartbeats 4000000 in
set_option maxRecDepth 100000 in
theorem ct_X13_weighs {l : Launch} {g : Gt} (G : Gok g) {a0 : Option Nat} {x1 : Int32} {w : cH} {r9 : Int32} (hF : F_X13_weighs a0 x1 w = some r9) : tg w a0 = some 13 ∧ Mx l yX13_weighs (ws_ yX13_weighs cX13_weighs 4 (some .int)) rm_X13_weighs g [va_rf a0, .int x1] w (.returned (some (.int r9))) w 0 0 := by
  unfold F_X13_weighs at hF
  obtain ⟨ht, hF⟩ := bg hF
  refine ⟨ht, mk_ct cX13_weighs 4 (some .int) "CarryFairModel" (plainFor_of_name (by decide)) rfl (lg_le ⟨cr _, rfl, trivial⟩ (Nat.le_of_ble_eq_true rfl)) (av_ok ⟨cr _, rfl, trivial⟩) G (fun x B hl hR hin hh => ?_)⟩
  show J g x _ _ 0 0 w 0 0 0 [some (va_rf a0), some (.int x1), none, none] []
  have lp4 : ∀ (n9 : Nat) (a0 : Option Nat) (x1 : Int32) (x2 : Int32) (x3 : Int32), F_X13_weighs_L4  n9 a0 x1 x2 x3 w = some r9 → J g x (.returned (some (.int r9))) w 0 0 w 0 0 4 [some (va_rf a0), some (.int x1), some (.int x2), some (.int x3)] [] := by
    intro n9
    induction n9 with
    | zero => intro a0 x1 x2 x3 hF; cases hF
    | succ n4 ih4 =>
      intro a0 x1 x2 x3 hF
      have hF : F_X13_weighs_B4  (F_X13_weighs_L4  n4) a0 x1 x2 x3 w = some r9 := hF
      unfold F_X13_weighs_B4 at hF
      have jb34 : ∀ (a0 : Option Nat) (x1 : Int32) (x3 : Int32) (s0 : Int32) (s1 : Int32), F_X13_weighs_J34  (F_X13_weighs_L4  n4) a0 x1 x3 s0 s1 w = some r9 → J g x (.returned (some (.int r9))) w 0 0 w 0 0 34 [some (va_rf a0), some (.int x1), none, some (.int x3)] [.int s0, .int s1] := by
        intro a0 x1 x3 s0 s1 hF
        unfold F_X13_weighs_J34 at hF
        refine j_iadd B dX13_weighs_34 ?_
        refine j_istore_n (vs' := [some (va_rf a0), some (.int x1), some (.int (s1 + s0)), some (.int x3)]) B dX13_weighs_35 (by decide) rfl ?_
        refine j_iinc (v := x3 + 1) (vs' := [some (va_rf a0), some (.int x1), some (.int (s1 + s0)), some (.int (x3 + 1))]) B dX13_weighs_36 (by decide) rfl rfl rfl ?_
        refine j_goto (tgt := 4) B dX13_weighs_39 (by decide) ?_
        exact ih4 a0 x1 (s1 + s0) (x3 + 1) hF
      refine j_iload_n B dX13_weighs_4 rfl ?_
      refine j_aload_n B dX13_weighs_5 rfl ?_
      refine j_getA B fl_X13_9 dX13_weighs_6 hF (fun a6p hF => ?_)
      refine j_bipush (v := 43) B dX13_weighs_9 (by decide) ?_
      refine j_iaload B dX13_weighs_11 hF (fun i11 hF => ?_)
      refine j_icmp_ge (tgt := 42) B dX13_weighs_12 (by decide) hF (fun h12 hF => ?_) (fun h12 hF => ?_)
      · refine j_iload_n B dX13_weighs_42 rfl ?_
        exact j_lI B rfl dX13_weighs_43 hF (by decide) (by decide)
      · refine j_iload_n B dX13_weighs_15 rfl ?_
        refine j_iload_n B dX13_weighs_16 rfl ?_
        refine j_iload_n B dX13_weighs_17 rfl ?_
        refine j_rS (st2 := [.int (F_X13_has x1 x3), .int x2]) B [.int x1, .int x3] [.int x2] cs_X13_114 dX13_weighs_18 hl hR (ct_X13_has G) rfl rfl rfl rfl ⟨rfl, trivial⟩ (Nat.le_of_ble_eq_true rfl) ?_
        refine j_if_eq (tgt := 33) B dX13_weighs_21 (by decide) hF (fun h21 hF => ?_) (fun h21 hF => ?_)
        · refine j_iconst (v := 0) B dX13_weighs_33 (by decide) ?_
          refine j_msk [true, true, false, true] rfl ?_
          exact jb34 a0 x1 x3 0 x2 hF
        · refine j_aload_n B dX13_weighs_24 rfl ?_
          refine j_iload_n B dX13_weighs_25 rfl ?_
          refine j_iconst (v := 0) B dX13_weighs_26 (by decide) ?_
          obtain ⟨i27, e27, hF⟩ := bo hF
          refine j_rV (st2 := [.int i27, .int x2]) B [.int x3, .int 0] [.int x2] cv_X13_111 dX13_weighs_27 hl hR (ct_X13_eIs G e27) rfl rfl rfl rfl ⟨rfl, trivial⟩ (Nat.le_of_ble_eq_true rfl) ?_
          refine j_goto (tgt := 34) B dX13_weighs_30 (by decide) ?_
          refine j_msk [true, true, false, true] rfl ?_
          exact jb34 a0 x1 x3 i27 x2 hF
  refine j_iconst (v := 0) B dX13_weighs_0 (by decide) ?_
  refine j_istore_n (vs' := [some (va_rf a0), some (.int x1), some (.int 0), none]) B dX13_weighs_1 (by decide) rfl ?_
  refine j_iconst (v := 0) B dX13_weighs_2 (by decide) ?_
  refine j_istore_n (vs' := [some (va_rf a0), some (.int x1), some (.int 0), some (.int 0)]) B dX13_weighs_3 (by decide) rfl ?_
  exact lp4 fu a0 x1 0 0 hF
