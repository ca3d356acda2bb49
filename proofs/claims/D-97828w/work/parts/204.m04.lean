def F_X0_roundWith (a0 : Option Nat) (x1 : Int32) (x2 : Int32) (x3 : Int32) (x4 : Int32) (w : cH) : Option (Int32 × cH) :=
  if tg w a0 = some 0 then ((fA w a0 0 3).bind fun a1p => (fA w a1p 4 1).bind fun a4p => (aA w a4p 103 x2).bind fun a8p => (aI w a8p 100 x1).bind fun i10 => (fA w a0 0 3).bind fun a14p => (fA w a14p 4 1).bind fun a17p => (aA w a17p 103 x2).bind fun a21p => (aS w a21p 100 x1 (.int x3)).bind fun w24 => cb (F_X0_roundOf a0 x1 x4 w24) fun i29 w29 => (fA w29 a0 0 3).bind fun a35p => (fA w29 a35p 4 1).bind fun a38p => (aA w29 a38p 103 x2).bind fun a42p => (aS w29 a42p 100 x1 (.int i10)).bind fun w46 => some (i29, w46)) else none
abbrev rm_X0_roundWith : Room := { frames := 6, cells := 0, slots := 0, locals := 142 }
abbrev hh_X0_roundWith : List (Nat × Nat × Nat × Nat) := [(25, 34, 50, 0), (50, 52, 50, 0)]
set_option maxHeartbeats 4000000 in
set_option maxRecDepth 100000 in
theorem ct_X0_roundWith {l : Launch} {g : Gt} (G : Gok g) {a0 : Option Nat} {x1 : Int32} {x2 : Int32} {x3 : Int32} {x4 : Int32} {w : cH} {r9 : Int32} {w9 : cH} (hF : F_X0_roundWith a0 x1 x2 x3 x4 w = some (r9, w9)) : tg w a0 = some 0 ∧ Mx l yX0_roundWith (wsW_ yX0_roundWith cX0_roundWith 8 (some .int) hh_X0_roundWith) rm_X0_roundWith g [va_rf a0, .int x1, .int x2, .int x3, .int x4] w (.returned (some (.int r9))) w9 0 0 := by
  unfold F_X0_roundWith at hF
  obtain ⟨ht, hF⟩ := bg hF
  refine ⟨ht, mk_ctW cX0_roundWith 8 (some .int) hh_X0_roundWith "CarryFair" (plainFor_of_name (by decide)) rfl (lg_le ⟨cr _, rfl, rfl, rfl, rfl, trivial⟩ (Nat.le_of_ble_eq_true rfl)) (av_ok ⟨cr _, rfl, rfl, rfl, rfl, trivial⟩) G (fun x B hl hR hin hh => ?_)⟩
  show J g x _ _ 0 0 w 0 0 0 [some (va_rf a0), some (.int x1), some (.int x2), some (.int x3), some (.int x4), none, none, none] []
  refine j_aload_n B dX0_roundWith_0 rfl ?_
  refine j_getA B fl_X0_61 dX0_roundWith_1 hF (fun a1p hF => ?_)
  refine j_getA B fl_X0_113 dX0_roundWith_4 hF (fun a4p hF => ?_)
  refine j_iload_n B dX0_roundWith_7 rfl ?_
  refine j_aaload B 103 rfl rfl dX0_roundWith_8 hF (fun a8p hF => ?_)
  refine j_iload_n B dX0_roundWith_9 rfl ?_
  refine j_iaload B dX0_roundWith_10 hF (fun i10 hF => ?_)
  refine j_istore (vs' := [some (va_rf a0), some (.int x1), some (.int x2), some (.int x3), some (.int x4), some (.int i10), none, none]) B dX0_roundWith_11 (by decide) rfl ?_
  refine j_aload_n B dX0_roundWith_13 rfl ?_
  refine j_getA B fl_X0_61 dX0_roundWith_14 hF (fun a14p hF => ?_)
  refine j_getA B fl_X0_113 dX0_roundWith_17 hF (fun a17p hF => ?_)
  refine j_iload_n B dX0_roundWith_20 rfl ?_
  refine j_aaload B 103 rfl rfl dX0_roundWith_21 hF (fun a21p hF => ?_)
  refine j_iload_n B dX0_roundWith_22 rfl ?_
  refine j_iload_n B dX0_roundWith_23 rfl ?_
  refine j_iastore B dX0_roundWith_24 hF (fun w24 hF => ?_)
  refine j_aload_n B dX0_roundWith_25 rfl ?_
  refine j_iload_n B dX0_roundWith_26 rfl ?_
  refine j_iload B dX0_roundWith_27 rfl ?_
  obtain ⟨i29, w29, e29, hF⟩ := bc hF
  refine j_rV (st2 := [.int i29]) B [.int x1, .int x4] [] cv_X0_312 dX0_roundWith_29 hl hR (ct_X0_roundOf G e29) rfl rfl rfl rfl trivial (Nat.le_of_ble_eq_true rfl) ?_
  refine j_istore (vs' := [some (va_rf a0), some (.int x1), some (.int x2), some (.int x3), some (.int x4), some (.int i10), some (.int i29), none]) B dX0_roundWith_32 (by decide) rfl ?_
  refine j_aload_n B dX0_roundWith_34 rfl ?_
  refine j_getA B fl_X0_61 dX0_roundWith_35 hF (fun a35p hF => ?_)
  refine j_getA B fl_X0_113 dX0_roundWith_38 hF (fun a38p hF => ?_)
  refine j_iload_n B dX0_roundWith_41 rfl ?_
  refine j_aaload B 103 rfl rfl dX0_roundWith_42 hF (fun a42p hF => ?_)
  refine j_iload_n B dX0_roundWith_43 rfl ?_
  refine j_iload B dX0_roundWith_44 rfl ?_
  refine j_iastore B dX0_roundWith_46 hF (fun w46 hF => ?_)
  refine j_iload B dX0_roundWith_47 rfl ?_
  exact j_lIw B rfl dX0_roundWith_49 hF (by decide) (by decide)
theorem cx_X0_342 : CX "CarryFair" 342 0 yX0_roundWith (wsW_ yX0_roundWith cX0_roundWith 8 (some .int) hh_X0_roundWith) 8 4 := ⟨⟨_, _, rfl⟩, q962, q964, qs38, q126, wsOk_codeW q965, by decide +kernel, by decide +kernel⟩
def F_X0_strength_J47 (a0 : Option Nat) (x4 : Int32) (w : cH) : Option (Int32 × cH) :=
  if 99 < x4 then (cb (F_X0_finding a0 3 w) fun i61 w61 => some (i61, w61)) else (some (x4, w))
def F_X0_strength_B21 (rc21 : Option Nat → Int32 → Int32 → Int32 → cH → Option (Int32 × cH)) (a0 : Option Nat) (x1 : Int32) (x2 : Int32) (x4 : Int32) (w : cH) : Option (Int32 × cH) :=
  if 99 < x4 then (F_X0_strength_J47  a0 x4 w) else (cb (F_X0_roundWith a0 x1 2 x4 x2 w) fun i34 w34 =>if ¬ i34 = (-1) then (F_X0_strength_J47  a0 x4 w34) else (rc21 a0 x1 x2 (x4 + 1) w34))
def F_X0_strength_L21 : Nat → Option Nat → Int32 → Int32 → Int32 → cH → Option (Int32 × cH)
  | 0, _, _, _, _, _ => none
  | n9 + 1, a0, x1, x2, x4, w => F_X0_strength_B21  (F_X0_strength_L21  n9) a0 x1 x2 x4 w
def F_X0_strength (a0 : Option Nat) (x1 : Int32) (x2 : Int32) (w : cH) : Option (Int32 × cH) :=
  if tg w a0 = some 0 then ((F_X0_whyNot a0 x1 x2 w).bind fun i3 =>if i3 = (-1) then (F_X0_strength_L21  fu a0 x1 x2 1 w) else (cb (F_X0_finding a0 i3 w) fun i14 w14 => some (i14, w14))) else none
abbrev rm_X0_strength : Room := { frames := 7, cells := 0, slots := 0, locals := 169 }
set_option maxHeartbeats 4000000 in
set_option maxRecDepth 100000 in
theorem ct_X0_strength {l : Launch} {g : Gt} (G : Gok g) {a0 : Option Nat} {x1 : Int32} {x2 : Int32} {w : cH} {r9 : Int32} {w9 : cH} (hF : F_X0_strength a0 x1 x2 w = some (r9, w9)) : tg w a0 = some 0 ∧ Mx l yX0_strength (ws_ yX0_strength cX0_strength 5 (some .int)) rm_X0_strength g [va_rf a0, .int x1, .int x2] w (.returned (some (.int r9))) w9 0 0 := by
  unfold F_X0_strength at hF
  obtain ⟨ht, hF⟩ := bg hF
  refine ⟨ht, mk_ct cX0_strength 5 (some .int) "CarryFair" (plainFor_of_name (by decide)) rfl (lg_le ⟨cr _, rfl, rfl, trivial⟩ (Nat.le_of_ble_eq_true rfl)) (av_ok ⟨cr _, rfl, rfl, trivial⟩) G (fun x B hl hR hin hh => ?_)⟩
  show J g x _ _ 0 0 w 0 0 0 [some (va_rf a0), some (.int x1), some (.int x2), none, none] []
  have jb47 : ∀ (a0 : Option Nat) (x4 : Int32) (w : cH), F_X0_strength_J47  a0 x4 w = some (r9, w9) → J g x (.returned (some (.int r9))) w9 0 0 w 0 0 47 [some (va_rf a0), none, none, none, some (.int x4)] [] := by
    intro a0 x4 w hF
    unfold F_X0_strength_J47 at hF
    refine j_iload B dX0_strength_47 rfl ?_
    refine j_bipush (v := 99) B dX0_strength_49 (by decide) ?_
    refine j_icmp_gt (tgt := 59) B dX0_strength_51 (by decide) hF (fun h51 hF => ?_) (fun h51 hF => ?_)
    · refine j_aload_n B dX0_strength_59 rfl ?_
      refine j_iconst (v := 3) B dX0_strength_60 (by decide) ?_
      obtain ⟨i61, w61, e61, hF⟩ := bc hF
      refine j_rV (st2 := [.int i61]) B [.int 3] [] cv_X0_142 dX0_strength_61 hl hR (ct_X0_finding G e61) rfl rfl rfl rfl trivial (Nat.le_of_ble_eq_true rfl) ?_
      exact j_lIw B rfl dX0_strength_64 hF (by decide) (by decide)
    · refine j_iload B dX0_strength_54 rfl ?_
      refine j_goto (tgt := 64) B dX0_strength_56 (by decide) ?_
      exact j_lIw B rfl dX0_strength_64 hF (by decide) (by decide)
  have lp21 : ∀ (n9 : Nat) (a0 : Option Nat) (x1 : Int32) (x2 : Int32) (x4 : Int32) (w : cH), F_X0_strength_L21  n9 a0 x1 x2 x4 w = some (r9, w9) → J g x (.returned (some (.int r9))) w9 0 0 w 0 0 21 [some (va_rf a0), some (.int x1), some (.int x2), none, some (.int x4)] [] := by
    intro n9
    induction n9 with
    | zero => intro a0 x1 x2 x4 w hF; cases hF
    | succ n21 ih21 =>
      intro a0 x1 x2 x4 w hF
      have hF : F_X0_strength_B21  (F_X0_strength_L21  n21) a0 x1 x2 x4 w = some (r9, w9) := hF
      unfold F_X0_strength_B21 at hF
      refine j_iload B dX0_strength_21 rfl ?_
      refine j_bipush (v := 99) B dX0_strength_23 (by decide) ?_
      refine j_icmp_gt (tgt := 47) B dX0_strength_25 (by decide) hF (fun h25 hF => ?_) (fun h25 hF => ?_)
      · refine j_msk [true, false, false, false, true] rfl ?_
        exact jb47 a0 x4 w hF
      · refine j_aload_n B dX0_strength_28 rfl ?_
        refine j_iload_n B dX0_strength_29 rfl ?_
        refine j_iconst (v := 2) B dX0_strength_30 (by decide) ?_
        refine j_iload B dX0_strength_31 rfl ?_
        refine j_iload_n B dX0_strength_33 rfl ?_
        obtain ⟨i34, w34, e34, hF⟩ := bc hF
        refine j_rVX (st2 := [.int i34]) B [.int x1, .int 2, .int x4, .int x2] [] cx_X0_342 dX0_strength_34 hl hR (ct_X0_roundWith G e34) rfl rfl rfl rfl trivial (Nat.le_of_ble_eq_true rfl) ?_
        refine j_iconst (v := (-1)) B dX0_strength_37 (by decide) ?_
        refine j_icmp_ne (tgt := 47) B dX0_strength_38 (by decide) hF (fun h38 hF => ?_) (fun h38 hF => ?_)
        · refine j_msk [true, false, false, false, true] rfl ?_
          exact jb47 a0 x4 w34 hF
        · refine j_iinc (v := x4 + 1) (vs' := [some (va_rf a0), some (.int x1), some (.int x2), none, some (.int (x4 + 1))]) B dX0_strength_41 (by decide) rfl rfl rfl ?_
          refine j_goto (tgt := 21) B dX0_strength_44 (by decide) ?_
          exact ih21 a0 x1 x2 (x4 + 1) w34 hF
  refine j_aload_n B dX0_strength_0 rfl ?_
  refine j_iload_n B dX0_strength_1 rfl ?_
  refine j_iload_n B dX0_strength_2 rfl ?_
  obtain ⟨i3, e3, hF⟩ := bo hF
  refine j_rV (st2 := [.int i3]) B [.int x1, .int x2] [] cv_X0_309 dX0_strength_3 hl hR (ct_X0_whyNot G e3) rfl rfl rfl rfl trivial (Nat.le_of_ble_eq_true rfl) ?_
  refine j_istore_n (vs' := [some (va_rf a0), some (.int x1), some (.int x2), some (.int i3), none]) B dX0_strength_6 (by decide) rfl ?_
  refine j_iload_n B dX0_strength_7 rfl ?_
  refine j_iconst (v := (-1)) B dX0_strength_8 (by decide) ?_
  refine j_icmp_eq (tgt := 18) B dX0_strength_9 (by decide) hF (fun h9 hF => ?_) (fun h9 hF => ?_)
  · refine j_iconst (v := 1) B dX0_strength_18 (by decide) ?_
    refine j_istore (vs' := [some (va_rf a0), some (.int x1), some (.int x2), some (.int i3), some (.int 1)]) B dX0_strength_19 (by decide) rfl ?_
    refine j_msk [true, true, true, false, true] rfl ?_
    exact lp21 fu a0 x1 x2 1 w hF
  · refine j_aload_n B dX0_strength_12 rfl ?_
    refine j_iload_n B dX0_strength_13 rfl ?_
    obtain ⟨i14, w14, e14, hF⟩ := bc hF
    refine j_rV (st2 := [.int i14]) B [.int i3] [] cv_X0_142 dX0_strength_14 hl hR (ct_X0_finding G e14) rfl rfl rfl rfl trivial (Nat.le_of_ble_eq_true rfl) ?_
    exact j_lIw B rfl dX0_strength_17 hF (by decide) (by decide)
def F_X0_kindFor_J92 (rc28 : (Option Nat) → Int32 → Int32 → Int32 → Int32 → Int32 → cH → Option (Int32 × cH)) (a0 : Option Nat) (x1 : Int32) (x2 : Int32) (x4 : Int32) (x6 : Int32) (s0 : Int32) (w : cH) : Option (Int32 × cH) :=
  rc28 a0 x1 x2 x4 s0 (x6 + 1) w
def F_X0_kindFor_J78 (rc28 : (Option Nat) → Int32 → Int32 → Int32 → Int32 → Int32 → cH → Option (Int32 × cH)) (a0 : Option Nat) (x1 : Int32) (x2 : Int32) (x5 : Int32) (x6 : Int32) (x7 : Int32) (x8 : Int32) (s0 : Int32) (w : cH) : Option (Int32 × cH) :=
  if x8 = 0 then (F_X0_kindFor_J92  rc28 a0 x1 x2 s0 x6 x5 w) else (F_X0_kindFor_J92  rc28 a0 x1 x2 s0 x6 x7 w)
def F_X0_kindFor_J64 (rc28 : (Option Nat) → Int32 → Int32 → Int32 → Int32 → Int32 → cH → Option (Int32 × cH)) (a0 : Option Nat) (x1 : Int32) (x2 : Int32) (x4 : Int32) (x5 : Int32) (x6 : Int32) (x7 : Int32) (s0 : Int32) (w : cH) : Option (Int32 × cH) :=
  if s0 = 0 then (F_X0_kindFor_J78  rc28 a0 x1 x2 x5 x6 x7 s0 x4 w) else (F_X0_kindFor_J78  rc28 a0 x1 x2 x5 x6 x7 s0 x6 w)
def F_X0_kindFor_J63 (rc28 : (Option Nat) → Int32 → Int32 → Int32 → Int32 → Int32 → cH → Option (Int32 × cH)) (a0 : Option Nat) (x1 : Int32) (x2 : Int32) (x4 : Int32) (x5 : Int32) (x6 : Int32) (x7 : Int32) (w : cH) : Option (Int32 × cH) :=
  F_X0_kindFor_J64  rc28 a0 x1 x2 x4 x5 x6 x7 0 w
def F_X0_kindFor_B28 (rc28 : Option Nat → Int32 → Int32 → Int32 → Int32 → Int32 → cH → Option (Int32 × cH)) (a0 : Option Nat) (x1 : Int32) (x2 : Int32) (x4 : Int32) (x5 : Int32) (x6 : Int32) (w : cH) : Option (Int32 × cH) :=
  if 7 ≤ x6 then (cb (F_X0_orNone a0 x4 w) fun i103 w103 => some (i103, w103)) else (cb (F_X0_roundWith a0 x1 0 x6 x2 w) fun i41 w41 =>if i41 = (-1) then (F_X0_kindFor_J63  rc28 a0 x1 x2 x4 x5 x6 i41 w41) else (if x5 ≤ i41 then (F_X0_kindFor_J63  rc28 a0 x1 x2 x4 x5 x6 i41 w41) else (F_X0_kindFor_J64  rc28 a0 x1 x2 x4 x5 x6 i41 1 w41)))
def F_X0_kindFor_L28 : Nat → Option Nat → Int32 → Int32 → Int32 → Int32 → Int32 → cH → Option (Int32 × cH)
  | 0, _, _, _, _, _, _, _ => none
  | n9 + 1, a0, x1, x2, x4, x5, x6, w => F_X0_kindFor_B28  (F_X0_kindFor_L28  n9) a0 x1 x2 x4 x5 x6 w
def F_X0_kindFor (a0 : Option Nat) (x1 : Int32) (x2 : Int32) (w : cH) : Option (Int32 × cH) :=
  if tg w a0 = some 0 then ((F_X0_whyNot a0 x1 x2 w).bind fun i3 =>if i3 = (-1) then (F_X0_kindFor_L28  fu a0 x1 x2 (-1) 1000000 0 w) else (cb (F_X0_finding a0 i3 w) fun i14 w14 => some (i14, w14))) else none
abbrev rm_X0_kindFor : Room := { frames := 7, cells := 0, slots := 0, locals := 169 }
set_option maxHeartbeats 4000000 in
set_option maxRecDepth 100000 in
theorem ct_X0_kindFor {l : Launch} {g : Gt} (G : Gok g) {a0 : Option Nat} {x1 : Int32} {x2 : Int32} {w : cH} {r9 : Int32} {w9 : cH} (hF : F_X0_kindFor a0 x1 x2 w = some (r9, w9)) : tg w a0 = some 0 ∧ Mx l yX0_kindFor (ws_ yX0_kindFor cX0_kindFor 9 (some .int)) rm_X0_kindFor g [va_rf a0, .int x1, .int x2] w (.returned (some (.int r9))) w9 0 0 := by
  unfold F_X0_kindFor at hF
  obtain ⟨ht, hF⟩ := bg hF
  refine ⟨ht, mk_ct cX0_kindFor 9 (some .int) "CarryFair" (plainFor_of_name (by decide)) rfl (lg_le ⟨cr _, rfl, rfl, trivial⟩ (Nat.le_of_ble_eq_true rfl)) (av_ok ⟨cr _, rfl, rfl, trivial⟩) G (fun x B hl hR hin hh => ?_)⟩
  show J g x _ _ 0 0 w 0 0 0 [some (va_rf a0), some (.int x1), some (.int x2), none, none, none, none, none, none] []
  have lp28 : ∀ (n9 : Nat) (a0 : Option Nat) (x1 : Int32) (x2 : Int32) (x4 : Int32) (x5 : Int32) (x6 : Int32) (w : cH), F_X0_kindFor_L28  n9 a0 x1 x2 x4 x5 x6 w = some (r9, w9) → J g x (.returned (some (.int r9))) w9 0 0 w 0 0 28 [some (va_rf a0), some (.int x1), some (.int x2), none, some (.int x4), some (.int x5), some (.int x6), none, none] [] := by
    intro n9
    induction n9 with
    | zero => intro a0 x1 x2 x4 x5 x6 w hF; cases hF
    | succ n28 ih28 =>
      intro a0 x1 x2 x4 x5 x6 w hF
      have hF : F_X0_kindFor_B28  (F_X0_kindFor_L28  n28) a0 x1 x2 x4 x5 x6 w = some (r9, w9) := hF
      unfold F_X0_kindFor_B28 at hF
      have jb92 : ∀ (a0 : Option Nat) (x1 : Int32) (x2 : Int32) (x4 : Int32) (x6 : Int32) (s0 : Int32) (w : cH), F_X0_kindFor_J92  (F_X0_kindFor_L28  n28) a0 x1 x2 x4 x6 s0 w = some (r9, w9) → J g x (.returned (some (.int r9))) w9 0 0 w 0 0 92 [some (va_rf a0), some (.int x1), some (.int x2), none, some (.int x4), none, some (.int x6), none, none] [.int s0] := by
        intro a0 x1 x2 x4 x6 s0 w hF
        unfold F_X0_kindFor_J92 at hF
        refine j_istore (vs' := [some (va_rf a0), some (.int x1), some (.int x2), none, some (.int x4), some (.int s0), some (.int x6), none, none]) B dX0_kindFor_92 (by decide) rfl ?_
        refine j_iinc (v := x6 + 1) (vs' := [some (va_rf a0), some (.int x1), some (.int x2), none, some (.int x4), some (.int s0), some (.int (x6 + 1)), none, none]) B dX0_kindFor_94 (by decide) rfl rfl rfl ?_
        refine j_goto (tgt := 28) B dX0_kindFor_97 (by decide) ?_
        exact ih28 a0 x1 x2 x4 s0 (x6 + 1) w hF
      have jb78 : ∀ (a0 : Option Nat) (x1 : Int32) (x2 : Int32) (x5 : Int32) (x6 : Int32) (x7 : Int32) (x8 : Int32) (s0 : Int32) (w : cH), F_X0_kindFor_J78  (F_X0_kindFor_L28  n28) a0 x1 x2 x5 x6 x7 x8 s0 w = some (r9, w9) → J g x (.returned (some (.int r9))) w9 0 0 w 0 0 78 [some (va_rf a0), some (.int x1), some (.int x2), none, none, some (.int x5), some (.int x6), some (.int x7), some (.int x8)] [.int s0] := by
        intro a0 x1 x2 x5 x6 x7 x8 s0 w hF
        unfold F_X0_kindFor_J78 at hF
        refine j_istore (vs' := [some (va_rf a0), some (.int x1), some (.int x2), none, some (.int s0), some (.int x5), some (.int x6), some (.int x7), some (.int x8)]) B dX0_kindFor_78 (by decide) rfl ?_
        refine j_iload B dX0_kindFor_80 rfl ?_
        refine j_if_eq (tgt := 90) B dX0_kindFor_82 (by decide) hF (fun h82 hF => ?_) (fun h82 hF => ?_)
        · refine j_iload B dX0_kindFor_90 rfl ?_
          refine j_msk [true, true, true, false, true, false, true, false, false] rfl ?_
          exact jb92 a0 x1 x2 s0 x6 x5 w hF
        · refine j_iload B dX0_kindFor_85 rfl ?_
          refine j_goto (tgt := 92) B dX0_kindFor_87 (by decide) ?_
          refine j_msk [true, true, true, false, true, false, true, false, false] rfl ?_
          exact jb92 a0 x1 x2 s0 x6 x7 w hF
      have jb64 : ∀ (a0 : Option Nat) (x1 : Int32) (x2 : Int32) (x4 : Int32) (x5 : Int32) (x6 : Int32) (x7 : Int32) (s0 : Int32) (w : cH), F_X0_kindFor_J64  (F_X0_kindFor_L28  n28) a0 x1 x2 x4 x5 x6 x7 s0 w = some (r9, w9) → J g x (.returned (some (.int r9))) w9 0 0 w 0 0 64 [some (va_rf a0), some (.int x1), some (.int x2), none, some (.int x4), some (.int x5), some (.int x6), some (.int x7), none] [.int s0] := by
        intro a0 x1 x2 x4 x5 x6 x7 s0 w hF
        unfold F_X0_kindFor_J64 at hF
        refine j_istore (vs' := [some (va_rf a0), some (.int x1), some (.int x2), none, some (.int x4), some (.int x5), some (.int x6), some (.int x7), some (.int s0)]) B dX0_kindFor_64 (by decide) rfl ?_
        refine j_iload B dX0_kindFor_66 rfl ?_
        refine j_if_eq (tgt := 76) B dX0_kindFor_68 (by decide) hF (fun h68 hF => ?_) (fun h68 hF => ?_)
        · refine j_iload B dX0_kindFor_76 rfl ?_
          refine j_msk [true, true, true, false, false, true, true, true, true] rfl ?_
          exact jb78 a0 x1 x2 x5 x6 x7 s0 x4 w hF
        · refine j_iload B dX0_kindFor_71 rfl ?_
          refine j_goto (tgt := 78) B dX0_kindFor_73 (by decide) ?_
          refine j_msk [true, true, true, false, false, true, true, true, true] rfl ?_
          exact jb78 a0 x1 x2 x5 x6 x7 s0 x6 w hF
      have jb63 : ∀ (a0 : Option Nat) (x1 : Int32) (x2 : Int32) (x4 : Int32) (x5 : Int32) (x6 : Int32) (x7 : Int32) (w : cH), F_X0_kindFor_J63  (F_X0_kindFor_L28  n28) a0 x1 x2 x4 x5 x6 x7 w = some (r9, w9) → J g x (.returned (some (.int r9))) w9 0 0 w 0 0 63 [some (va_rf a0), some (.int x1), some (.int x2), none, some (.int x4), some (.int x5), some (.int x6), some (.int x7), none] [] := by
        intro a0 x1 x2 x4 x5 x6 x7 w hF
        unfold F_X0_kindFor_J63 at hF
        refine j_iconst (v := 0) B dX0_kindFor_63 (by decide) ?_
        exact jb64 a0 x1 x2 x4 x5 x6 x7 0 w hF
      refine j_iload B dX0_kindFor_28 rfl ?_
      refine j_bipush (v := 7) B dX0_kindFor_30 (by decide) ?_
      refine j_icmp_ge (tgt := 100) B dX0_kindFor_32 (by decide) hF (fun h32 hF => ?_) (fun h32 hF => ?_)
      · refine j_aload_n B dX0_kindFor_100 rfl ?_
        refine j_iload B dX0_kindFor_101 rfl ?_
        obtain ⟨i103, w103, e103, hF⟩ := bc hF
        refine j_rV (st2 := [.int i103]) B [.int x4] [] cv_X0_223 dX0_kindFor_103 hl hR (ct_X0_orNone G e103) rfl rfl rfl rfl trivial (Nat.le_of_ble_eq_true rfl) ?_
        exact j_lIw B rfl dX0_kindFor_106 hF (by decide) (by decide)
      · refine j_aload_n B dX0_kindFor_35 rfl ?_
        refine j_iload_n B dX0_kindFor_36 rfl ?_
        refine j_iconst (v := 0) B dX0_kindFor_37 (by decide) ?_
        refine j_iload B dX0_kindFor_38 rfl ?_
        refine j_iload_n B dX0_kindFor_40 rfl ?_
        obtain ⟨i41, w41, e41, hF⟩ := bc hF
        refine j_rVX (st2 := [.int i41]) B [.int x1, .int 0, .int x6, .int x2] [] cx_X0_342 dX0_kindFor_41 hl hR (ct_X0_roundWith G e41) rfl rfl rfl rfl trivial (Nat.le_of_ble_eq_true rfl) ?_
        refine j_istore (vs' := [some (va_rf a0), some (.int x1), some (.int x2), none, some (.int x4), some (.int x5), some (.int x6), some (.int i41), none]) B dX0_kindFor_44 (by decide) rfl ?_
        refine j_iload B dX0_kindFor_46 rfl ?_
        refine j_iconst (v := (-1)) B dX0_kindFor_48 (by decide) ?_
        refine j_icmp_eq (tgt := 63) B dX0_kindFor_49 (by decide) hF (fun h49 hF => ?_) (fun h49 hF => ?_)
        · exact jb63 a0 x1 x2 x4 x5 x6 i41 w41 hF
        · refine j_iload B dX0_kindFor_52 rfl ?_
          refine j_iload B dX0_kindFor_54 rfl ?_
          refine j_icmp_ge (tgt := 63) B dX0_kindFor_56 (by decide) hF (fun h56 hF => ?_) (fun h56 hF => ?_)
          · exact jb63 a0 x1 x2 x4 x5 x6 i41 w41 hF
          · refine j_iconst (v := 1) B dX0_kindFor_59 (by decide) ?_
            refine j_goto (tgt := 64) B dX0_kindFor_60 (by decide) ?_
            exact jb64 a0 x1 x2 x4 x5 x6 i41 1 w41 hF
  refine j_aload_n B dX0_kindFor_0 rfl ?_
  refine j_iload_n B dX0_kindFor_1 rfl ?_
  refine j_iload_n B dX0_kindFor_2 rfl ?_
  obtain ⟨i3, e3, hF⟩ := bo hF
  refine j_rV (st2 := [.int i3]) B [.int x1, .int x2] [] cv_X0_309 dX0_kindFor_3 hl hR (ct_X0_whyNot G e3) rfl rfl rfl rfl trivial (Nat.le_of_ble_eq_true rfl) ?_
  refine j_istore_n (vs' := [some (va_rf a0), some (.int x1), some (.int x2), some (.int i3), none, none, none, none, none]) B dX0_kindFor_6 (by decide) rfl ?_
  refine j_iload_n B dX0_kindFor_7 rfl ?_
  refine j_iconst (v := (-1)) B dX0_kindFor_8 (by decide) ?_
  refine j_icmp_eq (tgt := 18) B dX0_kindFor_9 (by decide) hF (fun h9 hF => ?_) (fun h9 hF => ?_)
  · refine j_iconst (v := (-1)) B dX0_kindFor_18 (by decide) ?_
    refine j_istore (vs' := [some (va_rf a0), some (.int x1), some (.int x2), some (.int i3), some (.int (-1)), none, none, none, none]) B dX0_kindFor_19 (by decide) rfl ?_
    refine j_ldc (v := 1000000) B q671 dX0_kindFor_21 ?_
    refine j_istore (vs' := [some (va_rf a0), some (.int x1), some (.int x2), some (.int i3), some (.int (-1)), some (.int 1000000), none, none, none]) B dX0_kindFor_23 (by decide) rfl ?_
    refine j_iconst (v := 0) B dX0_kindFor_25 (by decide) ?_
    refine j_istore (vs' := [some (va_rf a0), some (.int x1), some (.int x2), some (.int i3), some (.int (-1)), some (.int 1000000), some (.int 0), none, none]) B dX0_kindFor_26 (by decide) rfl ?_
    refine j_msk [true, true, true, false, true, true, true, false, false] rfl ?_
    exact lp28 fu a0 x1 x2 (-1) 1000000 0 w hF
  · refine j_aload_n B dX0_kindFor_12 rfl ?_
    refine j_iload_n B dX0_kindFor_13 rfl ?_
    obtain ⟨i14, w14, e14, hF⟩ := bc hF
    refine j_rV (st2 := [.int i14]) B [.int i3] [] cv_X0_142 dX0_kindFor_14 hl hR (ct_X0_finding G e14) rfl rfl rfl rfl trivial (Nat.le_of_ble_eq_true rfl) ?_
    exact j_lIw B rfl dX0_kindFor_17 hF (by decide) (by decide)
def F_X0_roundBridged (a0 : Option Nat) (x1 : Int32) (x2 : Int32) (x3 : Int32) (x4 : Int32) (w : cH) : Option (Int32 × cH) :=
  if tg w a0 = some 0 then ((fA w a0 0 3).bind fun a1p => (fA w a0 0 3).bind fun a8p => (fA w a8p 4 6).bind fun a11p => (aA w a11p 103 x3).bind fun a15p => (aI w a15p 100 x4).bind fun i18 => (F_X4_lays a1p x3 x4 i18 0 w).bind fun w20 => cb (F_X0_roundOf a0 x1 x2 w20) fun i26 w26 => (fA w26 a0 0 3).bind fun a32p => (fA w26 a0 0 3).bind fun a39p => (fA w26 a39p 4 6).bind fun a42p => (aA w26 a42p 103 x3).bind fun a46p => (aI w26 a46p 100 x4).bind fun i49 => (F_X4_lays a32p x3 x4 i49 1 w26).bind fun w51 => some (i26, w51)) else none
abbrev rm_X0_roundBridged : Room := { frames := 6, cells := 0, slots := 0, locals := 142 }
abbrev hh_X0_roundBridged : List (Nat × Nat × Nat × Nat) := [(23, 31, 57, 0), (57, 59, 57, 0)]
set_option maxHeartbeats 4000000 in
set_option maxRecDepth 100000 in
theorem ct_X0_roundBridged {l : Launch} {g : Gt} (G : Gok g) {a0 : Option Nat} {x1 : Int32} {x2 : Int32} {x3 : Int32} {x4 : Int32} {w : cH} {r9 : Int32} {w9 : cH} (hF : F_X0_roundBridged a0 x1 x2 x3 x4 w = some (r9, w9)) : tg w a0 = some 0 ∧ Mx l yX0_roundBridged (wsW_ yX0_roundBridged cX0_roundBridged 7 (some .int) hh_X0_roundBridged) rm_X0_roundBridged g [va_rf a0, .int x1, .int x2, .int x3, .int x4] w (.returned (some (.int r9))) w9 0 0 := by
  unfold F_X0_roundBridged at hF
  obtain ⟨ht, hF⟩ := bg hF
  refine ⟨ht, mk_ctW cX0_roundBridged 7 (some .int) hh_X0_roundBridged "CarryFair" (plainFor_of_name (by decide)) rfl (lg_le ⟨cr _, rfl, rfl, rfl, rfl, trivial⟩ (Nat.le_of_ble_eq_true rfl)) (av_ok ⟨cr _, rfl, rfl, rfl, rfl, trivial⟩) G (fun x B hl hR hin hh => ?_)⟩
  show J g x _ _ 0 0 w 0 0 0 [some (va_rf a0), some (.int x1), some (.int x2), some (.int x3), some (.int x4), none, none] []
  refine j_aload_n B dX0_roundBridged_0 rfl ?_
  refine j_getA B fl_X0_61 dX0_roundBridged_1 hF (fun a1p hF => ?_)
  refine j_iload_n B dX0_roundBridged_4 rfl ?_
  refine j_iload B dX0_roundBridged_5 rfl ?_
  refine j_aload_n B dX0_roundBridged_7 rfl ?_
  refine j_getA B fl_X0_61 dX0_roundBridged_8 hF (fun a8p hF => ?_)
  refine j_getA B fl_X0_183 dX0_roundBridged_11 hF (fun a11p hF => ?_)
  refine j_iload_n B dX0_roundBridged_14 rfl ?_
  refine j_aaload B 103 rfl rfl dX0_roundBridged_15 hF (fun a15p hF => ?_)
  refine j_iload B dX0_roundBridged_16 rfl ?_
  refine j_iaload B dX0_roundBridged_18 hF (fun i18 hF => ?_)
  refine j_iconst (v := 0) B dX0_roundBridged_19 (by decide) ?_
  obtain ⟨w20, e20, hF⟩ := bo hF
  refine j_rV (st2 := []) B [.int x3, .int x4, .int i18, .int 0] [] cv_X0_186 dX0_roundBridged_20 hl hR (ct_X4_lays G e20) rfl rfl rfl rfl trivial (Nat.le_of_ble_eq_true rfl) ?_
  refine j_aload_n B dX0_roundBridged_23 rfl ?_
  refine j_iload_n B dX0_roundBridged_24 rfl ?_
  refine j_iload_n B dX0_roundBridged_25 rfl ?_
  obtain ⟨i26, w26, e26, hF⟩ := bc hF
  refine j_rV (st2 := [.int i26]) B [.int x1, .int x2] [] cv_X0_312 dX0_roundBridged_26 hl hR (ct_X0_roundOf G e26) rfl rfl rfl rfl trivial (Nat.le_of_ble_eq_true rfl) ?_
  refine j_istore (vs' := [some (va_rf a0), some (.int x1), some (.int x2), some (.int x3), some (.int x4), some (.int i26), none]) B dX0_roundBridged_29 (by decide) rfl ?_
  refine j_aload_n B dX0_roundBridged_31 rfl ?_
  refine j_getA B fl_X0_61 dX0_roundBridged_32 hF (fun a32p hF => ?_)
  refine j_iload_n B dX0_roundBridged_35 rfl ?_
  refine j_iload B dX0_roundBridged_36 rfl ?_
  refine j_aload_n B dX0_roundBridged_38 rfl ?_
  refine j_getA B fl_X0_61 dX0_roundBridged_39 hF (fun a39p hF => ?_)
  refine j_getA B fl_X0_183 dX0_roundBridged_42 hF (fun a42p hF => ?_)
  refine j_iload_n B dX0_roundBridged_45 rfl ?_
  refine j_aaload B 103 rfl rfl dX0_roundBridged_46 hF (fun a46p hF => ?_)
  refine j_iload B dX0_roundBridged_47 rfl ?_
  refine j_iaload B dX0_roundBridged_49 hF (fun i49 hF => ?_)
  refine j_iconst (v := 1) B dX0_roundBridged_50 (by decide) ?_
  obtain ⟨w51, e51, hF⟩ := bo hF
  refine j_rV (st2 := []) B [.int x3, .int x4, .int i49, .int 1] [] cv_X0_186 dX0_roundBridged_51 hl hR (ct_X4_lays G e51) rfl rfl rfl rfl trivial (Nat.le_of_ble_eq_true rfl) ?_
  refine j_iload B dX0_roundBridged_54 rfl ?_
  exact j_lIw B rfl dX0_roundBridged_56 hF (by decide) (by decide)
theorem fp_X0_346 : FP "CarryFair" 346 0 19 .int false := ⟨RX0, TX0, 20, rfl, by decide, in_X0, Or.inl q458, rfl, (fun h => by cases h), by decide +kernel, ap_X0, tyX0, tyX0_ok⟩
theorem cx_X0_349 : CX "CarryFair" 349 0 yX0_roundBridged (wsW_ yX0_roundBridged cX0_roundBridged 7 (some .int) hh_X0_roundBridged) 7 4 := ⟨⟨_, _, rfl⟩, q978, q980, qs40, q126, wsOk_codeW q981, by decide +kernel, by decide +kernel⟩
def F_X0_bridged_J111 (rc10 : (Option Nat) → Int32 → Int32 → Int32 → Int32 → cH → Option (Int32 × cH)) (rc23 : (Option Nat) → Int32 → Int32 → Int32 → Int32 → Int32 → cH → Option (Int32 × cH)) (a0 : Option Nat) (x1 : Int32) (x2 : Int32) (x3 : Int32) (x4 : Int32) (x5 : Int32) (w : cH) : Option (Int32 × cH) :=
  rc23 a0 x1 x2 x3 x4 (x5 + 1) w
def F_X0_bridged_J96 (rc10 : (Option Nat) → Int32 → Int32 → Int32 → Int32 → cH → Option (Int32 × cH)) (rc23 : (Option Nat) → Int32 → Int32 → Int32 → Int32 → Int32 → cH → Option (Int32 × cH)) (a0 : Option Nat) (x1 : Int32) (x2 : Int32) (x4 : Int32) (x5 : Int32) (x6 : Int32) (w : cH) : Option (Int32 × cH) :=
  (pV w a0 0 19 (.int ((10 * x4) + x5))).bind fun w108 => F_X0_bridged_J111  rc10 rc23 a0 x1 x2 x6 x4 x5 w108
def F_X0_bridged_J77 (rc10 : (Option Nat) → Int32 → Int32 → Int32 → Int32 → cH → Option (Int32 × cH)) (rc23 : (Option Nat) → Int32 → Int32 → Int32 → Int32 → Int32 → cH → Option (Int32 × cH)) (a0 : Option Nat) (x1 : Int32) (x2 : Int32) (x3 : Int32) (x4 : Int32) (x5 : Int32) (s0 : Int32) (w : cH) : Option (Int32 × cH) :=
  if s0 = (-1) then (F_X0_bridged_J111  rc10 rc23 a0 x1 x2 x3 x4 x5 w) else (if x3 = (-1) then (F_X0_bridged_J96  rc10 rc23 a0 x1 x2 x4 x5 s0 w) else (if x3 ≤ s0 then (F_X0_bridged_J111  rc10 rc23 a0 x1 x2 x3 x4 x5 w) else (F_X0_bridged_J96  rc10 rc23 a0 x1 x2 x4 x5 s0 w)))
def F_X0_bridged_J76 (rc10 : (Option Nat) → Int32 → Int32 → Int32 → Int32 → cH → Option (Int32 × cH)) (rc23 : (Option Nat) → Int32 → Int32 → Int32 → Int32 → Int32 → cH → Option (Int32 × cH)) (a0 : Option Nat) (x1 : Int32) (x2 : Int32) (x3 : Int32) (x4 : Int32) (x5 : Int32) (w : cH) : Option (Int32 × cH) :=
  F_X0_bridged_J77  rc10 rc23 a0 x1 x2 x3 x4 x5 (-1) w
def F_X0_bridged_B23 (rc10 : (Option Nat) → Int32 → Int32 → Int32 → Int32 → cH → Option (Int32 × cH)) (rc23 : Option Nat → Int32 → Int32 → Int32 → Int32 → Int32 → cH → Option (Int32 × cH)) (a0 : Option Nat) (x1 : Int32) (x2 : Int32) (x3 : Int32) (x4 : Int32) (x5 : Int32) (w : cH) : Option (Int32 × cH) :=
  if 7 ≤ x5 then (rc10 a0 x1 x2 x3 (x4 + 1) w) else ((fA w a0 0 3).bind fun a31p => (fA w a31p 4 6).bind fun a34p => (aA w a34p 103 x4).bind fun a39p => (aI w a39p 100 x5).bind fun i42 =>if i42 ≤ 0 then (F_X0_bridged_J76  rc10 rc23 a0 x1 x2 x3 x4 x5 w) else ((fA w a0 0 3).bind fun a47p => (fA w a47p 4 7).bind fun a50p => (aA w a50p 103 x4).bind fun a55p => (aI w a55p 100 x5).bind fun i58 =>if ¬ i58 = 1 then (F_X0_bridged_J76  rc10 rc23 a0 x1 x2 x3 x4 x5 w) else (cb (F_X0_roundBridged a0 x1 x2 x4 x5 w) fun i70 w70 => F_X0_bridged_J77  rc10 rc23 a0 x1 x2 x3 x4 x5 i70 w70)))
def F_X0_bridged_L23 (rc10 : (Option Nat) → Int32 → Int32 → Int32 → Int32 → cH → Option (Int32 × cH)) : Nat → Option Nat → Int32 → Int32 → Int32 → Int32 → Int32 → cH → Option (Int32 × cH)
  | 0, _, _, _, _, _, _, _ => none
  | n9 + 1, a0, x1, x2, x3, x4, x5, w => F_X0_bridged_B23  rc10 (F_X0_bridged_L23  rc10 n9) a0 x1 x2 x3 x4 x5 w
def F_X0_bridged_B10 (rc10 : Option Nat → Int32 → Int32 → Int32 → Int32 → cH → Option (Int32 × cH)) (a0 : Option Nat) (x1 : Int32) (x2 : Int32) (x3 : Int32) (x4 : Int32) (w : cH) : Option (Int32 × cH) :=
  if 7 ≤ x4 then (some (x3, w)) else (F_X0_bridged_L23  rc10 fu a0 x1 x2 x3 x4 (x4 + 1) w)
def F_X0_bridged_L10 : Nat → Option Nat → Int32 → Int32 → Int32 → Int32 → cH → Option (Int32 × cH)
  | 0, _, _, _, _, _, _ => none
  | n9 + 1, a0, x1, x2, x3, x4, w => F_X0_bridged_B10  (F_X0_bridged_L10  n9) a0 x1 x2 x3 x4 w
def F_X0_bridged (a0 : Option Nat) (x1 : Int32) (x2 : Int32) (w : cH) : Option (Int32 × cH) :=
  if tg w a0 = some 0 then ((pV w a0 0 19 (.int (-1))).bind fun w4 => F_X0_bridged_L10  fu a0 x1 x2 (-1) 0 w4) else none
abbrev rm_X0_bridged : Room := { frames := 7, cells := 0, slots := 0, locals := 168 }
set_option maxHeartbeats 4000000 in
set_option maxRecDepth 100000 in
theorem ct_X0_bridged {l : Launch} {g : Gt} (G : Gok g) {a0 : Option Nat} {x1 : Int32} {x2 : Int32} {w : cH} {r9 : Int32} {w9 : cH} (hF : F_X0_bridged a0 x1 x2 w = some (r9, w9)) : tg w a0 = some 0 ∧ Mx l yX0_bridged (ws_ yX0_bridged cX0_bridged 7 (some .int)) rm_X0_bridged g [va_rf a0, .int x1, .int x2] w (.returned (some (.int r9))) w9 0 0 := by
  unfold F_X0_bridged at hF
  obtain ⟨ht, hF⟩ := bg hF
  refine ⟨ht, mk_ct cX0_bridged 7 (some .int) "CarryFair" (plainFor_of_name (by decide)) rfl (lg_le ⟨cr _, rfl, rfl, trivial⟩ (Nat.le_of_ble_eq_true rfl)) (av_ok ⟨cr _, rfl, rfl, trivial⟩) G (fun x B hl hR hin hh => ?_)⟩
  show J g x _ _ 0 0 w 0 0 0 [some (va_rf a0), some (.int x1), some (.int x2), none, none, none, none] []
  have lp10 : ∀ (n9 : Nat) (a0 : Option Nat) (x1 : Int32) (x2 : Int32) (x3 : Int32) (x4 : Int32) (w : cH), F_X0_bridged_L10  n9 a0 x1 x2 x3 x4 w = some (r9, w9) → J g x (.returned (some (.int r9))) w9 0 0 w 0 0 10 [some (va_rf a0), some (.int x1), some (.int x2), some (.int x3), some (.int x4), none, none] [] := by
    intro n9
    induction n9 with
    | zero => intro a0 x1 x2 x3 x4 w hF; cases hF
    | succ n10 ih10 =>
      intro a0 x1 x2 x3 x4 w hF
      have hF : F_X0_bridged_B10  (F_X0_bridged_L10  n10) a0 x1 x2 x3 x4 w = some (r9, w9) := hF
      unfold F_X0_bridged_B10 at hF
      have lp23 : ∀ (n9 : Nat) (a0 : Option Nat) (x1 : Int32) (x2 : Int32) (x3 : Int32) (x4 : Int32) (x5 : Int32) (w : cH), F_X0_bridged_L23  (F_X0_bridged_L10  n10) n9 a0 x1 x2 x3 x4 x5 w = some (r9, w9) → J g x (.returned (some (.int r9))) w9 0 0 w 0 0 23 [some (va_rf a0), some (.int x1), some (.int x2), some (.int x3), some (.int x4), some (.int x5), none] [] := by
        intro n9
        induction n9 with
        | zero => intro a0 x1 x2 x3 x4 x5 w hF; cases hF
        | succ n23 ih23 =>
          intro a0 x1 x2 x3 x4 x5 w hF
          have hF : F_X0_bridged_B23  (F_X0_bridged_L10  n10) (F_X0_bridged_L23  (F_X0_bridged_L10  n10) n23) a0 x1 x2 x3 x4 x5 w = some (r9, w9) := hF
          unfold F_X0_bridged_B23 at hF
          have jb111 : ∀ (a0 : Option Nat) (x1 : Int32) (x2 : Int32) (x3 : Int32) (x4 : Int32) (x5 : Int32) (w : cH), F_X0_bridged_J111  (F_X0_bridged_L10  n10) (F_X0_bridged_L23  (F_X0_bridged_L10  n10) n23) a0 x1 x2 x3 x4 x5 w = some (r9, w9) → J g x (.returned (some (.int r9))) w9 0 0 w 0 0 111 [some (va_rf a0), some (.int x1), some (.int x2), some (.int x3), some (.int x4), some (.int x5), none] [] := by
            intro a0 x1 x2 x3 x4 x5 w hF
            unfold F_X0_bridged_J111 at hF
            refine j_iinc (v := x5 + 1) (vs' := [some (va_rf a0), some (.int x1), some (.int x2), some (.int x3), some (.int x4), some (.int (x5 + 1)), none]) B dX0_bridged_111 (by decide) rfl rfl rfl ?_
            refine j_goto (tgt := 23) B dX0_bridged_114 (by decide) ?_
            exact ih23 a0 x1 x2 x3 x4 (x5 + 1) w hF
          have jb96 : ∀ (a0 : Option Nat) (x1 : Int32) (x2 : Int32) (x4 : Int32) (x5 : Int32) (x6 : Int32) (w : cH), F_X0_bridged_J96  (F_X0_bridged_L10  n10) (F_X0_bridged_L23  (F_X0_bridged_L10  n10) n23) a0 x1 x2 x4 x5 x6 w = some (r9, w9) → J g x (.returned (some (.int r9))) w9 0 0 w 0 0 96 [some (va_rf a0), some (.int x1), some (.int x2), none, some (.int x4), some (.int x5), some (.int x6)] [] := by
            intro a0 x1 x2 x4 x5 x6 w hF
            unfold F_X0_bridged_J96 at hF
            refine j_iload B dX0_bridged_96 rfl ?_
            refine j_istore_n (vs' := [some (va_rf a0), some (.int x1), some (.int x2), some (.int x6), some (.int x4), some (.int x5), some (.int x6)]) B dX0_bridged_98 (by decide) rfl ?_
            refine j_aload_n B dX0_bridged_99 rfl ?_
            refine j_bipush (v := 10) B dX0_bridged_100 (by decide) ?_
            refine j_iload B dX0_bridged_102 rfl ?_
            refine j_imul B dX0_bridged_104 ?_
            refine j_iload B dX0_bridged_105 rfl ?_
            refine j_iadd B dX0_bridged_107 ?_
            refine j_putV B fp_X0_346 (fun h => by cases h) rfl rfl dX0_bridged_108 hF (fun w108 hF => ?_)
            refine j_msk [true, true, true, true, true, true, false] rfl ?_
            exact jb111 a0 x1 x2 x6 x4 x5 w108 hF
          have jb77 : ∀ (a0 : Option Nat) (x1 : Int32) (x2 : Int32) (x3 : Int32) (x4 : Int32) (x5 : Int32) (s0 : Int32) (w : cH), F_X0_bridged_J77  (F_X0_bridged_L10  n10) (F_X0_bridged_L23  (F_X0_bridged_L10  n10) n23) a0 x1 x2 x3 x4 x5 s0 w = some (r9, w9) → J g x (.returned (some (.int r9))) w9 0 0 w 0 0 77 [some (va_rf a0), some (.int x1), some (.int x2), some (.int x3), some (.int x4), some (.int x5), none] [.int s0] := by
            intro a0 x1 x2 x3 x4 x5 s0 w hF
            unfold F_X0_bridged_J77 at hF
            refine j_istore (vs' := [some (va_rf a0), some (.int x1), some (.int x2), some (.int x3), some (.int x4), some (.int x5), some (.int s0)]) B dX0_bridged_77 (by decide) rfl ?_
            refine j_iload B dX0_bridged_79 rfl ?_
            refine j_iconst (v := (-1)) B dX0_bridged_81 (by decide) ?_
            refine j_icmp_eq (tgt := 111) B dX0_bridged_82 (by decide) hF (fun h82 hF => ?_) (fun h82 hF => ?_)
            · refine j_msk [true, true, true, true, true, true, false] rfl ?_
              exact jb111 a0 x1 x2 x3 x4 x5 w hF
            · refine j_iload_n B dX0_bridged_85 rfl ?_
              refine j_iconst (v := (-1)) B dX0_bridged_86 (by decide) ?_
              refine j_icmp_eq (tgt := 96) B dX0_bridged_87 (by decide) hF (fun h87 hF => ?_) (fun h87 hF => ?_)
              · refine j_msk [true, true, true, false, true, true, true] rfl ?_
                exact jb96 a0 x1 x2 x4 x5 s0 w hF
              · refine j_iload B dX0_bridged_90 rfl ?_
                refine j_iload_n B dX0_bridged_92 rfl ?_
                refine j_icmp_ge (tgt := 111) B dX0_bridged_93 (by decide) hF (fun h93 hF => ?_) (fun h93 hF => ?_)
                · refine j_msk [true, true, true, true, true, true, false] rfl ?_
                  exact jb111 a0 x1 x2 x3 x4 x5 w hF
                · refine j_msk [true, true, true, false, true, true, true] rfl ?_
                  exact jb96 a0 x1 x2 x4 x5 s0 w hF
          have jb76 : ∀ (a0 : Option Nat) (x1 : Int32) (x2 : Int32) (x3 : Int32) (x4 : Int32) (x5 : Int32) (w : cH), F_X0_bridged_J76  (F_X0_bridged_L10  n10) (F_X0_bridged_L23  (F_X0_bridged_L10  n10) n23) a0 x1 x2 x3 x4 x5 w = some (r9, w9) → J g x (.returned (some (.int r9))) w9 0 0 w 0 0 76 [some (va_rf a0), some (.int x1), some (.int x2), some (.int x3), some (.int x4), some (.int x5), none] [] := by
            intro a0 x1 x2 x3 x4 x5 w hF
            unfold F_X0_bridged_J76 at hF
            refine j_iconst (v := (-1)) B dX0_bridged_76 (by decide) ?_
            exact jb77 a0 x1 x2 x3 x4 x5 (-1) w hF
          refine j_iload B dX0_bridged_23 rfl ?_
          refine j_bipush (v := 7) B dX0_bridged_25 (by decide) ?_
          refine j_icmp_ge (tgt := 117) B dX0_bridged_27 (by decide) hF (fun h27 hF => ?_) (fun h27 hF => ?_)
          · refine j_iinc (v := x4 + 1) (vs' := [some (va_rf a0), some (.int x1), some (.int x2), some (.int x3), some (.int (x4 + 1)), some (.int x5), none]) B dX0_bridged_117 (by decide) rfl rfl rfl ?_
            refine j_goto (tgt := 10) B dX0_bridged_120 (by decide) ?_
            refine j_msk [true, true, true, true, true, false, false] rfl ?_
            exact ih10 a0 x1 x2 x3 (x4 + 1) w hF
          · refine j_aload_n B dX0_bridged_30 rfl ?_
            refine j_getA B fl_X0_61 dX0_bridged_31 hF (fun a31p hF => ?_)
            refine j_getA B fl_X0_183 dX0_bridged_34 hF (fun a34p hF => ?_)
            refine j_iload B dX0_bridged_37 rfl ?_
            refine j_aaload B 103 rfl rfl dX0_bridged_39 hF (fun a39p hF => ?_)
            refine j_iload B dX0_bridged_40 rfl ?_
            refine j_iaload B dX0_bridged_42 hF (fun i42 hF => ?_)
            refine j_if_le (tgt := 76) B dX0_bridged_43 (by decide) hF (fun h43 hF => ?_) (fun h43 hF => ?_)
            · exact jb76 a0 x1 x2 x3 x4 x5 w hF
            · refine j_aload_n B dX0_bridged_46 rfl ?_
              refine j_getA B fl_X0_61 dX0_bridged_47 hF (fun a47p hF => ?_)
              refine j_getA B fl_X0_190 dX0_bridged_50 hF (fun a50p hF => ?_)
              refine j_iload B dX0_bridged_53 rfl ?_
              refine j_aaload B 103 rfl rfl dX0_bridged_55 hF (fun a55p hF => ?_)
              refine j_iload B dX0_bridged_56 rfl ?_
              refine j_iaload B dX0_bridged_58 hF (fun i58 hF => ?_)
              refine j_iconst (v := 1) B dX0_bridged_59 (by decide) ?_
              refine j_icmp_ne (tgt := 76) B dX0_bridged_60 (by decide) hF (fun h60 hF => ?_) (fun h60 hF => ?_)
              · exact jb76 a0 x1 x2 x3 x4 x5 w hF
              · refine j_aload_n B dX0_bridged_63 rfl ?_
                refine j_iload_n B dX0_bridged_64 rfl ?_
                refine j_iload_n B dX0_bridged_65 rfl ?_
                refine j_iload B dX0_bridged_66 rfl ?_
                refine j_iload B dX0_bridged_68 rfl ?_
                obtain ⟨i70, w70, e70, hF⟩ := bc hF
                refine j_rVX (st2 := [.int i70]) B [.int x1, .int x2, .int x4, .int x5] [] cx_X0_349 dX0_bridged_70 hl hR (ct_X0_roundBridged G e70) rfl rfl rfl rfl trivial (Nat.le_of_ble_eq_true rfl) ?_
                refine j_goto (tgt := 77) B dX0_bridged_73 (by decide) ?_
                exact jb77 a0 x1 x2 x3 x4 x5 i70 w70 hF
      refine j_iload B dX0_bridged_10 rfl ?_
      refine j_bipush (v := 7) B dX0_bridged_12 (by decide) ?_
      refine j_icmp_ge (tgt := 123) B dX0_bridged_14 (by decide) hF (fun h14 hF => ?_) (fun h14 hF => ?_)
      · refine j_iload_n B dX0_bridged_123 rfl ?_
        exact j_lIw B rfl dX0_bridged_124 hF (by decide) (by decide)
      · refine j_iload B dX0_bridged_17 rfl ?_
        refine j_iconst (v := 1) B dX0_bridged_19 (by decide) ?_
        refine j_iadd B dX0_bridged_20 ?_
        refine j_istore (vs' := [some (va_rf a0), some (.int x1), some (.int x2), some (.int x3), some (.int x4), some (.int (x4 + 1)), none]) B dX0_bridged_21 (by decide) rfl ?_
        exact lp23 fu a0 x1 x2 x3 x4 (x4 + 1) w hF
  refine j_iconst (v := (-1)) B dX0_bridged_0 (by decide) ?_
  refine j_istore_n (vs' := [some (va_rf a0), some (.int x1), some (.int x2), some (.int (-1)), none, none, none]) B dX0_bridged_1 (by decide) rfl ?_
  refine j_aload_n B dX0_bridged_2 rfl ?_
  refine j_iconst (v := (-1)) B dX0_bridged_3 (by decide) ?_
  refine j_putV B fp_X0_346 (fun h => by cases h) rfl rfl dX0_bridged_4 hF (fun w4 hF => ?_)
  refine j_iconst (v := 0) B dX0_bridged_7 (by decide) ?_
  refine j_istore (vs' := [some (va_rf a0), some (.int x1), some (.int x2), some (.int (-1)), some (.int 0), none, none]) B dX0_bridged_8 (by decide) rfl ?_
  exact lp10 fu a0 x1 x2 (-1) 0 w4 hF
theorem fl_X0_346 : FL "CarryFair" 346 0 19 := ⟨RX0, TX0, 20, rfl, by decide, in_X0, Or.inl q458⟩
theorem cv_X0_352 : CV "CarryFair" 352 0 yX0_bridged cX0_bridged 7 (some .int) 2 := ⟨_, _, rfl, lw_V q974 q976 qs39 q126 q977, by decide +kernel⟩
def F_X0_bridge (a0 : Option Nat) (x1 : Int32) (x2 : Int32) (w : cH) : Option (Int32 × cH) :=
  if tg w a0 = some 0 then ((F_X0_whyNot a0 x1 x2 w).bind fun i3 =>if i3 = (-1) then (cb (F_X0_bridged a0 x1 x2 w) fun i21 w21 =>if ¬ i21 = (-1) then ((fI w21 a0 0 19).bind fun i37 => some (i37, w21)) else (cb (F_X0_finding a0 3 w21) fun i30 w30 => some (i30, w30))) else (cb (F_X0_finding a0 i3 w) fun i14 w14 => some (i14, w14))) else none
abbrev rm_X0_bridge : Room := { frames := 8, cells := 0, slots := 0, locals := 194 }
set_option maxHeartbeats 4000000 in
set_option maxRecDepth 100000 in
theorem ct_X0_bridge {l : Launch} {g : Gt} (G : Gok g) {a0 : Option Nat} {x1 : Int32} {x2 : Int32} {w : cH} {r9 : Int32} {w9 : cH} (hF : F_X0_bridge a0 x1 x2 w = some (r9, w9)) : tg w a0 = some 0 ∧ Mx l yX0_bridge (ws_ yX0_bridge cX0_bridge 4 (some .int)) rm_X0_bridge g [va_rf a0, .int x1, .int x2] w (.returned (some (.int r9))) w9 0 0 := by
  unfold F_X0_bridge at hF
  obtain ⟨ht, hF⟩ := bg hF
  refine ⟨ht, mk_ct cX0_bridge 4 (some .int) "CarryFair" (plainFor_of_name (by decide)) rfl (lg_le ⟨cr _, rfl, rfl, trivial⟩ (Nat.le_of_ble_eq_true rfl)) (av_ok ⟨cr _, rfl, rfl, trivial⟩) G (fun x B hl hR hin hh => ?_)⟩
  show J g x _ _ 0 0 w 0 0 0 [some (va_rf a0), some (.int x1), some (.int x2), none] []
  refine j_aload_n B dX0_bridge_0 rfl ?_
  refine j_iload_n B dX0_bridge_1 rfl ?_
  refine j_iload_n B dX0_bridge_2 rfl ?_
  obtain ⟨i3, e3, hF⟩ := bo hF
  refine j_rV (st2 := [.int i3]) B [.int x1, .int x2] [] cv_X0_309 dX0_bridge_3 hl hR (ct_X0_whyNot G e3) rfl rfl rfl rfl trivial (Nat.le_of_ble_eq_true rfl) ?_
  refine j_istore_n (vs' := [some (va_rf a0), some (.int x1), some (.int x2), some (.int i3)]) B dX0_bridge_6 (by decide) rfl ?_
  refine j_iload_n B dX0_bridge_7 rfl ?_
  refine j_iconst (v := (-1)) B dX0_bridge_8 (by decide) ?_
  refine j_icmp_eq (tgt := 18) B dX0_bridge_9 (by decide) hF (fun h9 hF => ?_) (fun h9 hF => ?_)
  · refine j_aload_n B dX0_bridge_18 rfl ?_
    refine j_iload_n B dX0_bridge_19 rfl ?_
    refine j_iload_n B dX0_bridge_20 rfl ?_
    obtain ⟨i21, w21, e21, hF⟩ := bc hF
    refine j_rV (st2 := [.int i21]) B [.int x1, .int x2] [] cv_X0_352 dX0_bridge_21 hl hR (ct_X0_bridged G e21) rfl rfl rfl rfl trivial (Nat.le_of_ble_eq_true rfl) ?_
    refine j_iconst (v := (-1)) B dX0_bridge_24 (by decide) ?_
    refine j_icmp_ne (tgt := 36) B dX0_bridge_25 (by decide) hF (fun h25 hF => ?_) (fun h25 hF => ?_)
    · refine j_aload_n B dX0_bridge_36 rfl ?_
      refine j_getI B fl_X0_346 dX0_bridge_37 hF (fun i37 hF => ?_)
      exact j_lIw B rfl dX0_bridge_40 hF (by decide) (by decide)
    · refine j_aload_n B dX0_bridge_28 rfl ?_
      refine j_iconst (v := 3) B dX0_bridge_29 (by decide) ?_
      obtain ⟨i30, w30, e30, hF⟩ := bc hF
      refine j_rV (st2 := [.int i30]) B [.int 3] [] cv_X0_142 dX0_bridge_30 hl hR (ct_X0_finding G e30) rfl rfl rfl rfl trivial (Nat.le_of_ble_eq_true rfl) ?_
      refine j_goto (tgt := 40) B dX0_bridge_33 (by decide) ?_
      exact j_lIw B rfl dX0_bridge_40 hF (by decide) (by decide)
  · refine j_aload_n B dX0_bridge_12 rfl ?_
    refine j_iload_n B dX0_bridge_13 rfl ?_
    obtain ⟨i14, w14, e14, hF⟩ := bc hF
    refine j_rV (st2 := [.int i14]) B [.int i3] [] cv_X0_142 dX0_bridge_14 hl hR (ct_X0_finding G e14) rfl rfl rfl rfl trivial (Nat.le_of_ble_eq_true rfl) ?_
    exact j_lIw B rfl dX0_bridge_17 hF (by decide) (by decide)
def F_X0_worth_J46 (a0 : Option Nat) (w : cH) : Option (Int32 × cH) :=
  cb (F_X0_finding a0 3 w) fun i48 w48 => some (i48, w48)
def F_X0_worth (a0 : Option Nat) (x1 : Int32) (x2 : Int32) (w : cH) : Option (Int32 × cH) :=
  if tg w a0 = some 0 then ((F_X0_whyNot a0 x1 x2 w).bind fun i3 =>if i3 = (-1) then (cb (F_X0_roundOf a0 x1 x2 w) fun i21 w21 => cb (F_X0_bridged a0 x1 x2 w21) fun i29 w29 =>if i21 = (-1) then (F_X0_worth_J46  a0 w29) else (if ¬ i29 = (-1) then (some (i21 - i29, w29)) else (F_X0_worth_J46  a0 w29))) else (cb (F_X0_finding a0 i3 w) fun i14 w14 => some (i14, w14))) else none
abbrev rm_X0_worth : Room := { frames := 8, cells := 0, slots := 0, locals := 194 }
set_option maxHeartbeats 4000000 in
set_option maxRecDepth 100000 in
theorem ct_X0_worth {l : Launch} {g : Gt} (G : Gok g) {a0 : Option Nat} {x1 : Int32} {x2 : Int32} {w : cH} {r9 : Int32} {w9 : cH} (hF : F_X0_worth a0 x1 x2 w = some (r9, w9)) : tg w a0 = some 0 ∧ Mx l yX0_worth (ws_ yX0_worth cX0_worth 6 (some .int)) rm_X0_worth g [va_rf a0, .int x1, .int x2] w (.returned (some (.int r9))) w9 0 0 := by
  unfold F_X0_worth at hF
  obtain ⟨ht, hF⟩ := bg hF
  refine ⟨ht, mk_ct cX0_worth 6 (some .int) "CarryFair" (plainFor_of_name (by decide)) rfl (lg_le ⟨cr _, rfl, rfl, trivial⟩ (Nat.le_of_ble_eq_true rfl)) (av_ok ⟨cr _, rfl, rfl, trivial⟩) G (fun x B hl hR hin hh => ?_)⟩
  show J g x _ _ 0 0 w 0 0 0 [some (va_rf a0), some (.int x1), some (.int x2), none, none, none] []
  have jb46 : ∀ (a0 : Option Nat) (w : cH), F_X0_worth_J46  a0 w = some (r9, w9) → J g x (.returned (some (.int r9))) w9 0 0 w 0 0 46 [some (va_rf a0), none, none, none, none, none] [] := by
    intro a0 w hF
    unfold F_X0_worth_J46 at hF
    refine j_aload_n B dX0_worth_46 rfl ?_
    refine j_iconst (v := 3) B dX0_worth_47 (by decide) ?_
    obtain ⟨i48, w48, e48, hF⟩ := bc hF
    refine j_rV (st2 := [.int i48]) B [.int 3] [] cv_X0_142 dX0_worth_48 hl hR (ct_X0_finding G e48) rfl rfl rfl rfl trivial (Nat.le_of_ble_eq_true rfl) ?_
    refine j_goto (tgt := 59) B dX0_worth_51 (by decide) ?_
    exact j_lIw B rfl dX0_worth_59 hF (by decide) (by decide)
  refine j_aload_n B dX0_worth_0 rfl ?_
  refine j_iload_n B dX0_worth_1 rfl ?_
  refine j_iload_n B dX0_worth_2 rfl ?_
  obtain ⟨i3, e3, hF⟩ := bo hF
  refine j_rV (st2 := [.int i3]) B [.int x1, .int x2] [] cv_X0_309 dX0_worth_3 hl hR (ct_X0_whyNot G e3) rfl rfl rfl rfl trivial (Nat.le_of_ble_eq_true rfl) ?_
  refine j_istore_n (vs' := [some (va_rf a0), some (.int x1), some (.int x2), some (.int i3), none, none]) B dX0_worth_6 (by decide) rfl ?_
  refine j_iload_n B dX0_worth_7 rfl ?_
  refine j_iconst (v := (-1)) B dX0_worth_8 (by decide) ?_
  refine j_icmp_eq (tgt := 18) B dX0_worth_9 (by decide) hF (fun h9 hF => ?_) (fun h9 hF => ?_)
  · refine j_aload_n B dX0_worth_18 rfl ?_
    refine j_iload_n B dX0_worth_19 rfl ?_
    refine j_iload_n B dX0_worth_20 rfl ?_
    obtain ⟨i21, w21, e21, hF⟩ := bc hF
    refine j_rV (st2 := [.int i21]) B [.int x1, .int x2] [] cv_X0_312 dX0_worth_21 hl hR (ct_X0_roundOf G e21) rfl rfl rfl rfl trivial (Nat.le_of_ble_eq_true rfl) ?_
    refine j_istore (vs' := [some (va_rf a0), some (.int x1), some (.int x2), some (.int i3), some (.int i21), none]) B dX0_worth_24 (by decide) rfl ?_
    refine j_aload_n B dX0_worth_26 rfl ?_
    refine j_iload_n B dX0_worth_27 rfl ?_
    refine j_iload_n B dX0_worth_28 rfl ?_
    obtain ⟨i29, w29, e29, hF⟩ := bc hF
    refine j_rV (st2 := [.int i29]) B [.int x1, .int x2] [] cv_X0_352 dX0_worth_29 hl hR (ct_X0_bridged G e29) rfl rfl rfl rfl trivial (Nat.le_of_ble_eq_true rfl) ?_
    refine j_istore (vs' := [some (va_rf a0), some (.int x1), some (.int x2), some (.int i3), some (.int i21), some (.int i29)]) B dX0_worth_32 (by decide) rfl ?_
    refine j_iload B dX0_worth_34 rfl ?_
    refine j_iconst (v := (-1)) B dX0_worth_36 (by decide) ?_
    refine j_icmp_eq (tgt := 46) B dX0_worth_37 (by decide) hF (fun h37 hF => ?_) (fun h37 hF => ?_)
    · refine j_msk [true, false, false, false, false, false] rfl ?_
      exact jb46 a0 w29 hF
    · refine j_iload B dX0_worth_40 rfl ?_
      refine j_iconst (v := (-1)) B dX0_worth_42 (by decide) ?_
      refine j_icmp_ne (tgt := 54) B dX0_worth_43 (by decide) hF (fun h43 hF => ?_) (fun h43 hF => ?_)
      · refine j_iload B dX0_worth_54 rfl ?_
        refine j_iload B dX0_worth_56 rfl ?_
        refine j_isub B dX0_worth_58 ?_
        exact j_lIw B rfl dX0_worth_59 hF (by decide) (by decide)
      · refine j_msk [true, false, false, false, false, false] rfl ?_
        exact jb46 a0 w29 hF
  · refine j_aload_n B dX0_worth_12 rfl ?_
    refine j_iload_n B dX0_worth_13 rfl ?_
    obtain ⟨i14, w14, e14, hF⟩ := bc hF
    refine j_rV (st2 := [.int i14]) B [.int i3] [] cv_X0_142 dX0_worth_14 hl hR (ct_X0_finding G e14) rfl rfl rfl rfl trivial (Nat.le_of_ble_eq_true rfl) ?_
    exact j_lIw B rfl dX0_worth_17 hF (by decide) (by decide)
def F_X0_reachFrom_J31 (rc4 : (Option Nat) → Int32 → Int32 → Int32 → cH → Option Int32) (a0 : Option Nat) (x1 : Int32) (x3 : Int32) (s0 : Int32) (s1 : Int32) (w : cH) : Option Int32 :=
  rc4 a0 x1 (s1 ||| s0) (x3 + 1) w
def F_X0_reachFrom_B4 (rc4 : Option Nat → Int32 → Int32 → Int32 → cH → Option Int32) (a0 : Option Nat) (x1 : Int32) (x2 : Int32) (x3 : Int32) (w : cH) : Option Int32 :=
  if 7 ≤ x3 then (some (x2)) else ((fA w a0 0 12).bind fun a12p => (aA w a12p 103 x1).bind fun a16p => (aI w a16p 100 x3).bind fun i18 =>if 1000000 ≤ i18 then (F_X0_reachFrom_J31  rc4 a0 x1 x3 0 x2 w) else (F_X0_reachFrom_J31  rc4 a0 x1 x3 (1 <<< (x3 &&& 31)) x2 w))
def F_X0_reachFrom_L4 : Nat → Option Nat → Int32 → Int32 → Int32 → cH → Option Int32
  | 0, _, _, _, _, _ => none
  | n9 + 1, a0, x1, x2, x3, w => F_X0_reachFrom_B4  (F_X0_reachFrom_L4  n9) a0 x1 x2 x3 w
def F_X0_reachFrom (a0 : Option Nat) (x1 : Int32) (w : cH) : Option Int32 :=
  if tg w a0 = some 0 then (F_X0_reachFrom_L4  fu a0 x1 0 0 w) else none
abbrev rm_X0_reachFrom : Room := { frames := 0, cells := 0, slots := 0, locals := 0 }
set_option maxHeartbeats 4000000 in
set_option maxRecDepth 100000 in
theorem ct_X0_reachFrom {l : Launch} {g : Gt} (G : Gok g) {a0 : Option Nat} {x1 : Int32} {w : cH} {r9 : Int32} (hF : F_X0_reachFrom a0 x1 w = some r9) : tg w a0 = some 0 ∧ Mx l yX0_reachFrom (ws_ yX0_reachFrom cX0_reachFrom 4 (some .int)) rm_X0_reachFrom g [va_rf a0, .int x1] w (.returned (some (.int r9))) w 0 0 := by
  unfold F_X0_reachFrom at hF
  obtain ⟨ht, hF⟩ := bg hF
  refine ⟨ht, mk_ct cX0_reachFrom 4 (some .int) "CarryFair" (plainFor_of_name (by decide)) rfl (lg_le ⟨cr _, rfl, trivial⟩ (Nat.le_of_ble_eq_true rfl)) (av_ok ⟨cr _, rfl, trivial⟩) G (fun x B hl hR hin hh => ?_)⟩
  show J g x _ _ 0 0 w 0 0 0 [some (va_rf a0), some (.int x1), none, none] []
  have lp4 : ∀ (n9 : Nat) (a0 : Option Nat) (x1 : Int32) (x2 : Int32) (x3 : Int32), F_X0_reachFrom_L4  n9 a0 x1 x2 x3 w = some r9 → J g x (.returned (some (.int r9))) w 0 0 w 0 0 4 [some (va_rf a0), some (.int x1), some (.int x2), some (.int x3)] [] := by
    intro n9
    induction n9 with
    | zero => intro a0 x1 x2 x3 hF; cases hF
    | succ n4 ih4 =>
      intro a0 x1 x2 x3 hF
      have hF : F_X0_reachFrom_B4  (F_X0_reachFrom_L4  n4) a0 x1 x2 x3 w = some r9 := hF
      unfold F_X0_reachFrom_B4 at hF
      have jb31 : ∀ (a0 : Option Nat) (x1 : Int32) (x3 : Int32) (s0 : Int32) (s1 : Int32), F_X0_reachFrom_J31  (F_X0_reachFrom_L4  n4) a0 x1 x3 s0 s1 w = some r9 → J g x (.returned (some (.int r9))) w 0 0 w 0 0 31 [some (va_rf a0), some (.int x1), none, some (.int x3)] [.int s0, .int s1] := by
        intro a0 x1 x3 s0 s1 hF
        unfold F_X0_reachFrom_J31 at hF
        refine j_ior B dX0_reachFrom_31 ?_
        refine j_istore_n (vs' := [some (va_rf a0), some (.int x1), some (.int (s1 ||| s0)), some (.int x3)]) B dX0_reachFrom_32 (by decide) rfl ?_
        refine j_iinc (v := x3 + 1) (vs' := [some (va_rf a0), some (.int x1), some (.int (s1 ||| s0)), some (.int (x3 + 1))]) B dX0_reachFrom_33 (by decide) rfl rfl rfl ?_
        refine j_goto (tgt := 4) B dX0_reachFrom_36 (by decide) ?_
        exact ih4 a0 x1 (s1 ||| s0) (x3 + 1) hF
      refine j_iload_n B dX0_reachFrom_4 rfl ?_
      refine j_bipush (v := 7) B dX0_reachFrom_5 (by decide) ?_
      refine j_icmp_ge (tgt := 39) B dX0_reachFrom_7 (by decide) hF (fun h7 hF => ?_) (fun h7 hF => ?_)
      · refine j_iload_n B dX0_reachFrom_39 rfl ?_
        exact j_lI B rfl dX0_reachFrom_40 hF (by decide) (by decide)
      · refine j_iload_n B dX0_reachFrom_10 rfl ?_
        refine j_aload_n B dX0_reachFrom_11 rfl ?_
        refine j_getA B fl_X0_92 dX0_reachFrom_12 hF (fun a12p hF => ?_)
        refine j_iload_n B dX0_reachFrom_15 rfl ?_
        refine j_aaload B 103 rfl rfl dX0_reachFrom_16 hF (fun a16p hF => ?_)
        refine j_iload_n B dX0_reachFrom_17 rfl ?_
        refine j_iaload B dX0_reachFrom_18 hF (fun i18 hF => ?_)
        refine j_ldc (v := 1000000) B q671 dX0_reachFrom_19 ?_
        refine j_icmp_ge (tgt := 30) B dX0_reachFrom_21 (by decide) hF (fun h21 hF => ?_) (fun h21 hF => ?_)
        · refine j_iconst (v := 0) B dX0_reachFrom_30 (by decide) ?_
          refine j_msk [true, true, false, true] rfl ?_
          exact jb31 a0 x1 x3 0 x2 hF
        · refine j_iconst (v := 1) B dX0_reachFrom_24 (by decide) ?_
          refine j_iload_n B dX0_reachFrom_25 rfl ?_
          refine j_ishl B dX0_reachFrom_26 ?_
          refine j_goto (tgt := 31) B dX0_reachFrom_27 (by decide) ?_
          refine j_msk [true, true, false, true] rfl ?_
          exact jb31 a0 x1 x3 (1 <<< (x3 &&& 31)) x2 hF
  refine j_iconst (v := 0) B dX0_reachFrom_0 (by decide) ?_
  refine j_istore_n (vs' := [some (va_rf a0), some (.int x1), some (.int 0), none]) B dX0_reachFrom_1 (by decide) rfl ?_
  refine j_iconst (v := 0) B dX0_reachFrom_2 (by decide) ?_
  refine j_istore_n (vs' := [some (va_rf a0), some (.int x1), some (.int 0), some (.int 0)]) B dX0_reachFrom_3 (by decide) rfl ?_
  exact lp4 fu a0 x1 0 0 hF
theorem cv_X0_355 : CV "CarryFair" 355 0 yX0_reachFrom cX0_reachFrom 4 (some .int) 1 := ⟨_, _, rfl, lw_V q990 q992 qs41 q126 q993, by decide +kernel⟩
def F_X0_reach (a0 : Option Nat) (x1 : Int32) (w : cH) : Option (Int32 × cH) :=
  if tg w a0 = some 0 then ((F_X0_isCarrier a0 x1 w).bind fun i2 =>if ¬ i2 = 0 then ((F_X0_tellsFor a0 x1 w).bind fun w16 => (fA w16 a0 0 3).bind fun a21p => (fA w16 a21p 4 1).bind fun a24p => (aA w16 a24p 103 1).bind fun a28p => (aI w16 a28p 100 x1).bind fun i30 => (F_X0_reachFrom a0 i30 w16).bind fun i31 => some (i31, w16)) else (cb (F_X0_finding a0 0 w) fun i10 w10 => some (i10, w10))) else none
abbrev rm_X0_reach : Room := { frames := 5, cells := 0, slots := 0, locals := 116 }
set_option maxHeartbeats 4000000 in
set_option maxRecDepth 100000 in
theorem ct_X0_reach {l : Launch} {g : Gt} (G : Gok g) {a0 : Option Nat} {x1 : Int32} {w : cH} {r9 : Int32} {w9 : cH} (hF : F_X0_reach a0 x1 w = some (r9, w9)) : tg w a0 = some 0 ∧ Mx l yX0_reach (ws_ yX0_reach cX0_reach 2 (some .int)) rm_X0_reach g [va_rf a0, .int x1] w (.returned (some (.int r9))) w9 0 0 := by
  unfold F_X0_reach at hF
  obtain ⟨ht, hF⟩ := bg hF
  refine ⟨ht, mk_ct cX0_reach 2 (some .int) "CarryFair" (plainFor_of_name (by decide)) rfl (lg_le ⟨cr _, rfl, trivial⟩ (Nat.le_of_ble_eq_true rfl)) (av_ok ⟨cr _, rfl, trivial⟩) G (fun x B hl hR hin hh => ?_)⟩
  show J g x _ _ 0 0 w 0 0 0 [some (va_rf a0), some (.int x1)] []
  refine j_aload_n B dX0_reach_0 rfl ?_
  refine j_iload_n B dX0_reach_1 rfl ?_
  obtain ⟨i2, e2, hF⟩ := bo hF
  refine j_rV (st2 := [.int i2]) B [.int x1] [] cv_X0_161 dX0_reach_2 hl hR (ct_X0_isCarrier G e2) rfl rfl rfl rfl trivial (Nat.le_of_ble_eq_true rfl) ?_
  refine j_if_ne (tgt := 14) B dX0_reach_5 (by decide) hF (fun h5 hF => ?_) (fun h5 hF => ?_)
  · refine j_aload_n B dX0_reach_14 rfl ?_
    refine j_iload_n B dX0_reach_15 rfl ?_
    obtain ⟨w16, e16, hF⟩ := bo hF
    refine j_rV (st2 := []) B [.int x1] [] cv_X0_239 dX0_reach_16 hl hR (ct_X0_tellsFor G e16) rfl rfl rfl rfl trivial (Nat.le_of_ble_eq_true rfl) ?_
    refine j_aload_n B dX0_reach_19 rfl ?_
    refine j_aload_n B dX0_reach_20 rfl ?_
    refine j_getA B fl_X0_61 dX0_reach_21 hF (fun a21p hF => ?_)
    refine j_getA B fl_X0_113 dX0_reach_24 hF (fun a24p hF => ?_)
    refine j_iconst (v := 1) B dX0_reach_27 (by decide) ?_
    refine j_aaload B 103 rfl rfl dX0_reach_28 hF (fun a28p hF => ?_)
    refine j_iload_n B dX0_reach_29 rfl ?_
    refine j_iaload B dX0_reach_30 hF (fun i30 hF => ?_)
    obtain ⟨i31, e31, hF⟩ := bo hF
    refine j_rV (st2 := [.int i31]) B [.int i30] [] cv_X0_355 dX0_reach_31 hl hR (ct_X0_reachFrom G e31) rfl rfl rfl rfl trivial (Nat.le_of_ble_eq_true rfl) ?_
    exact j_lIw B rfl dX0_reach_34 hF (by decide) (by decide)
  · refine j_aload_n B dX0_reach_8 rfl ?_
    refine j_iconst (v := 0) B dX0_reach_9 (by decide) ?_
    obtain ⟨i10, w10, e10, hF⟩ := bc hF
    refine j_rV (st2 := [.int i10]) B [.int 0] [] cv_X0_142 dX0_reach_10 hl hR (ct_X0_finding G e10) rfl rfl rfl rfl trivial (Nat.le_of_ble_eq_true rfl) ?_
    exact j_lIw B rfl dX0_reach_13 hF (by decide) (by decide)
theorem cs_X0_358 : CS "CarryFair" 358 yJ3_max cJ3_max 2 (some .int) 2 := ⟨Or.inl (lw_S q1010 q686 q143 q687), by decide +kernel⟩
def F_X0_farthest_J38 (rc5 : (Option Nat) → Int32 → Int32 → Int32 → Int32 → cH → Option Int32) (a0 : Option Nat) (x1 : Int32) (x2 : Int32) (x4 : Int32) (s0 : Int32) (w : cH) : Option Int32 :=
  rc5 a0 x1 x2 s0 (x4 + 1) w
def F_X0_farthest_B5 (rc5 : Option Nat → Int32 → Int32 → Int32 → Int32 → cH → Option Int32) (a0 : Option Nat) (x1 : Int32) (x2 : Int32) (x3 : Int32) (x4 : Int32) (w : cH) : Option Int32 :=
  if 7 ≤ x4 then (some (x3)) else (if (F_X0_has x2 x4) = 0 then (F_X0_farthest_J38  rc5 a0 x1 x2 x4 x3 w) else ((fA w a0 0 12).bind fun a23p => (aA w a23p 103 x1).bind fun a27p => (aI w a27p 100 x4).bind fun i30 => F_X0_farthest_J38  rc5 a0 x1 x2 x4 (F_J3_max x3 i30) w))
def F_X0_farthest_L5 : Nat → Option Nat → Int32 → Int32 → Int32 → Int32 → cH → Option Int32
  | 0, _, _, _, _, _, _ => none
  | n9 + 1, a0, x1, x2, x3, x4, w => F_X0_farthest_B5  (F_X0_farthest_L5  n9) a0 x1 x2 x3 x4 w
def F_X0_farthest (a0 : Option Nat) (x1 : Int32) (x2 : Int32) (w : cH) : Option Int32 :=
  if tg w a0 = some 0 then (F_X0_farthest_L5  fu a0 x1 x2 0 0 w) else none
abbrev rm_X0_farthest : Room := { frames := 1, cells := 0, slots := 0, locals := 21 }
set_option maxHeartbeats 4000000 in
set_option maxRecDepth 100000 in
theorem ct_X0_farthest {l : Launch} {g : Gt} (G : Gok g) {a0 : Option Nat} {x1 : Int32} {x2 : Int32} {w : cH} {r9 : Int32} (hF : F_X0_farthest a0 x1 x2 w = some r9) : tg w a0 = some 0 ∧ Mx l yX0_farthest (ws_ yX0_farthest cX0_farthest 5 (some .int)) rm_X0_farthest g [va_rf a0, .int x1, .int x2] w (.returned (some (.int r9))) w 0 0 := by
  unfold F_X0_farthest at hF
  obtain ⟨ht, hF⟩ := bg hF
  refine ⟨ht, mk_ct cX0_farthest 5 (some .int) "CarryFair" (plainFor_of_name (by decide)) rfl (lg_le ⟨cr _, rfl, rfl, trivial⟩ (Nat.le_of_ble_eq_true rfl)) (av_ok ⟨cr _, rfl, rfl, trivial⟩) G (fun x B hl hR hin hh => ?_)⟩
  show J g x _ _ 0 0 w 0 0 0 [some (va_rf a0), some (.int x1), some (.int x2), none, none] []
  have lp5 : ∀ (n9 : Nat) (a0 : Option Nat) (x1 : Int32) (x2 : Int32) (x3 : Int32) (x4 : Int32), F_X0_farthest_L5  n9 a0 x1 x2 x3 x4 w = some r9 → J g x (.returned (some (.int r9))) w 0 0 w 0 0 5 [some (va_rf a0), some (.int x1), some (.int x2), some (.int x3), some (.int x4)] [] := by
    intro n9
    induction n9 with
    | zero => intro a0 x1 x2 x3 x4 hF; cases hF
    | succ n5 ih5 =>
      intro a0 x1 x2 x3 x4 hF
      have hF : F_X0_farthest_B5  (F_X0_farthest_L5  n5) a0 x1 x2 x3 x4 w = some r9 := hF
      unfold F_X0_farthest_B5 at hF
      have jb38 : ∀ (a0 : Option Nat) (x1 : Int32) (x2 : Int32) (x4 : Int32) (s0 : Int32), F_X0_farthest_J38  (F_X0_farthest_L5  n5) a0 x1 x2 x4 s0 w = some r9 → J g x (.returned (some (.int r9))) w 0 0 w 0 0 38 [some (va_rf a0), some (.int x1), some (.int x2), none, some (.int x4)] [.int s0] := by
        intro a0 x1 x2 x4 s0 hF
        unfold F_X0_farthest_J38 at hF
        refine j_istore_n (vs' := [some (va_rf a0), some (.int x1), some (.int x2), some (.int s0), some (.int x4)]) B dX0_farthest_38 (by decide) rfl ?_
        refine j_iinc (v := x4 + 1) (vs' := [some (va_rf a0), some (.int x1), some (.int x2), some (.int s0), some (.int (x4 + 1))]) B dX0_farthest_39 (by decide) rfl rfl rfl ?_
        refine j_goto (tgt := 5) B dX0_farthest_42 (by decide) ?_
        exact ih5 a0 x1 x2 s0 (x4 + 1) hF
      refine j_iload B dX0_farthest_5 rfl ?_
      refine j_bipush (v := 7) B dX0_farthest_7 (by decide) ?_
      refine j_icmp_ge (tgt := 45) B dX0_farthest_9 (by decide) hF (fun h9 hF => ?_) (fun h9 hF => ?_)
      · refine j_iload_n B dX0_farthest_45 rfl ?_
        exact j_lI B rfl dX0_farthest_46 hF (by decide) (by decide)
      · refine j_iload_n B dX0_farthest_12 rfl ?_
        refine j_iload B dX0_farthest_13 rfl ?_
        refine j_rS (st2 := [.int (F_X0_has x2 x4)]) B [.int x2, .int x4] [] cs_X0_258 dX0_farthest_15 hl hR (ct_X0_has G) rfl rfl rfl rfl trivial (Nat.le_of_ble_eq_true rfl) ?_
        refine j_if_eq (tgt := 37) B dX0_farthest_18 (by decide) hF (fun h18 hF => ?_) (fun h18 hF => ?_)
        · refine j_iload_n B dX0_farthest_37 rfl ?_
          refine j_msk [true, true, true, false, true] rfl ?_
          exact jb38 a0 x1 x2 x4 x3 hF
        · refine j_iload_n B dX0_farthest_21 rfl ?_
          refine j_aload_n B dX0_farthest_22 rfl ?_
          refine j_getA B fl_X0_92 dX0_farthest_23 hF (fun a23p hF => ?_)
          refine j_iload_n B dX0_farthest_26 rfl ?_
          refine j_aaload B 103 rfl rfl dX0_farthest_27 hF (fun a27p hF => ?_)
          refine j_iload B dX0_farthest_28 rfl ?_
          refine j_iaload B dX0_farthest_30 hF (fun i30 hF => ?_)
          refine j_rS (st2 := [.int (F_J3_max x3 i30)]) B [.int x3, .int i30] [] cs_X0_358 dX0_farthest_31 hl hR (ct_J3_max G) rfl rfl rfl rfl trivial (Nat.le_of_ble_eq_true rfl) ?_
          refine j_goto (tgt := 38) B dX0_farthest_34 (by decide) ?_
          refine j_msk [true, true, true, false, true] rfl ?_
          exact jb38 a0 x1 x2 x4 (F_J3_max x3 i30) hF
  refine j_iconst (v := 0) B dX0_farthest_0 (by decide) ?_
  refine j_istore_n (vs' := [some (va_rf a0), some (.int x1), some (.int x2), some (.int 0), none]) B dX0_farthest_1 (by decide) rfl ?_
  refine j_iconst (v := 0) B dX0_farthest_2 (by decide) ?_
  refine j_istore (vs' := [some (va_rf a0), some (.int x1), some (.int x2), some (.int 0), some (.int 0)]) B dX0_farthest_3 (by decide) rfl ?_
  exact lp5 fu a0 x1 x2 0 0 hF
theorem cv_X0_361 : CV "CarryFair" 361 4 yX4_withWays cX4_withWays 4 (some .int) 0 := ⟨_, _, rfl, lw_V q1002 q1003 q1004 q133 q1005, by decide +kernel⟩
theorem cv_X0_364 : CV "CarryFair" 364 0 yX0_farthest cX0_farthest 5 (some .int) 2 := ⟨_, _, rfl, lw_V q1006 q1008 qs43 q126 q1009, by decide +kernel⟩
def F_X0_middleOf_J86 (rc18 : (Option Nat) → Int32 → Int32 → Int32 → cH → Option (Int32 × cH)) (a0 : Option Nat) (x2 : Int32) (x4 : Int32) (s0 : Int32) (w : cH) : Option (Int32 × cH) :=
  rc18 a0 x2 s0 (x4 + 1) w
def F_X0_middleOf_J73 (rc18 : (Option Nat) → Int32 → Int32 → Int32 → cH → Option (Int32 × cH)) (a0 : Option Nat) (x2 : Int32) (x3 : Int32) (x4 : Int32) (s0 : Int32) (w : cH) : Option (Int32 × cH) :=
  if s0 = 0 then (F_X0_middleOf_J86  rc18 a0 x2 x4 x3 w) else (F_X0_middleOf_J86  rc18 a0 x2 x4 x4 w)
def F_X0_middleOf_J72 (rc18 : (Option Nat) → Int32 → Int32 → Int32 → cH → Option (Int32 × cH)) (a0 : Option Nat) (x2 : Int32) (x3 : Int32) (x4 : Int32) (w : cH) : Option (Int32 × cH) :=
  F_X0_middleOf_J73  rc18 a0 x2 x3 x4 0 w
def F_X0_middleOf_J68 (rc18 : (Option Nat) → Int32 → Int32 → Int32 → cH → Option (Int32 × cH)) (a0 : Option Nat) (x2 : Int32) (x3 : Int32) (x4 : Int32) (w : cH) : Option (Int32 × cH) :=
  F_X0_middleOf_J73  rc18 a0 x2 x3 x4 1 w
def F_X0_middleOf_B18 (rc18 : Option Nat → Int32 → Int32 → Int32 → cH → Option (Int32 × cH)) (a0 : Option Nat) (x2 : Int32) (x3 : Int32) (x4 : Int32) (w : cH) : Option (Int32 × cH) :=
  if 7 ≤ x4 then (some (x3, w)) else (if (F_X0_has x2 x4) = 0 then (F_X0_middleOf_J72  rc18 a0 x2 x3 x4 w) else ((F_X0_reachFrom a0 x4 w).bind fun i38 =>if ¬ (x2 &&& (i38 ^^^ (-1))) = 0 then (F_X0_middleOf_J72  rc18 a0 x2 x3 x4 w) else (if x3 = (-1) then (F_X0_middleOf_J68  rc18 a0 x2 x3 x4 w) else ((F_X0_farthest a0 x4 x2 w).bind fun i56 => (F_X0_farthest a0 x3 x2 w).bind fun i62 =>if i62 ≤ i56 then (F_X0_middleOf_J72  rc18 a0 x2 x3 x4 w) else (F_X0_middleOf_J68  rc18 a0 x2 x3 x4 w)))))
def F_X0_middleOf_L18 : Nat → Option Nat → Int32 → Int32 → Int32 → cH → Option (Int32 × cH)
  | 0, _, _, _, _, _ => none
  | n9 + 1, a0, x2, x3, x4, w => F_X0_middleOf_B18  (F_X0_middleOf_L18  n9) a0 x2 x3 x4 w
def F_X0_middleOf (a0 : Option Nat) (x1 : Int32) (w : cH) : Option (Int32 × cH) :=
  if tg w a0 = some 0 then ((F_X0_tellsFor a0 x1 w).bind fun w2 => (fA w2 a0 0 3).bind fun a6p => (F_X4_withWays a6p w2).bind fun i9 => F_X0_middleOf_L18  fu a0 i9 (-1) 0 w2) else none
abbrev rm_X0_middleOf : Room := { frames := 5, cells := 0, slots := 0, locals := 116 }
set_option maxHeartbeats 4000000 in
set_option maxRecDepth 100000 in
theorem ct_X0_middleOf {l : Launch} {g : Gt} (G : Gok g) {a0 : Option Nat} {x1 : Int32} {w : cH} {r9 : Int32} {w9 : cH} (hF : F_X0_middleOf a0 x1 w = some (r9, w9)) : tg w a0 = some 0 ∧ Mx l yX0_middleOf (ws_ yX0_middleOf cX0_middleOf 6 (some .int)) rm_X0_middleOf g [va_rf a0, .int x1] w (.returned (some (.int r9))) w9 0 0 := by
  unfold F_X0_middleOf at hF
  obtain ⟨ht, hF⟩ := bg hF
  refine ⟨ht, mk_ct cX0_middleOf 6 (some .int) "CarryFair" (plainFor_of_name (by decide)) rfl (lg_le ⟨cr _, rfl, trivial⟩ (Nat.le_of_ble_eq_true rfl)) (av_ok ⟨cr _, rfl, trivial⟩) G (fun x B hl hR hin hh => ?_)⟩
  show J g x _ _ 0 0 w 0 0 0 [some (va_rf a0), some (.int x1), none, none, none, none] []
  have lp18 : ∀ (n9 : Nat) (a0 : Option Nat) (x2 : Int32) (x3 : Int32) (x4 : Int32) (w : cH), F_X0_middleOf_L18  n9 a0 x2 x3 x4 w = some (r9, w9) → J g x (.returned (some (.int r9))) w9 0 0 w 0 0 18 [some (va_rf a0), none, some (.int x2), some (.int x3), some (.int x4), none] [] := by
    intro n9
    induction n9 with
    | zero => intro a0 x2 x3 x4 w hF; cases hF
    | succ n18 ih18 =>
      intro a0 x2 x3 x4 w hF
      have hF : F_X0_middleOf_B18  (F_X0_middleOf_L18  n18) a0 x2 x3 x4 w = some (r9, w9) := hF
      unfold F_X0_middleOf_B18 at hF
      have jb86 : ∀ (a0 : Option Nat) (x2 : Int32) (x4 : Int32) (s0 : Int32) (w : cH), F_X0_middleOf_J86  (F_X0_middleOf_L18  n18) a0 x2 x4 s0 w = some (r9, w9) → J g x (.returned (some (.int r9))) w9 0 0 w 0 0 86 [some (va_rf a0), none, some (.int x2), none, some (.int x4), none] [.int s0] := by
        intro a0 x2 x4 s0 w hF
        unfold F_X0_middleOf_J86 at hF
        refine j_istore_n (vs' := [some (va_rf a0), none, some (.int x2), some (.int s0), some (.int x4), none]) B dX0_middleOf_86 (by decide) rfl ?_
        refine j_iinc (v := x4 + 1) (vs' := [some (va_rf a0), none, some (.int x2), some (.int s0), some (.int (x4 + 1)), none]) B dX0_middleOf_87 (by decide) rfl rfl rfl ?_
        refine j_goto (tgt := 18) B dX0_middleOf_90 (by decide) ?_
        exact ih18 a0 x2 s0 (x4 + 1) w hF
      have jb73 : ∀ (a0 : Option Nat) (x2 : Int32) (x3 : Int32) (x4 : Int32) (s0 : Int32) (w : cH), F_X0_middleOf_J73  (F_X0_middleOf_L18  n18) a0 x2 x3 x4 s0 w = some (r9, w9) → J g x (.returned (some (.int r9))) w9 0 0 w 0 0 73 [some (va_rf a0), none, some (.int x2), some (.int x3), some (.int x4), none] [.int s0] := by
        intro a0 x2 x3 x4 s0 w hF
        unfold F_X0_middleOf_J73 at hF
        refine j_istore (vs' := [some (va_rf a0), none, some (.int x2), some (.int x3), some (.int x4), some (.int s0)]) B dX0_middleOf_73 (by decide) rfl ?_
        refine j_iload B dX0_middleOf_75 rfl ?_
        refine j_if_eq (tgt := 85) B dX0_middleOf_77 (by decide) hF (fun h77 hF => ?_) (fun h77 hF => ?_)
        · refine j_iload_n B dX0_middleOf_85 rfl ?_
          refine j_msk [true, false, true, false, true, false] rfl ?_
          exact jb86 a0 x2 x4 x3 w hF
        · refine j_iload B dX0_middleOf_80 rfl ?_
          refine j_goto (tgt := 86) B dX0_middleOf_82 (by decide) ?_
          refine j_msk [true, false, true, false, true, false] rfl ?_
          exact jb86 a0 x2 x4 x4 w hF
      have jb72 : ∀ (a0 : Option Nat) (x2 : Int32) (x3 : Int32) (x4 : Int32) (w : cH), F_X0_middleOf_J72  (F_X0_middleOf_L18  n18) a0 x2 x3 x4 w = some (r9, w9) → J g x (.returned (some (.int r9))) w9 0 0 w 0 0 72 [some (va_rf a0), none, some (.int x2), some (.int x3), some (.int x4), none] [] := by
        intro a0 x2 x3 x4 w hF
        unfold F_X0_middleOf_J72 at hF
        refine j_iconst (v := 0) B dX0_middleOf_72 (by decide) ?_
        exact jb73 a0 x2 x3 x4 0 w hF
      have jb68 : ∀ (a0 : Option Nat) (x2 : Int32) (x3 : Int32) (x4 : Int32) (w : cH), F_X0_middleOf_J68  (F_X0_middleOf_L18  n18) a0 x2 x3 x4 w = some (r9, w9) → J g x (.returned (some (.int r9))) w9 0 0 w 0 0 68 [some (va_rf a0), none, some (.int x2), some (.int x3), some (.int x4), none] [] := by
        intro a0 x2 x3 x4 w hF
        unfold F_X0_middleOf_J68 at hF
        refine j_iconst (v := 1) B dX0_middleOf_68 (by decide) ?_
        refine j_goto (tgt := 73) B dX0_middleOf_69 (by decide) ?_
        exact jb73 a0 x2 x3 x4 1 w hF
      refine j_iload B dX0_middleOf_18 rfl ?_
      refine j_bipush (v := 7) B dX0_middleOf_20 (by decide) ?_
      refine j_icmp_ge (tgt := 93) B dX0_middleOf_22 (by decide) hF (fun h22 hF => ?_) (fun h22 hF => ?_)
      · refine j_iload_n B dX0_middleOf_93 rfl ?_
        exact j_lIw B rfl dX0_middleOf_94 hF (by decide) (by decide)
      · refine j_iload_n B dX0_middleOf_25 rfl ?_
        refine j_iload B dX0_middleOf_26 rfl ?_
        refine j_rS (st2 := [.int (F_X0_has x2 x4)]) B [.int x2, .int x4] [] cs_X0_258 dX0_middleOf_28 hl hR (ct_X0_has G) rfl rfl rfl rfl trivial (Nat.le_of_ble_eq_true rfl) ?_
        refine j_if_eq (tgt := 72) B dX0_middleOf_31 (by decide) hF (fun h31 hF => ?_) (fun h31 hF => ?_)
        · exact jb72 a0 x2 x3 x4 w hF
        · refine j_iload_n B dX0_middleOf_34 rfl ?_
          refine j_aload_n B dX0_middleOf_35 rfl ?_
          refine j_iload B dX0_middleOf_36 rfl ?_
          obtain ⟨i38, e38, hF⟩ := bo hF
          refine j_rV (st2 := [.int i38, .int x2]) B [.int x4] [.int x2] cv_X0_355 dX0_middleOf_38 hl hR (ct_X0_reachFrom G e38) rfl rfl rfl rfl ⟨rfl, trivial⟩ (Nat.le_of_ble_eq_true rfl) ?_
          refine j_iconst (v := (-1)) B dX0_middleOf_41 (by decide) ?_
          refine j_ixor B dX0_middleOf_42 ?_
          refine j_iand B dX0_middleOf_43 ?_
          refine j_if_ne (tgt := 72) B dX0_middleOf_44 (by decide) hF (fun h44 hF => ?_) (fun h44 hF => ?_)
          · exact jb72 a0 x2 x3 x4 w hF
          · refine j_iload_n B dX0_middleOf_47 rfl ?_
            refine j_iconst (v := (-1)) B dX0_middleOf_48 (by decide) ?_
            refine j_icmp_eq (tgt := 68) B dX0_middleOf_49 (by decide) hF (fun h49 hF => ?_) (fun h49 hF => ?_)
            · exact jb68 a0 x2 x3 x4 w hF
            · refine j_aload_n B dX0_middleOf_52 rfl ?_
              refine j_iload B dX0_middleOf_53 rfl ?_
              refine j_iload_n B dX0_middleOf_55 rfl ?_
              obtain ⟨i56, e56, hF⟩ := bo hF
              refine j_rV (st2 := [.int i56]) B [.int x4, .int x2] [] cv_X0_364 dX0_middleOf_56 hl hR (ct_X0_farthest G e56) rfl rfl rfl rfl trivial (Nat.le_of_ble_eq_true rfl) ?_
              refine j_aload_n B dX0_middleOf_59 rfl ?_
              refine j_iload_n B dX0_middleOf_60 rfl ?_
              refine j_iload_n B dX0_middleOf_61 rfl ?_
              obtain ⟨i62, e62, hF⟩ := bo hF
              refine j_rV (st2 := [.int i62, .int i56]) B [.int x3, .int x2] [.int i56] cv_X0_364 dX0_middleOf_62 hl hR (ct_X0_farthest G e62) rfl rfl rfl rfl ⟨rfl, trivial⟩ (Nat.le_of_ble_eq_true rfl) ?_
              refine j_icmp_ge (tgt := 72) B dX0_middleOf_65 (by decide) hF (fun h65 hF => ?_) (fun h65 hF => ?_)
              · exact jb72 a0 x2 x3 x4 w hF
              · exact jb68 a0 x2 x3 x4 w hF
  refine j_aload_n B dX0_middleOf_0 rfl ?_
  refine j_iload_n B dX0_middleOf_1 rfl ?_
  obtain ⟨w2, e2, hF⟩ := bo hF
  refine j_rV (st2 := []) B [.int x1] [] cv_X0_239 dX0_middleOf_2 hl hR (ct_X0_tellsFor G e2) rfl rfl rfl rfl trivial (Nat.le_of_ble_eq_true rfl) ?_
  refine j_aload_n B dX0_middleOf_5 rfl ?_
  refine j_getA B fl_X0_61 dX0_middleOf_6 hF (fun a6p hF => ?_)
  obtain ⟨i9, e9, hF⟩ := bo hF
  refine j_rV (st2 := [.int i9]) B [] [] cv_X0_361 dX0_middleOf_9 hl hR (ct_X4_withWays G e9) rfl rfl rfl rfl trivial (Nat.le_of_ble_eq_true rfl) ?_
  refine j_istore_n (vs' := [some (va_rf a0), some (.int x1), some (.int i9), none, none, none]) B dX0_middleOf_12 (by decide) rfl ?_
  refine j_iconst (v := (-1)) B dX0_middleOf_13 (by decide) ?_
  refine j_istore_n (vs' := [some (va_rf a0), some (.int x1), some (.int i9), some (.int (-1)), none, none]) B dX0_middleOf_14 (by decide) rfl ?_
  refine j_iconst (v := 0) B dX0_middleOf_15 (by decide) ?_
  refine j_istore (vs' := [some (va_rf a0), some (.int x1), some (.int i9), some (.int (-1)), some (.int 0), none]) B dX0_middleOf_16 (by decide) rfl ?_
  refine j_msk [true, false, true, true, true, false] rfl ?_
  exact lp18 fu a0 i9 (-1) 0 w2 hF
theorem cv_X0_367 : CV "CarryFair" 367 0 yX0_middleOf cX0_middleOf 6 (some .int) 1 := ⟨_, _, rfl, lw_V q998 q1000 qs42 q126 q1001, by decide +kernel⟩
def F_X0_middle (a0 : Option Nat) (x1 : Int32) (w : cH) : Option (Int32 × cH) :=
  if tg w a0 = some 0 then ((F_X0_isCarrier a0 x1 w).bind fun i2 =>if i2 = 0 then (cb (F_X0_finding a0 0 w) fun i22 w22 => some (i22, w22)) else (cb (F_X0_middleOf a0 x1 w) fun i11 w11 => cb (F_X0_orNone a0 i11 w11) fun i14 w14 => some (i14, w14))) else none
abbrev rm_X0_middle : Room := { frames := 6, cells := 0, slots := 0, locals := 141 }
set_option maxHeartbeats 4000000 in
set_option maxRecDepth 100000 in
theorem ct_X0_middle {l : Launch} {g : Gt} (G : Gok g) {a0 : Option Nat} {x1 : Int32} {w : cH} {r9 : Int32} {w9 : cH} (hF : F_X0_middle a0 x1 w = some (r9, w9)) : tg w a0 = some 0 ∧ Mx l yX0_middle (ws_ yX0_middle cX0_middle 2 (some .int)) rm_X0_middle g [va_rf a0, .int x1] w (.returned (some (.int r9))) w9 0 0 := by
  unfold F_X0_middle at hF
  obtain ⟨ht, hF⟩ := bg hF
  refine ⟨ht, mk_ct cX0_middle 2 (some .int) "CarryFair" (plainFor_of_name (by decide)) rfl (lg_le ⟨cr _, rfl, trivial⟩ (Nat.le_of_ble_eq_true rfl)) (av_ok ⟨cr _, rfl, trivial⟩) G (fun x B hl hR hin hh => ?_)⟩
  show J g x _ _ 0 0 w 0 0 0 [some (va_rf a0), some (.int x1)] []
  refine j_aload_n B dX0_middle_0 rfl ?_
  refine j_iload_n B dX0_middle_1 rfl ?_
  obtain ⟨i2, e2, hF⟩ := bo hF
  refine j_rV (st2 := [.int i2]) B [.int x1] [] cv_X0_161 dX0_middle_2 hl hR (ct_X0_isCarrier G e2) rfl rfl rfl rfl trivial (Nat.le_of_ble_eq_true rfl) ?_
  refine j_if_eq (tgt := 20) B dX0_middle_5 (by decide) hF (fun h5 hF => ?_) (fun h5 hF => ?_)
  · refine j_aload_n B dX0_middle_20 rfl ?_
    refine j_iconst (v := 0) B dX0_middle_21 (by decide) ?_
    obtain ⟨i22, w22, e22, hF⟩ := bc hF
    refine j_rV (st2 := [.int i22]) B [.int 0] [] cv_X0_142 dX0_middle_22 hl hR (ct_X0_finding G e22) rfl rfl rfl rfl trivial (Nat.le_of_ble_eq_true rfl) ?_
    exact j_lIw B rfl dX0_middle_25 hF (by decide) (by decide)
  · refine j_aload_n B dX0_middle_8 rfl ?_
    refine j_aload_n B dX0_middle_9 rfl ?_
    refine j_iload_n B dX0_middle_10 rfl ?_
    obtain ⟨i11, w11, e11, hF⟩ := bc hF
    refine j_rV (st2 := [.int i11, va_rf a0]) B [.int x1] [va_rf a0] cv_X0_367 dX0_middle_11 hl hR (ct_X0_middleOf G e11) rfl rfl rfl rfl ⟨cr _, trivial⟩ (Nat.le_of_ble_eq_true rfl) ?_
    obtain ⟨i14, w14, e14, hF⟩ := bc hF
    refine j_rV (st2 := [.int i14]) B [.int i11] [] cv_X0_223 dX0_middle_14 hl hR (ct_X0_orNone G e14) rfl rfl rfl rfl trivial (Nat.le_of_ble_eq_true rfl) ?_
    refine j_goto (tgt := 25) B dX0_middle_17 (by decide) ?_
    exact j_lIw B rfl dX0_middle_25 hF (by decide) (by decide)
def F_X0_heavy_J102 (rc53 : (Option Nat) → Int32 → Int32 → Int32 → Int32 → cH → Option (Int32 × cH)) (a0 : Option Nat) (x2 : Int32) (x3 : Int32) (x5 : Int32) (s0 : Int32) (s1 : Int32) (w : cH) : Option (Int32 × cH) :=
  rc53 a0 x2 x3 (s1 ||| s0) (x5 + 1) w
def F_X0_heavy_J101 (rc53 : (Option Nat) → Int32 → Int32 → Int32 → Int32 → cH → Option (Int32 × cH)) (a0 : Option Nat) (x2 : Int32) (x3 : Int32) (x5 : Int32) (s0 : Int32) (w : cH) : Option (Int32 × cH) :=
  F_X0_heavy_J102  rc53 a0 x2 x3 x5 0 s0 w
def F_X0_heavy_B53 (rc53 : Option Nat → Int32 → Int32 → Int32 → Int32 → cH → Option (Int32 × cH)) (a0 : Option Nat) (x2 : Int32) (x3 : Int32) (x4 : Int32) (x5 : Int32) (w : cH) : Option (Int32 × cH) :=
  (fA w a0 0 3).bind fun a56p => (fI w a56p 4 2).bind fun i59 =>if i59 ≤ x5 then (some (x4, w)) else (if (F_X0_has x2 x5) = 0 then (F_X0_heavy_J101  rc53 a0 x2 x3 x5 x4 w) else ((fA w a0 0 3).bind fun a77p => (fA w a77p 4 3).bind fun a80p => (aA w a80p 103 0).bind fun a84p => (aI w a84p 100 x5).bind fun i87 =>if (i87 / 2) ≤ x3 then (F_X0_heavy_J101  rc53 a0 x2 x3 x5 x4 w) else (F_X0_heavy_J102  rc53 a0 x2 x3 x5 (1 <<< (x5 &&& 31)) x4 w)))
def F_X0_heavy_L53 : Nat → Option Nat → Int32 → Int32 → Int32 → Int32 → cH → Option (Int32 × cH)
  | 0, _, _, _, _, _, _ => none
  | n9 + 1, a0, x2, x3, x4, x5, w => F_X0_heavy_B53  (F_X0_heavy_L53  n9) a0 x2 x3 x4 x5 w
def F_X0_heavy_J16 (a0 : Option Nat) (w : cH) : Option (Int32 × cH) :=
  cb (F_X0_finding a0 0 w) fun i18 w18 => some (i18, w18)
def F_X0_heavy (a0 : Option Nat) (x1 : Int32) (x2 : Int32) (w : cH) : Option (Int32 × cH) :=
  if tg w a0 = some 0 then ((F_X0_isCarrier a0 x1 w).bind fun i2 =>if i2 = 0 then (F_X0_heavy_J16  a0 w) else ((F_X0_isSet a0 x2 w).bind fun i10 =>if ¬ i10 = 0 then ((F_X0_bearsOf a0 x1 w).bind fun i24 => (fA w a0 0 3).bind fun a28p => (F_X4_weight a28p x2 w).bind fun i32 =>if 0 ≤ (i24 - i32) then (F_X0_heavy_L53  fu a0 x2 (i24 - i32) 0 0 w) else (cb (F_X0_finding a0 4 w) fun i43 w43 => some (i43, w43))) else (F_X0_heavy_J16  a0 w))) else none
abbrev rm_X0_heavy : Room := { frames := 3, cells := 0, slots := 0, locals := 63 }
set_option maxHeartbeats 4000000 in
set_option maxRecDepth 100000 in
theorem ct_X0_heavy {l : Launch} {g : Gt} (G : Gok g) {a0 : Option Nat} {x1 : Int32} {x2 : Int32} {w : cH} {r9 : Int32} {w9 : cH} (hF : F_X0_heavy a0 x1 x2 w = some (r9, w9)) : tg w a0 = some 0 ∧ Mx l yX0_heavy (ws_ yX0_heavy cX0_heavy 6 (some .int)) rm_X0_heavy g [va_rf a0, .int x1, .int x2] w (.returned (some (.int r9))) w9 0 0 := by
  unfold F_X0_heavy at hF
  obtain ⟨ht, hF⟩ := bg hF
  refine ⟨ht, mk_ct cX0_heavy 6 (some .int) "CarryFair" (plainFor_of_name (by decide)) rfl (lg_le ⟨cr _, rfl, rfl, trivial⟩ (Nat.le_of_ble_eq_true rfl)) (av_ok ⟨cr _, rfl, rfl, trivial⟩) G (fun x B hl hR hin hh => ?_)⟩
  show J g x _ _ 0 0 w 0 0 0 [some (va_rf a0), some (.int x1), some (.int x2), none, none, none] []
  have lp53 : ∀ (n9 : Nat) (a0 : Option Nat) (x2 : Int32) (x3 : Int32) (x4 : Int32) (x5 : Int32) (w : cH), F_X0_heavy_L53  n9 a0 x2 x3 x4 x5 w = some (r9, w9) → J g x (.returned (some (.int r9))) w9 0 0 w 0 0 53 [some (va_rf a0), none, some (.int x2), some (.int x3), some (.int x4), some (.int x5)] [] := by
    intro n9
    induction n9 with
    | zero => intro a0 x2 x3 x4 x5 w hF; cases hF
    | succ n53 ih53 =>
      intro a0 x2 x3 x4 x5 w hF
      have hF : F_X0_heavy_B53  (F_X0_heavy_L53  n53) a0 x2 x3 x4 x5 w = some (r9, w9) := hF
      unfold F_X0_heavy_B53 at hF
      have jb102 : ∀ (a0 : Option Nat) (x2 : Int32) (x3 : Int32) (x5 : Int32) (s0 : Int32) (s1 : Int32) (w : cH), F_X0_heavy_J102  (F_X0_heavy_L53  n53) a0 x2 x3 x5 s0 s1 w = some (r9, w9) → J g x (.returned (some (.int r9))) w9 0 0 w 0 0 102 [some (va_rf a0), none, some (.int x2), some (.int x3), none, some (.int x5)] [.int s0, .int s1] := by
        intro a0 x2 x3 x5 s0 s1 w hF
        unfold F_X0_heavy_J102 at hF
        refine j_ior B dX0_heavy_102 ?_
        refine j_istore (vs' := [some (va_rf a0), none, some (.int x2), some (.int x3), some (.int (s1 ||| s0)), some (.int x5)]) B dX0_heavy_103 (by decide) rfl ?_
        refine j_iinc (v := x5 + 1) (vs' := [some (va_rf a0), none, some (.int x2), some (.int x3), some (.int (s1 ||| s0)), some (.int (x5 + 1))]) B dX0_heavy_105 (by decide) rfl rfl rfl ?_
        refine j_goto (tgt := 53) B dX0_heavy_108 (by decide) ?_
        exact ih53 a0 x2 x3 (s1 ||| s0) (x5 + 1) w hF
      have jb101 : ∀ (a0 : Option Nat) (x2 : Int32) (x3 : Int32) (x5 : Int32) (s0 : Int32) (w : cH), F_X0_heavy_J101  (F_X0_heavy_L53  n53) a0 x2 x3 x5 s0 w = some (r9, w9) → J g x (.returned (some (.int r9))) w9 0 0 w 0 0 101 [some (va_rf a0), none, some (.int x2), some (.int x3), none, some (.int x5)] [.int s0] := by
        intro a0 x2 x3 x5 s0 w hF
        unfold F_X0_heavy_J101 at hF
        refine j_iconst (v := 0) B dX0_heavy_101 (by decide) ?_
        exact jb102 a0 x2 x3 x5 0 s0 w hF
      refine j_iload B dX0_heavy_53 rfl ?_
      refine j_aload_n B dX0_heavy_55 rfl ?_
      refine j_getA B fl_X0_61 dX0_heavy_56 hF (fun a56p hF => ?_)
      refine j_getI B fl_X0_127 dX0_heavy_59 hF (fun i59 hF => ?_)
      refine j_icmp_ge (tgt := 111) B dX0_heavy_62 (by decide) hF (fun h62 hF => ?_) (fun h62 hF => ?_)
      · refine j_iload B dX0_heavy_111 rfl ?_
        exact j_lIw B rfl dX0_heavy_113 hF (by decide) (by decide)
      · refine j_iload B dX0_heavy_65 rfl ?_
        refine j_iload_n B dX0_heavy_67 rfl ?_
        refine j_iload B dX0_heavy_68 rfl ?_
        refine j_rS (st2 := [.int (F_X0_has x2 x5), .int x4]) B [.int x2, .int x5] [.int x4] cs_X0_258 dX0_heavy_70 hl hR (ct_X0_has G) rfl rfl rfl rfl ⟨rfl, trivial⟩ (Nat.le_of_ble_eq_true rfl) ?_
        refine j_if_eq (tgt := 101) B dX0_heavy_73 (by decide) hF (fun h73 hF => ?_) (fun h73 hF => ?_)
        · refine j_msk [true, false, true, true, false, true] rfl ?_
          exact jb101 a0 x2 x3 x5 x4 w hF
        · refine j_aload_n B dX0_heavy_76 rfl ?_
          refine j_getA B fl_X0_61 dX0_heavy_77 hF (fun a77p hF => ?_)
          refine j_getA B fl_X0_214 dX0_heavy_80 hF (fun a80p hF => ?_)
          refine j_iconst (v := 0) B dX0_heavy_83 (by decide) ?_
          refine j_aaload B 103 rfl rfl dX0_heavy_84 hF (fun a84p hF => ?_)
          refine j_iload B dX0_heavy_85 rfl ?_
          refine j_iaload B dX0_heavy_87 hF (fun i87 hF => ?_)
          refine j_iconst (v := 2) B dX0_heavy_88 (by decide) ?_
          refine j_idiv B dX0_heavy_89 (by decide) ?_
          refine j_iload_n B dX0_heavy_90 rfl ?_
          refine j_icmp_le (tgt := 101) B dX0_heavy_91 (by decide) hF (fun h91 hF => ?_) (fun h91 hF => ?_)
          · refine j_msk [true, false, true, true, false, true] rfl ?_
            exact jb101 a0 x2 x3 x5 x4 w hF
          · refine j_iconst (v := 1) B dX0_heavy_94 (by decide) ?_
            refine j_iload B dX0_heavy_95 rfl ?_
            refine j_ishl B dX0_heavy_97 ?_
            refine j_goto (tgt := 102) B dX0_heavy_98 (by decide) ?_
            refine j_msk [true, false, true, true, false, true] rfl ?_
            exact jb102 a0 x2 x3 x5 (1 <<< (x5 &&& 31)) x4 w hF
  have jb16 : ∀ (a0 : Option Nat) (w : cH), F_X0_heavy_J16  a0 w = some (r9, w9) → J g x (.returned (some (.int r9))) w9 0 0 w 0 0 16 [some (va_rf a0), none, none, none, none, none] [] := by
    intro a0 w hF
    unfold F_X0_heavy_J16 at hF
    refine j_aload_n B dX0_heavy_16 rfl ?_
    refine j_iconst (v := 0) B dX0_heavy_17 (by decide) ?_
    obtain ⟨i18, w18, e18, hF⟩ := bc hF
    refine j_rV (st2 := [.int i18]) B [.int 0] [] cv_X0_142 dX0_heavy_18 hl hR (ct_X0_finding G e18) rfl rfl rfl rfl trivial (Nat.le_of_ble_eq_true rfl) ?_
    exact j_lIw B rfl dX0_heavy_21 hF (by decide) (by decide)
  refine j_aload_n B dX0_heavy_0 rfl ?_
  refine j_iload_n B dX0_heavy_1 rfl ?_
  obtain ⟨i2, e2, hF⟩ := bo hF
  refine j_rV (st2 := [.int i2]) B [.int x1] [] cv_X0_161 dX0_heavy_2 hl hR (ct_X0_isCarrier G e2) rfl rfl rfl rfl trivial (Nat.le_of_ble_eq_true rfl) ?_
  refine j_if_eq (tgt := 16) B dX0_heavy_5 (by decide) hF (fun h5 hF => ?_) (fun h5 hF => ?_)
  · refine j_msk [true, false, false, false, false, false] rfl ?_
    exact jb16 a0 w hF
  · refine j_aload_n B dX0_heavy_8 rfl ?_
    refine j_iload_n B dX0_heavy_9 rfl ?_
    obtain ⟨i10, e10, hF⟩ := bo hF
    refine j_rV (st2 := [.int i10]) B [.int x2] [] cv_X0_133 dX0_heavy_10 hl hR (ct_X0_isSet G e10) rfl rfl rfl rfl trivial (Nat.le_of_ble_eq_true rfl) ?_
    refine j_if_ne (tgt := 22) B dX0_heavy_13 (by decide) hF (fun h13 hF => ?_) (fun h13 hF => ?_)
    · refine j_aload_n B dX0_heavy_22 rfl ?_
      refine j_iload_n B dX0_heavy_23 rfl ?_
      obtain ⟨i24, e24, hF⟩ := bo hF
      refine j_rV (st2 := [.int i24]) B [.int x1] [] cv_X0_167 dX0_heavy_24 hl hR (ct_X0_bearsOf G e24) rfl rfl rfl rfl trivial (Nat.le_of_ble_eq_true rfl) ?_
      refine j_aload_n B dX0_heavy_27 rfl ?_
      refine j_getA B fl_X0_61 dX0_heavy_28 hF (fun a28p hF => ?_)
      refine j_iload_n B dX0_heavy_31 rfl ?_
      obtain ⟨i32, e32, hF⟩ := bo hF
      refine j_rV (st2 := [.int i32, .int i24]) B [.int x2] [.int i24] cv_X0_173 dX0_heavy_32 hl hR (ct_X4_weight G e32) rfl rfl rfl rfl ⟨rfl, trivial⟩ (Nat.le_of_ble_eq_true rfl) ?_
      refine j_isub B dX0_heavy_35 ?_
      refine j_istore_n (vs' := [some (va_rf a0), some (.int x1), some (.int x2), some (.int (i24 - i32)), none, none]) B dX0_heavy_36 (by decide) rfl ?_
      refine j_iload_n B dX0_heavy_37 rfl ?_
      refine j_if_ge (tgt := 47) B dX0_heavy_38 (by decide) hF (fun h38 hF => ?_) (fun h38 hF => ?_)
      · refine j_iconst (v := 0) B dX0_heavy_47 (by decide) ?_
        refine j_istore (vs' := [some (va_rf a0), some (.int x1), some (.int x2), some (.int (i24 - i32)), some (.int 0), none]) B dX0_heavy_48 (by decide) rfl ?_
        refine j_iconst (v := 0) B dX0_heavy_50 (by decide) ?_
        refine j_istore (vs' := [some (va_rf a0), some (.int x1), some (.int x2), some (.int (i24 - i32)), some (.int 0), some (.int 0)]) B dX0_heavy_51 (by decide) rfl ?_
        refine j_msk [true, false, true, true, true, true] rfl ?_
        exact lp53 fu a0 x2 (i24 - i32) 0 0 w hF
      · refine j_aload_n B dX0_heavy_41 rfl ?_
        refine j_iconst (v := 4) B dX0_heavy_42 (by decide) ?_
        obtain ⟨i43, w43, e43, hF⟩ := bc hF
        refine j_rV (st2 := [.int i43]) B [.int 4] [] cv_X0_142 dX0_heavy_43 hl hR (ct_X0_finding G e43) rfl rfl rfl rfl trivial (Nat.le_of_ble_eq_true rfl) ?_
        exact j_lIw B rfl dX0_heavy_46 hF (by decide) (by decide)
    · refine j_msk [true, false, false, false, false, false] rfl ?_
      exact jb16 a0 w hF
def F_X0_whyNoDay (a0 : Option Nat) (x1 : Int32) (w : cH) : Option Int32 :=
  if tg w a0 = some 0 then (if ¬ (F_X0_in x1 1 12) = 0 then ((fA w a0 0 3).bind fun a15p => (fI w a15p 4 0).bind fun i18 =>if ¬ i18 = 0 then (some ((-1))) else (some (4))) else (some (0))) else none
abbrev rm_X0_whyNoDay : Room := { frames := 1, cells := 0, slots := 0, locals := 22 }
set_option maxHeartbeats 4000000 in
set_option maxRecDepth 100000 in
theorem ct_X0_whyNoDay {l : Launch} {g : Gt} (G : Gok g) {a0 : Option Nat} {x1 : Int32} {w : cH} {r9 : Int32} (hF : F_X0_whyNoDay a0 x1 w = some r9) : tg w a0 = some 0 ∧ Mx l yX0_whyNoDay (ws_ yX0_whyNoDay cX0_whyNoDay 2 (some .int)) rm_X0_whyNoDay g [va_rf a0, .int x1] w (.returned (some (.int r9))) w 0 0 := by
  unfold F_X0_whyNoDay at hF
  obtain ⟨ht, hF⟩ := bg hF
  refine ⟨ht, mk_ct cX0_whyNoDay 2 (some .int) "CarryFair" (plainFor_of_name (by decide)) rfl (lg_le ⟨cr _, rfl, trivial⟩ (Nat.le_of_ble_eq_true rfl)) (av_ok ⟨cr _, rfl, trivial⟩) G (fun x B hl hR hin hh => ?_)⟩
  show J g x _ _ 0 0 w 0 0 0 [some (va_rf a0), some (.int x1)] []
  refine j_iload_n B dX0_whyNoDay_0 rfl ?_
  refine j_iconst (v := 1) B dX0_whyNoDay_1 (by decide) ?_
  refine j_bipush (v := 12) B dX0_whyNoDay_2 (by decide) ?_
  refine j_rS (st2 := [.int (F_X0_in x1 1 12)]) B [.int x1, .int 1, .int 12] [] cs_X0_3 dX0_whyNoDay_4 hl hR (ct_X0_in G) rfl rfl rfl rfl trivial (Nat.le_of_ble_eq_true rfl) ?_
  refine j_if_ne (tgt := 14) B dX0_whyNoDay_7 (by decide) hF (fun h7 hF => ?_) (fun h7 hF => ?_)
  · refine j_aload_n B dX0_whyNoDay_14 rfl ?_
    refine j_getA B fl_X0_61 dX0_whyNoDay_15 hF (fun a15p hF => ?_)
    refine j_getI B fl_X0_125 dX0_whyNoDay_18 hF (fun i18 hF => ?_)
    refine j_if_ne (tgt := 28) B dX0_whyNoDay_21 (by decide) hF (fun h21 hF => ?_) (fun h21 hF => ?_)
    · refine j_iconst (v := (-1)) B dX0_whyNoDay_28 (by decide) ?_
      exact j_lI B rfl dX0_whyNoDay_29 hF (by decide) (by decide)
    · refine j_iconst (v := 4) B dX0_whyNoDay_24 (by decide) ?_
      refine j_goto (tgt := 29) B dX0_whyNoDay_25 (by decide) ?_
      exact j_lI B rfl dX0_whyNoDay_29 hF (by decide) (by decide)
  · refine j_iconst (v := 0) B dX0_whyNoDay_10 (by decide) ?_
    refine j_goto (tgt := 29) B dX0_whyNoDay_11 (by decide) ?_
    exact j_lI B rfl dX0_whyNoDay_29 hF (by decide) (by decide)
def F_X0_takesAll_J54 (rc2 : (Option Nat) → Int32 → Int32 → cH → Option cH) (a0 : Option Nat) (x1 : Int32) (x2 : Int32) (w : cH) : Option cH :=
  rc2 a0 x1 (x2 + 1) w
def F_X0_takesAll_B2 (rc2 : Option Nat → Int32 → Int32 → cH → Option cH) (a0 : Option Nat) (x1 : Int32) (x2 : Int32) (w : cH) : Option cH :=
  (fA w a0 0 3).bind fun a4p => (fI w a4p 4 2).bind fun i7 =>if i7 ≤ x2 then (some w) else ((fA w a0 0 3).bind fun a14p => (fA w a0 0 3).bind fun a19p => (fA w a19p 4 1).bind fun a22p => (aA w a22p 103 1).bind fun a26p => (aI w a26p 100 x1).bind fun i28 => (F_X4_liesAt a14p x2 i28 w).bind fun i29 =>if i29 = 0 then (F_X0_takesAll_J54  rc2 a0 x1 x2 w) else ((F_X0_canTake a0 x1 x2 w).bind fun i38 =>if i38 = 0 then (F_X0_takesAll_J54  rc2 a0 x1 x2 w) else ((fA w a0 0 3).bind fun a45p => (F_X4_puts a45p x2 1 x1 w).bind fun w51 => F_X0_takesAll_J54  rc2 a0 x1 x2 w51)))
def F_X0_takesAll_L2 : Nat → Option Nat → Int32 → Int32 → cH → Option cH
  | 0, _, _, _, _ => none
  | n9 + 1, a0, x1, x2, w => F_X0_takesAll_B2  (F_X0_takesAll_L2  n9) a0 x1 x2 w
def F_X0_takesAll (a0 : Option Nat) (x1 : Int32) (w : cH) : Option cH :=
  if tg w a0 = some 0 then (F_X0_takesAll_L2  fu a0 x1 0 w) else none
abbrev rm_X0_takesAll : Room := { frames := 4, cells := 0, slots := 0, locals := 85 }
set_option maxHeartbeats 4000000 in
set_option maxRecDepth 100000 in
theorem ct_X0_takesAll {l : Launch} {g : Gt} (G : Gok g) {a0 : Option Nat} {x1 : Int32} {w : cH}  {w9 : cH} (hF : F_X0_takesAll a0 x1 w = some w9) : tg w a0 = some 0 ∧ Mx l yX0_takesAll (ws_ yX0_takesAll cX0_takesAll 3 none) rm_X0_takesAll g [va_rf a0, .int x1] w (.returned none) w9 0 0 := by
  unfold F_X0_takesAll at hF
  obtain ⟨ht, hF⟩ := bg hF
  refine ⟨ht, mk_ct cX0_takesAll 3 none "CarryFair" (plainFor_of_name (by decide)) rfl (lg_le ⟨cr _, rfl, trivial⟩ (Nat.le_of_ble_eq_true rfl)) (av_ok ⟨cr _, rfl, trivial⟩) G (fun x B hl hR hin hh => ?_)⟩
  show J g x _ _ 0 0 w 0 0 0 [some (va_rf a0), some (.int x1), none] []
  have lp2 : ∀ (n9 : Nat) (a0 : Option Nat) (x1 : Int32) (x2 : Int32) (w : cH), F_X0_takesAll_L2  n9 a0 x1 x2 w = some w9 → J g x (.returned none) w9 0 0 w 0 0 2 [some (va_rf a0), some (.int x1), some (.int x2)] [] := by
    intro n9
    induction n9 with
    | zero => intro a0 x1 x2 w hF; cases hF
    | succ n2 ih2 =>
      intro a0 x1 x2 w hF
      have hF : F_X0_takesAll_B2  (F_X0_takesAll_L2  n2) a0 x1 x2 w = some w9 := hF
      unfold F_X0_takesAll_B2 at hF
      have jb54 : ∀ (a0 : Option Nat) (x1 : Int32) (x2 : Int32) (w : cH), F_X0_takesAll_J54  (F_X0_takesAll_L2  n2) a0 x1 x2 w = some w9 → J g x (.returned none) w9 0 0 w 0 0 54 [some (va_rf a0), some (.int x1), some (.int x2)] [] := by
        intro a0 x1 x2 w hF
        unfold F_X0_takesAll_J54 at hF
        refine j_iinc (v := x2 + 1) (vs' := [some (va_rf a0), some (.int x1), some (.int (x2 + 1))]) B dX0_takesAll_54 (by decide) rfl rfl rfl ?_
        refine j_goto (tgt := 2) B dX0_takesAll_57 (by decide) ?_
        exact ih2 a0 x1 (x2 + 1) w hF
      refine j_iload_n B dX0_takesAll_2 rfl ?_
      refine j_aload_n B dX0_takesAll_3 rfl ?_
      refine j_getA B fl_X0_61 dX0_takesAll_4 hF (fun a4p hF => ?_)
      refine j_getI B fl_X0_127 dX0_takesAll_7 hF (fun i7 hF => ?_)
      refine j_icmp_ge (tgt := 60) B dX0_takesAll_10 (by decide) hF (fun h10 hF => ?_) (fun h10 hF => ?_)
      · exact j_lV B rfl dX0_takesAll_60 hF (by decide) (by decide)
      · refine j_aload_n B dX0_takesAll_13 rfl ?_
        refine j_getA B fl_X0_61 dX0_takesAll_14 hF (fun a14p hF => ?_)
        refine j_iload_n B dX0_takesAll_17 rfl ?_
        refine j_aload_n B dX0_takesAll_18 rfl ?_
        refine j_getA B fl_X0_61 dX0_takesAll_19 hF (fun a19p hF => ?_)
        refine j_getA B fl_X0_113 dX0_takesAll_22 hF (fun a22p hF => ?_)
        refine j_iconst (v := 1) B dX0_takesAll_25 (by decide) ?_
        refine j_aaload B 103 rfl rfl dX0_takesAll_26 hF (fun a26p hF => ?_)
        refine j_iload_n B dX0_takesAll_27 rfl ?_
        refine j_iaload B dX0_takesAll_28 hF (fun i28 hF => ?_)
        obtain ⟨i29, e29, hF⟩ := bo hF
        refine j_rV (st2 := [.int i29]) B [.int x2, .int i28] [] cv_X0_249 dX0_takesAll_29 hl hR (ct_X4_liesAt G e29) rfl rfl rfl rfl trivial (Nat.le_of_ble_eq_true rfl) ?_
        refine j_if_eq (tgt := 54) B dX0_takesAll_32 (by decide) hF (fun h32 hF => ?_) (fun h32 hF => ?_)
        · exact jb54 a0 x1 x2 w hF
        · refine j_aload_n B dX0_takesAll_35 rfl ?_
          refine j_iload_n B dX0_takesAll_36 rfl ?_
          refine j_iload_n B dX0_takesAll_37 rfl ?_
          obtain ⟨i38, e38, hF⟩ := bo hF
          refine j_rV (st2 := [.int i38]) B [.int x1, .int x2] [] cv_X0_252 dX0_takesAll_38 hl hR (ct_X0_canTake G e38) rfl rfl rfl rfl trivial (Nat.le_of_ble_eq_true rfl) ?_
          refine j_if_eq (tgt := 54) B dX0_takesAll_41 (by decide) hF (fun h41 hF => ?_) (fun h41 hF => ?_)
          · exact jb54 a0 x1 x2 w hF
          · refine j_aload_n B dX0_takesAll_44 rfl ?_
            refine j_getA B fl_X0_61 dX0_takesAll_45 hF (fun a45p hF => ?_)
            refine j_iload_n B dX0_takesAll_48 rfl ?_
            refine j_iconst (v := 1) B dX0_takesAll_49 (by decide) ?_
            refine j_iload_n B dX0_takesAll_50 rfl ?_
            obtain ⟨w51, e51, hF⟩ := bo hF
            refine j_rV (st2 := []) B [.int x2, .int 1, .int x1] [] cv_X0_255 dX0_takesAll_51 hl hR (ct_X4_puts G e51) rfl rfl rfl rfl trivial (Nat.le_of_ble_eq_true rfl) ?_
            exact jb54 a0 x1 x2 w51 hF
  refine j_iconst (v := 0) B dX0_takesAll_0 (by decide) ?_
  refine j_istore_n (vs' := [some (va_rf a0), some (.int x1), some (.int 0)]) B dX0_takesAll_1 (by decide) rfl ?_
  exact lp2 fu a0 x1 0 w hF
theorem cv_X0_370 : CV "CarryFair" 370 4 yX4_draw cX4_draw 1 (some .int) 0 := ⟨_, _, rfl, lw_V q1027 q1028 q1029 q133 q1030, by decide +kernel⟩
theorem cv_X0_373 : CV "CarryFair" 373 0 yX0_takesAll cX0_takesAll 3 none 1 := ⟨_, _, rfl, lw_V q1032 q1034 qs46 q126 q1035, by decide +kernel⟩
def F_X0_works_J93 (rc14 : (Option Nat) → Int32 → Int32 → Int32 → cH → Option (Int32 × cH)) (a0 : Option Nat) (x1 : Int32) (x2 : Int32) (x3 : Int32) (w : cH) : Option (Int32 × cH) :=
  rc14 a0 x1 x2 (x3 + 1) w
def F_X0_works_B14 (rc14 : Option Nat → Int32 → Int32 → Int32 → cH → Option (Int32 × cH)) (a0 : Option Nat) (x1 : Int32) (x2 : Int32) (x3 : Int32) (w : cH) : Option (Int32 × cH) :=
  if x1 ≤ x3 then ((fA w a0 0 3).bind fun a100p => (F_X4_being a100p 2 w).bind fun i104 => some ((F_J4_bitCount i104) - x2, w)) else ((fA w a0 0 3).bind fun a20p => cb (F_X4_draw a20p w) fun i23 w23 => (fA w23 a0 0 3).bind fun a27p => (fI w23 a27p 4 0).bind fun i30 => if ¬ i30 = 0 then ((F_X0_takesAll a0 (i23 - i23 / i30 * i30) w23).bind fun w39 => (fA w39 a0 0 3).bind fun a43p => cb (F_X4_draw a43p w39) fun i46 w46 => (fA w46 a0 0 3).bind fun a58p => (fA w46 a58p 4 1).bind fun a61p => (aA w46 a61p 103 1).bind fun a65p => (aI w46 a65p 100 (i23 - i23 / i30 * i30)).bind fun i68 => cb (F_X0_farOf a0 (i23 - i23 / i30 * i30) i68 (i46 - i46 / 7 * 7) w46) fun i71 w71 =>if i71 = (-1) then (F_X0_works_J93  rc14 a0 x1 x2 x3 w71) else (cb (F_X0_walks a0 (i23 - i23 / i30 * i30) (i46 - i46 / 7 * 7) i71 w71) fun i89 w89 => F_X0_works_J93  rc14 a0 x1 x2 x3 w89)) else none)
def F_X0_works_L14 : Nat → Option Nat → Int32 → Int32 → Int32 → cH → Option (Int32 × cH)
  | 0, _, _, _, _, _ => none
  | n9 + 1, a0, x1, x2, x3, w => F_X0_works_B14  (F_X0_works_L14  n9) a0 x1 x2 x3 w
def F_X0_works (a0 : Option Nat) (x1 : Int32) (w : cH) : Option (Int32 × cH) :=
  if tg w a0 = some 0 then ((fA w a0 0 3).bind fun a1p => (F_X4_being a1p 2 w).bind fun i5 => F_X0_works_L14  fu a0 x1 (F_J4_bitCount i5) 0 w) else none
abbrev rm_X0_works : Room := { frames := 7, cells := 0, slots := 0, locals := 166 }
set_option maxHeartbeats 4000000 in
set_option maxRecDepth 100000 in
theorem ct_X0_works {l : Launch} {g : Gt} (G : Gok g) {a0 : Option Nat} {x1 : Int32} {w : cH} {r9 : Int32} {w9 : cH} (hF : F_X0_works a0 x1 w = some (r9, w9)) : tg w a0 = some 0 ∧ Mx l yX0_works (ws_ yX0_works cX0_works 7 (some .int)) rm_X0_works g [va_rf a0, .int x1] w (.returned (some (.int r9))) w9 0 0 := by
  unfold F_X0_works at hF
  obtain ⟨ht, hF⟩ := bg hF
  refine ⟨ht, mk_ct cX0_works 7 (some .int) "CarryFair" (plainFor_of_name (by decide)) rfl (lg_le ⟨cr _, rfl, trivial⟩ (Nat.le_of_ble_eq_true rfl)) (av_ok ⟨cr _, rfl, trivial⟩) G (fun x B hl hR hin hh => ?_)⟩
  show J g x _ _ 0 0 w 0 0 0 [some (va_rf a0), some (.int x1), none, none, none, none, none] []
  have lp14 : ∀ (n9 : Nat) (a0 : Option Nat) (x1 : Int32) (x2 : Int32) (x3 : Int32) (w : cH), F_X0_works_L14  n9 a0 x1 x2 x3 w = some (r9, w9) → J g x (.returned (some (.int r9))) w9 0 0 w 0 0 14 [some (va_rf a0), some (.int x1), some (.int x2), some (.int x3), none, none, none] [] := by
    intro n9
    induction n9 with
    | zero => intro a0 x1 x2 x3 w hF; cases hF
    | succ n14 ih14 =>
      intro a0 x1 x2 x3 w hF
      have hF : F_X0_works_B14  (F_X0_works_L14  n14) a0 x1 x2 x3 w = some (r9, w9) := hF
      unfold F_X0_works_B14 at hF
      have jb93 : ∀ (a0 : Option Nat) (x1 : Int32) (x2 : Int32) (x3 : Int32) (w : cH), F_X0_works_J93  (F_X0_works_L14  n14) a0 x1 x2 x3 w = some (r9, w9) → J g x (.returned (some (.int r9))) w9 0 0 w 0 0 93 [some (va_rf a0), some (.int x1), some (.int x2), some (.int x3), none, none, none] [] := by
        intro a0 x1 x2 x3 w hF
        unfold F_X0_works_J93 at hF
        refine j_iinc (v := x3 + 1) (vs' := [some (va_rf a0), some (.int x1), some (.int x2), some (.int (x3 + 1)), none, none, none]) B dX0_works_93 (by decide) rfl rfl rfl ?_
        refine j_goto (tgt := 14) B dX0_works_96 (by decide) ?_
        exact ih14 a0 x1 x2 (x3 + 1) w hF
      refine j_iload_n B dX0_works_14 rfl ?_
      refine j_iload_n B dX0_works_15 rfl ?_
      refine j_icmp_ge (tgt := 99) B dX0_works_16 (by decide) hF (fun h16 hF => ?_) (fun h16 hF => ?_)
      · refine j_aload_n B dX0_works_99 rfl ?_
        refine j_getA B fl_X0_61 dX0_works_100 hF (fun a100p hF => ?_)
        refine j_iconst (v := 2) B dX0_works_103 (by decide) ?_
        obtain ⟨i104, e104, hF⟩ := bo hF
        refine j_rV (st2 := [.int i104]) B [.int 2] [] cv_X0_270 dX0_works_104 hl hR (ct_X4_being G e104) rfl rfl rfl rfl trivial (Nat.le_of_ble_eq_true rfl) ?_
        refine j_rS (st2 := [.int (F_J4_bitCount i104)]) B [.int i104] [] cs_X0_136 dX0_works_107 hl hR (ct_J4_bitCount G) rfl rfl rfl rfl trivial (Nat.le_of_ble_eq_true rfl) ?_
        refine j_iload_n B dX0_works_110 rfl ?_
        refine j_isub B dX0_works_111 ?_
        exact j_lIw B rfl dX0_works_112 hF (by decide) (by decide)
      · refine j_aload_n B dX0_works_19 rfl ?_
        refine j_getA B fl_X0_61 dX0_works_20 hF (fun a20p hF => ?_)
        obtain ⟨i23, w23, e23, hF⟩ := bc hF
        refine j_rV (st2 := [.int i23]) B [] [] cv_X0_370 dX0_works_23 hl hR (ct_X4_draw G e23) rfl rfl rfl rfl trivial (Nat.le_of_ble_eq_true rfl) ?_
        refine j_aload_n B dX0_works_26 rfl ?_
        refine j_getA B fl_X0_61 dX0_works_27 hF (fun a27p hF => ?_)
        refine j_getI B fl_X0_125 dX0_works_30 hF (fun i30 hF => ?_)
        obtain ⟨hne, hF⟩ := bg hF
        refine j_irem B dX0_works_33 hne ?_
        refine j_istore (vs' := [some (va_rf a0), some (.int x1), some (.int x2), some (.int x3), some (.int (i23 - i23 / i30 * i30)), none, none]) B dX0_works_34 (by decide) rfl ?_
        refine j_aload_n B dX0_works_36 rfl ?_
        refine j_iload B dX0_works_37 rfl ?_
        obtain ⟨w39, e39, hF⟩ := bo hF
        refine j_rV (st2 := []) B [.int (i23 - i23 / i30 * i30)] [] cv_X0_373 dX0_works_39 hl hR (ct_X0_takesAll G e39) rfl rfl rfl rfl trivial (Nat.le_of_ble_eq_true rfl) ?_
        refine j_aload_n B dX0_works_42 rfl ?_
        refine j_getA B fl_X0_61 dX0_works_43 hF (fun a43p hF => ?_)
        obtain ⟨i46, w46, e46, hF⟩ := bc hF
        refine j_rV (st2 := [.int i46]) B [] [] cv_X0_370 dX0_works_46 hl hR (ct_X4_draw G e46) rfl rfl rfl rfl trivial (Nat.le_of_ble_eq_true rfl) ?_
        refine j_bipush (v := 7) B dX0_works_49 (by decide) ?_
        refine j_irem B dX0_works_51 (by decide) ?_
        refine j_istore (vs' := [some (va_rf a0), some (.int x1), some (.int x2), some (.int x3), some (.int (i23 - i23 / i30 * i30)), some (.int (i46 - i46 / 7 * 7)), none]) B dX0_works_52 (by decide) rfl ?_
        refine j_aload_n B dX0_works_54 rfl ?_
        refine j_iload B dX0_works_55 rfl ?_
        refine j_aload_n B dX0_works_57 rfl ?_
        refine j_getA B fl_X0_61 dX0_works_58 hF (fun a58p hF => ?_)
        refine j_getA B fl_X0_113 dX0_works_61 hF (fun a61p hF => ?_)
        refine j_iconst (v := 1) B dX0_works_64 (by decide) ?_
        refine j_aaload B 103 rfl rfl dX0_works_65 hF (fun a65p hF => ?_)
        refine j_iload B dX0_works_66 rfl ?_
        refine j_iaload B dX0_works_68 hF (fun i68 hF => ?_)
        refine j_iload B dX0_works_69 rfl ?_
        obtain ⟨i71, w71, e71, hF⟩ := bc hF
        refine j_rV (st2 := [.int i71]) B [.int (i23 - i23 / i30 * i30), .int i68, .int (i46 - i46 / 7 * 7)] [] cv_X0_242 dX0_works_71 hl hR (ct_X0_farOf G e71) rfl rfl rfl rfl trivial (Nat.le_of_ble_eq_true rfl) ?_
        refine j_istore (vs' := [some (va_rf a0), some (.int x1), some (.int x2), some (.int x3), some (.int (i23 - i23 / i30 * i30)), some (.int (i46 - i46 / 7 * 7)), some (.int i71)]) B dX0_works_74 (by decide) rfl ?_
        refine j_iload B dX0_works_76 rfl ?_
        refine j_iconst (v := (-1)) B dX0_works_78 (by decide) ?_
        refine j_icmp_eq (tgt := 93) B dX0_works_79 (by decide) hF (fun h79 hF => ?_) (fun h79 hF => ?_)
        · refine j_msk [true, true, true, true, false, false, false] rfl ?_
          exact jb93 a0 x1 x2 x3 w71 hF
        · refine j_aload_n B dX0_works_82 rfl ?_
          refine j_iload B dX0_works_83 rfl ?_
          refine j_iload B dX0_works_85 rfl ?_
          refine j_iload B dX0_works_87 rfl ?_
          obtain ⟨i89, w89, e89, hF⟩ := bc hF
          refine j_rV (st2 := [.int i89]) B [.int (i23 - i23 / i30 * i30), .int (i46 - i46 / 7 * 7), .int i71] [] cv_X0_267 dX0_works_89 hl hR (ct_X0_walks G e89) rfl rfl rfl rfl trivial (Nat.le_of_ble_eq_true rfl) ?_
          refine j_pop B dX0_works_92 rfl ?_
          refine j_msk [true, true, true, true, false, false, false] rfl ?_
          exact jb93 a0 x1 x2 x3 w89 hF
  refine j_aload_n B dX0_works_0 rfl ?_
  refine j_getA B fl_X0_61 dX0_works_1 hF (fun a1p hF => ?_)
  refine j_iconst (v := 2) B dX0_works_4 (by decide) ?_
  obtain ⟨i5, e5, hF⟩ := bo hF
  refine j_rV (st2 := [.int i5]) B [.int 2] [] cv_X0_270 dX0_works_5 hl hR (ct_X4_being G e5) rfl rfl rfl rfl trivial (Nat.le_of_ble_eq_true rfl) ?_
  refine j_rS (st2 := [.int (F_J4_bitCount i5)]) B [.int i5] [] cs_X0_136 dX0_works_8 hl hR (ct_J4_bitCount G) rfl rfl rfl rfl trivial (Nat.le_of_ble_eq_true rfl) ?_
  refine j_istore_n (vs' := [some (va_rf a0), some (.int x1), some (.int (F_J4_bitCount i5)), none, none, none, none]) B dX0_works_11 (by decide) rfl ?_
  refine j_iconst (v := 0) B dX0_works_12 (by decide) ?_
  refine j_istore_n (vs' := [some (va_rf a0), some (.int x1), some (.int (F_J4_bitCount i5)), some (.int 0), none, none, none]) B dX0_works_13 (by decide) rfl ?_
  exact lp14 fu a0 x1 (F_J4_bitCount i5) 0 w hF
theorem cv_X0_376 : CV "CarryFair" 376 0 yX0_whyNoDay cX0_whyNoDay 2 (some .int) 1 := ⟨_, _, rfl, lw_V q1019 q1021 qs44 q126 q1022, by decide +kernel⟩
theorem cv_X0_379 : CV "CarryFair" 379 0 yX0_works cX0_works 7 (some .int) 1 := ⟨_, _, rfl, lw_V q1023 q1025 qs45 q126 q1026, by decide +kernel⟩
def F_X0_day (a0 : Option Nat) (x1 : Int32) (w : cH) : Option (Int32 × cH) :=
  if tg w a0 = some 0 then ((F_X0_whyNoDay a0 x1 w).bind fun i2 =>if ¬ i2 = (-1) then (cb (F_X0_finding a0 i2 w) fun i21 w21 => some (i21, w21)) else (cb (F_X0_works a0 x1 w) fun i13 w13 => some (i13, w13))) else none
abbrev rm_X0_day : Room := { frames := 8, cells := 0, slots := 0, locals := 192 }
set_option maxHeartbeats 4000000 in
set_option maxRecDepth 100000 in
theorem ct_X0_day {l : Launch} {g : Gt} (G : Gok g) {a0 : Option Nat} {x1 : Int32} {w : cH} {r9 : Int32} {w9 : cH} (hF : F_X0_day a0 x1 w = some (r9, w9)) : tg w a0 = some 0 ∧ Mx l yX0_day (ws_ yX0_day cX0_day 3 (some .int)) rm_X0_day g [va_rf a0, .int x1] w (.returned (some (.int r9))) w9 0 0 := by
  unfold F_X0_day at hF
  obtain ⟨ht, hF⟩ := bg hF
  refine ⟨ht, mk_ct cX0_day 3 (some .int) "CarryFair" (plainFor_of_name (by decide)) rfl (lg_le ⟨cr _, rfl, trivial⟩ (Nat.le_of_ble_eq_true rfl)) (av_ok ⟨cr _, rfl, trivial⟩) G (fun x B hl hR hin hh => ?_)⟩
  show J g x _ _ 0 0 w 0 0 0 [some (va_rf a0), some (.int x1), none] []
  refine j_aload_n B dX0_day_0 rfl ?_
  refine j_iload_n B dX0_day_1 rfl ?_
  obtain ⟨i2, e2, hF⟩ := bo hF
  refine j_rV (st2 := [.int i2]) B [.int x1] [] cv_X0_376 dX0_day_2 hl hR (ct_X0_whyNoDay G e2) rfl rfl rfl rfl trivial (Nat.le_of_ble_eq_true rfl) ?_
  refine j_istore_n (vs' := [some (va_rf a0), some (.int x1), some (.int i2)]) B dX0_day_5 (by decide) rfl ?_
  refine j_iload_n B dX0_day_6 rfl ?_
  refine j_iconst (v := (-1)) B dX0_day_7 (by decide) ?_
  refine j_icmp_ne (tgt := 19) B dX0_day_8 (by decide) hF (fun h8 hF => ?_) (fun h8 hF => ?_)
  · refine j_aload_n B dX0_day_19 rfl ?_
    refine j_iload_n B dX0_day_20 rfl ?_
    obtain ⟨i21, w21, e21, hF⟩ := bc hF
    refine j_rV (st2 := [.int i21]) B [.int i2] [] cv_X0_142 dX0_day_21 hl hR (ct_X0_finding G e21) rfl rfl rfl rfl trivial (Nat.le_of_ble_eq_true rfl) ?_
    exact j_lIw B rfl dX0_day_24 hF (by decide) (by decide)
  · refine j_aload_n B dX0_day_11 rfl ?_
    refine j_iload_n B dX0_day_12 rfl ?_
    obtain ⟨i13, w13, e13, hF⟩ := bc hF
    refine j_rV (st2 := [.int i13]) B [.int x1] [] cv_X0_379 dX0_day_13 hl hR (ct_X0_works G e13) rfl rfl rfl rfl trivial (Nat.le_of_ble_eq_true rfl) ?_
    refine j_goto (tgt := 24) B dX0_day_16 (by decide) ?_
    exact j_lIw B rfl dX0_day_24 hF (by decide) (by decide)
theorem fl_X0_68 : FL "CarryFair" 68 0 5 := ⟨RX0, TX0, 20, rfl, by decide, in_X0, Or.inl q444⟩
theorem cv_X0_382 : CV "CarryFair" 382 4 yX4_become cX4_become 2 none 1 := ⟨_, _, rfl, lw_V q1040 q1041 q1042 q133 q1043, by decide +kernel⟩
def F_X0_ahead (a0 : Option Nat) (x1 : Int32) (w : cH) : Option (Int32 × cH) :=
  if tg w a0 = some 0 then ((F_X0_whyNoDay a0 x1 w).bind fun i2 =>if i2 = (-1) then ((fA w a0 0 5).bind fun a18p => (fA w a0 0 3).bind fun a22p => (F_X4_become a18p a22p w).bind fun w25 => cb (F_X0_works a0 x1 w25) fun i30 w30 => (fA w30 a0 0 3).bind fun a35p => (fA w30 a0 0 5).bind fun a39p => (F_X4_become a35p a39p w30).bind fun w42 => some (i30, w42)) else (cb (F_X0_finding a0 i2 w) fun i13 w13 => some (i13, w13))) else none
abbrev rm_X0_ahead : Room := { frames := 8, cells := 0, slots := 0, locals := 192 }
abbrev hh_X0_ahead : List (Nat × Nat × Nat × Nat) := [(28, 34, 47, 0), (47, 49, 47, 0)]
set_option maxHeartbeats 4000000 in
set_option maxRecDepth 100000 in
theorem ct_X0_ahead {l : Launch} {g : Gt} (G : Gok g) {a0 : Option Nat} {x1 : Int32} {w : cH} {r9 : Int32} {w9 : cH} (hF : F_X0_ahead a0 x1 w = some (r9, w9)) : tg w a0 = some 0 ∧ Mx l yX0_ahead (wsW_ yX0_ahead cX0_ahead 5 (some .int) hh_X0_ahead) rm_X0_ahead g [va_rf a0, .int x1] w (.returned (some (.int r9))) w9 0 0 := by
  unfold F_X0_ahead at hF
  obtain ⟨ht, hF⟩ := bg hF
  refine ⟨ht, mk_ctW cX0_ahead 5 (some .int) hh_X0_ahead "CarryFair" (plainFor_of_name (by decide)) rfl (lg_le ⟨cr _, rfl, trivial⟩ (Nat.le_of_ble_eq_true rfl)) (av_ok ⟨cr _, rfl, trivial⟩) G (fun x B hl hR hin hh => ?_)⟩
  show J g x _ _ 0 0 w 0 0 0 [some (va_rf a0), some (.int x1), none, none, none] []
  refine j_aload_n B dX0_ahead_0 rfl ?_
  refine j_iload_n B dX0_ahead_1 rfl ?_
  obtain ⟨i2, e2, hF⟩ := bo hF
  refine j_rV (st2 := [.int i2]) B [.int x1] [] cv_X0_376 dX0_ahead_2 hl hR (ct_X0_whyNoDay G e2) rfl rfl rfl rfl trivial (Nat.le_of_ble_eq_true rfl) ?_
  refine j_istore_n (vs' := [some (va_rf a0), some (.int x1), some (.int i2), none, none]) B dX0_ahead_5 (by decide) rfl ?_
  refine j_iload_n B dX0_ahead_6 rfl ?_
  refine j_iconst (v := (-1)) B dX0_ahead_7 (by decide) ?_
  refine j_icmp_eq (tgt := 17) B dX0_ahead_8 (by decide) hF (fun h8 hF => ?_) (fun h8 hF => ?_)
  · refine j_aload_n B dX0_ahead_17 rfl ?_
    refine j_getA B fl_X0_68 dX0_ahead_18 hF (fun a18p hF => ?_)
    refine j_aload_n B dX0_ahead_21 rfl ?_
    refine j_getA B fl_X0_61 dX0_ahead_22 hF (fun a22p hF => ?_)
    obtain ⟨w25, e25, hF⟩ := bo hF
    refine j_rV (st2 := []) B [va_rf a22p] [] cv_X0_382 dX0_ahead_25 hl hR (ct_X4_become G e25) rfl rfl rfl rfl trivial (Nat.le_of_ble_eq_true rfl) ?_
    refine j_aload_n B dX0_ahead_28 rfl ?_
    refine j_iload_n B dX0_ahead_29 rfl ?_
    obtain ⟨i30, w30, e30, hF⟩ := bc hF
    refine j_rV (st2 := [.int i30]) B [.int x1] [] cv_X0_379 dX0_ahead_30 hl hR (ct_X0_works G e30) rfl rfl rfl rfl trivial (Nat.le_of_ble_eq_true rfl) ?_
    refine j_istore_n (vs' := [some (va_rf a0), some (.int x1), some (.int i2), some (.int i30), none]) B dX0_ahead_33 (by decide) rfl ?_
    refine j_aload_n B dX0_ahead_34 rfl ?_
    refine j_getA B fl_X0_61 dX0_ahead_35 hF (fun a35p hF => ?_)
    refine j_aload_n B dX0_ahead_38 rfl ?_
    refine j_getA B fl_X0_68 dX0_ahead_39 hF (fun a39p hF => ?_)
    obtain ⟨w42, e42, hF⟩ := bo hF
    refine j_rV (st2 := []) B [va_rf a39p] [] cv_X0_382 dX0_ahead_42 hl hR (ct_X4_become G e42) rfl rfl rfl rfl trivial (Nat.le_of_ble_eq_true rfl) ?_
    refine j_iload_n B dX0_ahead_45 rfl ?_
    exact j_lIw B rfl dX0_ahead_46 hF (by decide) (by decide)
  · refine j_aload_n B dX0_ahead_11 rfl ?_
    refine j_iload_n B dX0_ahead_12 rfl ?_
    obtain ⟨i13, w13, e13, hF⟩ := bc hF
    refine j_rV (st2 := [.int i13]) B [.int i2] [] cv_X0_142 dX0_ahead_13 hl hR (ct_X0_finding G e13) rfl rfl rfl rfl trivial (Nat.le_of_ble_eq_true rfl) ?_
    exact j_lIw B rfl dX0_ahead_16 hF (by decide) (by decide)
theorem fl_X0_386 : FL "CarryFair" 386 4 8 := ⟨RX4, TX4, 10, rfl, by decide, in_X4, Or.inr ⟨_, q276⟩⟩
theorem fp_X0_386 : FP "CarryFair" 386 4 8 .int false := ⟨RX4, TX4, 10, rfl, by decide, in_X4, Or.inr ⟨_, q276⟩, rfl, (fun h => by cases h), by decide +kernel, ap_X4, tyX4, tyX4_ok⟩
def F_X0_seed (a0 : Option Nat) (x1 : Int32) (w : cH) : Option (Int32 × cH) :=
  if tg w a0 = some 0 then ((fA w a0 0 3).bind fun a1p => (fI w a1p 4 8).bind fun i4 => (fA w a0 0 3).bind fun a9p => (pV w a9p 4 8 (.int x1)).bind fun w13 => some (i4, w13)) else none
abbrev rm_X0_seed : Room := { frames := 0, cells := 0, slots := 0, locals := 0 }
set_option maxHeartbeats 4000000 in
set_option maxRecDepth 100000 in
theorem ct_X0_seed {l : Launch} {g : Gt} (G : Gok g) {a0 : Option Nat} {x1 : Int32} {w : cH} {r9 : Int32} {w9 : cH} (hF : F_X0_seed a0 x1 w = some (r9, w9)) : tg w a0 = some 0 ∧ Mx l yX0_seed (ws_ yX0_seed cX0_seed 3 (some .int)) rm_X0_seed g [va_rf a0, .int x1] w (.returned (some (.int r9))) w9 0 0 := by
  unfold F_X0_seed at hF
  obtain ⟨ht, hF⟩ := bg hF
  refine ⟨ht, mk_ct cX0_seed 3 (some .int) "CarryFair" (plainFor_of_name (by decide)) rfl (lg_le ⟨cr _, rfl, trivial⟩ (Nat.le_of_ble_eq_true rfl)) (av_ok ⟨cr _, rfl, trivial⟩) G (fun x B hl hR hin hh => ?_)⟩
  show J g x _ _ 0 0 w 0 0 0 [some (va_rf a0), some (.int x1), none] []
  refine j_aload_n B dX0_seed_0 rfl ?_
  refine j_getA B fl_X0_61 dX0_seed_1 hF (fun a1p hF => ?_)
  refine j_getI B fl_X0_386 dX0_seed_4 hF (fun i4 hF => ?_)
  refine j_istore_n (vs' := [some (va_rf a0), some (.int x1), some (.int i4)]) B dX0_seed_7 (by decide) rfl ?_
  refine j_aload_n B dX0_seed_8 rfl ?_
  refine j_getA B fl_X0_61 dX0_seed_9 hF (fun a9p hF => ?_)
  refine j_iload_n B dX0_seed_12 rfl ?_
  refine j_putV B fp_X0_386 (fun h => by cases h) rfl rfl dX0_seed_13 hF (fun w13 hF => ?_)
  refine j_iload_n B dX0_seed_16 rfl ?_
  exact j_lIw B rfl dX0_seed_17 hF (by decide) (by decide)
theorem fl_X0_389 : FL "CarryFair" 389 0 2 := ⟨RX0, TX0, 20, rfl, by decide, in_X0, Or.inl q440⟩
theorem fl_X0_54 : FL "CarryFair" 54 0 1 := ⟨RX0, TX0, 20, rfl, by decide, in_X0, Or.inl q439⟩
theorem fl_X0_392 : FL "CarryFair" 392 2 1 := ⟨RX2, TX2, 8, rfl, by decide, in_X2, Or.inr ⟨_, q304⟩⟩
theorem fp_X0_389 : FP "CarryFair" 389 0 2 .int false := ⟨RX0, TX0, 20, rfl, by decide, in_X0, Or.inl q440, rfl, (fun h => by cases h), by decide +kernel, ap_X0, tyX0, tyX0_ok⟩
def F_X0_feed_B36 (rc36 : Option Nat → Int32 → Int32 → cH → Option (Int32 × cH)) (a0 : Option Nat) (x1 : Int32) (x3 : Int32) (w : cH) : Option (Int32 × cH) :=
  if x3 < 0 then ((fI w a0 0 2).bind fun i76 => some (i76, w)) else ((fA w a0 0 1).bind fun a41p => (fA w a41p 2 1).bind fun a44p => (fI w a0 0 2).bind fun i48 => (aS w a44p 101 i48 (.int ((x1 >>> ((8 * x3) &&& 31)).toInt8.toInt32).toInt8.toInt32)).bind fun w58 => (fI w58 a0 0 2).bind fun i61 => (pV w58 a0 0 2 (.int (i61 + 1))).bind fun w66 => rc36 a0 x1 (x3 + (-1)) w66)
def F_X0_feed_L36 : Nat → Option Nat → Int32 → Int32 → cH → Option (Int32 × cH)
  | 0, _, _, _, _ => none
  | n9 + 1, a0, x1, x3, w => F_X0_feed_B36  (F_X0_feed_L36  n9) a0 x1 x3 w
def F_X0_feed (a0 : Option Nat) (x1 : Int32) (x2 : Int32) (w : cH) : Option (Int32 × cH) :=
  if tg w a0 = some 0 then (if ¬ (F_X0_in x2 1 4) = 0 then ((fI w a0 0 2).bind fun i16 =>if (i16 + x2) ≤ 120 then (F_X0_feed_L36  fu a0 x1 (x2 - 1) w) else (cb (F_X0_finding a0 1 w) fun i28 w28 => some (i28, w28))) else (cb (F_X0_finding a0 0 w) fun i11 w11 => some (i11, w11))) else none
abbrev rm_X0_feed : Room := { frames := 1, cells := 0, slots := 0, locals := 22 }
set_option maxHeartbeats 4000000 in
set_option maxRecDepth 100000 in
theorem ct_X0_feed {l : Launch} {g : Gt} (G : Gok g) {a0 : Option Nat} {x1 : Int32} {x2 : Int32} {w : cH} {r9 : Int32} {w9 : cH} (hF : F_X0_feed a0 x1 x2 w = some (r9, w9)) : tg w a0 = some 0 ∧ Mx l yX0_feed (ws_ yX0_feed cX0_feed 4 (some .int)) rm_X0_feed g [va_rf a0, .int x1, .int x2] w (.returned (some (.int r9))) w9 0 0 := by
  unfold F_X0_feed at hF
  obtain ⟨ht, hF⟩ := bg hF
  refine ⟨ht, mk_ct cX0_feed 4 (some .int) "CarryFair" (plainFor_of_name (by decide)) rfl (lg_le ⟨cr _, rfl, rfl, trivial⟩ (Nat.le_of_ble_eq_true rfl)) (av_ok ⟨cr _, rfl, rfl, trivial⟩) G (fun x B hl hR hin hh => ?_)⟩
  show J g x _ _ 0 0 w 0 0 0 [some (va_rf a0), some (.int x1), some (.int x2), none] []
  have lp36 : ∀ (n9 : Nat) (a0 : Option Nat) (x1 : Int32) (x3 : Int32) (w : cH), F_X0_feed_L36  n9 a0 x1 x3 w = some (r9, w9) → J g x (.returned (some (.int r9))) w9 0 0 w 0 0 36 [some (va_rf a0), some (.int x1), none, some (.int x3)] [] := by
    intro n9
    induction n9 with
    | zero => intro a0 x1 x3 w hF; cases hF
    | succ n36 ih36 =>
      intro a0 x1 x3 w hF
      have hF : F_X0_feed_B36  (F_X0_feed_L36  n36) a0 x1 x3 w = some (r9, w9) := hF
      unfold F_X0_feed_B36 at hF
      refine j_iload_n B dX0_feed_36 rfl ?_
      refine j_if_lt (tgt := 75) B dX0_feed_37 (by decide) hF (fun h37 hF => ?_) (fun h37 hF => ?_)
      · refine j_aload_n B dX0_feed_75 rfl ?_
        refine j_getI B fl_X0_389 dX0_feed_76 hF (fun i76 hF => ?_)
        exact j_lIw B rfl dX0_feed_79 hF (by decide) (by decide)
      · refine j_aload_n B dX0_feed_40 rfl ?_
        refine j_getA B fl_X0_54 dX0_feed_41 hF (fun a41p hF => ?_)
        refine j_getA B fl_X0_392 dX0_feed_44 hF (fun a44p hF => ?_)
        refine j_aload_n B dX0_feed_47 rfl ?_
        refine j_getI B fl_X0_389 dX0_feed_48 hF (fun i48 hF => ?_)
        refine j_iload_n B dX0_feed_51 rfl ?_
        refine j_bipush (v := 8) B dX0_feed_52 (by decide) ?_
        refine j_iload_n B dX0_feed_54 rfl ?_
        refine j_imul B dX0_feed_55 ?_
        refine j_ishr B dX0_feed_56 ?_
        refine j_i2b B dX0_feed_57 ?_
        refine j_bastore B dX0_feed_58 hF (fun w58 hF => ?_)
        refine j_aload_n B dX0_feed_59 rfl ?_
        refine j_dup B dX0_feed_60 (cr _) ?_
        refine j_getI B fl_X0_389 dX0_feed_61 hF (fun i61 hF => ?_)
        refine j_iconst (v := 1) B dX0_feed_64 (by decide) ?_
        refine j_iadd B dX0_feed_65 ?_
        refine j_putV B fp_X0_389 (fun h => by cases h) rfl rfl dX0_feed_66 hF (fun w66 hF => ?_)
        refine j_iinc (v := x3 + (-1)) (vs' := [some (va_rf a0), some (.int x1), none, some (.int (x3 + (-1)))]) B dX0_feed_69 (by decide) rfl rfl rfl ?_
        refine j_goto (tgt := 36) B dX0_feed_72 (by decide) ?_
        exact ih36 a0 x1 (x3 + (-1)) w66 hF
  refine j_iload_n B dX0_feed_0 rfl ?_
  refine j_iconst (v := 1) B dX0_feed_1 (by decide) ?_
  refine j_iconst (v := 4) B dX0_feed_2 (by decide) ?_
  refine j_rS (st2 := [.int (F_X0_in x2 1 4)]) B [.int x2, .int 1, .int 4] [] cs_X0_3 dX0_feed_3 hl hR (ct_X0_in G) rfl rfl rfl rfl trivial (Nat.le_of_ble_eq_true rfl) ?_
  refine j_if_ne (tgt := 15) B dX0_feed_6 (by decide) hF (fun h6 hF => ?_) (fun h6 hF => ?_)
  · refine j_aload_n B dX0_feed_15 rfl ?_
    refine j_getI B fl_X0_389 dX0_feed_16 hF (fun i16 hF => ?_)
    refine j_iload_n B dX0_feed_19 rfl ?_
    refine j_iadd B dX0_feed_20 ?_
    refine j_bipush (v := 120) B dX0_feed_21 (by decide) ?_
    refine j_icmp_le (tgt := 32) B dX0_feed_23 (by decide) hF (fun h23 hF => ?_) (fun h23 hF => ?_)
    · refine j_iload_n B dX0_feed_32 rfl ?_
      refine j_iconst (v := 1) B dX0_feed_33 (by decide) ?_
      refine j_isub B dX0_feed_34 ?_
      refine j_istore_n (vs' := [some (va_rf a0), some (.int x1), some (.int x2), some (.int (x2 - 1))]) B dX0_feed_35 (by decide) rfl ?_
      refine j_msk [true, true, false, true] rfl ?_
      exact lp36 fu a0 x1 (x2 - 1) w hF
    · refine j_aload_n B dX0_feed_26 rfl ?_
      refine j_iconst (v := 1) B dX0_feed_27 (by decide) ?_
      obtain ⟨i28, w28, e28, hF⟩ := bc hF
      refine j_rV (st2 := [.int i28]) B [.int 1] [] cv_X0_142 dX0_feed_28 hl hR (ct_X0_finding G e28) rfl rfl rfl rfl trivial (Nat.le_of_ble_eq_true rfl) ?_
      exact j_lIw B rfl dX0_feed_31 hF (by decide) (by decide)
  · refine j_aload_n B dX0_feed_9 rfl ?_
    refine j_iconst (v := 0) B dX0_feed_10 (by decide) ?_
    obtain ⟨i11, w11, e11, hF⟩ := bc hF
    refine j_rV (st2 := [.int i11]) B [.int 0] [] cv_X0_142 dX0_feed_11 hl hR (ct_X0_finding G e11) rfl rfl rfl rfl trivial (Nat.le_of_ble_eq_true rfl) ?_
    exact j_lIw B rfl dX0_feed_14 hF (by decide) (by decide)
def F_X0_wipe (a0 : Option Nat) (w : cH) : Option (Int32 × cH) :=
  if tg w a0 = some 0 then ((fI w a0 0 2).bind fun i1 => (pV w a0 0 2 (.int 0)).bind fun w7 => some (i1, w7)) else none
abbrev rm_X0_wipe : Room := { frames := 0, cells := 0, slots := 0, locals := 0 }
set_option maxHeartbeats 4000000 in
set_option maxRecDepth 100000 in
theorem ct_X0_wipe {l : Launch} {g : Gt} (G : Gok g) {a0 : Option Nat} {w : cH} {r9 : Int32} {w9 : cH} (hF : F_X0_wipe a0 w = some (r9, w9)) : tg w a0 = some 0 ∧ Mx l yX0_wipe (ws_ yX0_wipe cX0_wipe 2 (some .int)) rm_X0_wipe g [va_rf a0] w (.returned (some (.int r9))) w9 0 0 := by
  unfold F_X0_wipe at hF
  obtain ⟨ht, hF⟩ := bg hF
  refine ⟨ht, mk_ct cX0_wipe 2 (some .int) "CarryFair" (plainFor_of_name (by decide)) rfl (lg_le ⟨cr _, trivial⟩ (Nat.le_of_ble_eq_true rfl)) (av_ok ⟨cr _, trivial⟩) G (fun x B hl hR hin hh => ?_)⟩
  show J g x _ _ 0 0 w 0 0 0 [some (va_rf a0), none] []
  refine j_aload_n B dX0_wipe_0 rfl ?_
  refine j_getI B fl_X0_389 dX0_wipe_1 hF (fun i1 hF => ?_)
  refine j_istore_n (vs' := [some (va_rf a0), some (.int i1)]) B dX0_wipe_4 (by decide) rfl ?_
  refine j_aload_n B dX0_wipe_5 rfl ?_
  refine j_iconst (v := 0) B dX0_wipe_6 (by decide) ?_
  refine j_putV B fp_X0_389 (fun h => by cases h) rfl rfl dX0_wipe_7 hF (fun w7 hF => ?_)
  refine j_iload_n B dX0_wipe_10 rfl ?_
  exact j_lIw B rfl dX0_wipe_11 hF (by decide) (by decide)
theorem fl_X2_29 : FL "CarryFair$Reader" 29 2 3 := ⟨RX2, TX2, 8, rfl, by decide, in_X2, Or.inl q307⟩
theorem fl_X2_18 : FL "CarryFair$Reader" 18 2 1 := ⟨RX2, TX2, 8, rfl, by decide, in_X2, Or.inl q303⟩
def F_X2_byteAt (a0 : Option Nat) (x1 : Int32) (w : cH) : Option Int32 :=
  if tg w a0 = some 2 then ((fI w a0 2 3).bind fun i2 =>if i2 ≤ x1 then (some ((-1))) else ((fA w a0 2 1).bind fun a9p => (aI w a9p 101 x1).bind fun i13 => some (i13 &&& 255))) else none
abbrev rm_X2_byteAt : Room := { frames := 0, cells := 0, slots := 0, locals := 0 }
set_option maxHeartbeats 4000000 in
set_option maxRecDepth 100000 in
theorem ct_X2_byteAt {l : Launch} {g : Gt} (G : Gok g) {a0 : Option Nat} {x1 : Int32} {w : cH} {r9 : Int32} (hF : F_X2_byteAt a0 x1 w = some r9) : tg w a0 = some 2 ∧ Mx l yX2_byteAt (ws_ yX2_byteAt cX2_byteAt 2 (some .int)) rm_X2_byteAt g [va_rf a0, .int x1] w (.returned (some (.int r9))) w 0 0 := by
  unfold F_X2_byteAt at hF
  obtain ⟨ht, hF⟩ := bg hF
  refine ⟨ht, mk_ct cX2_byteAt 2 (some .int) "CarryFair$Reader" (plainFor_of_name (by decide)) rfl (lg_le ⟨cr _, rfl, trivial⟩ (Nat.le_of_ble_eq_true rfl)) (av_ok ⟨cr _, rfl, trivial⟩) G (fun x B hl hR hin hh => ?_)⟩
  show J g x _ _ 0 0 w 0 0 0 [some (va_rf a0), some (.int x1)] []
  refine j_iload_n B dX2_byteAt_0 rfl ?_
  refine j_aload_n B dX2_byteAt_1 rfl ?_
  refine j_getI B fl_X2_29 dX2_byteAt_2 hF (fun i2 hF => ?_)
  refine j_icmp_ge (tgt := 21) B dX2_byteAt_5 (by decide) hF (fun h5 hF => ?_) (fun h5 hF => ?_)
  · refine j_iconst (v := (-1)) B dX2_byteAt_21 (by decide) ?_
    exact j_lI B rfl dX2_byteAt_22 hF (by decide) (by decide)
  · refine j_aload_n B dX2_byteAt_8 rfl ?_
    refine j_getA B fl_X2_18 dX2_byteAt_9 hF (fun a9p hF => ?_)
    refine j_iload_n B dX2_byteAt_12 rfl ?_
    refine j_baload B dX2_byteAt_13 hF (fun i13 hF => ?_)
    refine j_sipush (v := 255) B dX2_byteAt_14 (by decide) ?_
    refine j_iand B dX2_byteAt_17 ?_
    refine j_goto (tgt := 22) B dX2_byteAt_18 (by decide) ?_
    exact j_lI B rfl dX2_byteAt_22 hF (by decide) (by decide)
theorem cs_X2_33 : CS "CarryFair$Reader" 33 yX0_in cX0_in 3 (some .boolean) 3 := ⟨Or.inr ⟨⟨_, q1085⟩, q508, q126, q509⟩, by decide +kernel⟩
def F_X2_isLetter (x0 : Int32) : Int32 :=
  (F_X0_in x0 97 122) &&& 1
abbrev rm_X2_isLetter : Room := { frames := 1, cells := 0, slots := 0, locals := 22 }
set_option maxHeartbeats 4000000 in
set_option maxRecDepth 100000 in
theorem ct_X2_isLetter {l : Launch} {g : Gt} (G : Gok g) {x0 : Int32} {w : cH} : Mx l yX2_isLetter (ws_ yX2_isLetter cX2_isLetter 1 (some .boolean)) rm_X2_isLetter g [.int x0] w (.returned (some (.int (F_X2_isLetter x0)))) w 0 0 := by
  generalize hF : F_X2_isLetter x0 = r9
  unfold F_X2_isLetter at hF
  refine mk_ct cX2_isLetter 1 (some .boolean) "CarryFair$Reader" (plainFor_of_name (by decide)) rfl (lg_le ⟨rfl, trivial⟩ (Nat.le_of_ble_eq_true rfl)) (av_ok ⟨rfl, trivial⟩) G (fun x B hl hR hin hh => ?_)
  show J g x _ _ 0 0 w 0 0 0 [some (.int x0)] []
  refine j_iload_n B dX2_isLetter_0 rfl ?_
  refine j_bipush (v := 97) B dX2_isLetter_1 (by decide) ?_
  refine j_bipush (v := 122) B dX2_isLetter_3 (by decide) ?_
  refine j_rS (st2 := [.int (F_X0_in x0 97 122)]) B [.int x0, .int 97, .int 122] [] cs_X2_33 dX2_isLetter_5 hl hR (ct_X0_in G) rfl rfl rfl rfl trivial (Nat.le_of_ble_eq_true rfl) ?_
  exact j_lBp B rfl dX2_isLetter_8 hF (by decide) (by decide)
theorem fl_X2_44 : FL "CarryFair$Reader" 44 2 5 := ⟨RX2, TX2, 8, rfl, by decide, in_X2, Or.inl q310⟩
theorem cv_X2_40 : CV "CarryFair$Reader" 40 2 yX2_byteAt cX2_byteAt 2 (some .int) 1 := ⟨_, _, rfl, lw_V q1078 q1080 qs48 q131 q1081, by decide +kernel⟩
def F_X2_isKey_J78 (g : Gt) (rc37 : (Option Nat) → Int32 → Int32 → Int32 → Int32 → cH → Option Int32) (a0 : Option Nat) (x1 : Int32) (x2 : Int32) (x4 : Int32) (s0 : Int32) (w : cH) : Option Int32 :=
  rc37 a0 x1 x2 s0 (x4 + 1) w
def F_X2_isKey_B37 (g : Gt) (rc37 : Option Nat → Int32 → Int32 → Int32 → Int32 → cH → Option Int32) (a0 : Option Nat) (x1 : Int32) (x2 : Int32) (x3 : Int32) (x4 : Int32) (w : cH) : Option Int32 :=
  if x2 ≤ x4 then (some (x3 &&& 1)) else (if x3 = 0 then (some (x3 &&& 1)) else ((chr w (some (g.2.2.2.2 0)) ((8 * x1) + x4)).bind fun i56 => (fI w a0 2 5).bind fun i61 => (F_X2_byteAt a0 (i61 + x4) w).bind fun i67 =>if ¬ i56 = i67 then (F_X2_isKey_J78 g  rc37 a0 x1 x2 x4 0 w) else (F_X2_isKey_J78 g  rc37 a0 x1 x2 x4 1 w)))
def F_X2_isKey_L37 (g : Gt) : Nat → Option Nat → Int32 → Int32 → Int32 → Int32 → cH → Option Int32
  | 0, _, _, _, _, _, _ => none
  | n9 + 1, a0, x1, x2, x3, x4, w => F_X2_isKey_B37 g  (F_X2_isKey_L37 g  n9) a0 x1 x2 x3 x4 w
def F_X2_isKey_J33 (g : Gt) (a0 : Option Nat) (x1 : Int32) (x2 : Int32) (s0 : Int32) (w : cH) : Option Int32 :=
  F_X2_isKey_L37 g  fu a0 x1 x2 s0 0 w
def F_X2_isKey_J32 (g : Gt) (a0 : Option Nat) (x1 : Int32) (x2 : Int32) (w : cH) : Option Int32 :=
  F_X2_isKey_J33 g  a0 x1 x2 0 w
def F_X2_isKey_J28 (g : Gt) (a0 : Option Nat) (x1 : Int32) (x2 : Int32) (w : cH) : Option Int32 :=
  F_X2_isKey_J33 g  a0 x1 x2 1 w
def F_X2_isKey (g : Gt) (a0 : Option Nat) (x1 : Int32) (x2 : Int32) (w : cH) : Option Int32 :=
  if tg w a0 = some 2 then (if 8 < x2 then (F_X2_isKey_J32 g  a0 x1 x2 w) else (if x2 = 8 then (F_X2_isKey_J28 g  a0 x1 x2 w) else ((chr w (some (g.2.2.2.2 0)) ((8 * x1) + x2)).bind fun i20 =>if ¬ i20 = 32 then (F_X2_isKey_J32 g  a0 x1 x2 w) else (F_X2_isKey_J28 g  a0 x1 x2 w)))) else none
abbrev rm_X2_isKey : Room := { frames := 5, cells := 0, slots := 0, locals := 121 }
set_option maxHeartbeats 4000000 in
set_option maxRecDepth 100000 in
theorem ct_X2_isKey {l : Launch} {g : Gt} (G : Gok g) {a0 : Option Nat} {x1 : Int32} {x2 : Int32} {w : cH} {r9 : Int32} (hF : F_X2_isKey g a0 x1 x2 w = some r9) : tg w a0 = some 2 ∧ Mx l yX2_isKey (ws_ yX2_isKey cX2_isKey 5 (some .boolean)) rm_X2_isKey g [va_rf a0, .int x1, .int x2] w (.returned (some (.int r9))) w 0 0 := by
  unfold F_X2_isKey at hF
  obtain ⟨ht, hF⟩ := bg hF
  refine ⟨ht, mk_ct cX2_isKey 5 (some .boolean) "CarryFair$Reader" (plainFor_of_name (by decide)) rfl (lg_le ⟨cr _, rfl, rfl, trivial⟩ (Nat.le_of_ble_eq_true rfl)) (av_ok ⟨cr _, rfl, rfl, trivial⟩) G (fun x B hl hR hin hh => ?_)⟩
  show J g x _ _ 0 0 w 0 0 0 [some (va_rf a0), some (.int x1), some (.int x2), none, none] []
  have lp37 : ∀ (n9 : Nat) (a0 : Option Nat) (x1 : Int32) (x2 : Int32) (x3 : Int32) (x4 : Int32), F_X2_isKey_L37 g  n9 a0 x1 x2 x3 x4 w = some r9 → J g x (.returned (some (.int r9))) w 0 0 w 0 0 37 [some (va_rf a0), some (.int x1), some (.int x2), some (.int x3), some (.int x4)] [] := by
    intro n9
    induction n9 with
    | zero => intro a0 x1 x2 x3 x4 hF; cases hF
    | succ n37 ih37 =>
      intro a0 x1 x2 x3 x4 hF
      have hF : F_X2_isKey_B37 g  (F_X2_isKey_L37 g  n37) a0 x1 x2 x3 x4 w = some r9 := hF
      unfold F_X2_isKey_B37 at hF
      have jb78 : ∀ (a0 : Option Nat) (x1 : Int32) (x2 : Int32) (x4 : Int32) (s0 : Int32), F_X2_isKey_J78 g  (F_X2_isKey_L37 g  n37) a0 x1 x2 x4 s0 w = some r9 → J g x (.returned (some (.int r9))) w 0 0 w 0 0 78 [some (va_rf a0), some (.int x1), some (.int x2), none, some (.int x4)] [.int s0] := by
        intro a0 x1 x2 x4 s0 hF
        unfold F_X2_isKey_J78 at hF
        refine j_istore_n (vs' := [some (va_rf a0), some (.int x1), some (.int x2), some (.int s0), some (.int x4)]) B dX2_isKey_78 (by decide) rfl ?_
        refine j_iinc (v := x4 + 1) (vs' := [some (va_rf a0), some (.int x1), some (.int x2), some (.int s0), some (.int (x4 + 1))]) B dX2_isKey_79 (by decide) rfl rfl rfl ?_
        refine j_goto (tgt := 37) B dX2_isKey_82 (by decide) ?_
        exact ih37 a0 x1 x2 s0 (x4 + 1) hF
      refine j_iload B dX2_isKey_37 rfl ?_
      refine j_iload_n B dX2_isKey_39 rfl ?_
      refine j_icmp_ge (tgt := 85) B dX2_isKey_40 (by decide) hF (fun h40 hF => ?_) (fun h40 hF => ?_)
      · refine j_iload_n B dX2_isKey_85 rfl ?_
        exact j_lB B rfl dX2_isKey_86 hF (by decide) (by decide)
      · refine j_iload_n B dX2_isKey_43 rfl ?_
        refine j_if_eq (tgt := 85) B dX2_isKey_44 (by decide) hF (fun h44 hF => ?_) (fun h44 hF => ?_)
        · refine j_iload_n B dX2_isKey_85 rfl ?_
          exact j_lB B rfl dX2_isKey_86 hF (by decide) (by decide)
        · refine j_ldcS (i := 0) B (by decide) (by decide) (by decide) dX2_isKey_47 ?_
          refine j_bipush (v := 8) B dX2_isKey_49 (by decide) ?_
          refine j_iload_n B dX2_isKey_51 rfl ?_
          refine j_imul B dX2_isKey_52 ?_
          refine j_iload B dX2_isKey_53 rfl ?_
          refine j_iadd B dX2_isKey_55 ?_
          obtain ⟨i56, e56, hF⟩ := bo hF
          refine j_rStr (st2 := [.int i56]) B [.int ((8 * x1) + x4)] [] (cstr_charAt q1095) dX2_isKey_56 hl hR (ct_str_charAt G e56) rfl rfl rfl rfl trivial (Nat.le_of_ble_eq_true rfl) ?_
          refine j_aload_n B dX2_isKey_59 rfl ?_
          refine j_aload_n B dX2_isKey_60 rfl ?_
          refine j_getI B fl_X2_44 dX2_isKey_61 hF (fun i61 hF => ?_)
          refine j_iload B dX2_isKey_64 rfl ?_
          refine j_iadd B dX2_isKey_66 ?_
          obtain ⟨i67, e67, hF⟩ := bo hF
          refine j_rV (st2 := [.int i67, .int i56]) B [.int (i61 + x4)] [.int i56] cv_X2_40 dX2_isKey_67 hl hR (ct_X2_byteAt G e67) rfl rfl rfl rfl ⟨rfl, trivial⟩ (Nat.le_of_ble_eq_true rfl) ?_
          refine j_icmp_ne (tgt := 77) B dX2_isKey_70 (by decide) hF (fun h70 hF => ?_) (fun h70 hF => ?_)
          · refine j_iconst (v := 0) B dX2_isKey_77 (by decide) ?_
            refine j_msk [true, true, true, false, true] rfl ?_
            exact jb78 a0 x1 x2 x4 0 hF
          · refine j_iconst (v := 1) B dX2_isKey_73 (by decide) ?_
            refine j_goto (tgt := 78) B dX2_isKey_74 (by decide) ?_
            refine j_msk [true, true, true, false, true] rfl ?_
            exact jb78 a0 x1 x2 x4 1 hF
  have jb33 : ∀ (a0 : Option Nat) (x1 : Int32) (x2 : Int32) (s0 : Int32), F_X2_isKey_J33 g  a0 x1 x2 s0 w = some r9 → J g x (.returned (some (.int r9))) w 0 0 w 0 0 33 [some (va_rf a0), some (.int x1), some (.int x2), none, none] [.int s0] := by
    intro a0 x1 x2 s0 hF
    unfold F_X2_isKey_J33 at hF
    refine j_istore_n (vs' := [some (va_rf a0), some (.int x1), some (.int x2), some (.int s0), none]) B dX2_isKey_33 (by decide) rfl ?_
    refine j_iconst (v := 0) B dX2_isKey_34 (by decide) ?_
    refine j_istore (vs' := [some (va_rf a0), some (.int x1), some (.int x2), some (.int s0), some (.int 0)]) B dX2_isKey_35 (by decide) rfl ?_
    exact lp37 fu a0 x1 x2 s0 0 hF
  have jb32 : ∀ (a0 : Option Nat) (x1 : Int32) (x2 : Int32), F_X2_isKey_J32 g  a0 x1 x2 w = some r9 → J g x (.returned (some (.int r9))) w 0 0 w 0 0 32 [some (va_rf a0), some (.int x1), some (.int x2), none, none] [] := by
    intro a0 x1 x2 hF
    unfold F_X2_isKey_J32 at hF
    refine j_iconst (v := 0) B dX2_isKey_32 (by decide) ?_
    exact jb33 a0 x1 x2 0 hF
  have jb28 : ∀ (a0 : Option Nat) (x1 : Int32) (x2 : Int32), F_X2_isKey_J28 g  a0 x1 x2 w = some r9 → J g x (.returned (some (.int r9))) w 0 0 w 0 0 28 [some (va_rf a0), some (.int x1), some (.int x2), none, none] [] := by
    intro a0 x1 x2 hF
    unfold F_X2_isKey_J28 at hF
    refine j_iconst (v := 1) B dX2_isKey_28 (by decide) ?_
    refine j_goto (tgt := 33) B dX2_isKey_29 (by decide) ?_
    exact jb33 a0 x1 x2 1 hF
  refine j_iload_n B dX2_isKey_0 rfl ?_
  refine j_bipush (v := 8) B dX2_isKey_1 (by decide) ?_
  refine j_icmp_gt (tgt := 32) B dX2_isKey_3 (by decide) hF (fun h3 hF => ?_) (fun h3 hF => ?_)
  · exact jb32 a0 x1 x2 hF
  · refine j_iload_n B dX2_isKey_6 rfl ?_
    refine j_bipush (v := 8) B dX2_isKey_7 (by decide) ?_
    refine j_icmp_eq (tgt := 28) B dX2_isKey_9 (by decide) hF (fun h9 hF => ?_) (fun h9 hF => ?_)
    · exact jb28 a0 x1 x2 hF
    · refine j_ldcS (i := 0) B (by decide) (by decide) (by decide) dX2_isKey_12 ?_
      refine j_bipush (v := 8) B dX2_isKey_14 (by decide) ?_
      refine j_iload_n B dX2_isKey_16 rfl ?_
      refine j_imul B dX2_isKey_17 ?_
      refine j_iload_n B dX2_isKey_18 rfl ?_
      refine j_iadd B dX2_isKey_19 ?_
      obtain ⟨i20, e20, hF⟩ := bo hF
      refine j_rStr (st2 := [.int i20]) B [.int ((8 * x1) + x2)] [] (cstr_charAt q1095) dX2_isKey_20 hl hR (ct_str_charAt G e20) rfl rfl rfl rfl trivial (Nat.le_of_ble_eq_true rfl) ?_
      refine j_bipush (v := 32) B dX2_isKey_23 (by decide) ?_
      refine j_icmp_ne (tgt := 32) B dX2_isKey_25 (by decide) hF (fun h25 hF => ?_) (fun h25 hF => ?_)
      · exact jb32 a0 x1 x2 hF
      · exact jb28 a0 x1 x2 hF
theorem fl_X2_12 : FL "CarryFair$Reader" 12 2 0 := ⟨RX2, TX2, 8, rfl, by decide, in_X2, Or.inl q302⟩
def F_X2_need (a0 : Option Nat) (x1 : Int32) (w : cH) : Option (Except Nat (Unit) × cH) :=
  if tg w a0 = some 2 then (if ¬ x1 = 0 then (some (Except.ok (), w)) else ((fA w a0 2 0).bind fun a5p => Option.bind a5p fun a8t => some (Except.error a8t, w))) else none
abbrev rm_X2_need : Room := { frames := 0, cells := 0, slots := 0, locals := 0 }
set_option maxHeartbeats 4000000 in
set_option maxRecDepth 100000 in
theorem ct_X2_need {l : Launch} {g : Gt} (G : Gok g) {a0 : Option Nat} {x1 : Int32} {w : cH} {r9 : Except Nat Unit} {w9 : cH} (hF : F_X2_need a0 x1 w = some (r9, w9)) : tg w a0 = some 2 ∧ Mx l yX2_need (ws_ yX2_need cX2_need 2 none) rm_X2_need g [va_rf a0, .int x1] w (oxV r9) w9 0 0 := by
  unfold F_X2_need at hF
  obtain ⟨ht, hF⟩ := bg hF
  refine ⟨ht, mk_ct cX2_need 2 none "CarryFair$Reader" (plainFor_of_name (by decide)) rfl (lg_le ⟨cr _, rfl, trivial⟩ (Nat.le_of_ble_eq_true rfl)) (av_ok ⟨cr _, rfl, trivial⟩) G (fun x B hl hR hin hh => ?_)⟩
  show J g x _ _ 0 0 w 0 0 0 [some (va_rf a0), some (.int x1)] []
  refine j_iload_n B dX2_need_0 rfl ?_
  refine j_if_ne (tgt := 9) B dX2_need_1 (by decide) hF (fun h1 hF => ?_) (fun h1 hF => ?_)
  · exact j_xV B rfl dX2_need_9 hF (by decide) (by decide)
  · refine j_aload_n B dX2_need_4 rfl ?_
    refine j_getA B fl_X2_12 dX2_need_5 hF (fun a5p hF => ?_)
    obtain ⟨a8t, rfl, hF⟩ := bo hF
    refine j_athrow B dX2_need_8 ?_
    exact jt_V B (Hh_nil hh) (by decide) hF (by decide) (by decide)
theorem fl_X2_37 : FL "CarryFair$Reader" 37 2 4 := ⟨RX2, TX2, 8, rfl, by decide, in_X2, Or.inl q309⟩
theorem fp_X2_37 : FP "CarryFair$Reader" 37 2 4 .int false := ⟨RX2, TX2, 8, rfl, by decide, in_X2, Or.inl q309, rfl, (fun h => by cases h), by decide +kernel, ap_X2, tyX2, tyX2_ok⟩
theorem fp_X2_47 : FP "CarryFair$Reader" 47 2 6 .int false := ⟨RX2, TX2, 8, rfl, by decide, in_X2, Or.inl q312, rfl, (fun h => by cases h), by decide +kernel, ap_X2, tyX2, tyX2_ok⟩
theorem fp_X2_67 : FP "CarryFair$Reader" 67 2 7 .int false := ⟨RX2, TX2, 8, rfl, by decide, in_X2, Or.inl q313, rfl, (fun h => by cases h), by decide +kernel, ap_X2, tyX2, tyX2_ok⟩
theorem cx_X2_63 : CX "CarryFair$Reader" 63 2 yX2_need (ws_ yX2_need cX2_need 2 none) 2 1 := ⟨⟨_, _, rfl⟩, q1135, q1137, qs51, q131, wsOk_code q1138, by decide +kernel, by decide +kernel⟩
theorem cv_X2_70 : CV "CarryFair$Reader" 70 2 yX2_isKey cX2_isKey 5 (some .boolean) 2 := ⟨_, _, rfl, lw_V q1090 q1092 qs50 q131 q1093, by decide +kernel⟩
theorem cs_X2_50 : CS "CarryFair$Reader" 50 yX2_isLetter cX2_isLetter 1 (some .boolean) 1 := ⟨Or.inl (lw_S q1082 q1083 q131 q1084), by decide +kernel⟩
def F_X2_word_J70 (g : Gt) (a0 : Option Nat) (x1 : Int32) (s0 : Int32) (s1 : Option Nat) (w : cH) : Option (Except Nat (Unit) × cH) :=
  xb (F_X2_need s1 s0 w) (fun a70t w70 => some (Except.error a70t, w70)) fun _ w70 => (pV w70 a0 2 6 (.int 2)).bind fun w75 => (pV w75 a0 2 7 (.int x1)).bind fun w80 => some (Except.ok (), w80)
def F_X2_word_J58 (g : Gt) (a0 : Option Nat) (x1 : Int32) (w : cH) : Option (Except Nat (Unit) × cH) :=
  if 16 ≤ x1 then (F_X2_word_J70 g  a0 x1 0 a0 w) else (F_X2_word_J70 g  a0 x1 1 a0 w)
def F_X2_word_B29 (g : Gt) (rc29 : Option Nat → Int32 → cH → Option (Except Nat (Unit) × cH)) (a0 : Option Nat) (x1 : Int32) (w : cH) : Option (Except Nat (Unit) × cH) :=
  if 16 ≤ x1 then (F_X2_word_J58 g  a0 x1 w) else ((fI w a0 2 4).bind fun i38 => (fI w a0 2 5).bind fun i42 => (F_X2_isKey g a0 x1 (i38 - i42) w).bind fun i46 =>if ¬ i46 = 0 then (F_X2_word_J58 g  a0 x1 w) else (rc29 a0 (x1 + 1) w))
def F_X2_word_L29 (g : Gt) : Nat → Option Nat → Int32 → cH → Option (Except Nat (Unit) × cH)
  | 0, _, _, _ => none
  | n9 + 1, a0, x1, w => F_X2_word_B29 g  (F_X2_word_L29 g  n9) a0 x1 w
def F_X2_word_B0 (g : Gt) (rc0 : Option Nat → cH → Option (Except Nat (Unit) × cH)) (a0 : Option Nat) (w : cH) : Option (Except Nat (Unit) × cH) :=
  (fI w a0 2 4).bind fun i2 => (F_X2_byteAt a0 i2 w).bind fun i5 =>if (F_X2_isLetter i5) = 0 then (F_X2_word_L29 g  fu a0 0 w) else ((fI w a0 2 4).bind fun i16 => (pV w a0 2 4 (.int (i16 + 1))).bind fun w21 => rc0 a0 w21)
def F_X2_word_L0 (g : Gt) : Nat → Option Nat → cH → Option (Except Nat (Unit) × cH)
  | 0, _, _ => none
  | n9 + 1, a0, w => F_X2_word_B0 g  (F_X2_word_L0 g  n9) a0 w
def F_X2_word (g : Gt) (a0 : Option Nat) (w : cH) : Option (Except Nat (Unit) × cH) :=
  if tg w a0 = some 2 then (F_X2_word_L0 g  fu a0 w) else none
abbrev rm_X2_word : Room := { frames := 6, cells := 0, slots := 0, locals := 145 }
set_option maxHeartbeats 4000000 in
set_option maxRecDepth 100000 in
theorem ct_X2_word {l : Launch} {g : Gt} (G : Gok g) {a0 : Option Nat} {w : cH} {r9 : Except Nat Unit} {w9 : cH} (hF : F_X2_word g a0 w = some (r9, w9)) : tg w a0 = some 2 ∧ Mx l yX2_word (ws_ yX2_word cX2_word 2 none) rm_X2_word g [va_rf a0] w (oxV r9) w9 0 0 := by
  unfold F_X2_word at hF
  obtain ⟨ht, hF⟩ := bg hF
  refine ⟨ht, mk_ct cX2_word 2 none "CarryFair$Reader" (plainFor_of_name (by decide)) rfl (lg_le ⟨cr _, trivial⟩ (Nat.le_of_ble_eq_true rfl)) (av_ok ⟨cr _, trivial⟩) G (fun x B hl hR hin hh => ?_)⟩
  show J g x _ _ 0 0 w 0 0 0 [some (va_rf a0), none] []
  have jb70 : ∀ (a0 : Option Nat) (x1 : Int32) (s0 : Int32) (s1 : Option Nat) (w : cH), F_X2_word_J70 g  a0 x1 s0 s1 w = some (r9, w9) → J g x (oxV r9) w9 0 0 w 0 0 70 [some (va_rf a0), some (.int x1)] [.int s0, va_rf s1] := by
    intro a0 x1 s0 s1 w hF
    unfold F_X2_word_J70 at hF
    rcases xbo hF with ⟨a70t, w70, e70, hF⟩ | ⟨_, w70, e70, hF⟩
    · refine j_rVT B [.int s0] [] cx_X2_63 dX2_word_70 hl hR (ct_X2_need G e70) rfl rfl rfl trivial (Nat.le_of_ble_eq_true rfl) ?_
      exact jt_V B (Hh_nil hh) (by decide) hF (by decide) (by decide)
    refine j_rVX (st2 := []) B [.int s0] [] cx_X2_63 dX2_word_70 hl hR (ct_X2_need G e70) rfl rfl rfl rfl trivial (Nat.le_of_ble_eq_true rfl) ?_
    refine j_aload_n B dX2_word_73 rfl ?_
    refine j_iconst (v := 2) B dX2_word_74 (by decide) ?_
    refine j_putV B fp_X2_47 (fun h => by cases h) rfl rfl dX2_word_75 hF (fun w75 hF => ?_)
    refine j_aload_n B dX2_word_78 rfl ?_
    refine j_iload_n B dX2_word_79 rfl ?_
    refine j_putV B fp_X2_67 (fun h => by cases h) rfl rfl dX2_word_80 hF (fun w80 hF => ?_)
    exact j_xV B rfl dX2_word_83 hF (by decide) (by decide)
  have jb58 : ∀ (a0 : Option Nat) (x1 : Int32) (w : cH), F_X2_word_J58 g  a0 x1 w = some (r9, w9) → J g x (oxV r9) w9 0 0 w 0 0 58 [some (va_rf a0), some (.int x1)] [] := by
    intro a0 x1 w hF
    unfold F_X2_word_J58 at hF
    refine j_aload_n B dX2_word_58 rfl ?_
    refine j_iload_n B dX2_word_59 rfl ?_
    refine j_bipush (v := 16) B dX2_word_60 (by decide) ?_
    refine j_icmp_ge (tgt := 69) B dX2_word_62 (by decide) hF (fun h62 hF => ?_) (fun h62 hF => ?_)
    · refine j_iconst (v := 0) B dX2_word_69 (by decide) ?_
      exact jb70 a0 x1 0 a0 w hF
    · refine j_iconst (v := 1) B dX2_word_65 (by decide) ?_
      refine j_goto (tgt := 70) B dX2_word_66 (by decide) ?_
      exact jb70 a0 x1 1 a0 w hF
  have lp29 : ∀ (n9 : Nat) (a0 : Option Nat) (x1 : Int32) (w : cH), F_X2_word_L29 g  n9 a0 x1 w = some (r9, w9) → J g x (oxV r9) w9 0 0 w 0 0 29 [some (va_rf a0), some (.int x1)] [] := by
    intro n9
    induction n9 with
    | zero => intro a0 x1 w hF; cases hF
    | succ n29 ih29 =>
      intro a0 x1 w hF
      have hF : F_X2_word_B29 g  (F_X2_word_L29 g  n29) a0 x1 w = some (r9, w9) := hF
      unfold F_X2_word_B29 at hF
      refine j_iload_n B dX2_word_29 rfl ?_
      refine j_bipush (v := 16) B dX2_word_30 (by decide) ?_
      refine j_icmp_ge (tgt := 58) B dX2_word_32 (by decide) hF (fun h32 hF => ?_) (fun h32 hF => ?_)
      · exact jb58 a0 x1 w hF
      · refine j_aload_n B dX2_word_35 rfl ?_
        refine j_iload_n B dX2_word_36 rfl ?_
        refine j_aload_n B dX2_word_37 rfl ?_
        refine j_getI B fl_X2_37 dX2_word_38 hF (fun i38 hF => ?_)
        refine j_aload_n B dX2_word_41 rfl ?_
        refine j_getI B fl_X2_44 dX2_word_42 hF (fun i42 hF => ?_)
        refine j_isub B dX2_word_45 ?_
        obtain ⟨i46, e46, hF⟩ := bo hF
        refine j_rV (st2 := [.int i46]) B [.int x1, .int (i38 - i42)] [] cv_X2_70 dX2_word_46 hl hR (ct_X2_isKey G e46) rfl rfl rfl rfl trivial (Nat.le_of_ble_eq_true rfl) ?_
        refine j_if_ne (tgt := 58) B dX2_word_49 (by decide) hF (fun h49 hF => ?_) (fun h49 hF => ?_)
        · exact jb58 a0 x1 w hF
        · refine j_iinc (v := x1 + 1) (vs' := [some (va_rf a0), some (.int (x1 + 1))]) B dX2_word_52 (by decide) rfl rfl rfl ?_
          refine j_goto (tgt := 29) B dX2_word_55 (by decide) ?_
          exact ih29 a0 (x1 + 1) w hF
  have lp0 : ∀ (n9 : Nat) (a0 : Option Nat) (w : cH), F_X2_word_L0 g  n9 a0 w = some (r9, w9) → J g x (oxV r9) w9 0 0 w 0 0 0 [some (va_rf a0), none] [] := by
    intro n9
    induction n9 with
    | zero => intro a0 w hF; cases hF
    | succ n0 ih0 =>
      intro a0 w hF
      have hF : F_X2_word_B0 g  (F_X2_word_L0 g  n0) a0 w = some (r9, w9) := hF
      unfold F_X2_word_B0 at hF
      refine j_aload_n B dX2_word_0 rfl ?_
      refine j_aload_n B dX2_word_1 rfl ?_
      refine j_getI B fl_X2_37 dX2_word_2 hF (fun i2 hF => ?_)
      obtain ⟨i5, e5, hF⟩ := bo hF
      refine j_rV (st2 := [.int i5]) B [.int i2] [] cv_X2_40 dX2_word_5 hl hR (ct_X2_byteAt G e5) rfl rfl rfl rfl trivial (Nat.le_of_ble_eq_true rfl) ?_
      refine j_rS (st2 := [.int (F_X2_isLetter i5)]) B [.int i5] [] cs_X2_50 dX2_word_8 hl hR (ct_X2_isLetter G) rfl rfl rfl rfl trivial (Nat.le_of_ble_eq_true rfl) ?_
      refine j_if_eq (tgt := 27) B dX2_word_11 (by decide) hF (fun h11 hF => ?_) (fun h11 hF => ?_)
      · refine j_iconst (v := 0) B dX2_word_27 (by decide) ?_
        refine j_istore_n (vs' := [some (va_rf a0), some (.int 0)]) B dX2_word_28 (by decide) rfl ?_
        exact lp29 fu a0 0 w hF
      · refine j_aload_n B dX2_word_14 rfl ?_
        refine j_dup B dX2_word_15 (cr _) ?_
        refine j_getI B fl_X2_37 dX2_word_16 hF (fun i16 hF => ?_)
        refine j_iconst (v := 1) B dX2_word_19 (by decide) ?_
        refine j_iadd B dX2_word_20 ?_
        refine j_putV B fp_X2_37 (fun h => by cases h) rfl rfl dX2_word_21 hF (fun w21 hF => ?_)
        refine j_goto (tgt := 0) B dX2_word_24 (by decide) ?_
        exact ih0 a0 w21 hF
  exact lp0 fu a0 w hF
def F_X2_isDigit (x0 : Int32) : Int32 :=
  (F_X0_in x0 48 57) &&& 1
abbrev rm_X2_isDigit : Room := { frames := 1, cells := 0, slots := 0, locals := 22 }
set_option maxHeartbeats 4000000 in
set_option maxRecDepth 100000 in
theorem ct_X2_isDigit {l : Launch} {g : Gt} (G : Gok g) {x0 : Int32} {w : cH} : Mx l yX2_isDigit (ws_ yX2_isDigit cX2_isDigit 1 (some .boolean)) rm_X2_isDigit g [.int x0] w (.returned (some (.int (F_X2_isDigit x0)))) w 0 0 := by
  generalize hF : F_X2_isDigit x0 = r9
  unfold F_X2_isDigit at hF
  refine mk_ct cX2_isDigit 1 (some .boolean) "CarryFair$Reader" (plainFor_of_name (by decide)) rfl (lg_le ⟨rfl, trivial⟩ (Nat.le_of_ble_eq_true rfl)) (av_ok ⟨rfl, trivial⟩) G (fun x B hl hR hin hh => ?_)
  show J g x _ _ 0 0 w 0 0 0 [some (.int x0)] []
  refine j_iload_n B dX2_isDigit_0 rfl ?_
  refine j_bipush (v := 48) B dX2_isDigit_1 (by decide) ?_
  refine j_bipush (v := 57) B dX2_isDigit_3 (by decide) ?_
  refine j_rS (st2 := [.int (F_X0_in x0 48 57)]) B [.int x0, .int 48, .int 57] [] cs_X2_33 dX2_isDigit_5 hl hR (ct_X0_in G) rfl rfl rfl rfl trivial (Nat.le_of_ble_eq_true rfl) ?_
  exact j_lBp B rfl dX2_isDigit_8 hF (by decide) (by decide)
theorem cs_X2_57 : CS "CarryFair$Reader" 57 yX2_isDigit cX2_isDigit 1 (some .boolean) 1 := ⟨Or.inl (lw_S q1139 q1140 q131 q1141), by decide +kernel⟩
def F_X2_digits_J80 (s0 : Int32) (s1 : Option Nat) (w : cH) : Option (Except Nat (Unit) × cH) :=
  xb (F_X2_need s1 s0 w) (fun a80t w80 => some (Except.error a80t, w80)) fun _ w80 => some (Except.ok (), w80)
def F_X2_digits_J43 (rc2 : (Option Nat) → Int32 → cH → Option (Except Nat (Unit) × cH)) (a0 : Option Nat) (s0 : Int32) (w : cH) : Option (Except Nat (Unit) × cH) :=
  (fI w a0 2 4).bind fun i46 => (pV w a0 2 4 (.int (i46 + 1))).bind fun w51 => rc2 a0 s0 w51
def F_X2_digits_B2 (rc2 : Option Nat → Int32 → cH → Option (Except Nat (Unit) × cH)) (a0 : Option Nat) (x1 : Int32) (w : cH) : Option (Except Nat (Unit) × cH) :=
  (fI w a0 2 4).bind fun i4 => (F_X2_byteAt a0 i4 w).bind fun i7 =>if (F_X2_isDigit i7) = 0 then ((pV w a0 2 6 (.int 1)).bind fun w59 => (pV w59 a0 2 7 (.int x1)).bind fun w64 =>if 9999 < x1 then (F_X2_digits_J80  0 a0 w64) else (F_X2_digits_J80  1 a0 w64)) else (if x1 ≤ 9999 then ((fI w a0 2 4).bind fun i33 => (F_X2_byteAt a0 i33 w).bind fun i36 => F_X2_digits_J43  rc2 a0 (((10 * x1) + i36) - 48) w) else (F_X2_digits_J43  rc2 a0 x1 w))
def F_X2_digits_L2 : Nat → Option Nat → Int32 → cH → Option (Except Nat (Unit) × cH)
  | 0, _, _, _ => none
  | n9 + 1, a0, x1, w => F_X2_digits_B2  (F_X2_digits_L2  n9) a0 x1 w
def F_X2_digits (a0 : Option Nat) (w : cH) : Option (Except Nat (Unit) × cH) :=
  if tg w a0 = some 2 then (F_X2_digits_L2  fu a0 0 w) else none
abbrev rm_X2_digits : Room := { frames := 2, cells := 0, slots := 0, locals := 42 }
set_option maxHeartbeats 4000000 in
set_option maxRecDepth 100000 in
theorem ct_X2_digits {l : Launch} {g : Gt} (G : Gok g) {a0 : Option Nat} {w : cH} {r9 : Except Nat Unit} {w9 : cH} (hF : F_X2_digits a0 w = some (r9, w9)) : tg w a0 = some 2 ∧ Mx l yX2_digits (ws_ yX2_digits cX2_digits 2 none) rm_X2_digits g [va_rf a0] w (oxV r9) w9 0 0 := by
  unfold F_X2_digits at hF
  obtain ⟨ht, hF⟩ := bg hF
  refine ⟨ht, mk_ct cX2_digits 2 none "CarryFair$Reader" (plainFor_of_name (by decide)) rfl (lg_le ⟨cr _, trivial⟩ (Nat.le_of_ble_eq_true rfl)) (av_ok ⟨cr _, trivial⟩) G (fun x B hl hR hin hh => ?_)⟩
  show J g x _ _ 0 0 w 0 0 0 [some (va_rf a0), none] []
  have jb80 : ∀ (s0 : Int32) (s1 : Option Nat) (w : cH), F_X2_digits_J80  s0 s1 w = some (r9, w9) → J g x (oxV r9) w9 0 0 w 0 0 80 [none, none] [.int s0, va_rf s1] := by
    intro s0 s1 w hF
    unfold F_X2_digits_J80 at hF
    rcases xbo hF with ⟨a80t, w80, e80, hF⟩ | ⟨_, w80, e80, hF⟩
    · refine j_rVT B [.int s0] [] cx_X2_63 dX2_digits_80 hl hR (ct_X2_need G e80) rfl rfl rfl trivial (Nat.le_of_ble_eq_true rfl) ?_
      exact jt_V B (Hh_nil hh) (by decide) hF (by decide) (by decide)
    refine j_rVX (st2 := []) B [.int s0] [] cx_X2_63 dX2_digits_80 hl hR (ct_X2_need G e80) rfl rfl rfl rfl trivial (Nat.le_of_ble_eq_true rfl) ?_
    exact j_xV B rfl dX2_digits_83 hF (by decide) (by decide)
  have lp2 : ∀ (n9 : Nat) (a0 : Option Nat) (x1 : Int32) (w : cH), F_X2_digits_L2  n9 a0 x1 w = some (r9, w9) → J g x (oxV r9) w9 0 0 w 0 0 2 [some (va_rf a0), some (.int x1)] [] := by
    intro n9
    induction n9 with
    | zero => intro a0 x1 w hF; cases hF
    | succ n2 ih2 =>
      intro a0 x1 w hF
      have hF : F_X2_digits_B2  (F_X2_digits_L2  n2) a0 x1 w = some (r9, w9) := hF
      unfold F_X2_digits_B2 at hF
      have jb43 : ∀ (a0 : Option Nat) (s0 : Int32) (w : cH), F_X2_digits_J43  (F_X2_digits_L2  n2) a0 s0 w = some (r9, w9) → J g x (oxV r9) w9 0 0 w 0 0 43 [some (va_rf a0), none] [.int s0] := by
        intro a0 s0 w hF
        unfold F_X2_digits_J43 at hF
        refine j_istore_n (vs' := [some (va_rf a0), some (.int s0)]) B dX2_digits_43 (by decide) rfl ?_
        refine j_aload_n B dX2_digits_44 rfl ?_
        refine j_dup B dX2_digits_45 (cr _) ?_
        refine j_getI B fl_X2_37 dX2_digits_46 hF (fun i46 hF => ?_)
        refine j_iconst (v := 1) B dX2_digits_49 (by decide) ?_
        refine j_iadd B dX2_digits_50 ?_
        refine j_putV B fp_X2_37 (fun h => by cases h) rfl rfl dX2_digits_51 hF (fun w51 hF => ?_)
        refine j_goto (tgt := 2) B dX2_digits_54 (by decide) ?_
        exact ih2 a0 s0 w51 hF
      refine j_aload_n B dX2_digits_2 rfl ?_
      refine j_aload_n B dX2_digits_3 rfl ?_
      refine j_getI B fl_X2_37 dX2_digits_4 hF (fun i4 hF => ?_)
      obtain ⟨i7, e7, hF⟩ := bo hF
      refine j_rV (st2 := [.int i7]) B [.int i4] [] cv_X2_40 dX2_digits_7 hl hR (ct_X2_byteAt G e7) rfl rfl rfl rfl trivial (Nat.le_of_ble_eq_true rfl) ?_
      refine j_rS (st2 := [.int (F_X2_isDigit i7)]) B [.int i7] [] cs_X2_57 dX2_digits_10 hl hR (ct_X2_isDigit G) rfl rfl rfl rfl trivial (Nat.le_of_ble_eq_true rfl) ?_
      refine j_if_eq (tgt := 57) B dX2_digits_13 (by decide) hF (fun h13 hF => ?_) (fun h13 hF => ?_)
      · refine j_aload_n B dX2_digits_57 rfl ?_
        refine j_iconst (v := 1) B dX2_digits_58 (by decide) ?_
        refine j_putV B fp_X2_47 (fun h => by cases h) rfl rfl dX2_digits_59 hF (fun w59 hF => ?_)
        refine j_aload_n B dX2_digits_62 rfl ?_
        refine j_iload_n B dX2_digits_63 rfl ?_
        refine j_putV B fp_X2_67 (fun h => by cases h) rfl rfl dX2_digits_64 hF (fun w64 hF => ?_)
        refine j_aload_n B dX2_digits_67 rfl ?_
        refine j_iload_n B dX2_digits_68 rfl ?_
        refine j_sipush (v := 9999) B dX2_digits_69 (by decide) ?_
        refine j_icmp_gt (tgt := 79) B dX2_digits_72 (by decide) hF (fun h72 hF => ?_) (fun h72 hF => ?_)
        · refine j_iconst (v := 0) B dX2_digits_79 (by decide) ?_
          refine j_msk [false, false] rfl ?_
          exact jb80 0 a0 w64 hF
        · refine j_iconst (v := 1) B dX2_digits_75 (by decide) ?_
          refine j_goto (tgt := 80) B dX2_digits_76 (by decide) ?_
          refine j_msk [false, false] rfl ?_
          exact jb80 1 a0 w64 hF
      · refine j_iload_n B dX2_digits_16 rfl ?_
        refine j_sipush (v := 9999) B dX2_digits_17 (by decide) ?_
        refine j_icmp_le (tgt := 27) B dX2_digits_20 (by decide) hF (fun h20 hF => ?_) (fun h20 hF => ?_)
        · refine j_bipush (v := 10) B dX2_digits_27 (by decide) ?_
          refine j_iload_n B dX2_digits_29 rfl ?_
          refine j_imul B dX2_digits_30 ?_
          refine j_aload_n B dX2_digits_31 rfl ?_
          refine j_aload_n B dX2_digits_32 rfl ?_
          refine j_getI B fl_X2_37 dX2_digits_33 hF (fun i33 hF => ?_)
          obtain ⟨i36, e36, hF⟩ := bo hF
          refine j_rV (st2 := [.int i36, .int (10 * x1)]) B [.int i33] [.int (10 * x1)] cv_X2_40 dX2_digits_36 hl hR (ct_X2_byteAt G e36) rfl rfl rfl rfl ⟨rfl, trivial⟩ (Nat.le_of_ble_eq_true rfl) ?_
          refine j_iadd B dX2_digits_39 ?_
          refine j_bipush (v := 48) B dX2_digits_40 (by decide) ?_
          refine j_isub B dX2_digits_42 ?_
          refine j_msk [true, false] rfl ?_
          exact jb43 a0 (((10 * x1) + i36) - 48) w hF
        · refine j_iload_n B dX2_digits_23 rfl ?_
          refine j_goto (tgt := 43) B dX2_digits_24 (by decide) ?_
          refine j_msk [true, false] rfl ?_
          exact jb43 a0 x1 w hF
  refine j_iconst (v := 0) B dX2_digits_0 (by decide) ?_
  refine j_istore_n (vs' := [some (va_rf a0), some (.int 0)]) B dX2_digits_1 (by decide) rfl ?_
  exact lp2 fu a0 0 w hF
theorem fp_X2_44 : FP "CarryFair$Reader" 44 2 5 .int false := ⟨RX2, TX2, 8, rfl, by decide, in_X2, Or.inl q310, rfl, (fun h => by cases h), by decide +kernel, ap_X2, tyX2, tyX2_ok⟩
theorem cx_X2_60 : CX "CarryFair$Reader" 60 2 yX2_digits (ws_ yX2_digits cX2_digits 2 none) 2 0 := ⟨⟨_, _, rfl⟩, q1142, q1144, qs52, q131, wsOk_code q1145, by decide +kernel, by decide +kernel⟩
theorem cx_X2_54 : CX "CarryFair$Reader" 54 2 yX2_word (ws_ yX2_word cX2_word 2 none) 2 0 := ⟨⟨_, _, rfl⟩, q1086, q1088, qs49, q131, wsOk_code q1089, by decide +kernel, by decide +kernel⟩
def F_X2_next_J95 (g : Gt) (a0 : Option Nat) (s0 : Int32) (s1 : Option Nat) (w : cH) : Option (Except Nat (Unit) × cH) :=
  xb (F_X2_need s1 s0 w) (fun a95t w95 => some (Except.error a95t, w95)) fun _ w95 => (pV w95 a0 2 6 (.int 3)).bind fun w100 => (fI w100 a0 2 4).bind fun i105 => (pV w100 a0 2 4 (.int (i105 + 1))).bind fun w110 => some (Except.ok (), w110)
def F_X2_next_B0 (g : Gt) (rc0 : Option Nat → cH → Option (Except Nat (Unit) × cH)) (a0 : Option Nat) (w : cH) : Option (Except Nat (Unit) × cH) :=
  (fI w a0 2 4).bind fun i2 => (F_X2_byteAt a0 i2 w).bind fun i5 =>if ¬ i5 = 32 then ((fI w a0 2 4).bind fun i28 => (pV w a0 2 5 (.int i28)).bind fun w31 => (fI w31 a0 2 4).bind fun i36 => (F_X2_byteAt a0 i36 w31).bind fun i39 =>if 0 ≤ i39 then (if (F_X2_isLetter i39) = 0 then (if (F_X2_isDigit i39) = 0 then (if ¬ i39 = 59 then (F_X2_next_J95 g  a0 0 a0 w31) else (F_X2_next_J95 g  a0 1 a0 w31)) else (xb (F_X2_digits a0 w31) (fun a77t w77 => some (Except.error a77t, w77)) fun _ w77 => some (Except.ok (), w77))) else (xb (F_X2_word g a0 w31) (fun a63t w63 => some (Except.error a63t, w63)) fun _ w63 => some (Except.ok (), w63))) else ((pV w31 a0 2 6 (.int 0)).bind fun w49 => some (Except.ok (), w49))) else ((fI w a0 2 4).bind fun i15 => (pV w a0 2 4 (.int (i15 + 1))).bind fun w20 => rc0 a0 w20)
def F_X2_next_L0 (g : Gt) : Nat → Option Nat → cH → Option (Except Nat (Unit) × cH)
  | 0, _, _ => none
  | n9 + 1, a0, w => F_X2_next_B0 g  (F_X2_next_L0 g  n9) a0 w
def F_X2_next (g : Gt) (a0 : Option Nat) (w : cH) : Option (Except Nat (Unit) × cH) :=
  if tg w a0 = some 2 then (F_X2_next_L0 g  fu a0 w) else none
abbrev rm_X2_next : Room := { frames := 7, cells := 0, slots := 0, locals := 166 }
set_option maxHeartbeats 4000000 in
set_option maxRecDepth 100000 in
theorem ct_X2_next {l : Launch} {g : Gt} (G : Gok g) {a0 : Option Nat} {w : cH} {r9 : Except Nat Unit} {w9 : cH} (hF : F_X2_next g a0 w = some (r9, w9)) : tg w a0 = some 2 ∧ Mx l yX2_next (ws_ yX2_next cX2_next 2 none) rm_X2_next g [va_rf a0] w (oxV r9) w9 0 0 := by
  unfold F_X2_next at hF
  obtain ⟨ht, hF⟩ := bg hF
  refine ⟨ht, mk_ct cX2_next 2 none "CarryFair$Reader" (plainFor_of_name (by decide)) rfl (lg_le ⟨cr _, trivial⟩ (Nat.le_of_ble_eq_true rfl)) (av_ok ⟨cr _, trivial⟩) G (fun x B hl hR hin hh => ?_)⟩
  show J g x _ _ 0 0 w 0 0 0 [some (va_rf a0), none] []
  have jb95 : ∀ (a0 : Option Nat) (s0 : Int32) (s1 : Option Nat) (w : cH), F_X2_next_J95 g  a0 s0 s1 w = some (r9, w9) → J g x (oxV r9) w9 0 0 w 0 0 95 [some (va_rf a0), none] [.int s0, va_rf s1] := by
    intro a0 s0 s1 w hF
    unfold F_X2_next_J95 at hF
    rcases xbo hF with ⟨a95t, w95, e95, hF⟩ | ⟨_, w95, e95, hF⟩
    · refine j_rVT B [.int s0] [] cx_X2_63 dX2_next_95 hl hR (ct_X2_need G e95) rfl rfl rfl trivial (Nat.le_of_ble_eq_true rfl) ?_
      exact jt_V B (Hh_nil hh) (by decide) hF (by decide) (by decide)
    refine j_rVX (st2 := []) B [.int s0] [] cx_X2_63 dX2_next_95 hl hR (ct_X2_need G e95) rfl rfl rfl rfl trivial (Nat.le_of_ble_eq_true rfl) ?_
    refine j_aload_n B dX2_next_98 rfl ?_
    refine j_iconst (v := 3) B dX2_next_99 (by decide) ?_
    refine j_putV B fp_X2_47 (fun h => by cases h) rfl rfl dX2_next_100 hF (fun w100 hF => ?_)
    refine j_aload_n B dX2_next_103 rfl ?_
    refine j_dup B dX2_next_104 (cr _) ?_
    refine j_getI B fl_X2_37 dX2_next_105 hF (fun i105 hF => ?_)
    refine j_iconst (v := 1) B dX2_next_108 (by decide) ?_
    refine j_iadd B dX2_next_109 ?_
    refine j_putV B fp_X2_37 (fun h => by cases h) rfl rfl dX2_next_110 hF (fun w110 hF => ?_)
    exact j_xV B rfl dX2_next_113 hF (by decide) (by decide)
  have lp0 : ∀ (n9 : Nat) (a0 : Option Nat) (w : cH), F_X2_next_L0 g  n9 a0 w = some (r9, w9) → J g x (oxV r9) w9 0 0 w 0 0 0 [some (va_rf a0), none] [] := by
    intro n9
    induction n9 with
    | zero => intro a0 w hF; cases hF
    | succ n0 ih0 =>
      intro a0 w hF
      have hF : F_X2_next_B0 g  (F_X2_next_L0 g  n0) a0 w = some (r9, w9) := hF
      unfold F_X2_next_B0 at hF
      refine j_aload_n B dX2_next_0 rfl ?_
      refine j_aload_n B dX2_next_1 rfl ?_
      refine j_getI B fl_X2_37 dX2_next_2 hF (fun i2 hF => ?_)
      obtain ⟨i5, e5, hF⟩ := bo hF
      refine j_rV (st2 := [.int i5]) B [.int i2] [] cv_X2_40 dX2_next_5 hl hR (ct_X2_byteAt G e5) rfl rfl rfl rfl trivial (Nat.le_of_ble_eq_true rfl) ?_
      refine j_bipush (v := 32) B dX2_next_8 (by decide) ?_
      refine j_icmp_ne (tgt := 26) B dX2_next_10 (by decide) hF (fun h10 hF => ?_) (fun h10 hF => ?_)
      · refine j_aload_n B dX2_next_26 rfl ?_
        refine j_aload_n B dX2_next_27 rfl ?_
        refine j_getI B fl_X2_37 dX2_next_28 hF (fun i28 hF => ?_)
        refine j_putV B fp_X2_44 (fun h => by cases h) rfl rfl dX2_next_31 hF (fun w31 hF => ?_)
        refine j_aload_n B dX2_next_34 rfl ?_
        refine j_aload_n B dX2_next_35 rfl ?_
        refine j_getI B fl_X2_37 dX2_next_36 hF (fun i36 hF => ?_)
        obtain ⟨i39, e39, hF⟩ := bo hF
        refine j_rV (st2 := [.int i39]) B [.int i36] [] cv_X2_40 dX2_next_39 hl hR (ct_X2_byteAt G e39) rfl rfl rfl rfl trivial (Nat.le_of_ble_eq_true rfl) ?_
        refine j_istore_n (vs' := [some (va_rf a0), some (.int i39)]) B dX2_next_42 (by decide) rfl ?_
        refine j_iload_n B dX2_next_43 rfl ?_
        refine j_if_ge (tgt := 55) B dX2_next_44 (by decide) hF (fun h44 hF => ?_) (fun h44 hF => ?_)
        · refine j_iload_n B dX2_next_55 rfl ?_
          refine j_rS (st2 := [.int (F_X2_isLetter i39)]) B [.int i39] [] cs_X2_50 dX2_next_56 hl hR (ct_X2_isLetter G) rfl rfl rfl rfl trivial (Nat.le_of_ble_eq_true rfl) ?_
          refine j_if_eq (tgt := 69) B dX2_next_59 (by decide) hF (fun h59 hF => ?_) (fun h59 hF => ?_)
          · refine j_iload_n B dX2_next_69 rfl ?_
            refine j_rS (st2 := [.int (F_X2_isDigit i39)]) B [.int i39] [] cs_X2_57 dX2_next_70 hl hR (ct_X2_isDigit G) rfl rfl rfl rfl trivial (Nat.le_of_ble_eq_true rfl) ?_
            refine j_if_eq (tgt := 83) B dX2_next_73 (by decide) hF (fun h73 hF => ?_) (fun h73 hF => ?_)
            · refine j_aload_n B dX2_next_83 rfl ?_
              refine j_iload_n B dX2_next_84 rfl ?_
              refine j_bipush (v := 59) B dX2_next_85 (by decide) ?_
              refine j_icmp_ne (tgt := 94) B dX2_next_87 (by decide) hF (fun h87 hF => ?_) (fun h87 hF => ?_)
              · refine j_iconst (v := 0) B dX2_next_94 (by decide) ?_
                refine j_msk [true, false] rfl ?_
                exact jb95 a0 0 a0 w31 hF
              · refine j_iconst (v := 1) B dX2_next_90 (by decide) ?_
                refine j_goto (tgt := 95) B dX2_next_91 (by decide) ?_
                refine j_msk [true, false] rfl ?_
                exact jb95 a0 1 a0 w31 hF
            · refine j_aload_n B dX2_next_76 rfl ?_
              rcases xbo hF with ⟨a77t, w77, e77, hF⟩ | ⟨_, w77, e77, hF⟩
              · refine j_rVT B [] [] cx_X2_60 dX2_next_77 hl hR (ct_X2_digits G e77) rfl rfl rfl trivial (Nat.le_of_ble_eq_true rfl) ?_
                exact jt_V B (Hh_nil hh) (by decide) hF (by decide) (by decide)
              refine j_rVX (st2 := []) B [] [] cx_X2_60 dX2_next_77 hl hR (ct_X2_digits G e77) rfl rfl rfl rfl trivial (Nat.le_of_ble_eq_true rfl) ?_
              refine j_goto (tgt := 113) B dX2_next_80 (by decide) ?_
              exact j_xV B rfl dX2_next_113 hF (by decide) (by decide)
          · refine j_aload_n B dX2_next_62 rfl ?_
            rcases xbo hF with ⟨a63t, w63, e63, hF⟩ | ⟨_, w63, e63, hF⟩
            · refine j_rVT B [] [] cx_X2_54 dX2_next_63 hl hR (ct_X2_word G e63) rfl rfl rfl trivial (Nat.le_of_ble_eq_true rfl) ?_
              exact jt_V B (Hh_nil hh) (by decide) hF (by decide) (by decide)
            refine j_rVX (st2 := []) B [] [] cx_X2_54 dX2_next_63 hl hR (ct_X2_word G e63) rfl rfl rfl rfl trivial (Nat.le_of_ble_eq_true rfl) ?_
            refine j_goto (tgt := 113) B dX2_next_66 (by decide) ?_
            exact j_xV B rfl dX2_next_113 hF (by decide) (by decide)
        · refine j_aload_n B dX2_next_47 rfl ?_
          refine j_iconst (v := 0) B dX2_next_48 (by decide) ?_
          refine j_putV B fp_X2_47 (fun h => by cases h) rfl rfl dX2_next_49 hF (fun w49 hF => ?_)
          refine j_goto (tgt := 113) B dX2_next_52 (by decide) ?_
          exact j_xV B rfl dX2_next_113 hF (by decide) (by decide)
      · refine j_aload_n B dX2_next_13 rfl ?_
        refine j_dup B dX2_next_14 (cr _) ?_
        refine j_getI B fl_X2_37 dX2_next_15 hF (fun i15 hF => ?_)
        refine j_iconst (v := 1) B dX2_next_18 (by decide) ?_
        refine j_iadd B dX2_next_19 ?_
        refine j_putV B fp_X2_37 (fun h => by cases h) rfl rfl dX2_next_20 hF (fun w20 hF => ?_)
        refine j_goto (tgt := 0) B dX2_next_23 (by decide) ?_
        exact ih0 a0 w20 hF
  exact lp0 fu a0 w hF
theorem fl_X2_47 : FL "CarryFair$Reader" 47 2 6 := ⟨RX2, TX2, 8, rfl, by decide, in_X2, Or.inl q312⟩
theorem fl_X2_67 : FL "CarryFair$Reader" 67 2 7 := ⟨RX2, TX2, 8, rfl, by decide, in_X2, Or.inl q313⟩
theorem cx_X2_82 : CX "CarryFair$Reader" 82 2 yX2_next (ws_ yX2_next cX2_next 2 none) 2 0 := ⟨⟨_, _, rfl⟩, q1074, q1076, qs47, q131, wsOk_code q1077, by decide +kernel, by decide +kernel⟩
def F_X2_number_J26 (g : Gt) (a0 : Option Nat) (s0 : Int32) (s1 : Option Nat) (w : cH) : Option (Except Nat (Int32) × cH) :=
  xb (F_X2_need s1 s0 w) (fun a26t w26 => some (Except.error a26t, w26)) fun _ w26 => (fI w26 a0 2 7).bind fun i30 => xb (F_X2_next g a0 w26) (fun a35t w35 => some (Except.error a35t, w35)) fun _ w35 => some (Except.ok (i30), w35)
def F_X2_number_J25 (g : Gt) (a0 : Option Nat) (s0 : Option Nat) (w : cH) : Option (Except Nat (Int32) × cH) :=
  F_X2_number_J26 g  a0 0 s0 w
def F_X2_number (g : Gt) (a0 : Option Nat) (x1 : Int32) (x2 : Int32) (w : cH) : Option (Except Nat (Int32) × cH) :=
  if tg w a0 = some 2 then ((fI w a0 2 6).bind fun i2 =>if ¬ i2 = 1 then (F_X2_number_J25 g  a0 a0 w) else ((fI w a0 2 7).bind fun i10 =>if (F_X0_in i10 x1 x2) = 0 then (F_X2_number_J25 g  a0 a0 w) else (F_X2_number_J26 g  a0 1 a0 w))) else none
abbrev rm_X2_number : Room := { frames := 8, cells := 0, slots := 0, locals := 187 }
set_option maxHeartbeats 4000000 in
set_option maxRecDepth 100000 in
theorem ct_X2_number {l : Launch} {g : Gt} (G : Gok g) {a0 : Option Nat} {x1 : Int32} {x2 : Int32} {w : cH} {r9 : Except Nat Int32} {w9 : cH} (hF : F_X2_number g a0 x1 x2 w = some (r9, w9)) : tg w a0 = some 2 ∧ Mx l yX2_number (ws_ yX2_number cX2_number 4 (some .int)) rm_X2_number g [va_rf a0, .int x1, .int x2] w (oxI r9) w9 0 0 := by
  unfold F_X2_number at hF
  obtain ⟨ht, hF⟩ := bg hF
  refine ⟨ht, mk_ct cX2_number 4 (some .int) "CarryFair$Reader" (plainFor_of_name (by decide)) rfl (lg_le ⟨cr _, rfl, rfl, trivial⟩ (Nat.le_of_ble_eq_true rfl)) (av_ok ⟨cr _, rfl, rfl, trivial⟩) G (fun x B hl hR hin hh => ?_)⟩
  show J g x _ _ 0 0 w 0 0 0 [some (va_rf a0), some (.int x1), some (.int x2), none] []
  have jb26 : ∀ (a0 : Option Nat) (s0 : Int32) (s1 : Option Nat) (w : cH), F_X2_number_J26 g  a0 s0 s1 w = some (r9, w9) → J g x (oxI r9) w9 0 0 w 0 0 26 [some (va_rf a0), none, none, none] [.int s0, va_rf s1] := by
    intro a0 s0 s1 w hF
    unfold F_X2_number_J26 at hF
    rcases xbo hF with ⟨a26t, w26, e26, hF⟩ | ⟨_, w26, e26, hF⟩
    · refine j_rVT B [.int s0] [] cx_X2_63 dX2_number_26 hl hR (ct_X2_need G e26) rfl rfl rfl trivial (Nat.le_of_ble_eq_true rfl) ?_
      exact jt_I B (Hh_nil hh) (by decide) hF (by decide) (by decide)
    refine j_rVX (st2 := []) B [.int s0] [] cx_X2_63 dX2_number_26 hl hR (ct_X2_need G e26) rfl rfl rfl rfl trivial (Nat.le_of_ble_eq_true rfl) ?_
    refine j_aload_n B dX2_number_29 rfl ?_
    refine j_getI B fl_X2_67 dX2_number_30 hF (fun i30 hF => ?_)
    refine j_istore_n (vs' := [some (va_rf a0), none, none, some (.int i30)]) B dX2_number_33 (by decide) rfl ?_
    refine j_aload_n B dX2_number_34 rfl ?_
    rcases xbo hF with ⟨a35t, w35, e35, hF⟩ | ⟨_, w35, e35, hF⟩
    · refine j_rVT B [] [] cx_X2_82 dX2_number_35 hl hR (ct_X2_next G e35) rfl rfl rfl trivial (Nat.le_of_ble_eq_true rfl) ?_
      exact jt_I B (Hh_nil hh) (by decide) hF (by decide) (by decide)
    refine j_rVX (st2 := []) B [] [] cx_X2_82 dX2_number_35 hl hR (ct_X2_next G e35) rfl rfl rfl rfl trivial (Nat.le_of_ble_eq_true rfl) ?_
    refine j_iload_n B dX2_number_38 rfl ?_
    exact j_xI B rfl dX2_number_39 hF (by decide) (by decide)
  have jb25 : ∀ (a0 : Option Nat) (s0 : Option Nat) (w : cH), F_X2_number_J25 g  a0 s0 w = some (r9, w9) → J g x (oxI r9) w9 0 0 w 0 0 25 [some (va_rf a0), none, none, none] [va_rf s0] := by
    intro a0 s0 w hF
    unfold F_X2_number_J25 at hF
    refine j_iconst (v := 0) B dX2_number_25 (by decide) ?_
    exact jb26 a0 0 s0 w hF
  refine j_aload_n B dX2_number_0 rfl ?_
  refine j_aload_n B dX2_number_1 rfl ?_
  refine j_getI B fl_X2_47 dX2_number_2 hF (fun i2 hF => ?_)
  refine j_iconst (v := 1) B dX2_number_5 (by decide) ?_
  refine j_icmp_ne (tgt := 25) B dX2_number_6 (by decide) hF (fun h6 hF => ?_) (fun h6 hF => ?_)
  · refine j_msk [true, false, false, false] rfl ?_
    exact jb25 a0 a0 w hF
  · refine j_aload_n B dX2_number_9 rfl ?_
    refine j_getI B fl_X2_67 dX2_number_10 hF (fun i10 hF => ?_)
    refine j_iload_n B dX2_number_13 rfl ?_
    refine j_iload_n B dX2_number_14 rfl ?_
    refine j_rS (st2 := [.int (F_X0_in i10 x1 x2), va_rf a0]) B [.int i10, .int x1, .int x2] [va_rf a0] cs_X2_33 dX2_number_15 hl hR (ct_X0_in G) rfl rfl rfl rfl ⟨cr _, trivial⟩ (Nat.le_of_ble_eq_true rfl) ?_
    refine j_if_eq (tgt := 25) B dX2_number_18 (by decide) hF (fun h18 hF => ?_) (fun h18 hF => ?_)
    · refine j_msk [true, false, false, false] rfl ?_
      exact jb25 a0 a0 w hF
    · refine j_iconst (v := 1) B dX2_number_21 (by decide) ?_
      refine j_goto (tgt := 26) B dX2_number_22 (by decide) ?_
      refine j_msk [true, false, false, false] rfl ?_
      exact jb26 a0 1 a0 w hF
