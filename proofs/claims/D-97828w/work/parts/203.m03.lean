def F_X0_buy_J62 (a0 : Option Nat) (w : cH) : Option (Int32 × cH) :=
  cb (F_X0_finding a0 4 w) fun i64 w64 => some (i64, w64)
def F_X0_buy_J16 (a0 : Option Nat) (w : cH) : Option (Int32 × cH) :=
  cb (F_X0_finding a0 0 w) fun i18 w18 => some (i18, w18)
def F_X0_buy (a0 : Option Nat) (x1 : Int32) (x2 : Int32) (w : cH) : Option (Int32 × cH) :=
  if tg w a0 = some 0 then ((F_X0_isCarrier a0 x1 w).bind fun i2 =>if i2 = 0 then (F_X0_buy_J16  a0 w) else ((F_X0_isWare a0 x2 w).bind fun i10 =>if ¬ i10 = 0 then ((fA w a0 0 3).bind fun a23p => (fA w a23p 4 5).bind fun a26p => (aA w a26p 103 1).bind fun a30p => (aI w a30p 100 x2).bind fun i32 =>if ¬ i32 = (-1) then (F_X0_buy_J62  a0 w) else ((fA w a0 0 3).bind fun a38p => (fA w a38p 4 1).bind fun a41p => (aA w a41p 103 3).bind fun a45p => (aI w a45p 100 x1).bind fun i47 => (fA w a0 0 3).bind fun a49p => (fA w a49p 4 5).bind fun a52p => (aA w a52p 103 0).bind fun a56p => (aI w a56p 100 x2).bind fun i58 =>if i58 ≤ i47 then ((fA w a0 0 3).bind fun a69p => (fA w a69p 4 5).bind fun a72p => (aA w a72p 103 1).bind fun a76p => (aS w a76p 100 x2 (.int x1)).bind fun w79 => (fA w79 a0 0 3).bind fun a81p => (fA w79 a81p 4 1).bind fun a84p => (aA w79 a84p 103 3).bind fun a88p => (aI w79 a88p 100 x1).bind fun i91 => (fA w79 a0 0 3).bind fun a93p => (fA w79 a93p 4 5).bind fun a96p => (aA w79 a96p 103 0).bind fun a100p => (aI w79 a100p 100 x2).bind fun i102 => (aS w79 a88p 100 x1 (.int (i91 - i102))).bind fun w104 => (fA w104 a0 0 3).bind fun a106p => (fA w104 a106p 4 1).bind fun a109p => (aA w104 a109p 103 3).bind fun a113p => (aI w104 a113p 100 x1).bind fun i115 => some (i115, w104)) else (F_X0_buy_J62  a0 w))) else (F_X0_buy_J16  a0 w))) else none
abbrev rm_X0_buy : Room := { frames := 2, cells := 0, slots := 0, locals := 43 }
set_option maxHeartbeats 4000000 in
set_option maxRecDepth 100000 in
theorem ct_X0_buy {l : Launch} {g : Gt} (G : Gok g) {a0 : Option Nat} {x1 : Int32} {x2 : Int32} {w : cH} {r9 : Int32} {w9 : cH} (hF : F_X0_buy a0 x1 x2 w = some (r9, w9)) : tg w a0 = some 0 ∧ Mx l yX0_buy (ws_ yX0_buy cX0_buy 3 (some .int)) rm_X0_buy g [va_rf a0, .int x1, .int x2] w (.returned (some (.int r9))) w9 0 0 := by
  unfold F_X0_buy at hF
  obtain ⟨ht, hF⟩ := bg hF
  refine ⟨ht, mk_ct cX0_buy 3 (some .int) "CarryFair" (plainFor_of_name (by decide)) rfl (lg_le ⟨cr _, rfl, rfl, trivial⟩ (Nat.le_of_ble_eq_true rfl)) (av_ok ⟨cr _, rfl, rfl, trivial⟩) G (fun x B hl hR hin hh => ?_)⟩
  show J g x _ _ 0 0 w 0 0 0 [some (va_rf a0), some (.int x1), some (.int x2)] []
  have jb62 : ∀ (a0 : Option Nat) (w : cH), F_X0_buy_J62  a0 w = some (r9, w9) → J g x (.returned (some (.int r9))) w9 0 0 w 0 0 62 [some (va_rf a0), none, none] [] := by
    intro a0 w hF
    unfold F_X0_buy_J62 at hF
    refine j_aload_n B dX0_buy_62 rfl ?_
    refine j_iconst (v := 4) B dX0_buy_63 (by decide) ?_
    obtain ⟨i64, w64, e64, hF⟩ := bc hF
    refine j_rV (st2 := [.int i64]) B [.int 4] [] cv_X0_142 dX0_buy_64 hl hR (ct_X0_finding G e64) rfl rfl rfl rfl trivial (Nat.le_of_ble_eq_true rfl) ?_
    exact j_lIw B rfl dX0_buy_67 hF (by decide) (by decide)
  have jb16 : ∀ (a0 : Option Nat) (w : cH), F_X0_buy_J16  a0 w = some (r9, w9) → J g x (.returned (some (.int r9))) w9 0 0 w 0 0 16 [some (va_rf a0), none, none] [] := by
    intro a0 w hF
    unfold F_X0_buy_J16 at hF
    refine j_aload_n B dX0_buy_16 rfl ?_
    refine j_iconst (v := 0) B dX0_buy_17 (by decide) ?_
    obtain ⟨i18, w18, e18, hF⟩ := bc hF
    refine j_rV (st2 := [.int i18]) B [.int 0] [] cv_X0_142 dX0_buy_18 hl hR (ct_X0_finding G e18) rfl rfl rfl rfl trivial (Nat.le_of_ble_eq_true rfl) ?_
    exact j_lIw B rfl dX0_buy_21 hF (by decide) (by decide)
  refine j_aload_n B dX0_buy_0 rfl ?_
  refine j_iload_n B dX0_buy_1 rfl ?_
  obtain ⟨i2, e2, hF⟩ := bo hF
  refine j_rV (st2 := [.int i2]) B [.int x1] [] cv_X0_161 dX0_buy_2 hl hR (ct_X0_isCarrier G e2) rfl rfl rfl rfl trivial (Nat.le_of_ble_eq_true rfl) ?_
  refine j_if_eq (tgt := 16) B dX0_buy_5 (by decide) hF (fun h5 hF => ?_) (fun h5 hF => ?_)
  · refine j_msk [true, false, false] rfl ?_
    exact jb16 a0 w hF
  · refine j_aload_n B dX0_buy_8 rfl ?_
    refine j_iload_n B dX0_buy_9 rfl ?_
    obtain ⟨i10, e10, hF⟩ := bo hF
    refine j_rV (st2 := [.int i10]) B [.int x2] [] cv_X0_233 dX0_buy_10 hl hR (ct_X0_isWare G e10) rfl rfl rfl rfl trivial (Nat.le_of_ble_eq_true rfl) ?_
    refine j_if_ne (tgt := 22) B dX0_buy_13 (by decide) hF (fun h13 hF => ?_) (fun h13 hF => ?_)
    · refine j_aload_n B dX0_buy_22 rfl ?_
      refine j_getA B fl_X0_61 dX0_buy_23 hF (fun a23p hF => ?_)
      refine j_getA B fl_X0_236 dX0_buy_26 hF (fun a26p hF => ?_)
      refine j_iconst (v := 1) B dX0_buy_29 (by decide) ?_
      refine j_aaload B 103 rfl rfl dX0_buy_30 hF (fun a30p hF => ?_)
      refine j_iload_n B dX0_buy_31 rfl ?_
      refine j_iaload B dX0_buy_32 hF (fun i32 hF => ?_)
      refine j_iconst (v := (-1)) B dX0_buy_33 (by decide) ?_
      refine j_icmp_ne (tgt := 62) B dX0_buy_34 (by decide) hF (fun h34 hF => ?_) (fun h34 hF => ?_)
      · refine j_msk [true, false, false] rfl ?_
        exact jb62 a0 w hF
      · refine j_aload_n B dX0_buy_37 rfl ?_
        refine j_getA B fl_X0_61 dX0_buy_38 hF (fun a38p hF => ?_)
        refine j_getA B fl_X0_113 dX0_buy_41 hF (fun a41p hF => ?_)
        refine j_iconst (v := 3) B dX0_buy_44 (by decide) ?_
        refine j_aaload B 103 rfl rfl dX0_buy_45 hF (fun a45p hF => ?_)
        refine j_iload_n B dX0_buy_46 rfl ?_
        refine j_iaload B dX0_buy_47 hF (fun i47 hF => ?_)
        refine j_aload_n B dX0_buy_48 rfl ?_
        refine j_getA B fl_X0_61 dX0_buy_49 hF (fun a49p hF => ?_)
        refine j_getA B fl_X0_236 dX0_buy_52 hF (fun a52p hF => ?_)
        refine j_iconst (v := 0) B dX0_buy_55 (by decide) ?_
        refine j_aaload B 103 rfl rfl dX0_buy_56 hF (fun a56p hF => ?_)
        refine j_iload_n B dX0_buy_57 rfl ?_
        refine j_iaload B dX0_buy_58 hF (fun i58 hF => ?_)
        refine j_icmp_ge (tgt := 68) B dX0_buy_59 (by decide) hF (fun h59 hF => ?_) (fun h59 hF => ?_)
        · refine j_aload_n B dX0_buy_68 rfl ?_
          refine j_getA B fl_X0_61 dX0_buy_69 hF (fun a69p hF => ?_)
          refine j_getA B fl_X0_236 dX0_buy_72 hF (fun a72p hF => ?_)
          refine j_iconst (v := 1) B dX0_buy_75 (by decide) ?_
          refine j_aaload B 103 rfl rfl dX0_buy_76 hF (fun a76p hF => ?_)
          refine j_iload_n B dX0_buy_77 rfl ?_
          refine j_iload_n B dX0_buy_78 rfl ?_
          refine j_iastore B dX0_buy_79 hF (fun w79 hF => ?_)
          refine j_aload_n B dX0_buy_80 rfl ?_
          refine j_getA B fl_X0_61 dX0_buy_81 hF (fun a81p hF => ?_)
          refine j_getA B fl_X0_113 dX0_buy_84 hF (fun a84p hF => ?_)
          refine j_iconst (v := 3) B dX0_buy_87 (by decide) ?_
          refine j_aaload B 103 rfl rfl dX0_buy_88 hF (fun a88p hF => ?_)
          refine j_iload_n B dX0_buy_89 rfl ?_
          refine j_dup2 B dX0_buy_90 rfl (cr _) ?_
          refine j_iaload B dX0_buy_91 hF (fun i91 hF => ?_)
          refine j_aload_n B dX0_buy_92 rfl ?_
          refine j_getA B fl_X0_61 dX0_buy_93 hF (fun a93p hF => ?_)
          refine j_getA B fl_X0_236 dX0_buy_96 hF (fun a96p hF => ?_)
          refine j_iconst (v := 0) B dX0_buy_99 (by decide) ?_
          refine j_aaload B 103 rfl rfl dX0_buy_100 hF (fun a100p hF => ?_)
          refine j_iload_n B dX0_buy_101 rfl ?_
          refine j_iaload B dX0_buy_102 hF (fun i102 hF => ?_)
          refine j_isub B dX0_buy_103 ?_
          refine j_iastore B dX0_buy_104 hF (fun w104 hF => ?_)
          refine j_aload_n B dX0_buy_105 rfl ?_
          refine j_getA B fl_X0_61 dX0_buy_106 hF (fun a106p hF => ?_)
          refine j_getA B fl_X0_113 dX0_buy_109 hF (fun a109p hF => ?_)
          refine j_iconst (v := 3) B dX0_buy_112 (by decide) ?_
          refine j_aaload B 103 rfl rfl dX0_buy_113 hF (fun a113p hF => ?_)
          refine j_iload_n B dX0_buy_114 rfl ?_
          refine j_iaload B dX0_buy_115 hF (fun i115 hF => ?_)
          exact j_lIw B rfl dX0_buy_116 hF (by decide) (by decide)
        · refine j_msk [true, false, false] rfl ?_
          exact jb62 a0 w hF
    · refine j_msk [true, false, false] rfl ?_
      exact jb16 a0 w hF
theorem cv_X0_270 : CV "CarryFair" 270 4 yX4_being cX4_being 4 (some .int) 1 := ⟨_, _, rfl, lw_V q832 q833 q834 q133 q835, by decide +kernel⟩
theorem cv_X0_273 : CV "CarryFair" 273 4 yX4_sold cX4_sold 3 (some .int) 0 := ⟨_, _, rfl, lw_V q836 q837 q838 q133 q839, by decide +kernel⟩
theorem cv_X0_276 : CV "CarryFair" 276 4 yX4_sumOf cX4_sumOf 4 (some .int) 1 := ⟨_, _, rfl, lw_V q840 q841 q842 q133 q843, by decide +kernel⟩
def F_X0_now (a0 : Option Nat) (x1 : Int32) (w : cH) : Option (Int32 × cH) :=
  if tg w a0 = some 0 then (if x1 = 0 then ((fA w a0 0 3).bind fun a37p => (F_X4_being a37p 0 w).bind fun i41 => some (i41, w)) else if x1 = 1 then ((fA w a0 0 3).bind fun a46p => (F_X4_being a46p 2 w).bind fun i50 => some (i50, w)) else if x1 = 2 then ((fA w a0 0 3).bind fun a55p => (F_X4_sold a55p w).bind fun i58 => some (i58, w)) else if x1 = 3 then ((fA w a0 0 3).bind fun a63p => (F_X4_sumOf a63p 3 w).bind fun i67 => some (i67, w)) else if x1 = 4 then ((fA w a0 0 3).bind fun a72p => (F_X4_sumOf a72p 4 w).bind fun i76 => some (i76, w)) else (cb (F_X0_finding a0 0 w) fun i82 w82 => some (i82, w82))) else none
abbrev rm_X0_now : Room := { frames := 1, cells := 0, slots := 0, locals := 23 }
set_option maxHeartbeats 4000000 in
set_option maxRecDepth 100000 in
theorem ct_X0_now {l : Launch} {g : Gt} (G : Gok g) {a0 : Option Nat} {x1 : Int32} {w : cH} {r9 : Int32} {w9 : cH} (hF : F_X0_now a0 x1 w = some (r9, w9)) : tg w a0 = some 0 ∧ Mx l yX0_now (ws_ yX0_now cX0_now 2 (some .int)) rm_X0_now g [va_rf a0, .int x1] w (.returned (some (.int r9))) w9 0 0 := by
  unfold F_X0_now at hF
  obtain ⟨ht, hF⟩ := bg hF
  refine ⟨ht, mk_ct cX0_now 2 (some .int) "CarryFair" (plainFor_of_name (by decide)) rfl (lg_le ⟨cr _, rfl, trivial⟩ (Nat.le_of_ble_eq_true rfl)) (av_ok ⟨cr _, rfl, trivial⟩) G (fun x B hl hR hin hh => ?_)⟩
  show J g x _ _ 0 0 w 0 0 0 [some (va_rf a0), some (.int x1)] []
  refine j_iload_n B dX0_now_0 rfl ?_
  by_cases t1_0 : x1 = 0
  · rw [if_pos t1_0] at hF
    refine j_tblIn (tgt := 36) B 0 dX0_now_1 t1_0 (by decide) rfl (by decide) ?_
    refine j_aload_n B dX0_now_36 rfl ?_
    refine j_getA B fl_X0_61 dX0_now_37 hF (fun a37p hF => ?_)
    refine j_iconst (v := 0) B dX0_now_40 (by decide) ?_
    obtain ⟨i41, e41, hF⟩ := bo hF
    refine j_rV (st2 := [.int i41]) B [.int 0] [] cv_X0_270 dX0_now_41 hl hR (ct_X4_being G e41) rfl rfl rfl rfl trivial (Nat.le_of_ble_eq_true rfl) ?_
    exact j_lIw B rfl dX0_now_44 hF (by decide) (by decide)
  rw [if_neg t1_0] at hF
  by_cases t1_1 : x1 = 1
  · rw [if_pos t1_1] at hF
    refine j_tblIn (tgt := 45) B 1 dX0_now_1 t1_1 (by decide) rfl (by decide) ?_
    refine j_aload_n B dX0_now_45 rfl ?_
    refine j_getA B fl_X0_61 dX0_now_46 hF (fun a46p hF => ?_)
    refine j_iconst (v := 2) B dX0_now_49 (by decide) ?_
    obtain ⟨i50, e50, hF⟩ := bo hF
    refine j_rV (st2 := [.int i50]) B [.int 2] [] cv_X0_270 dX0_now_50 hl hR (ct_X4_being G e50) rfl rfl rfl rfl trivial (Nat.le_of_ble_eq_true rfl) ?_
    exact j_lIw B rfl dX0_now_53 hF (by decide) (by decide)
  rw [if_neg t1_1] at hF
  by_cases t1_2 : x1 = 2
  · rw [if_pos t1_2] at hF
    refine j_tblIn (tgt := 54) B 2 dX0_now_1 t1_2 (by decide) rfl (by decide) ?_
    refine j_aload_n B dX0_now_54 rfl ?_
    refine j_getA B fl_X0_61 dX0_now_55 hF (fun a55p hF => ?_)
    obtain ⟨i58, e58, hF⟩ := bo hF
    refine j_rV (st2 := [.int i58]) B [] [] cv_X0_273 dX0_now_58 hl hR (ct_X4_sold G e58) rfl rfl rfl rfl trivial (Nat.le_of_ble_eq_true rfl) ?_
    exact j_lIw B rfl dX0_now_61 hF (by decide) (by decide)
  rw [if_neg t1_2] at hF
  by_cases t1_3 : x1 = 3
  · rw [if_pos t1_3] at hF
    refine j_tblIn (tgt := 62) B 3 dX0_now_1 t1_3 (by decide) rfl (by decide) ?_
    refine j_aload_n B dX0_now_62 rfl ?_
    refine j_getA B fl_X0_61 dX0_now_63 hF (fun a63p hF => ?_)
    refine j_iconst (v := 3) B dX0_now_66 (by decide) ?_
    obtain ⟨i67, e67, hF⟩ := bo hF
    refine j_rV (st2 := [.int i67]) B [.int 3] [] cv_X0_276 dX0_now_67 hl hR (ct_X4_sumOf G e67) rfl rfl rfl rfl trivial (Nat.le_of_ble_eq_true rfl) ?_
    exact j_lIw B rfl dX0_now_70 hF (by decide) (by decide)
  rw [if_neg t1_3] at hF
  by_cases t1_4 : x1 = 4
  · rw [if_pos t1_4] at hF
    refine j_tblIn (tgt := 71) B 4 dX0_now_1 t1_4 (by decide) rfl (by decide) ?_
    refine j_aload_n B dX0_now_71 rfl ?_
    refine j_getA B fl_X0_61 dX0_now_72 hF (fun a72p hF => ?_)
    refine j_iconst (v := 4) B dX0_now_75 (by decide) ?_
    obtain ⟨i76, e76, hF⟩ := bo hF
    refine j_rV (st2 := [.int i76]) B [.int 4] [] cv_X0_276 dX0_now_76 hl hR (ct_X4_sumOf G e76) rfl rfl rfl rfl trivial (Nat.le_of_ble_eq_true rfl) ?_
    exact j_lIw B rfl dX0_now_79 hF (by decide) (by decide)
  rw [if_neg t1_4] at hF
  refine j_tblOut (tgt := 80) B dX0_now_1 (tbl_out 0 4 (fun z h1 h2 => ?_)) (by decide) ?_
  · rcases (show z = 0 ∨ z = 1 ∨ z = 2 ∨ z = 3 ∨ z = 4 by omega) with h | h | h | h | h
    · rw [h]; exact lv_neT t1_0 (by decide)
    · rw [h]; exact lv_neT t1_1 (by decide)
    · rw [h]; exact lv_neT t1_2 (by decide)
    · rw [h]; exact lv_neT t1_3 (by decide)
    · rw [h]; exact lv_neT t1_4 (by decide)
  refine j_aload_n B dX0_now_80 rfl ?_
  refine j_iconst (v := 0) B dX0_now_81 (by decide) ?_
  obtain ⟨i82, w82, e82, hF⟩ := bc hF
  refine j_rV (st2 := [.int i82]) B [.int 0] [] cv_X0_142 dX0_now_82 hl hR (ct_X0_finding G e82) rfl rfl rfl rfl trivial (Nat.le_of_ble_eq_true rfl) ?_
  exact j_lIw B rfl dX0_now_85 hF (by decide) (by decide)
def F_X0_isSet (a0 : Option Nat) (x1 : Int32) (w : cH) : Option Int32 :=
  if tg w a0 = some 0 then ((fA w a0 0 3).bind fun a4p => (fI w a4p 4 2).bind fun i7 => some ((F_X0_in x1 0 ((1 <<< (i7 &&& 31)) - 1)) &&& 1)) else none
abbrev rm_X0_isSet : Room := { frames := 1, cells := 0, slots := 0, locals := 22 }
set_option maxHeartbeats 4000000 in
set_option maxRecDepth 100000 in
theorem ct_X0_isSet {l : Launch} {g : Gt} (G : Gok g) {a0 : Option Nat} {x1 : Int32} {w : cH} {r9 : Int32} (hF : F_X0_isSet a0 x1 w = some r9) : tg w a0 = some 0 ∧ Mx l yX0_isSet (ws_ yX0_isSet cX0_isSet 2 (some .boolean)) rm_X0_isSet g [va_rf a0, .int x1] w (.returned (some (.int r9))) w 0 0 := by
  unfold F_X0_isSet at hF
  obtain ⟨ht, hF⟩ := bg hF
  refine ⟨ht, mk_ct cX0_isSet 2 (some .boolean) "CarryFair" (plainFor_of_name (by decide)) rfl (lg_le ⟨cr _, rfl, trivial⟩ (Nat.le_of_ble_eq_true rfl)) (av_ok ⟨cr _, rfl, trivial⟩) G (fun x B hl hR hin hh => ?_)⟩
  show J g x _ _ 0 0 w 0 0 0 [some (va_rf a0), some (.int x1)] []
  refine j_iload_n B dX0_isSet_0 rfl ?_
  refine j_iconst (v := 0) B dX0_isSet_1 (by decide) ?_
  refine j_iconst (v := 1) B dX0_isSet_2 (by decide) ?_
  refine j_aload_n B dX0_isSet_3 rfl ?_
  refine j_getA B fl_X0_61 dX0_isSet_4 hF (fun a4p hF => ?_)
  refine j_getI B fl_X0_127 dX0_isSet_7 hF (fun i7 hF => ?_)
  refine j_ishl B dX0_isSet_10 ?_
  refine j_iconst (v := 1) B dX0_isSet_11 (by decide) ?_
  refine j_isub B dX0_isSet_12 ?_
  refine j_rS (st2 := [.int (F_X0_in x1 0 ((1 <<< (i7 &&& 31)) - 1))]) B [.int x1, .int 0, .int ((1 <<< (i7 &&& 31)) - 1)] [] cs_X0_3 dX0_isSet_13 hl hR (ct_X0_in G) rfl rfl rfl rfl trivial (Nat.le_of_ble_eq_true rfl) ?_
  exact j_lB B rfl dX0_isSet_16 hF (by decide) (by decide)
def F_J4_bitCount (x0 : Int32) : Int32 :=
  (((((((x0 - (((x0.toUInt32 >>> ((1 : Int32).toUInt32 &&& Int32.toUInt32 31)).toInt32) &&& 1431655765)) &&& 858993459) + ((((x0 - (((x0.toUInt32 >>> ((1 : Int32).toUInt32 &&& Int32.toUInt32 31)).toInt32) &&& 1431655765)).toUInt32 >>> ((2 : Int32).toUInt32 &&& Int32.toUInt32 31)).toInt32) &&& 858993459)) + (((((x0 - (((x0.toUInt32 >>> ((1 : Int32).toUInt32 &&& Int32.toUInt32 31)).toInt32) &&& 1431655765)) &&& 858993459) + ((((x0 - (((x0.toUInt32 >>> ((1 : Int32).toUInt32 &&& Int32.toUInt32 31)).toInt32) &&& 1431655765)).toUInt32 >>> ((2 : Int32).toUInt32 &&& Int32.toUInt32 31)).toInt32) &&& 858993459)).toUInt32 >>> ((4 : Int32).toUInt32 &&& Int32.toUInt32 31)).toInt32)) &&& 252645135) + (((((((x0 - (((x0.toUInt32 >>> ((1 : Int32).toUInt32 &&& Int32.toUInt32 31)).toInt32) &&& 1431655765)) &&& 858993459) + ((((x0 - (((x0.toUInt32 >>> ((1 : Int32).toUInt32 &&& Int32.toUInt32 31)).toInt32) &&& 1431655765)).toUInt32 >>> ((2 : Int32).toUInt32 &&& Int32.toUInt32 31)).toInt32) &&& 858993459)) + (((((x0 - (((x0.toUInt32 >>> ((1 : Int32).toUInt32 &&& Int32.toUInt32 31)).toInt32) &&& 1431655765)) &&& 858993459) + ((((x0 - (((x0.toUInt32 >>> ((1 : Int32).toUInt32 &&& Int32.toUInt32 31)).toInt32) &&& 1431655765)).toUInt32 >>> ((2 : Int32).toUInt32 &&& Int32.toUInt32 31)).toInt32) &&& 858993459)).toUInt32 >>> ((4 : Int32).toUInt32 &&& Int32.toUInt32 31)).toInt32)) &&& 252645135).toUInt32 >>> ((8 : Int32).toUInt32 &&& Int32.toUInt32 31)).toInt32)) + ((((((((x0 - (((x0.toUInt32 >>> ((1 : Int32).toUInt32 &&& Int32.toUInt32 31)).toInt32) &&& 1431655765)) &&& 858993459) + ((((x0 - (((x0.toUInt32 >>> ((1 : Int32).toUInt32 &&& Int32.toUInt32 31)).toInt32) &&& 1431655765)).toUInt32 >>> ((2 : Int32).toUInt32 &&& Int32.toUInt32 31)).toInt32) &&& 858993459)) + (((((x0 - (((x0.toUInt32 >>> ((1 : Int32).toUInt32 &&& Int32.toUInt32 31)).toInt32) &&& 1431655765)) &&& 858993459) + ((((x0 - (((x0.toUInt32 >>> ((1 : Int32).toUInt32 &&& Int32.toUInt32 31)).toInt32) &&& 1431655765)).toUInt32 >>> ((2 : Int32).toUInt32 &&& Int32.toUInt32 31)).toInt32) &&& 858993459)).toUInt32 >>> ((4 : Int32).toUInt32 &&& Int32.toUInt32 31)).toInt32)) &&& 252645135) + (((((((x0 - (((x0.toUInt32 >>> ((1 : Int32).toUInt32 &&& Int32.toUInt32 31)).toInt32) &&& 1431655765)) &&& 858993459) + ((((x0 - (((x0.toUInt32 >>> ((1 : Int32).toUInt32 &&& Int32.toUInt32 31)).toInt32) &&& 1431655765)).toUInt32 >>> ((2 : Int32).toUInt32 &&& Int32.toUInt32 31)).toInt32) &&& 858993459)) + (((((x0 - (((x0.toUInt32 >>> ((1 : Int32).toUInt32 &&& Int32.toUInt32 31)).toInt32) &&& 1431655765)) &&& 858993459) + ((((x0 - (((x0.toUInt32 >>> ((1 : Int32).toUInt32 &&& Int32.toUInt32 31)).toInt32) &&& 1431655765)).toUInt32 >>> ((2 : Int32).toUInt32 &&& Int32.toUInt32 31)).toInt32) &&& 858993459)).toUInt32 >>> ((4 : Int32).toUInt32 &&& Int32.toUInt32 31)).toInt32)) &&& 252645135).toUInt32 >>> ((8 : Int32).toUInt32 &&& Int32.toUInt32 31)).toInt32)).toUInt32 >>> ((16 : Int32).toUInt32 &&& Int32.toUInt32 31)).toInt32)) &&& 63
abbrev rm_J4_bitCount : Room := { frames := 0, cells := 0, slots := 0, locals := 0 }
set_option maxHeartbeats 4000000 in
set_option maxRecDepth 100000 in
theorem ct_J4_bitCount {l : Launch} {g : Gt} (G : Gok g) {x0 : Int32} {w : cH} : Mx l yJ4_bitCount (ws_ yJ4_bitCount cJ4_bitCount 1 (some .int)) rm_J4_bitCount g [.int x0] w (.returned (some (.int (F_J4_bitCount x0)))) w 0 0 := by
  generalize hF : F_J4_bitCount x0 = r9
  unfold F_J4_bitCount at hF
  refine mk_ct cJ4_bitCount 1 (some .int) "java/lang/Integer" (by decide +kernel) rfl (lg_le ⟨rfl, trivial⟩ (Nat.le_of_ble_eq_true rfl)) (av_ok ⟨rfl, trivial⟩) G (fun x B hl hR hin hh => ?_)
  show J g x _ _ 0 0 w 0 0 0 [some (.int x0)] []
  refine j_iload_n B dJ4_bitCount_0 rfl ?_
  refine j_iload_n B dJ4_bitCount_1 rfl ?_
  refine j_iconst (v := 1) B dJ4_bitCount_2 (by decide) ?_
  refine j_iushr B dJ4_bitCount_3 ?_
  refine j_ldcw (v := 1431655765) B q863 dJ4_bitCount_4 ?_
  refine j_iand B dJ4_bitCount_7 ?_
  refine j_isub B dJ4_bitCount_8 ?_
  refine j_istore_n (vs' := [some (.int (x0 - (((x0.toUInt32 >>> ((1 : Int32).toUInt32 &&& Int32.toUInt32 31)).toInt32) &&& 1431655765)))]) B dJ4_bitCount_9 (by decide) rfl ?_
  refine j_iload_n B dJ4_bitCount_10 rfl ?_
  refine j_ldcw (v := 858993459) B q864 dJ4_bitCount_11 ?_
  refine j_iand B dJ4_bitCount_14 ?_
  refine j_iload_n B dJ4_bitCount_15 rfl ?_
  refine j_iconst (v := 2) B dJ4_bitCount_16 (by decide) ?_
  refine j_iushr B dJ4_bitCount_17 ?_
  refine j_ldcw (v := 858993459) B q864 dJ4_bitCount_18 ?_
  refine j_iand B dJ4_bitCount_21 ?_
  refine j_iadd B dJ4_bitCount_22 ?_
  refine j_istore_n (vs' := [some (.int (((x0 - (((x0.toUInt32 >>> ((1 : Int32).toUInt32 &&& Int32.toUInt32 31)).toInt32) &&& 1431655765)) &&& 858993459) + ((((x0 - (((x0.toUInt32 >>> ((1 : Int32).toUInt32 &&& Int32.toUInt32 31)).toInt32) &&& 1431655765)).toUInt32 >>> ((2 : Int32).toUInt32 &&& Int32.toUInt32 31)).toInt32) &&& 858993459)))]) B dJ4_bitCount_23 (by decide) rfl ?_
  refine j_iload_n B dJ4_bitCount_24 rfl ?_
  refine j_iload_n B dJ4_bitCount_25 rfl ?_
  refine j_iconst (v := 4) B dJ4_bitCount_26 (by decide) ?_
  refine j_iushr B dJ4_bitCount_27 ?_
  refine j_iadd B dJ4_bitCount_28 ?_
  refine j_ldcw (v := 252645135) B q865 dJ4_bitCount_29 ?_
  refine j_iand B dJ4_bitCount_32 ?_
  refine j_istore_n (vs' := [some (.int (((((x0 - (((x0.toUInt32 >>> ((1 : Int32).toUInt32 &&& Int32.toUInt32 31)).toInt32) &&& 1431655765)) &&& 858993459) + ((((x0 - (((x0.toUInt32 >>> ((1 : Int32).toUInt32 &&& Int32.toUInt32 31)).toInt32) &&& 1431655765)).toUInt32 >>> ((2 : Int32).toUInt32 &&& Int32.toUInt32 31)).toInt32) &&& 858993459)) + (((((x0 - (((x0.toUInt32 >>> ((1 : Int32).toUInt32 &&& Int32.toUInt32 31)).toInt32) &&& 1431655765)) &&& 858993459) + ((((x0 - (((x0.toUInt32 >>> ((1 : Int32).toUInt32 &&& Int32.toUInt32 31)).toInt32) &&& 1431655765)).toUInt32 >>> ((2 : Int32).toUInt32 &&& Int32.toUInt32 31)).toInt32) &&& 858993459)).toUInt32 >>> ((4 : Int32).toUInt32 &&& Int32.toUInt32 31)).toInt32)) &&& 252645135))]) B dJ4_bitCount_33 (by decide) rfl ?_
  refine j_iload_n B dJ4_bitCount_34 rfl ?_
  refine j_iload_n B dJ4_bitCount_35 rfl ?_
  refine j_bipush (v := 8) B dJ4_bitCount_36 (by decide) ?_
  refine j_iushr B dJ4_bitCount_38 ?_
  refine j_iadd B dJ4_bitCount_39 ?_
  refine j_istore_n (vs' := [some (.int ((((((x0 - (((x0.toUInt32 >>> ((1 : Int32).toUInt32 &&& Int32.toUInt32 31)).toInt32) &&& 1431655765)) &&& 858993459) + ((((x0 - (((x0.toUInt32 >>> ((1 : Int32).toUInt32 &&& Int32.toUInt32 31)).toInt32) &&& 1431655765)).toUInt32 >>> ((2 : Int32).toUInt32 &&& Int32.toUInt32 31)).toInt32) &&& 858993459)) + (((((x0 - (((x0.toUInt32 >>> ((1 : Int32).toUInt32 &&& Int32.toUInt32 31)).toInt32) &&& 1431655765)) &&& 858993459) + ((((x0 - (((x0.toUInt32 >>> ((1 : Int32).toUInt32 &&& Int32.toUInt32 31)).toInt32) &&& 1431655765)).toUInt32 >>> ((2 : Int32).toUInt32 &&& Int32.toUInt32 31)).toInt32) &&& 858993459)).toUInt32 >>> ((4 : Int32).toUInt32 &&& Int32.toUInt32 31)).toInt32)) &&& 252645135) + (((((((x0 - (((x0.toUInt32 >>> ((1 : Int32).toUInt32 &&& Int32.toUInt32 31)).toInt32) &&& 1431655765)) &&& 858993459) + ((((x0 - (((x0.toUInt32 >>> ((1 : Int32).toUInt32 &&& Int32.toUInt32 31)).toInt32) &&& 1431655765)).toUInt32 >>> ((2 : Int32).toUInt32 &&& Int32.toUInt32 31)).toInt32) &&& 858993459)) + (((((x0 - (((x0.toUInt32 >>> ((1 : Int32).toUInt32 &&& Int32.toUInt32 31)).toInt32) &&& 1431655765)) &&& 858993459) + ((((x0 - (((x0.toUInt32 >>> ((1 : Int32).toUInt32 &&& Int32.toUInt32 31)).toInt32) &&& 1431655765)).toUInt32 >>> ((2 : Int32).toUInt32 &&& Int32.toUInt32 31)).toInt32) &&& 858993459)).toUInt32 >>> ((4 : Int32).toUInt32 &&& Int32.toUInt32 31)).toInt32)) &&& 252645135).toUInt32 >>> ((8 : Int32).toUInt32 &&& Int32.toUInt32 31)).toInt32)))]) B dJ4_bitCount_40 (by decide) rfl ?_
  refine j_iload_n B dJ4_bitCount_41 rfl ?_
  refine j_iload_n B dJ4_bitCount_42 rfl ?_
  refine j_bipush (v := 16) B dJ4_bitCount_43 (by decide) ?_
  refine j_iushr B dJ4_bitCount_45 ?_
  refine j_iadd B dJ4_bitCount_46 ?_
  refine j_istore_n (vs' := [some (.int (((((((x0 - (((x0.toUInt32 >>> ((1 : Int32).toUInt32 &&& Int32.toUInt32 31)).toInt32) &&& 1431655765)) &&& 858993459) + ((((x0 - (((x0.toUInt32 >>> ((1 : Int32).toUInt32 &&& Int32.toUInt32 31)).toInt32) &&& 1431655765)).toUInt32 >>> ((2 : Int32).toUInt32 &&& Int32.toUInt32 31)).toInt32) &&& 858993459)) + (((((x0 - (((x0.toUInt32 >>> ((1 : Int32).toUInt32 &&& Int32.toUInt32 31)).toInt32) &&& 1431655765)) &&& 858993459) + ((((x0 - (((x0.toUInt32 >>> ((1 : Int32).toUInt32 &&& Int32.toUInt32 31)).toInt32) &&& 1431655765)).toUInt32 >>> ((2 : Int32).toUInt32 &&& Int32.toUInt32 31)).toInt32) &&& 858993459)).toUInt32 >>> ((4 : Int32).toUInt32 &&& Int32.toUInt32 31)).toInt32)) &&& 252645135) + (((((((x0 - (((x0.toUInt32 >>> ((1 : Int32).toUInt32 &&& Int32.toUInt32 31)).toInt32) &&& 1431655765)) &&& 858993459) + ((((x0 - (((x0.toUInt32 >>> ((1 : Int32).toUInt32 &&& Int32.toUInt32 31)).toInt32) &&& 1431655765)).toUInt32 >>> ((2 : Int32).toUInt32 &&& Int32.toUInt32 31)).toInt32) &&& 858993459)) + (((((x0 - (((x0.toUInt32 >>> ((1 : Int32).toUInt32 &&& Int32.toUInt32 31)).toInt32) &&& 1431655765)) &&& 858993459) + ((((x0 - (((x0.toUInt32 >>> ((1 : Int32).toUInt32 &&& Int32.toUInt32 31)).toInt32) &&& 1431655765)).toUInt32 >>> ((2 : Int32).toUInt32 &&& Int32.toUInt32 31)).toInt32) &&& 858993459)).toUInt32 >>> ((4 : Int32).toUInt32 &&& Int32.toUInt32 31)).toInt32)) &&& 252645135).toUInt32 >>> ((8 : Int32).toUInt32 &&& Int32.toUInt32 31)).toInt32)) + ((((((((x0 - (((x0.toUInt32 >>> ((1 : Int32).toUInt32 &&& Int32.toUInt32 31)).toInt32) &&& 1431655765)) &&& 858993459) + ((((x0 - (((x0.toUInt32 >>> ((1 : Int32).toUInt32 &&& Int32.toUInt32 31)).toInt32) &&& 1431655765)).toUInt32 >>> ((2 : Int32).toUInt32 &&& Int32.toUInt32 31)).toInt32) &&& 858993459)) + (((((x0 - (((x0.toUInt32 >>> ((1 : Int32).toUInt32 &&& Int32.toUInt32 31)).toInt32) &&& 1431655765)) &&& 858993459) + ((((x0 - (((x0.toUInt32 >>> ((1 : Int32).toUInt32 &&& Int32.toUInt32 31)).toInt32) &&& 1431655765)).toUInt32 >>> ((2 : Int32).toUInt32 &&& Int32.toUInt32 31)).toInt32) &&& 858993459)).toUInt32 >>> ((4 : Int32).toUInt32 &&& Int32.toUInt32 31)).toInt32)) &&& 252645135) + (((((((x0 - (((x0.toUInt32 >>> ((1 : Int32).toUInt32 &&& Int32.toUInt32 31)).toInt32) &&& 1431655765)) &&& 858993459) + ((((x0 - (((x0.toUInt32 >>> ((1 : Int32).toUInt32 &&& Int32.toUInt32 31)).toInt32) &&& 1431655765)).toUInt32 >>> ((2 : Int32).toUInt32 &&& Int32.toUInt32 31)).toInt32) &&& 858993459)) + (((((x0 - (((x0.toUInt32 >>> ((1 : Int32).toUInt32 &&& Int32.toUInt32 31)).toInt32) &&& 1431655765)) &&& 858993459) + ((((x0 - (((x0.toUInt32 >>> ((1 : Int32).toUInt32 &&& Int32.toUInt32 31)).toInt32) &&& 1431655765)).toUInt32 >>> ((2 : Int32).toUInt32 &&& Int32.toUInt32 31)).toInt32) &&& 858993459)).toUInt32 >>> ((4 : Int32).toUInt32 &&& Int32.toUInt32 31)).toInt32)) &&& 252645135).toUInt32 >>> ((8 : Int32).toUInt32 &&& Int32.toUInt32 31)).toInt32)).toUInt32 >>> ((16 : Int32).toUInt32 &&& Int32.toUInt32 31)).toInt32)))]) B dJ4_bitCount_47 (by decide) rfl ?_
  refine j_iload_n B dJ4_bitCount_48 rfl ?_
  refine j_bipush (v := 63) B dJ4_bitCount_49 (by decide) ?_
  refine j_iand B dJ4_bitCount_51 ?_
  exact j_lIp B rfl dJ4_bitCount_52 hF (by decide) (by decide)
theorem cv_X0_133 : CV "CarryFair" 133 0 yX0_isSet cX0_isSet 2 (some .boolean) 1 := ⟨_, _, rfl, lw_V q856 q858 qs21 q126 q859, by decide +kernel⟩
theorem cs_X0_136 : CS "CarryFair" 136 yJ4_bitCount cJ4_bitCount 1 (some .int) 1 := ⟨Or.inl (lw_S q860 q861 q144 q862), by decide +kernel⟩
def F_X0_isFew (a0 : Option Nat) (x1 : Int32) (w : cH) : Option Int32 :=
  if tg w a0 = some 0 then ((F_X0_isSet a0 x1 w).bind fun i2 =>if i2 = 0 then (some (0)) else (if 5 < (F_J4_bitCount x1) then (some (0)) else (some (1)))) else none
abbrev rm_X0_isFew : Room := { frames := 2, cells := 0, slots := 0, locals := 43 }
set_option maxHeartbeats 4000000 in
set_option maxRecDepth 100000 in
theorem ct_X0_isFew {l : Launch} {g : Gt} (G : Gok g) {a0 : Option Nat} {x1 : Int32} {w : cH} {r9 : Int32} (hF : F_X0_isFew a0 x1 w = some r9) : tg w a0 = some 0 ∧ Mx l yX0_isFew (ws_ yX0_isFew cX0_isFew 2 (some .boolean)) rm_X0_isFew g [va_rf a0, .int x1] w (.returned (some (.int r9))) w 0 0 := by
  unfold F_X0_isFew at hF
  obtain ⟨ht, hF⟩ := bg hF
  refine ⟨ht, mk_ct cX0_isFew 2 (some .boolean) "CarryFair" (plainFor_of_name (by decide)) rfl (lg_le ⟨cr _, rfl, trivial⟩ (Nat.le_of_ble_eq_true rfl)) (av_ok ⟨cr _, rfl, trivial⟩) G (fun x B hl hR hin hh => ?_)⟩
  show J g x _ _ 0 0 w 0 0 0 [some (va_rf a0), some (.int x1)] []
  refine j_aload_n B dX0_isFew_0 rfl ?_
  refine j_iload_n B dX0_isFew_1 rfl ?_
  obtain ⟨i2, e2, hF⟩ := bo hF
  refine j_rV (st2 := [.int i2]) B [.int x1] [] cv_X0_133 dX0_isFew_2 hl hR (ct_X0_isSet G e2) rfl rfl rfl rfl trivial (Nat.le_of_ble_eq_true rfl) ?_
  refine j_if_eq (tgt := 20) B dX0_isFew_5 (by decide) hF (fun h5 hF => ?_) (fun h5 hF => ?_)
  · refine j_iconst (v := 0) B dX0_isFew_20 (by decide) ?_
    exact j_lZ B (by decide) rfl dX0_isFew_21 hF (by decide) (by decide)
  · refine j_iload_n B dX0_isFew_8 rfl ?_
    refine j_rS (st2 := [.int (F_J4_bitCount x1)]) B [.int x1] [] cs_X0_136 dX0_isFew_9 hl hR (ct_J4_bitCount G) rfl rfl rfl rfl trivial (Nat.le_of_ble_eq_true rfl) ?_
    refine j_iconst (v := 5) B dX0_isFew_12 (by decide) ?_
    refine j_icmp_gt (tgt := 20) B dX0_isFew_13 (by decide) hF (fun h13 hF => ?_) (fun h13 hF => ?_)
    · refine j_iconst (v := 0) B dX0_isFew_20 (by decide) ?_
      exact j_lZ B (by decide) rfl dX0_isFew_21 hF (by decide) (by decide)
    · refine j_iconst (v := 1) B dX0_isFew_16 (by decide) ?_
      refine j_goto (tgt := 21) B dX0_isFew_17 (by decide) ?_
      exact j_lZ B (by decide) rfl dX0_isFew_21 hF (by decide) (by decide)
def F_X0_allLie (a0 : Option Nat) (x1 : Int32) (w : cH) : Option Int32 :=
  if tg w a0 = some 0 then ((fA w a0 0 3).bind fun a2p => (F_X4_being a2p 0 w).bind fun i6 =>if ¬ (x1 &&& (i6 ^^^ (-1))) = 0 then (some (0)) else (some (1))) else none
abbrev rm_X0_allLie : Room := { frames := 1, cells := 0, slots := 0, locals := 23 }
set_option maxHeartbeats 4000000 in
set_option maxRecDepth 100000 in
theorem ct_X0_allLie {l : Launch} {g : Gt} (G : Gok g) {a0 : Option Nat} {x1 : Int32} {w : cH} {r9 : Int32} (hF : F_X0_allLie a0 x1 w = some r9) : tg w a0 = some 0 ∧ Mx l yX0_allLie (ws_ yX0_allLie cX0_allLie 2 (some .boolean)) rm_X0_allLie g [va_rf a0, .int x1] w (.returned (some (.int r9))) w 0 0 := by
  unfold F_X0_allLie at hF
  obtain ⟨ht, hF⟩ := bg hF
  refine ⟨ht, mk_ct cX0_allLie 2 (some .boolean) "CarryFair" (plainFor_of_name (by decide)) rfl (lg_le ⟨cr _, rfl, trivial⟩ (Nat.le_of_ble_eq_true rfl)) (av_ok ⟨cr _, rfl, trivial⟩) G (fun x B hl hR hin hh => ?_)⟩
  show J g x _ _ 0 0 w 0 0 0 [some (va_rf a0), some (.int x1)] []
  refine j_iload_n B dX0_allLie_0 rfl ?_
  refine j_aload_n B dX0_allLie_1 rfl ?_
  refine j_getA B fl_X0_61 dX0_allLie_2 hF (fun a2p hF => ?_)
  refine j_iconst (v := 0) B dX0_allLie_5 (by decide) ?_
  obtain ⟨i6, e6, hF⟩ := bo hF
  refine j_rV (st2 := [.int i6, .int x1]) B [.int 0] [.int x1] cv_X0_270 dX0_allLie_6 hl hR (ct_X4_being G e6) rfl rfl rfl rfl ⟨rfl, trivial⟩ (Nat.le_of_ble_eq_true rfl) ?_
  refine j_iconst (v := (-1)) B dX0_allLie_9 (by decide) ?_
  refine j_ixor B dX0_allLie_10 ?_
  refine j_iand B dX0_allLie_11 ?_
  refine j_if_ne (tgt := 19) B dX0_allLie_12 (by decide) hF (fun h12 hF => ?_) (fun h12 hF => ?_)
  · refine j_iconst (v := 0) B dX0_allLie_19 (by decide) ?_
    exact j_lZ B (by decide) rfl dX0_allLie_20 hF (by decide) (by decide)
  · refine j_iconst (v := 1) B dX0_allLie_15 (by decide) ?_
    refine j_goto (tgt := 20) B dX0_allLie_16 (by decide) ?_
    exact j_lZ B (by decide) rfl dX0_allLie_20 hF (by decide) (by decide)
def F_X0_isEmpty (a0 : Option Nat) (x1 : Int32) (w : cH) : Option Int32 :=
  if tg w a0 = some 0 then ((fA w a0 0 3).bind fun a1p => (F_X4_carriedBy a1p x1 w).bind fun i5 =>if ¬ i5 = 0 then (some (0)) else (some (1))) else none
abbrev rm_X0_isEmpty : Room := { frames := 1, cells := 0, slots := 0, locals := 23 }
set_option maxHeartbeats 4000000 in
set_option maxRecDepth 100000 in
theorem ct_X0_isEmpty {l : Launch} {g : Gt} (G : Gok g) {a0 : Option Nat} {x1 : Int32} {w : cH} {r9 : Int32} (hF : F_X0_isEmpty a0 x1 w = some r9) : tg w a0 = some 0 ∧ Mx l yX0_isEmpty (ws_ yX0_isEmpty cX0_isEmpty 2 (some .boolean)) rm_X0_isEmpty g [va_rf a0, .int x1] w (.returned (some (.int r9))) w 0 0 := by
  unfold F_X0_isEmpty at hF
  obtain ⟨ht, hF⟩ := bg hF
  refine ⟨ht, mk_ct cX0_isEmpty 2 (some .boolean) "CarryFair" (plainFor_of_name (by decide)) rfl (lg_le ⟨cr _, rfl, trivial⟩ (Nat.le_of_ble_eq_true rfl)) (av_ok ⟨cr _, rfl, trivial⟩) G (fun x B hl hR hin hh => ?_)⟩
  show J g x _ _ 0 0 w 0 0 0 [some (va_rf a0), some (.int x1)] []
  refine j_aload_n B dX0_isEmpty_0 rfl ?_
  refine j_getA B fl_X0_61 dX0_isEmpty_1 hF (fun a1p hF => ?_)
  refine j_iload_n B dX0_isEmpty_4 rfl ?_
  obtain ⟨i5, e5, hF⟩ := bo hF
  refine j_rV (st2 := [.int i5]) B [.int x1] [] cv_X0_170 dX0_isEmpty_5 hl hR (ct_X4_carriedBy G e5) rfl rfl rfl rfl trivial (Nat.le_of_ble_eq_true rfl) ?_
  refine j_if_ne (tgt := 15) B dX0_isEmpty_8 (by decide) hF (fun h8 hF => ?_) (fun h8 hF => ?_)
  · refine j_iconst (v := 0) B dX0_isEmpty_15 (by decide) ?_
    exact j_lZ B (by decide) rfl dX0_isEmpty_16 hF (by decide) (by decide)
  · refine j_iconst (v := 1) B dX0_isEmpty_11 (by decide) ?_
    refine j_goto (tgt := 16) B dX0_isEmpty_12 (by decide) ?_
    exact j_lZ B (by decide) rfl dX0_isEmpty_16 hF (by decide) (by decide)
theorem cv_X0_300 : CV "CarryFair" 300 0 yX0_isFew cX0_isFew 2 (some .boolean) 1 := ⟨_, _, rfl, lw_V q852 q854 qs20 q126 q855, by decide +kernel⟩
theorem cv_X0_303 : CV "CarryFair" 303 0 yX0_allLie cX0_allLie 2 (some .boolean) 1 := ⟨_, _, rfl, lw_V q866 q868 qs22 q126 q869, by decide +kernel⟩
theorem cv_X0_306 : CV "CarryFair" 306 0 yX0_isEmpty cX0_isEmpty 2 (some .boolean) 1 := ⟨_, _, rfl, lw_V q870 q872 qs23 q126 q873, by decide +kernel⟩
def F_X0_whyNot_J16  (w : cH) : Option Int32 :=
  some (0)
def F_X0_whyNot (a0 : Option Nat) (x1 : Int32) (x2 : Int32) (w : cH) : Option Int32 :=
  if tg w a0 = some 0 then ((F_X0_isCarrier a0 x1 w).bind fun i2 =>if i2 = 0 then (F_X0_whyNot_J16   w) else ((F_X0_isFew a0 x2 w).bind fun i10 =>if ¬ i10 = 0 then ((F_X0_allLie a0 x2 w).bind fun i22 =>if i22 = 0 then (some (4)) else ((F_X0_isEmpty a0 x1 w).bind fun i30 =>if i30 = 0 then (some (4)) else (some ((-1))))) else (F_X0_whyNot_J16   w))) else none
abbrev rm_X0_whyNot : Room := { frames := 3, cells := 0, slots := 0, locals := 64 }
set_option maxHeartbeats 4000000 in
set_option maxRecDepth 100000 in
theorem ct_X0_whyNot {l : Launch} {g : Gt} (G : Gok g) {a0 : Option Nat} {x1 : Int32} {x2 : Int32} {w : cH} {r9 : Int32} (hF : F_X0_whyNot a0 x1 x2 w = some r9) : tg w a0 = some 0 ∧ Mx l yX0_whyNot (ws_ yX0_whyNot cX0_whyNot 3 (some .int)) rm_X0_whyNot g [va_rf a0, .int x1, .int x2] w (.returned (some (.int r9))) w 0 0 := by
  unfold F_X0_whyNot at hF
  obtain ⟨ht, hF⟩ := bg hF
  refine ⟨ht, mk_ct cX0_whyNot 3 (some .int) "CarryFair" (plainFor_of_name (by decide)) rfl (lg_le ⟨cr _, rfl, rfl, trivial⟩ (Nat.le_of_ble_eq_true rfl)) (av_ok ⟨cr _, rfl, rfl, trivial⟩) G (fun x B hl hR hin hh => ?_)⟩
  show J g x _ _ 0 0 w 0 0 0 [some (va_rf a0), some (.int x1), some (.int x2)] []
  have jb16 : F_X0_whyNot_J16  w = some r9 → J g x (.returned (some (.int r9))) w 0 0 w 0 0 16 [none, none, none] [] := by
    intro  hF
    unfold F_X0_whyNot_J16 at hF
    refine j_iconst (v := 0) B dX0_whyNot_16 (by decide) ?_
    refine j_goto (tgt := 41) B dX0_whyNot_17 (by decide) ?_
    exact j_lI B rfl dX0_whyNot_41 hF (by decide) (by decide)
  refine j_aload_n B dX0_whyNot_0 rfl ?_
  refine j_iload_n B dX0_whyNot_1 rfl ?_
  obtain ⟨i2, e2, hF⟩ := bo hF
  refine j_rV (st2 := [.int i2]) B [.int x1] [] cv_X0_161 dX0_whyNot_2 hl hR (ct_X0_isCarrier G e2) rfl rfl rfl rfl trivial (Nat.le_of_ble_eq_true rfl) ?_
  refine j_if_eq (tgt := 16) B dX0_whyNot_5 (by decide) hF (fun h5 hF => ?_) (fun h5 hF => ?_)
  · refine j_msk [false, false, false] rfl ?_
    exact jb16  hF
  · refine j_aload_n B dX0_whyNot_8 rfl ?_
    refine j_iload_n B dX0_whyNot_9 rfl ?_
    obtain ⟨i10, e10, hF⟩ := bo hF
    refine j_rV (st2 := [.int i10]) B [.int x2] [] cv_X0_300 dX0_whyNot_10 hl hR (ct_X0_isFew G e10) rfl rfl rfl rfl trivial (Nat.le_of_ble_eq_true rfl) ?_
    refine j_if_ne (tgt := 20) B dX0_whyNot_13 (by decide) hF (fun h13 hF => ?_) (fun h13 hF => ?_)
    · refine j_aload_n B dX0_whyNot_20 rfl ?_
      refine j_iload_n B dX0_whyNot_21 rfl ?_
      obtain ⟨i22, e22, hF⟩ := bo hF
      refine j_rV (st2 := [.int i22]) B [.int x2] [] cv_X0_303 dX0_whyNot_22 hl hR (ct_X0_allLie G e22) rfl rfl rfl rfl trivial (Nat.le_of_ble_eq_true rfl) ?_
      refine j_if_eq (tgt := 40) B dX0_whyNot_25 (by decide) hF (fun h25 hF => ?_) (fun h25 hF => ?_)
      · refine j_iconst (v := 4) B dX0_whyNot_40 (by decide) ?_
        exact j_lI B rfl dX0_whyNot_41 hF (by decide) (by decide)
      · refine j_aload_n B dX0_whyNot_28 rfl ?_
        refine j_iload_n B dX0_whyNot_29 rfl ?_
        obtain ⟨i30, e30, hF⟩ := bo hF
        refine j_rV (st2 := [.int i30]) B [.int x1] [] cv_X0_306 dX0_whyNot_30 hl hR (ct_X0_isEmpty G e30) rfl rfl rfl rfl trivial (Nat.le_of_ble_eq_true rfl) ?_
        refine j_if_eq (tgt := 40) B dX0_whyNot_33 (by decide) hF (fun h33 hF => ?_) (fun h33 hF => ?_)
        · refine j_iconst (v := 4) B dX0_whyNot_40 (by decide) ?_
          exact j_lI B rfl dX0_whyNot_41 hF (by decide) (by decide)
        · refine j_iconst (v := (-1)) B dX0_whyNot_36 (by decide) ?_
          refine j_goto (tgt := 41) B dX0_whyNot_37 (by decide) ?_
          exact j_lI B rfl dX0_whyNot_41 hF (by decide) (by decide)
    · refine j_msk [false, false, false] rfl ?_
      exact jb16  hF
theorem ap_X0 : apT TX0 20 := by unfold apT; decide +kernel
theorem fl_X0_95 : FL "CarryFair" 95 0 13 := ⟨RX0, TX0, 20, rfl, by decide, in_X0, Or.inl q452⟩
theorem fl_X0_279 : FL "CarryFair" 279 0 14 := ⟨RX0, TX0, 20, rfl, by decide, in_X0, Or.inl q453⟩
theorem fp_X0_279 : FP "CarryFair" 279 0 14 .int false := ⟨RX0, TX0, 20, rfl, by decide, in_X0, Or.inl q453, rfl, (fun h => by cases h), by decide +kernel, ap_X0, tyX0, tyX0_ok⟩
def F_X0_collects_J46 (rc7 : (Option Nat) → Int32 → Int32 → cH → Option cH) (a0 : Option Nat) (x1 : Int32) (x2 : Int32) (w : cH) : Option cH :=
  rc7 a0 x1 (x2 + 1) w
def F_X0_collects_B7 (rc7 : Option Nat → Int32 → Int32 → cH → Option cH) (a0 : Option Nat) (x1 : Int32) (x2 : Int32) (w : cH) : Option cH :=
  (fA w a0 0 3).bind fun a9p => (fI w a9p 4 2).bind fun i12 =>if i12 ≤ x2 then (some w) else (if (F_X0_has x1 x2) = 0 then (F_X0_collects_J46  rc7 a0 x1 x2 w) else ((fA w a0 0 13).bind fun a27p => (fI w a0 0 14).bind fun i31 => (aS w a27p 100 i31 (.int x2)).bind fun w35 => (fI w35 a0 0 14).bind fun i38 => (pV w35 a0 0 14 (.int (i38 + 1))).bind fun w43 => F_X0_collects_J46  rc7 a0 x1 x2 w43))
def F_X0_collects_L7 : Nat → Option Nat → Int32 → Int32 → cH → Option cH
  | 0, _, _, _, _ => none
  | n9 + 1, a0, x1, x2, w => F_X0_collects_B7  (F_X0_collects_L7  n9) a0 x1 x2 w
def F_X0_collects (a0 : Option Nat) (x1 : Int32) (w : cH) : Option cH :=
  if tg w a0 = some 0 then ((pV w a0 0 14 (.int 0)).bind fun w2 => F_X0_collects_L7  fu a0 x1 0 w2) else none
abbrev rm_X0_collects : Room := { frames := 1, cells := 0, slots := 0, locals := 21 }
set_option maxHeartbeats 4000000 in
set_option maxRecDepth 100000 in
theorem ct_X0_collects {l : Launch} {g : Gt} (G : Gok g) {a0 : Option Nat} {x1 : Int32} {w : cH}  {w9 : cH} (hF : F_X0_collects a0 x1 w = some w9) : tg w a0 = some 0 ∧ Mx l yX0_collects (ws_ yX0_collects cX0_collects 3 none) rm_X0_collects g [va_rf a0, .int x1] w (.returned none) w9 0 0 := by
  unfold F_X0_collects at hF
  obtain ⟨ht, hF⟩ := bg hF
  refine ⟨ht, mk_ct cX0_collects 3 none "CarryFair" (plainFor_of_name (by decide)) rfl (lg_le ⟨cr _, rfl, trivial⟩ (Nat.le_of_ble_eq_true rfl)) (av_ok ⟨cr _, rfl, trivial⟩) G (fun x B hl hR hin hh => ?_)⟩
  show J g x _ _ 0 0 w 0 0 0 [some (va_rf a0), some (.int x1), none] []
  have lp7 : ∀ (n9 : Nat) (a0 : Option Nat) (x1 : Int32) (x2 : Int32) (w : cH), F_X0_collects_L7  n9 a0 x1 x2 w = some w9 → J g x (.returned none) w9 0 0 w 0 0 7 [some (va_rf a0), some (.int x1), some (.int x2)] [] := by
    intro n9
    induction n9 with
    | zero => intro a0 x1 x2 w hF; cases hF
    | succ n7 ih7 =>
      intro a0 x1 x2 w hF
      have hF : F_X0_collects_B7  (F_X0_collects_L7  n7) a0 x1 x2 w = some w9 := hF
      unfold F_X0_collects_B7 at hF
      have jb46 : ∀ (a0 : Option Nat) (x1 : Int32) (x2 : Int32) (w : cH), F_X0_collects_J46  (F_X0_collects_L7  n7) a0 x1 x2 w = some w9 → J g x (.returned none) w9 0 0 w 0 0 46 [some (va_rf a0), some (.int x1), some (.int x2)] [] := by
        intro a0 x1 x2 w hF
        unfold F_X0_collects_J46 at hF
        refine j_iinc (v := x2 + 1) (vs' := [some (va_rf a0), some (.int x1), some (.int (x2 + 1))]) B dX0_collects_46 (by decide) rfl rfl rfl ?_
        refine j_goto (tgt := 7) B dX0_collects_49 (by decide) ?_
        exact ih7 a0 x1 (x2 + 1) w hF
      refine j_iload_n B dX0_collects_7 rfl ?_
      refine j_aload_n B dX0_collects_8 rfl ?_
      refine j_getA B fl_X0_61 dX0_collects_9 hF (fun a9p hF => ?_)
      refine j_getI B fl_X0_127 dX0_collects_12 hF (fun i12 hF => ?_)
      refine j_icmp_ge (tgt := 52) B dX0_collects_15 (by decide) hF (fun h15 hF => ?_) (fun h15 hF => ?_)
      · exact j_lV B rfl dX0_collects_52 hF (by decide) (by decide)
      · refine j_iload_n B dX0_collects_18 rfl ?_
        refine j_iload_n B dX0_collects_19 rfl ?_
        refine j_rS (st2 := [.int (F_X0_has x1 x2)]) B [.int x1, .int x2] [] cs_X0_258 dX0_collects_20 hl hR (ct_X0_has G) rfl rfl rfl rfl trivial (Nat.le_of_ble_eq_true rfl) ?_
        refine j_if_eq (tgt := 46) B dX0_collects_23 (by decide) hF (fun h23 hF => ?_) (fun h23 hF => ?_)
        · exact jb46 a0 x1 x2 w hF
        · refine j_aload_n B dX0_collects_26 rfl ?_
          refine j_getA B fl_X0_95 dX0_collects_27 hF (fun a27p hF => ?_)
          refine j_aload_n B dX0_collects_30 rfl ?_
          refine j_getI B fl_X0_279 dX0_collects_31 hF (fun i31 hF => ?_)
          refine j_iload_n B dX0_collects_34 rfl ?_
          refine j_iastore B dX0_collects_35 hF (fun w35 hF => ?_)
          refine j_aload_n B dX0_collects_36 rfl ?_
          refine j_dup B dX0_collects_37 (cr _) ?_
          refine j_getI B fl_X0_279 dX0_collects_38 hF (fun i38 hF => ?_)
          refine j_iconst (v := 1) B dX0_collects_41 (by decide) ?_
          refine j_iadd B dX0_collects_42 ?_
          refine j_putV B fp_X0_279 (fun h => by cases h) rfl rfl dX0_collects_43 hF (fun w43 hF => ?_)
          exact jb46 a0 x1 x2 w43 hF
  refine j_aload_n B dX0_collects_0 rfl ?_
  refine j_iconst (v := 0) B dX0_collects_1 (by decide) ?_
  refine j_putV B fp_X0_279 (fun h => by cases h) rfl rfl dX0_collects_2 hF (fun w2 hF => ?_)
  refine j_iconst (v := 0) B dX0_collects_5 (by decide) ?_
  refine j_istore_n (vs' := [some (va_rf a0), some (.int x1), some (.int 0)]) B dX0_collects_6 (by decide) rfl ?_
  exact lp7 fu a0 x1 0 w2 hF
theorem fl_X0_98 : FL "CarryFair" 98 0 15 := ⟨RX0, TX0, 20, rfl, by decide, in_X0, Or.inl q454⟩
def F_X0_digit (a0 : Option Nat) (x1 : Int32) (x2 : Int32) (w : cH) : Option Int32 :=
  if tg w a0 = some 0 then ((fA w a0 0 15).bind fun a2p => (aI w a2p 100 x2).bind fun i6 => if ¬ i6 = 0 then (some ((x1 / i6) - (x1 / i6) / 3 * 3)) else none) else none
abbrev rm_X0_digit : Room := { frames := 0, cells := 0, slots := 0, locals := 0 }
set_option maxHeartbeats 4000000 in
set_option maxRecDepth 100000 in
theorem ct_X0_digit {l : Launch} {g : Gt} (G : Gok g) {a0 : Option Nat} {x1 : Int32} {x2 : Int32} {w : cH} {r9 : Int32} (hF : F_X0_digit a0 x1 x2 w = some r9) : tg w a0 = some 0 ∧ Mx l yX0_digit (ws_ yX0_digit cX0_digit 3 (some .int)) rm_X0_digit g [va_rf a0, .int x1, .int x2] w (.returned (some (.int r9))) w 0 0 := by
  unfold F_X0_digit at hF
  obtain ⟨ht, hF⟩ := bg hF
  refine ⟨ht, mk_ct cX0_digit 3 (some .int) "CarryFair" (plainFor_of_name (by decide)) rfl (lg_le ⟨cr _, rfl, rfl, trivial⟩ (Nat.le_of_ble_eq_true rfl)) (av_ok ⟨cr _, rfl, rfl, trivial⟩) G (fun x B hl hR hin hh => ?_)⟩
  show J g x _ _ 0 0 w 0 0 0 [some (va_rf a0), some (.int x1), some (.int x2)] []
  refine j_iload_n B dX0_digit_0 rfl ?_
  refine j_aload_n B dX0_digit_1 rfl ?_
  refine j_getA B fl_X0_98 dX0_digit_2 hF (fun a2p hF => ?_)
  refine j_iload_n B dX0_digit_5 rfl ?_
  refine j_iaload B dX0_digit_6 hF (fun i6 hF => ?_)
  obtain ⟨hne, hF⟩ := bg hF
  refine j_idiv B dX0_digit_7 hne ?_
  refine j_iconst (v := 3) B dX0_digit_8 (by decide) ?_
  refine j_irem B dX0_digit_9 (by decide) ?_
  exact j_lI B rfl dX0_digit_10 hF (by decide) (by decide)
theorem cv_X0_282 : CV "CarryFair" 282 0 yX0_digit cX0_digit 3 (some .int) 2 := ⟨_, _, rfl, lw_V q886 q888 qs27 q126 q889, by decide +kernel⟩
def F_X0_doneAt_J58 (rc5 : (Option Nat) → Int32 → Int32 → Int32 → Int32 → cH → Option Int32) (a0 : Option Nat) (x1 : Int32) (x2 : Int32) (x4 : Int32) (s0 : Int32) (s1 : Int32) (w : cH) : Option Int32 :=
  rc5 a0 x1 x2 (s1 + s0) (x4 + 1) w
def F_X0_doneAt_J57 (rc5 : (Option Nat) → Int32 → Int32 → Int32 → Int32 → cH → Option Int32) (a0 : Option Nat) (x1 : Int32) (x2 : Int32) (x4 : Int32) (s0 : Int32) (w : cH) : Option Int32 :=
  F_X0_doneAt_J58  rc5 a0 x1 x2 x4 0 s0 w
def F_X0_doneAt_B5 (rc5 : Option Nat → Int32 → Int32 → Int32 → Int32 → cH → Option Int32) (a0 : Option Nat) (x1 : Int32) (x2 : Int32) (x3 : Int32) (x4 : Int32) (w : cH) : Option Int32 :=
  (fI w a0 0 14).bind fun i8 =>if i8 ≤ x4 then (some (x3)) else ((F_X0_digit a0 x1 x4 w).bind fun i19 =>if ¬ i19 = 1 then (F_X0_doneAt_J57  rc5 a0 x1 x2 x4 x3 w) else ((fA w a0 0 3).bind fun a27p => (fA w a27p 4 3).bind fun a30p => (aA w a30p 103 2).bind fun a34p => (fA w a0 0 13).bind fun a36p => (aI w a36p 100 x4).bind fun i41 => (aI w a34p 100 i41).bind fun i42 =>if ¬ i42 = x2 then (F_X0_doneAt_J57  rc5 a0 x1 x2 x4 x3 w) else ((fA w a0 0 15).bind fun a48p => (aI w a48p 100 x4).bind fun i53 => F_X0_doneAt_J58  rc5 a0 x1 x2 x4 i53 x3 w)))
def F_X0_doneAt_L5 : Nat → Option Nat → Int32 → Int32 → Int32 → Int32 → cH → Option Int32
  | 0, _, _, _, _, _, _ => none
  | n9 + 1, a0, x1, x2, x3, x4, w => F_X0_doneAt_B5  (F_X0_doneAt_L5  n9) a0 x1 x2 x3 x4 w
def F_X0_doneAt (a0 : Option Nat) (x1 : Int32) (x2 : Int32) (w : cH) : Option Int32 :=
  if tg w a0 = some 0 then (F_X0_doneAt_L5  fu a0 x1 x2 x1 0 w) else none
abbrev rm_X0_doneAt : Room := { frames := 1, cells := 0, slots := 0, locals := 22 }
set_option maxHeartbeats 4000000 in
set_option maxRecDepth 100000 in
theorem ct_X0_doneAt {l : Launch} {g : Gt} (G : Gok g) {a0 : Option Nat} {x1 : Int32} {x2 : Int32} {w : cH} {r9 : Int32} (hF : F_X0_doneAt a0 x1 x2 w = some r9) : tg w a0 = some 0 ∧ Mx l yX0_doneAt (ws_ yX0_doneAt cX0_doneAt 5 (some .int)) rm_X0_doneAt g [va_rf a0, .int x1, .int x2] w (.returned (some (.int r9))) w 0 0 := by
  unfold F_X0_doneAt at hF
  obtain ⟨ht, hF⟩ := bg hF
  refine ⟨ht, mk_ct cX0_doneAt 5 (some .int) "CarryFair" (plainFor_of_name (by decide)) rfl (lg_le ⟨cr _, rfl, rfl, trivial⟩ (Nat.le_of_ble_eq_true rfl)) (av_ok ⟨cr _, rfl, rfl, trivial⟩) G (fun x B hl hR hin hh => ?_)⟩
  show J g x _ _ 0 0 w 0 0 0 [some (va_rf a0), some (.int x1), some (.int x2), none, none] []
  have lp5 : ∀ (n9 : Nat) (a0 : Option Nat) (x1 : Int32) (x2 : Int32) (x3 : Int32) (x4 : Int32), F_X0_doneAt_L5  n9 a0 x1 x2 x3 x4 w = some r9 → J g x (.returned (some (.int r9))) w 0 0 w 0 0 5 [some (va_rf a0), some (.int x1), some (.int x2), some (.int x3), some (.int x4)] [] := by
    intro n9
    induction n9 with
    | zero => intro a0 x1 x2 x3 x4 hF; cases hF
    | succ n5 ih5 =>
      intro a0 x1 x2 x3 x4 hF
      have hF : F_X0_doneAt_B5  (F_X0_doneAt_L5  n5) a0 x1 x2 x3 x4 w = some r9 := hF
      unfold F_X0_doneAt_B5 at hF
      have jb58 : ∀ (a0 : Option Nat) (x1 : Int32) (x2 : Int32) (x4 : Int32) (s0 : Int32) (s1 : Int32), F_X0_doneAt_J58  (F_X0_doneAt_L5  n5) a0 x1 x2 x4 s0 s1 w = some r9 → J g x (.returned (some (.int r9))) w 0 0 w 0 0 58 [some (va_rf a0), some (.int x1), some (.int x2), none, some (.int x4)] [.int s0, .int s1] := by
        intro a0 x1 x2 x4 s0 s1 hF
        unfold F_X0_doneAt_J58 at hF
        refine j_iadd B dX0_doneAt_58 ?_
        refine j_istore_n (vs' := [some (va_rf a0), some (.int x1), some (.int x2), some (.int (s1 + s0)), some (.int x4)]) B dX0_doneAt_59 (by decide) rfl ?_
        refine j_iinc (v := x4 + 1) (vs' := [some (va_rf a0), some (.int x1), some (.int x2), some (.int (s1 + s0)), some (.int (x4 + 1))]) B dX0_doneAt_60 (by decide) rfl rfl rfl ?_
        refine j_goto (tgt := 5) B dX0_doneAt_63 (by decide) ?_
        exact ih5 a0 x1 x2 (s1 + s0) (x4 + 1) hF
      have jb57 : ∀ (a0 : Option Nat) (x1 : Int32) (x2 : Int32) (x4 : Int32) (s0 : Int32), F_X0_doneAt_J57  (F_X0_doneAt_L5  n5) a0 x1 x2 x4 s0 w = some r9 → J g x (.returned (some (.int r9))) w 0 0 w 0 0 57 [some (va_rf a0), some (.int x1), some (.int x2), none, some (.int x4)] [.int s0] := by
        intro a0 x1 x2 x4 s0 hF
        unfold F_X0_doneAt_J57 at hF
        refine j_iconst (v := 0) B dX0_doneAt_57 (by decide) ?_
        exact jb58 a0 x1 x2 x4 0 s0 hF
      refine j_iload B dX0_doneAt_5 rfl ?_
      refine j_aload_n B dX0_doneAt_7 rfl ?_
      refine j_getI B fl_X0_279 dX0_doneAt_8 hF (fun i8 hF => ?_)
      refine j_icmp_ge (tgt := 66) B dX0_doneAt_11 (by decide) hF (fun h11 hF => ?_) (fun h11 hF => ?_)
      · refine j_iload_n B dX0_doneAt_66 rfl ?_
        exact j_lI B rfl dX0_doneAt_67 hF (by decide) (by decide)
      · refine j_iload_n B dX0_doneAt_14 rfl ?_
        refine j_aload_n B dX0_doneAt_15 rfl ?_
        refine j_iload_n B dX0_doneAt_16 rfl ?_
        refine j_iload B dX0_doneAt_17 rfl ?_
        obtain ⟨i19, e19, hF⟩ := bo hF
        refine j_rV (st2 := [.int i19, .int x3]) B [.int x1, .int x4] [.int x3] cv_X0_282 dX0_doneAt_19 hl hR (ct_X0_digit G e19) rfl rfl rfl rfl ⟨rfl, trivial⟩ (Nat.le_of_ble_eq_true rfl) ?_
        refine j_iconst (v := 1) B dX0_doneAt_22 (by decide) ?_
        refine j_icmp_ne (tgt := 57) B dX0_doneAt_23 (by decide) hF (fun h23 hF => ?_) (fun h23 hF => ?_)
        · refine j_msk [true, true, true, false, true] rfl ?_
          exact jb57 a0 x1 x2 x4 x3 hF
        · refine j_aload_n B dX0_doneAt_26 rfl ?_
          refine j_getA B fl_X0_61 dX0_doneAt_27 hF (fun a27p hF => ?_)
          refine j_getA B fl_X0_214 dX0_doneAt_30 hF (fun a30p hF => ?_)
          refine j_iconst (v := 2) B dX0_doneAt_33 (by decide) ?_
          refine j_aaload B 103 rfl rfl dX0_doneAt_34 hF (fun a34p hF => ?_)
          refine j_aload_n B dX0_doneAt_35 rfl ?_
          refine j_getA B fl_X0_95 dX0_doneAt_36 hF (fun a36p hF => ?_)
          refine j_iload B dX0_doneAt_39 rfl ?_
          refine j_iaload B dX0_doneAt_41 hF (fun i41 hF => ?_)
          refine j_iaload B dX0_doneAt_42 hF (fun i42 hF => ?_)
          refine j_iload_n B dX0_doneAt_43 rfl ?_
          refine j_icmp_ne (tgt := 57) B dX0_doneAt_44 (by decide) hF (fun h44 hF => ?_) (fun h44 hF => ?_)
          · refine j_msk [true, true, true, false, true] rfl ?_
            exact jb57 a0 x1 x2 x4 x3 hF
          · refine j_aload_n B dX0_doneAt_47 rfl ?_
            refine j_getA B fl_X0_98 dX0_doneAt_48 hF (fun a48p hF => ?_)
            refine j_iload B dX0_doneAt_51 rfl ?_
            refine j_iaload B dX0_doneAt_53 hF (fun i53 hF => ?_)
            refine j_goto (tgt := 58) B dX0_doneAt_54 (by decide) ?_
            refine j_msk [true, true, true, false, true] rfl ?_
            exact jb58 a0 x1 x2 x4 i53 x3 hF
  refine j_iload_n B dX0_doneAt_0 rfl ?_
  refine j_istore_n (vs' := [some (va_rf a0), some (.int x1), some (.int x2), some (.int x1), none]) B dX0_doneAt_1 (by decide) rfl ?_
  refine j_iconst (v := 0) B dX0_doneAt_2 (by decide) ?_
  refine j_istore (vs' := [some (va_rf a0), some (.int x1), some (.int x2), some (.int x1), some (.int 0)]) B dX0_doneAt_3 (by decide) rfl ?_
  exact lp5 fu a0 x1 x2 x1 0 hF
def F_X0_load_J47 (rc5 : (Option Nat) → Int32 → Int32 → Int32 → cH → Option Int32) (a0 : Option Nat) (x1 : Int32) (x4 : Int32) (s0 : Int32) (s1 : Int32) (w : cH) : Option Int32 :=
  rc5 a0 x1 (s1 + s0) (x4 + 1) w
def F_X0_load_B5 (rc5 : Option Nat → Int32 → Int32 → Int32 → cH → Option Int32) (a0 : Option Nat) (x1 : Int32) (x3 : Int32) (x4 : Int32) (w : cH) : Option Int32 :=
  (fI w a0 0 14).bind fun i8 =>if i8 ≤ x4 then (some (x3)) else ((F_X0_digit a0 x1 x4 w).bind fun i19 =>if ¬ i19 = 1 then (F_X0_load_J47  rc5 a0 x1 x4 0 x3 w) else ((fA w a0 0 3).bind fun a27p => (fA w a27p 4 3).bind fun a30p => (aA w a30p 103 0).bind fun a34p => (fA w a0 0 13).bind fun a36p => (aI w a36p 100 x4).bind fun i41 => (aI w a34p 100 i41).bind fun i42 => F_X0_load_J47  rc5 a0 x1 x4 i42 x3 w))
def F_X0_load_L5 : Nat → Option Nat → Int32 → Int32 → Int32 → cH → Option Int32
  | 0, _, _, _, _, _ => none
  | n9 + 1, a0, x1, x3, x4, w => F_X0_load_B5  (F_X0_load_L5  n9) a0 x1 x3 x4 w
def F_X0_load (a0 : Option Nat) (x1 : Int32) (x2 : Int32) (w : cH) : Option Int32 :=
  if tg w a0 = some 0 then (F_X0_load_L5  fu a0 x1 x2 0 w) else none
abbrev rm_X0_load : Room := { frames := 1, cells := 0, slots := 0, locals := 22 }
set_option maxHeartbeats 4000000 in
set_option maxRecDepth 100000 in
theorem ct_X0_load {l : Launch} {g : Gt} (G : Gok g) {a0 : Option Nat} {x1 : Int32} {x2 : Int32} {w : cH} {r9 : Int32} (hF : F_X0_load a0 x1 x2 w = some r9) : tg w a0 = some 0 ∧ Mx l yX0_load (ws_ yX0_load cX0_load 5 (some .int)) rm_X0_load g [va_rf a0, .int x1, .int x2] w (.returned (some (.int r9))) w 0 0 := by
  unfold F_X0_load at hF
  obtain ⟨ht, hF⟩ := bg hF
  refine ⟨ht, mk_ct cX0_load 5 (some .int) "CarryFair" (plainFor_of_name (by decide)) rfl (lg_le ⟨cr _, rfl, rfl, trivial⟩ (Nat.le_of_ble_eq_true rfl)) (av_ok ⟨cr _, rfl, rfl, trivial⟩) G (fun x B hl hR hin hh => ?_)⟩
  show J g x _ _ 0 0 w 0 0 0 [some (va_rf a0), some (.int x1), some (.int x2), none, none] []
  have lp5 : ∀ (n9 : Nat) (a0 : Option Nat) (x1 : Int32) (x3 : Int32) (x4 : Int32), F_X0_load_L5  n9 a0 x1 x3 x4 w = some r9 → J g x (.returned (some (.int r9))) w 0 0 w 0 0 5 [some (va_rf a0), some (.int x1), none, some (.int x3), some (.int x4)] [] := by
    intro n9
    induction n9 with
    | zero => intro a0 x1 x3 x4 hF; cases hF
    | succ n5 ih5 =>
      intro a0 x1 x3 x4 hF
      have hF : F_X0_load_B5  (F_X0_load_L5  n5) a0 x1 x3 x4 w = some r9 := hF
      unfold F_X0_load_B5 at hF
      have jb47 : ∀ (a0 : Option Nat) (x1 : Int32) (x4 : Int32) (s0 : Int32) (s1 : Int32), F_X0_load_J47  (F_X0_load_L5  n5) a0 x1 x4 s0 s1 w = some r9 → J g x (.returned (some (.int r9))) w 0 0 w 0 0 47 [some (va_rf a0), some (.int x1), none, none, some (.int x4)] [.int s0, .int s1] := by
        intro a0 x1 x4 s0 s1 hF
        unfold F_X0_load_J47 at hF
        refine j_iadd B dX0_load_47 ?_
        refine j_istore_n (vs' := [some (va_rf a0), some (.int x1), none, some (.int (s1 + s0)), some (.int x4)]) B dX0_load_48 (by decide) rfl ?_
        refine j_iinc (v := x4 + 1) (vs' := [some (va_rf a0), some (.int x1), none, some (.int (s1 + s0)), some (.int (x4 + 1))]) B dX0_load_49 (by decide) rfl rfl rfl ?_
        refine j_goto (tgt := 5) B dX0_load_52 (by decide) ?_
        exact ih5 a0 x1 (s1 + s0) (x4 + 1) hF
      refine j_iload B dX0_load_5 rfl ?_
      refine j_aload_n B dX0_load_7 rfl ?_
      refine j_getI B fl_X0_279 dX0_load_8 hF (fun i8 hF => ?_)
      refine j_icmp_ge (tgt := 55) B dX0_load_11 (by decide) hF (fun h11 hF => ?_) (fun h11 hF => ?_)
      · refine j_iload_n B dX0_load_55 rfl ?_
        exact j_lI B rfl dX0_load_56 hF (by decide) (by decide)
      · refine j_iload_n B dX0_load_14 rfl ?_
        refine j_aload_n B dX0_load_15 rfl ?_
        refine j_iload_n B dX0_load_16 rfl ?_
        refine j_iload B dX0_load_17 rfl ?_
        obtain ⟨i19, e19, hF⟩ := bo hF
        refine j_rV (st2 := [.int i19, .int x3]) B [.int x1, .int x4] [.int x3] cv_X0_282 dX0_load_19 hl hR (ct_X0_digit G e19) rfl rfl rfl rfl ⟨rfl, trivial⟩ (Nat.le_of_ble_eq_true rfl) ?_
        refine j_iconst (v := 1) B dX0_load_22 (by decide) ?_
        refine j_icmp_ne (tgt := 46) B dX0_load_23 (by decide) hF (fun h23 hF => ?_) (fun h23 hF => ?_)
        · refine j_iconst (v := 0) B dX0_load_46 (by decide) ?_
          refine j_msk [true, true, false, false, true] rfl ?_
          exact jb47 a0 x1 x4 0 x3 hF
        · refine j_aload_n B dX0_load_26 rfl ?_
          refine j_getA B fl_X0_61 dX0_load_27 hF (fun a27p hF => ?_)
          refine j_getA B fl_X0_214 dX0_load_30 hF (fun a30p hF => ?_)
          refine j_iconst (v := 0) B dX0_load_33 (by decide) ?_
          refine j_aaload B 103 rfl rfl dX0_load_34 hF (fun a34p hF => ?_)
          refine j_aload_n B dX0_load_35 rfl ?_
          refine j_getA B fl_X0_95 dX0_load_36 hF (fun a36p hF => ?_)
          refine j_iload B dX0_load_39 rfl ?_
          refine j_iaload B dX0_load_41 hF (fun i41 hF => ?_)
          refine j_iaload B dX0_load_42 hF (fun i42 hF => ?_)
          refine j_goto (tgt := 47) B dX0_load_43 (by decide) ?_
          refine j_msk [true, true, false, false, true] rfl ?_
          exact jb47 a0 x1 x4 i42 x3 hF
  refine j_iload_n B dX0_load_0 rfl ?_
  refine j_istore_n (vs' := [some (va_rf a0), some (.int x1), some (.int x2), some (.int x2), none]) B dX0_load_1 (by decide) rfl ?_
  refine j_iconst (v := 0) B dX0_load_2 (by decide) ?_
  refine j_istore (vs' := [some (va_rf a0), some (.int x1), some (.int x2), some (.int x2), some (.int 0)]) B dX0_load_3 (by decide) rfl ?_
  refine j_msk [true, true, false, true, true] rfl ?_
  exact lp5 fu a0 x1 x2 0 hF
theorem fl_X0_101 : FL "CarryFair" 101 0 16 := ⟨RX0, TX0, 20, rfl, by decide, in_X0, Or.inl q455⟩
def F_X0_shortens (a0 : Option Nat) (x1 : Int32) (x2 : Int32) (x3 : Int32) (w : cH) : Option cH :=
  if tg w a0 = some 0 then ((fA w a0 0 16).bind fun a1p => (aA w a1p 103 x1).bind fun a5p => (fA w a0 0 16).bind fun a8p => (aA w a8p 103 x1).bind fun a12p => (aI w a12p 100 x2).bind fun i14 => (aS w a5p 100 x2 (.int (F_J3_min i14 x3))).bind fun w19 => some w19) else none
abbrev rm_X0_shortens : Room := { frames := 1, cells := 0, slots := 0, locals := 21 }
set_option maxHeartbeats 4000000 in
set_option maxRecDepth 100000 in
theorem ct_X0_shortens {l : Launch} {g : Gt} (G : Gok g) {a0 : Option Nat} {x1 : Int32} {x2 : Int32} {x3 : Int32} {w : cH}  {w9 : cH} (hF : F_X0_shortens a0 x1 x2 x3 w = some w9) : tg w a0 = some 0 ∧ Mx l yX0_shortens (ws_ yX0_shortens cX0_shortens 4 none) rm_X0_shortens g [va_rf a0, .int x1, .int x2, .int x3] w (.returned none) w9 0 0 := by
  unfold F_X0_shortens at hF
  obtain ⟨ht, hF⟩ := bg hF
  refine ⟨ht, mk_ct cX0_shortens 4 none "CarryFair" (plainFor_of_name (by decide)) rfl (lg_le ⟨cr _, rfl, rfl, rfl, trivial⟩ (Nat.le_of_ble_eq_true rfl)) (av_ok ⟨cr _, rfl, rfl, rfl, trivial⟩) G (fun x B hl hR hin hh => ?_)⟩
  show J g x _ _ 0 0 w 0 0 0 [some (va_rf a0), some (.int x1), some (.int x2), some (.int x3)] []
  refine j_aload_n B dX0_shortens_0 rfl ?_
  refine j_getA B fl_X0_101 dX0_shortens_1 hF (fun a1p hF => ?_)
  refine j_iload_n B dX0_shortens_4 rfl ?_
  refine j_aaload B 103 rfl rfl dX0_shortens_5 hF (fun a5p hF => ?_)
  refine j_iload_n B dX0_shortens_6 rfl ?_
  refine j_aload_n B dX0_shortens_7 rfl ?_
  refine j_getA B fl_X0_101 dX0_shortens_8 hF (fun a8p hF => ?_)
  refine j_iload_n B dX0_shortens_11 rfl ?_
  refine j_aaload B 103 rfl rfl dX0_shortens_12 hF (fun a12p hF => ?_)
  refine j_iload_n B dX0_shortens_13 rfl ?_
  refine j_iaload B dX0_shortens_14 hF (fun i14 hF => ?_)
  refine j_iload_n B dX0_shortens_15 rfl ?_
  refine j_rS (st2 := [.int (F_J3_min i14 x3), .int x2, va_rf a5p]) B [.int i14, .int x3] [.int x2, va_rf a5p] cs_X0_205 dX0_shortens_16 hl hR (ct_J3_min G) rfl rfl rfl rfl ⟨rfl, cr _, trivial⟩ (Nat.le_of_ble_eq_true rfl) ?_
  refine j_iastore B dX0_shortens_19 hF (fun w19 hF => ?_)
  exact j_lV B rfl dX0_shortens_20 hF (by decide) (by decide)
theorem cv_X0_285 : CV "CarryFair" 285 0 yX0_doneAt cX0_doneAt 5 (some .int) 2 := ⟨_, _, rfl, lw_V q890 q892 qs28 q126 q893, by decide +kernel⟩
theorem cv_X0_288 : CV "CarryFair" 288 0 yX0_load cX0_load 5 (some .int) 2 := ⟨_, _, rfl, lw_V q894 q896 qs29 q126 q897, by decide +kernel⟩
theorem cv_X0_291 : CV "CarryFair" 291 0 yX0_shortens cX0_shortens 4 none 3 := ⟨_, _, rfl, lw_V q898 q900 qs30 q126 q901, by decide +kernel⟩
def F_X0_goesOn_J165 (rc13 : (Option Nat) → Int32 → Int32 → Int32 → Int32 → Int32 → cH → Option cH) (a0 : Option Nat) (x1 : Int32) (x2 : Int32) (x3 : Int32) (x4 : Int32) (x5 : Int32) (w : cH) : Option cH :=
  rc13 a0 x1 x2 x3 x4 (x5 + 1) w
def F_X0_goesOn_J136 (rc13 : (Option Nat) → Int32 → Int32 → Int32 → Int32 → Int32 → cH → Option cH) (a0 : Option Nat) (x1 : Int32) (x2 : Int32) (x3 : Int32) (x4 : Int32) (x5 : Int32) (x7 : Int32) (s0 : Int32) (s1 : Int32) (w : cH) : Option cH :=
  if (s1 + s0) ≤ x1 then (F_X0_goesOn_J165  rc13 a0 x1 x2 x3 x4 x5 w) else ((fA w a0 0 12).bind fun a153p => (aA w a153p 103 x2).bind fun a157p => (aI w a157p 100 x7).bind fun i160 => (F_X0_shortens a0 (s1 + s0) x7 (x4 + i160) w).bind fun w162 => F_X0_goesOn_J165  rc13 a0 x1 x2 x3 x4 x5 w162)
def F_X0_goesOn_J116 (rc13 : (Option Nat) → Int32 → Int32 → Int32 → Int32 → Int32 → cH → Option cH) (a0 : Option Nat) (x1 : Int32) (x2 : Int32) (x3 : Int32) (x4 : Int32) (x5 : Int32) (x7 : Int32) (x8 : Int32) (s0 : Int32) (w : cH) : Option cH :=
  if s0 = 0 then (F_X0_goesOn_J136  rc13 a0 x1 x2 x3 x4 x5 x7 0 x8 w) else ((fA w a0 0 15).bind fun a126p => (aI w a126p 100 x5).bind fun i131 => F_X0_goesOn_J136  rc13 a0 x1 x2 x3 x4 x5 x7 i131 x8 w)
def F_X0_goesOn_J115 (rc13 : (Option Nat) → Int32 → Int32 → Int32 → Int32 → Int32 → cH → Option cH) (a0 : Option Nat) (x1 : Int32) (x2 : Int32) (x3 : Int32) (x4 : Int32) (x5 : Int32) (x7 : Int32) (x8 : Int32) (w : cH) : Option cH :=
  F_X0_goesOn_J116  rc13 a0 x1 x2 x3 x4 x5 x7 x8 0 w
def F_X0_goesOn_J68 (rc13 : (Option Nat) → Int32 → Int32 → Int32 → Int32 → Int32 → cH → Option cH) (a0 : Option Nat) (x1 : Int32) (x2 : Int32) (x3 : Int32) (x4 : Int32) (x5 : Int32) (x6 : Int32) (s0 : Int32) (w : cH) : Option cH :=
  (F_X0_doneAt a0 x1 s0 w).bind fun i74 => (F_X0_digit a0 x1 x5 w).bind fun i83 =>if ¬ i83 = 0 then (F_X0_goesOn_J115  rc13 a0 x1 x2 x3 x4 x5 s0 i74 w) else ((fA w a0 0 3).bind fun a93p => (fA w a93p 4 3).bind fun a96p => (aA w a96p 103 0).bind fun a100p => (aI w a100p 100 x6).bind fun i103 => (F_X0_load a0 i74 i103 w).bind fun i104 =>if x3 < i104 then (F_X0_goesOn_J115  rc13 a0 x1 x2 x3 x4 x5 s0 i74 w) else (F_X0_goesOn_J116  rc13 a0 x1 x2 x3 x4 x5 s0 i74 1 w))
def F_X0_goesOn_B13 (rc13 : Option Nat → Int32 → Int32 → Int32 → Int32 → Int32 → cH → Option cH) (a0 : Option Nat) (x1 : Int32) (x2 : Int32) (x3 : Int32) (x4 : Int32) (x5 : Int32) (w : cH) : Option cH :=
  (fI w a0 0 14).bind fun i16 =>if i16 ≤ x5 then (some w) else ((fA w a0 0 13).bind fun a23p => (aI w a23p 100 x5).bind fun i28 => (F_X0_digit a0 x1 x5 w).bind fun i35 =>if ¬ i35 = 0 then ((fA w a0 0 3).bind fun a57p => (fA w a57p 4 3).bind fun a60p => (aA w a60p 103 2).bind fun a64p => (aI w a64p 100 i28).bind fun i67 => F_X0_goesOn_J68  rc13 a0 x1 x2 x3 x4 x5 i28 i67 w) else ((fA w a0 0 3).bind fun a42p => (fA w a42p 4 3).bind fun a45p => (aA w a45p 103 1).bind fun a49p => (aI w a49p 100 i28).bind fun i52 => F_X0_goesOn_J68  rc13 a0 x1 x2 x3 x4 x5 i28 i52 w))
def F_X0_goesOn_L13 : Nat → Option Nat → Int32 → Int32 → Int32 → Int32 → Int32 → cH → Option cH
  | 0, _, _, _, _, _, _, _ => none
  | n9 + 1, a0, x1, x2, x3, x4, x5, w => F_X0_goesOn_B13  (F_X0_goesOn_L13  n9) a0 x1 x2 x3 x4 x5 w
def F_X0_goesOn (a0 : Option Nat) (x1 : Int32) (x2 : Int32) (x3 : Int32) (w : cH) : Option cH :=
  if tg w a0 = some 0 then ((fA w a0 0 16).bind fun a1p => (aA w a1p 103 x1).bind fun a5p => (aI w a5p 100 x2).bind fun i7 => F_X0_goesOn_L13  fu a0 x1 x2 x3 i7 0 w) else none
abbrev rm_X0_goesOn : Room := { frames := 2, cells := 0, slots := 0, locals := 46 }
set_option maxHeartbeats 4000000 in
set_option maxRecDepth 100000 in
theorem ct_X0_goesOn {l : Launch} {g : Gt} (G : Gok g) {a0 : Option Nat} {x1 : Int32} {x2 : Int32} {x3 : Int32} {w : cH}  {w9 : cH} (hF : F_X0_goesOn a0 x1 x2 x3 w = some w9) : tg w a0 = some 0 ∧ Mx l yX0_goesOn (ws_ yX0_goesOn cX0_goesOn 10 none) rm_X0_goesOn g [va_rf a0, .int x1, .int x2, .int x3] w (.returned none) w9 0 0 := by
  unfold F_X0_goesOn at hF
  obtain ⟨ht, hF⟩ := bg hF
  refine ⟨ht, mk_ct cX0_goesOn 10 none "CarryFair" (plainFor_of_name (by decide)) rfl (lg_le ⟨cr _, rfl, rfl, rfl, trivial⟩ (Nat.le_of_ble_eq_true rfl)) (av_ok ⟨cr _, rfl, rfl, rfl, trivial⟩) G (fun x B hl hR hin hh => ?_)⟩
  show J g x _ _ 0 0 w 0 0 0 [some (va_rf a0), some (.int x1), some (.int x2), some (.int x3), none, none, none, none, none, none] []
  have lp13 : ∀ (n9 : Nat) (a0 : Option Nat) (x1 : Int32) (x2 : Int32) (x3 : Int32) (x4 : Int32) (x5 : Int32) (w : cH), F_X0_goesOn_L13  n9 a0 x1 x2 x3 x4 x5 w = some w9 → J g x (.returned none) w9 0 0 w 0 0 13 [some (va_rf a0), some (.int x1), some (.int x2), some (.int x3), some (.int x4), some (.int x5), none, none, none, none] [] := by
    intro n9
    induction n9 with
    | zero => intro a0 x1 x2 x3 x4 x5 w hF; cases hF
    | succ n13 ih13 =>
      intro a0 x1 x2 x3 x4 x5 w hF
      have hF : F_X0_goesOn_B13  (F_X0_goesOn_L13  n13) a0 x1 x2 x3 x4 x5 w = some w9 := hF
      unfold F_X0_goesOn_B13 at hF
      have jb165 : ∀ (a0 : Option Nat) (x1 : Int32) (x2 : Int32) (x3 : Int32) (x4 : Int32) (x5 : Int32) (w : cH), F_X0_goesOn_J165  (F_X0_goesOn_L13  n13) a0 x1 x2 x3 x4 x5 w = some w9 → J g x (.returned none) w9 0 0 w 0 0 165 [some (va_rf a0), some (.int x1), some (.int x2), some (.int x3), some (.int x4), some (.int x5), none, none, none, none] [] := by
        intro a0 x1 x2 x3 x4 x5 w hF
        unfold F_X0_goesOn_J165 at hF
        refine j_iinc (v := x5 + 1) (vs' := [some (va_rf a0), some (.int x1), some (.int x2), some (.int x3), some (.int x4), some (.int (x5 + 1)), none, none, none, none]) B dX0_goesOn_165 (by decide) rfl rfl rfl ?_
        refine j_goto (tgt := 13) B dX0_goesOn_168 (by decide) ?_
        exact ih13 a0 x1 x2 x3 x4 (x5 + 1) w hF
      have jb136 : ∀ (a0 : Option Nat) (x1 : Int32) (x2 : Int32) (x3 : Int32) (x4 : Int32) (x5 : Int32) (x7 : Int32) (s0 : Int32) (s1 : Int32) (w : cH), F_X0_goesOn_J136  (F_X0_goesOn_L13  n13) a0 x1 x2 x3 x4 x5 x7 s0 s1 w = some w9 → J g x (.returned none) w9 0 0 w 0 0 136 [some (va_rf a0), some (.int x1), some (.int x2), some (.int x3), some (.int x4), some (.int x5), none, some (.int x7), none, none] [.int s0, .int s1] := by
        intro a0 x1 x2 x3 x4 x5 x7 s0 s1 w hF
        unfold F_X0_goesOn_J136 at hF
        refine j_iadd B dX0_goesOn_136 ?_
        refine j_istore (vs' := [some (va_rf a0), some (.int x1), some (.int x2), some (.int x3), some (.int x4), some (.int x5), none, some (.int x7), some (.int (s1 + s0)), none]) B dX0_goesOn_137 (by decide) rfl ?_
        refine j_iload B dX0_goesOn_139 rfl ?_
        refine j_iload_n B dX0_goesOn_141 rfl ?_
        refine j_icmp_le (tgt := 165) B dX0_goesOn_142 (by decide) hF (fun h142 hF => ?_) (fun h142 hF => ?_)
        · refine j_msk [true, true, true, true, true, true, false, false, false, false] rfl ?_
          exact jb165 a0 x1 x2 x3 x4 x5 w hF
        · refine j_aload_n B dX0_goesOn_145 rfl ?_
          refine j_iload B dX0_goesOn_146 rfl ?_
          refine j_iload B dX0_goesOn_148 rfl ?_
          refine j_iload B dX0_goesOn_150 rfl ?_
          refine j_aload_n B dX0_goesOn_152 rfl ?_
          refine j_getA B fl_X0_92 dX0_goesOn_153 hF (fun a153p hF => ?_)
          refine j_iload_n B dX0_goesOn_156 rfl ?_
          refine j_aaload B 103 rfl rfl dX0_goesOn_157 hF (fun a157p hF => ?_)
          refine j_iload B dX0_goesOn_158 rfl ?_
          refine j_iaload B dX0_goesOn_160 hF (fun i160 hF => ?_)
          refine j_iadd B dX0_goesOn_161 ?_
          obtain ⟨w162, e162, hF⟩ := bo hF
          refine j_rV (st2 := []) B [.int (s1 + s0), .int x7, .int (x4 + i160)] [] cv_X0_291 dX0_goesOn_162 hl hR (ct_X0_shortens G e162) rfl rfl rfl rfl trivial (Nat.le_of_ble_eq_true rfl) ?_
          refine j_msk [true, true, true, true, true, true, false, false, false, false] rfl ?_
          exact jb165 a0 x1 x2 x3 x4 x5 w162 hF
      have jb116 : ∀ (a0 : Option Nat) (x1 : Int32) (x2 : Int32) (x3 : Int32) (x4 : Int32) (x5 : Int32) (x7 : Int32) (x8 : Int32) (s0 : Int32) (w : cH), F_X0_goesOn_J116  (F_X0_goesOn_L13  n13) a0 x1 x2 x3 x4 x5 x7 x8 s0 w = some w9 → J g x (.returned none) w9 0 0 w 0 0 116 [some (va_rf a0), some (.int x1), some (.int x2), some (.int x3), some (.int x4), some (.int x5), none, some (.int x7), some (.int x8), none] [.int s0] := by
        intro a0 x1 x2 x3 x4 x5 x7 x8 s0 w hF
        unfold F_X0_goesOn_J116 at hF
        refine j_istore (vs' := [some (va_rf a0), some (.int x1), some (.int x2), some (.int x3), some (.int x4), some (.int x5), none, some (.int x7), some (.int x8), some (.int s0)]) B dX0_goesOn_116 (by decide) rfl ?_
        refine j_iload B dX0_goesOn_118 rfl ?_
        refine j_iload B dX0_goesOn_120 rfl ?_
        refine j_if_eq (tgt := 135) B dX0_goesOn_122 (by decide) hF (fun h122 hF => ?_) (fun h122 hF => ?_)
        · refine j_iconst (v := 0) B dX0_goesOn_135 (by decide) ?_
          refine j_msk [true, true, true, true, true, true, false, true, false, false] rfl ?_
          exact jb136 a0 x1 x2 x3 x4 x5 x7 0 x8 w hF
        · refine j_aload_n B dX0_goesOn_125 rfl ?_
          refine j_getA B fl_X0_98 dX0_goesOn_126 hF (fun a126p hF => ?_)
          refine j_iload B dX0_goesOn_129 rfl ?_
          refine j_iaload B dX0_goesOn_131 hF (fun i131 hF => ?_)
          refine j_goto (tgt := 136) B dX0_goesOn_132 (by decide) ?_
          refine j_msk [true, true, true, true, true, true, false, true, false, false] rfl ?_
          exact jb136 a0 x1 x2 x3 x4 x5 x7 i131 x8 w hF
      have jb115 : ∀ (a0 : Option Nat) (x1 : Int32) (x2 : Int32) (x3 : Int32) (x4 : Int32) (x5 : Int32) (x7 : Int32) (x8 : Int32) (w : cH), F_X0_goesOn_J115  (F_X0_goesOn_L13  n13) a0 x1 x2 x3 x4 x5 x7 x8 w = some w9 → J g x (.returned none) w9 0 0 w 0 0 115 [some (va_rf a0), some (.int x1), some (.int x2), some (.int x3), some (.int x4), some (.int x5), none, some (.int x7), some (.int x8), none] [] := by
        intro a0 x1 x2 x3 x4 x5 x7 x8 w hF
        unfold F_X0_goesOn_J115 at hF
        refine j_iconst (v := 0) B dX0_goesOn_115 (by decide) ?_
        exact jb116 a0 x1 x2 x3 x4 x5 x7 x8 0 w hF
      have jb68 : ∀ (a0 : Option Nat) (x1 : Int32) (x2 : Int32) (x3 : Int32) (x4 : Int32) (x5 : Int32) (x6 : Int32) (s0 : Int32) (w : cH), F_X0_goesOn_J68  (F_X0_goesOn_L13  n13) a0 x1 x2 x3 x4 x5 x6 s0 w = some w9 → J g x (.returned none) w9 0 0 w 0 0 68 [some (va_rf a0), some (.int x1), some (.int x2), some (.int x3), some (.int x4), some (.int x5), some (.int x6), none, none, none] [.int s0] := by
        intro a0 x1 x2 x3 x4 x5 x6 s0 w hF
        unfold F_X0_goesOn_J68 at hF
        refine j_istore (vs' := [some (va_rf a0), some (.int x1), some (.int x2), some (.int x3), some (.int x4), some (.int x5), some (.int x6), some (.int s0), none, none]) B dX0_goesOn_68 (by decide) rfl ?_
        refine j_aload_n B dX0_goesOn_70 rfl ?_
        refine j_iload_n B dX0_goesOn_71 rfl ?_
        refine j_iload B dX0_goesOn_72 rfl ?_
        obtain ⟨i74, e74, hF⟩ := bo hF
        refine j_rV (st2 := [.int i74]) B [.int x1, .int s0] [] cv_X0_285 dX0_goesOn_74 hl hR (ct_X0_doneAt G e74) rfl rfl rfl rfl trivial (Nat.le_of_ble_eq_true rfl) ?_
        refine j_istore (vs' := [some (va_rf a0), some (.int x1), some (.int x2), some (.int x3), some (.int x4), some (.int x5), some (.int x6), some (.int s0), some (.int i74), none]) B dX0_goesOn_77 (by decide) rfl ?_
        refine j_aload_n B dX0_goesOn_79 rfl ?_
        refine j_iload_n B dX0_goesOn_80 rfl ?_
        refine j_iload B dX0_goesOn_81 rfl ?_
        obtain ⟨i83, e83, hF⟩ := bo hF
        refine j_rV (st2 := [.int i83]) B [.int x1, .int x5] [] cv_X0_282 dX0_goesOn_83 hl hR (ct_X0_digit G e83) rfl rfl rfl rfl trivial (Nat.le_of_ble_eq_true rfl) ?_
        refine j_if_ne (tgt := 115) B dX0_goesOn_86 (by decide) hF (fun h86 hF => ?_) (fun h86 hF => ?_)
        · refine j_msk [true, true, true, true, true, true, false, true, true, false] rfl ?_
          exact jb115 a0 x1 x2 x3 x4 x5 s0 i74 w hF
        · refine j_aload_n B dX0_goesOn_89 rfl ?_
          refine j_iload B dX0_goesOn_90 rfl ?_
          refine j_aload_n B dX0_goesOn_92 rfl ?_
          refine j_getA B fl_X0_61 dX0_goesOn_93 hF (fun a93p hF => ?_)
          refine j_getA B fl_X0_214 dX0_goesOn_96 hF (fun a96p hF => ?_)
          refine j_iconst (v := 0) B dX0_goesOn_99 (by decide) ?_
          refine j_aaload B 103 rfl rfl dX0_goesOn_100 hF (fun a100p hF => ?_)
          refine j_iload B dX0_goesOn_101 rfl ?_
          refine j_iaload B dX0_goesOn_103 hF (fun i103 hF => ?_)
          obtain ⟨i104, e104, hF⟩ := bo hF
          refine j_rV (st2 := [.int i104]) B [.int i74, .int i103] [] cv_X0_288 dX0_goesOn_104 hl hR (ct_X0_load G e104) rfl rfl rfl rfl trivial (Nat.le_of_ble_eq_true rfl) ?_
          refine j_iload_n B dX0_goesOn_107 rfl ?_
          refine j_icmp_gt (tgt := 115) B dX0_goesOn_108 (by decide) hF (fun h108 hF => ?_) (fun h108 hF => ?_)
          · refine j_msk [true, true, true, true, true, true, false, true, true, false] rfl ?_
            exact jb115 a0 x1 x2 x3 x4 x5 s0 i74 w hF
          · refine j_iconst (v := 1) B dX0_goesOn_111 (by decide) ?_
            refine j_goto (tgt := 116) B dX0_goesOn_112 (by decide) ?_
            refine j_msk [true, true, true, true, true, true, false, true, true, false] rfl ?_
            exact jb116 a0 x1 x2 x3 x4 x5 s0 i74 1 w hF
      refine j_iload B dX0_goesOn_13 rfl ?_
      refine j_aload_n B dX0_goesOn_15 rfl ?_
      refine j_getI B fl_X0_279 dX0_goesOn_16 hF (fun i16 hF => ?_)
      refine j_icmp_ge (tgt := 171) B dX0_goesOn_19 (by decide) hF (fun h19 hF => ?_) (fun h19 hF => ?_)
      · exact j_lV B rfl dX0_goesOn_171 hF (by decide) (by decide)
      · refine j_aload_n B dX0_goesOn_22 rfl ?_
        refine j_getA B fl_X0_95 dX0_goesOn_23 hF (fun a23p hF => ?_)
        refine j_iload B dX0_goesOn_26 rfl ?_
        refine j_iaload B dX0_goesOn_28 hF (fun i28 hF => ?_)
        refine j_istore (vs' := [some (va_rf a0), some (.int x1), some (.int x2), some (.int x3), some (.int x4), some (.int x5), some (.int i28), none, none, none]) B dX0_goesOn_29 (by decide) rfl ?_
        refine j_aload_n B dX0_goesOn_31 rfl ?_
        refine j_iload_n B dX0_goesOn_32 rfl ?_
        refine j_iload B dX0_goesOn_33 rfl ?_
        obtain ⟨i35, e35, hF⟩ := bo hF
        refine j_rV (st2 := [.int i35]) B [.int x1, .int x5] [] cv_X0_282 dX0_goesOn_35 hl hR (ct_X0_digit G e35) rfl rfl rfl rfl trivial (Nat.le_of_ble_eq_true rfl) ?_
        refine j_if_ne (tgt := 56) B dX0_goesOn_38 (by decide) hF (fun h38 hF => ?_) (fun h38 hF => ?_)
        · refine j_aload_n B dX0_goesOn_56 rfl ?_
          refine j_getA B fl_X0_61 dX0_goesOn_57 hF (fun a57p hF => ?_)
          refine j_getA B fl_X0_214 dX0_goesOn_60 hF (fun a60p hF => ?_)
          refine j_iconst (v := 2) B dX0_goesOn_63 (by decide) ?_
          refine j_aaload B 103 rfl rfl dX0_goesOn_64 hF (fun a64p hF => ?_)
          refine j_iload B dX0_goesOn_65 rfl ?_
          refine j_iaload B dX0_goesOn_67 hF (fun i67 hF => ?_)
          exact jb68 a0 x1 x2 x3 x4 x5 i28 i67 w hF
        · refine j_aload_n B dX0_goesOn_41 rfl ?_
          refine j_getA B fl_X0_61 dX0_goesOn_42 hF (fun a42p hF => ?_)
          refine j_getA B fl_X0_214 dX0_goesOn_45 hF (fun a45p hF => ?_)
          refine j_iconst (v := 1) B dX0_goesOn_48 (by decide) ?_
          refine j_aaload B 103 rfl rfl dX0_goesOn_49 hF (fun a49p hF => ?_)
          refine j_iload B dX0_goesOn_50 rfl ?_
          refine j_iaload B dX0_goesOn_52 hF (fun i52 hF => ?_)
          refine j_goto (tgt := 68) B dX0_goesOn_53 (by decide) ?_
          exact jb68 a0 x1 x2 x3 x4 x5 i28 i52 w hF
  refine j_aload_n B dX0_goesOn_0 rfl ?_
  refine j_getA B fl_X0_101 dX0_goesOn_1 hF (fun a1p hF => ?_)
  refine j_iload_n B dX0_goesOn_4 rfl ?_
  refine j_aaload B 103 rfl rfl dX0_goesOn_5 hF (fun a5p hF => ?_)
  refine j_iload_n B dX0_goesOn_6 rfl ?_
  refine j_iaload B dX0_goesOn_7 hF (fun i7 hF => ?_)
  refine j_istore (vs' := [some (va_rf a0), some (.int x1), some (.int x2), some (.int x3), some (.int i7), none, none, none, none, none]) B dX0_goesOn_8 (by decide) rfl ?_
  refine j_iconst (v := 0) B dX0_goesOn_10 (by decide) ?_
  refine j_istore (vs' := [some (va_rf a0), some (.int x1), some (.int x2), some (.int x3), some (.int i7), some (.int 0), none, none, none, none]) B dX0_goesOn_11 (by decide) rfl ?_
  exact lp13 fu a0 x1 x2 x3 i7 0 w hF
theorem cv_X0_294 : CV "CarryFair" 294 0 yX0_collects cX0_collects 3 none 1 := ⟨_, _, rfl, lw_V q878 q880 qs25 q126 q881, by decide +kernel⟩
theorem cv_X0_297 : CV "CarryFair" 297 0 yX0_goesOn cX0_goesOn 10 none 3 := ⟨_, _, rfl, lw_V q882 q884 qs26 q126 q885, by decide +kernel⟩
def F_X0_roundOf_J187 (rc101 : (Option Nat) → Int32 → Int32 → Int32 → cH → Option (Int32 × cH)) (rc118 : (Option Nat) → Int32 → Int32 → Int32 → Int32 → cH → Option (Int32 × cH)) (a0 : Option Nat) (x3 : Int32) (x4 : Int32) (x5 : Int32) (x6 : Int32) (w : cH) : Option (Int32 × cH) :=
  rc118 a0 x3 x4 x5 (x6 + 1) w
def F_X0_roundOf_J185 (rc101 : (Option Nat) → Int32 → Int32 → Int32 → cH → Option (Int32 × cH)) (rc118 : (Option Nat) → Int32 → Int32 → Int32 → Int32 → cH → Option (Int32 × cH)) (a0 : Option Nat) (x3 : Int32) (x5 : Int32) (x6 : Int32) (s0 : Int32) (w : cH) : Option (Int32 × cH) :=
  F_X0_roundOf_J187  rc101 rc118 a0 x3 s0 x5 x6 w
def F_X0_roundOf_B118 (rc101 : (Option Nat) → Int32 → Int32 → Int32 → cH → Option (Int32 × cH)) (rc118 : Option Nat → Int32 → Int32 → Int32 → Int32 → cH → Option (Int32 × cH)) (a0 : Option Nat) (x3 : Int32) (x4 : Int32) (x5 : Int32) (x6 : Int32) (w : cH) : Option (Int32 × cH) :=
  if 7 ≤ x6 then (rc101 a0 x3 x4 (x5 + 1) w) else ((fA w a0 0 16).bind fun a126p => (aA w a126p 103 x5).bind fun a131p => (aI w a131p 100 x6).bind fun i134 =>if 1000000 ≤ i134 then (F_X0_roundOf_J187  rc101 rc118 a0 x3 x4 x5 x6 w) else ((F_X0_goesOn a0 x5 x6 x3 w).bind fun w146 => (fA w146 a0 0 15).bind fun a152p => (fI w146 a0 0 14).bind fun i156 => (aI w146 a152p 100 i156).bind fun i159 =>if ¬ x5 = (i159 - 1) then (F_X0_roundOf_J185  rc101 rc118 a0 x3 x5 x6 x4 w146) else ((fA w146 a0 0 16).bind fun a168p => (aA w146 a168p 103 x5).bind fun a173p => (aI w146 a173p 100 x6).bind fun i176 => F_X0_roundOf_J185  rc101 rc118 a0 x3 x5 x6 (F_J3_min x4 i176) w146)))
def F_X0_roundOf_L118 (rc101 : (Option Nat) → Int32 → Int32 → Int32 → cH → Option (Int32 × cH)) : Nat → Option Nat → Int32 → Int32 → Int32 → Int32 → cH → Option (Int32 × cH)
  | 0, _, _, _, _, _, _ => none
  | n9 + 1, a0, x3, x4, x5, x6, w => F_X0_roundOf_B118  rc101 (F_X0_roundOf_L118  rc101 n9) a0 x3 x4 x5 x6 w
def F_X0_roundOf_B101 (rc101 : Option Nat → Int32 → Int32 → Int32 → cH → Option (Int32 × cH)) (a0 : Option Nat) (x3 : Int32) (x4 : Int32) (x5 : Int32) (w : cH) : Option (Int32 × cH) :=
  (fA w a0 0 15).bind fun a104p => (fI w a0 0 14).bind fun i108 => (aI w a104p 100 i108).bind fun i111 =>if i111 ≤ x5 then (if 1000000 ≤ x4 then (some ((-1), w)) else (some (x4, w))) else (F_X0_roundOf_L118  rc101 fu a0 x3 x4 x5 0 w)
def F_X0_roundOf_L101 : Nat → Option Nat → Int32 → Int32 → Int32 → cH → Option (Int32 × cH)
  | 0, _, _, _, _, _ => none
  | n9 + 1, a0, x3, x4, x5, w => F_X0_roundOf_B101  (F_X0_roundOf_L101  n9) a0 x3 x4 x5 w
def F_X0_roundOf_J96 (a0 : Option Nat) (x3 : Int32) (s0 : Int32) (w : cH) : Option (Int32 × cH) :=
  F_X0_roundOf_L101  fu a0 x3 s0 0 w
def F_X0_roundOf_B28 (rc12 : (Option Nat) → Int32 → Int32 → cH → Option (Int32 × cH)) (rc28 : Option Nat → Int32 → Int32 → Int32 → cH → Option (Int32 × cH)) (a0 : Option Nat) (x1 : Int32) (x3 : Int32) (x4 : Int32) (w : cH) : Option (Int32 × cH) :=
  if 7 ≤ x4 then (rc12 a0 x1 (x3 + 1) w) else ((fA w a0 0 16).bind fun a36p => (aA w a36p 103 x3).bind fun a40p => (aS w a40p 100 x4 (.int 1000000)).bind fun w45 => rc28 a0 x1 x3 (x4 + 1) w45)
def F_X0_roundOf_L28 (rc12 : (Option Nat) → Int32 → Int32 → cH → Option (Int32 × cH)) : Nat → Option Nat → Int32 → Int32 → Int32 → cH → Option (Int32 × cH)
  | 0, _, _, _, _, _ => none
  | n9 + 1, a0, x1, x3, x4, w => F_X0_roundOf_B28  rc12 (F_X0_roundOf_L28  rc12 n9) a0 x1 x3 x4 w
def F_X0_roundOf_B12 (rc12 : Option Nat → Int32 → Int32 → cH → Option (Int32 × cH)) (a0 : Option Nat) (x1 : Int32) (x3 : Int32) (w : cH) : Option (Int32 × cH) :=
  (fA w a0 0 15).bind fun a14p => (fI w a0 0 14).bind fun i18 => (aI w a14p 100 i18).bind fun i21 =>if i21 ≤ x3 then ((fA w a0 0 16).bind fun a59p => (aA w a59p 103 0).bind fun a63p => (fA w a0 0 3).bind fun a65p => (fA w a65p 4 1).bind fun a68p => (aA w a68p 103 1).bind fun a72p => (aI w a72p 100 x1).bind fun i74 => (aS w a63p 100 i74 (.int 0)).bind fun w76 => (F_X0_bearsOf a0 x1 w76).bind fun i79 => (fI w76 a0 0 14).bind fun i84 =>if ¬ i84 = 0 then (F_X0_roundOf_J96  a0 i79 1000000 w76) else (F_X0_roundOf_J96  a0 i79 0 w76)) else (F_X0_roundOf_L28  rc12 fu a0 x1 x3 0 w)
def F_X0_roundOf_L12 : Nat → Option Nat → Int32 → Int32 → cH → Option (Int32 × cH)
  | 0, _, _, _, _ => none
  | n9 + 1, a0, x1, x3, w => F_X0_roundOf_B12  (F_X0_roundOf_L12  n9) a0 x1 x3 w
def F_X0_roundOf (a0 : Option Nat) (x1 : Int32) (x2 : Int32) (w : cH) : Option (Int32 × cH) :=
  if tg w a0 = some 0 then ((F_X0_collects a0 x2 w).bind fun w2 => (F_X0_tellsFor a0 x1 w2).bind fun w7 => F_X0_roundOf_L12  fu a0 x1 0 w7) else none
abbrev rm_X0_roundOf : Room := { frames := 5, cells := 0, slots := 0, locals := 116 }
set_option maxHeartbeats 4000000 in
set_option maxRecDepth 100000 in
theorem ct_X0_roundOf {l : Launch} {g : Gt} (G : Gok g) {a0 : Option Nat} {x1 : Int32} {x2 : Int32} {w : cH} {r9 : Int32} {w9 : cH} (hF : F_X0_roundOf a0 x1 x2 w = some (r9, w9)) : tg w a0 = some 0 ∧ Mx l yX0_roundOf (ws_ yX0_roundOf cX0_roundOf 7 (some .int)) rm_X0_roundOf g [va_rf a0, .int x1, .int x2] w (.returned (some (.int r9))) w9 0 0 := by
  unfold F_X0_roundOf at hF
  obtain ⟨ht, hF⟩ := bg hF
  refine ⟨ht, mk_ct cX0_roundOf 7 (some .int) "CarryFair" (plainFor_of_name (by decide)) rfl (lg_le ⟨cr _, rfl, rfl, trivial⟩ (Nat.le_of_ble_eq_true rfl)) (av_ok ⟨cr _, rfl, rfl, trivial⟩) G (fun x B hl hR hin hh => ?_)⟩
  show J g x _ _ 0 0 w 0 0 0 [some (va_rf a0), some (.int x1), some (.int x2), none, none, none, none] []
  have lp101 : ∀ (n9 : Nat) (a0 : Option Nat) (x3 : Int32) (x4 : Int32) (x5 : Int32) (w : cH), F_X0_roundOf_L101  n9 a0 x3 x4 x5 w = some (r9, w9) → J g x (.returned (some (.int r9))) w9 0 0 w 0 0 101 [some (va_rf a0), none, none, some (.int x3), some (.int x4), some (.int x5), none] [] := by
    intro n9
    induction n9 with
    | zero => intro a0 x3 x4 x5 w hF; cases hF
    | succ n101 ih101 =>
      intro a0 x3 x4 x5 w hF
      have hF : F_X0_roundOf_B101  (F_X0_roundOf_L101  n101) a0 x3 x4 x5 w = some (r9, w9) := hF
      unfold F_X0_roundOf_B101 at hF
      have lp118 : ∀ (n9 : Nat) (a0 : Option Nat) (x3 : Int32) (x4 : Int32) (x5 : Int32) (x6 : Int32) (w : cH), F_X0_roundOf_L118  (F_X0_roundOf_L101  n101) n9 a0 x3 x4 x5 x6 w = some (r9, w9) → J g x (.returned (some (.int r9))) w9 0 0 w 0 0 118 [some (va_rf a0), none, none, some (.int x3), some (.int x4), some (.int x5), some (.int x6)] [] := by
        intro n9
        induction n9 with
        | zero => intro a0 x3 x4 x5 x6 w hF; cases hF
        | succ n118 ih118 =>
          intro a0 x3 x4 x5 x6 w hF
          have hF : F_X0_roundOf_B118  (F_X0_roundOf_L101  n101) (F_X0_roundOf_L118  (F_X0_roundOf_L101  n101) n118) a0 x3 x4 x5 x6 w = some (r9, w9) := hF
          unfold F_X0_roundOf_B118 at hF
          have jb187 : ∀ (a0 : Option Nat) (x3 : Int32) (x4 : Int32) (x5 : Int32) (x6 : Int32) (w : cH), F_X0_roundOf_J187  (F_X0_roundOf_L101  n101) (F_X0_roundOf_L118  (F_X0_roundOf_L101  n101) n118) a0 x3 x4 x5 x6 w = some (r9, w9) → J g x (.returned (some (.int r9))) w9 0 0 w 0 0 187 [some (va_rf a0), none, none, some (.int x3), some (.int x4), some (.int x5), some (.int x6)] [] := by
            intro a0 x3 x4 x5 x6 w hF
            unfold F_X0_roundOf_J187 at hF
            refine j_iinc (v := x6 + 1) (vs' := [some (va_rf a0), none, none, some (.int x3), some (.int x4), some (.int x5), some (.int (x6 + 1))]) B dX0_roundOf_187 (by decide) rfl rfl rfl ?_
            refine j_goto (tgt := 118) B dX0_roundOf_190 (by decide) ?_
            exact ih118 a0 x3 x4 x5 (x6 + 1) w hF
          have jb185 : ∀ (a0 : Option Nat) (x3 : Int32) (x5 : Int32) (x6 : Int32) (s0 : Int32) (w : cH), F_X0_roundOf_J185  (F_X0_roundOf_L101  n101) (F_X0_roundOf_L118  (F_X0_roundOf_L101  n101) n118) a0 x3 x5 x6 s0 w = some (r9, w9) → J g x (.returned (some (.int r9))) w9 0 0 w 0 0 185 [some (va_rf a0), none, none, some (.int x3), none, some (.int x5), some (.int x6)] [.int s0] := by
            intro a0 x3 x5 x6 s0 w hF
            unfold F_X0_roundOf_J185 at hF
            refine j_istore (vs' := [some (va_rf a0), none, none, some (.int x3), some (.int s0), some (.int x5), some (.int x6)]) B dX0_roundOf_185 (by decide) rfl ?_
            exact jb187 a0 x3 s0 x5 x6 w hF
          refine j_iload B dX0_roundOf_118 rfl ?_
          refine j_bipush (v := 7) B dX0_roundOf_120 (by decide) ?_
          refine j_icmp_ge (tgt := 193) B dX0_roundOf_122 (by decide) hF (fun h122 hF => ?_) (fun h122 hF => ?_)
          · refine j_iinc (v := x5 + 1) (vs' := [some (va_rf a0), none, none, some (.int x3), some (.int x4), some (.int (x5 + 1)), some (.int x6)]) B dX0_roundOf_193 (by decide) rfl rfl rfl ?_
            refine j_goto (tgt := 101) B dX0_roundOf_196 (by decide) ?_
            refine j_msk [true, false, false, true, true, true, false] rfl ?_
            exact ih101 a0 x3 x4 (x5 + 1) w hF
          · refine j_aload_n B dX0_roundOf_125 rfl ?_
            refine j_getA B fl_X0_101 dX0_roundOf_126 hF (fun a126p hF => ?_)
            refine j_iload B dX0_roundOf_129 rfl ?_
            refine j_aaload B 103 rfl rfl dX0_roundOf_131 hF (fun a131p hF => ?_)
            refine j_iload B dX0_roundOf_132 rfl ?_
            refine j_iaload B dX0_roundOf_134 hF (fun i134 hF => ?_)
            refine j_ldc (v := 1000000) B q671 dX0_roundOf_135 ?_
            refine j_icmp_ge (tgt := 187) B dX0_roundOf_137 (by decide) hF (fun h137 hF => ?_) (fun h137 hF => ?_)
            · exact jb187 a0 x3 x4 x5 x6 w hF
            · refine j_aload_n B dX0_roundOf_140 rfl ?_
              refine j_iload B dX0_roundOf_141 rfl ?_
              refine j_iload B dX0_roundOf_143 rfl ?_
              refine j_iload_n B dX0_roundOf_145 rfl ?_
              obtain ⟨w146, e146, hF⟩ := bo hF
              refine j_rV (st2 := []) B [.int x5, .int x6, .int x3] [] cv_X0_297 dX0_roundOf_146 hl hR (ct_X0_goesOn G e146) rfl rfl rfl rfl trivial (Nat.le_of_ble_eq_true rfl) ?_
              refine j_iload B dX0_roundOf_149 rfl ?_
              refine j_aload_n B dX0_roundOf_151 rfl ?_
              refine j_getA B fl_X0_98 dX0_roundOf_152 hF (fun a152p hF => ?_)
              refine j_aload_n B dX0_roundOf_155 rfl ?_
              refine j_getI B fl_X0_279 dX0_roundOf_156 hF (fun i156 hF => ?_)
              refine j_iaload B dX0_roundOf_159 hF (fun i159 hF => ?_)
              refine j_iconst (v := 1) B dX0_roundOf_160 (by decide) ?_
              refine j_isub B dX0_roundOf_161 ?_
              refine j_icmp_ne (tgt := 183) B dX0_roundOf_162 (by decide) hF (fun h162 hF => ?_) (fun h162 hF => ?_)
              · refine j_iload B dX0_roundOf_183 rfl ?_
                refine j_msk [true, false, false, true, false, true, true] rfl ?_
                exact jb185 a0 x3 x5 x6 x4 w146 hF
              · refine j_iload B dX0_roundOf_165 rfl ?_
                refine j_aload_n B dX0_roundOf_167 rfl ?_
                refine j_getA B fl_X0_101 dX0_roundOf_168 hF (fun a168p hF => ?_)
                refine j_iload B dX0_roundOf_171 rfl ?_
                refine j_aaload B 103 rfl rfl dX0_roundOf_173 hF (fun a173p hF => ?_)
                refine j_iload B dX0_roundOf_174 rfl ?_
                refine j_iaload B dX0_roundOf_176 hF (fun i176 hF => ?_)
                refine j_rS (st2 := [.int (F_J3_min x4 i176)]) B [.int x4, .int i176] [] cs_X0_205 dX0_roundOf_177 hl hR (ct_J3_min G) rfl rfl rfl rfl trivial (Nat.le_of_ble_eq_true rfl) ?_
                refine j_goto (tgt := 185) B dX0_roundOf_180 (by decide) ?_
                refine j_msk [true, false, false, true, false, true, true] rfl ?_
                exact jb185 a0 x3 x5 x6 (F_J3_min x4 i176) w146 hF
      refine j_iload B dX0_roundOf_101 rfl ?_
      refine j_aload_n B dX0_roundOf_103 rfl ?_
      refine j_getA B fl_X0_98 dX0_roundOf_104 hF (fun a104p hF => ?_)
      refine j_aload_n B dX0_roundOf_107 rfl ?_
      refine j_getI B fl_X0_279 dX0_roundOf_108 hF (fun i108 hF => ?_)
      refine j_iaload B dX0_roundOf_111 hF (fun i111 hF => ?_)
      refine j_icmp_ge (tgt := 199) B dX0_roundOf_112 (by decide) hF (fun h112 hF => ?_) (fun h112 hF => ?_)
      · refine j_iload B dX0_roundOf_199 rfl ?_
        refine j_ldc (v := 1000000) B q671 dX0_roundOf_201 ?_
        refine j_icmp_ge (tgt := 211) B dX0_roundOf_203 (by decide) hF (fun h203 hF => ?_) (fun h203 hF => ?_)
        · refine j_iconst (v := (-1)) B dX0_roundOf_211 (by decide) ?_
          exact j_lIw B rfl dX0_roundOf_212 hF (by decide) (by decide)
        · refine j_iload B dX0_roundOf_206 rfl ?_
          refine j_goto (tgt := 212) B dX0_roundOf_208 (by decide) ?_
          exact j_lIw B rfl dX0_roundOf_212 hF (by decide) (by decide)
      · refine j_iconst (v := 0) B dX0_roundOf_115 (by decide) ?_
        refine j_istore (vs' := [some (va_rf a0), none, none, some (.int x3), some (.int x4), some (.int x5), some (.int 0)]) B dX0_roundOf_116 (by decide) rfl ?_
        exact lp118 fu a0 x3 x4 x5 0 w hF
  have jb96 : ∀ (a0 : Option Nat) (x3 : Int32) (s0 : Int32) (w : cH), F_X0_roundOf_J96  a0 x3 s0 w = some (r9, w9) → J g x (.returned (some (.int r9))) w9 0 0 w 0 0 96 [some (va_rf a0), none, none, some (.int x3), none, none, none] [.int s0] := by
    intro a0 x3 s0 w hF
    unfold F_X0_roundOf_J96 at hF
    refine j_istore (vs' := [some (va_rf a0), none, none, some (.int x3), some (.int s0), none, none]) B dX0_roundOf_96 (by decide) rfl ?_
    refine j_iconst (v := 0) B dX0_roundOf_98 (by decide) ?_
    refine j_istore (vs' := [some (va_rf a0), none, none, some (.int x3), some (.int s0), some (.int 0), none]) B dX0_roundOf_99 (by decide) rfl ?_
    exact lp101 fu a0 x3 s0 0 w hF
  have lp12 : ∀ (n9 : Nat) (a0 : Option Nat) (x1 : Int32) (x3 : Int32) (w : cH), F_X0_roundOf_L12  n9 a0 x1 x3 w = some (r9, w9) → J g x (.returned (some (.int r9))) w9 0 0 w 0 0 12 [some (va_rf a0), some (.int x1), none, some (.int x3), none, none, none] [] := by
    intro n9
    induction n9 with
    | zero => intro a0 x1 x3 w hF; cases hF
    | succ n12 ih12 =>
      intro a0 x1 x3 w hF
      have hF : F_X0_roundOf_B12  (F_X0_roundOf_L12  n12) a0 x1 x3 w = some (r9, w9) := hF
      unfold F_X0_roundOf_B12 at hF
      have lp28 : ∀ (n9 : Nat) (a0 : Option Nat) (x1 : Int32) (x3 : Int32) (x4 : Int32) (w : cH), F_X0_roundOf_L28  (F_X0_roundOf_L12  n12) n9 a0 x1 x3 x4 w = some (r9, w9) → J g x (.returned (some (.int r9))) w9 0 0 w 0 0 28 [some (va_rf a0), some (.int x1), none, some (.int x3), some (.int x4), none, none] [] := by
        intro n9
        induction n9 with
        | zero => intro a0 x1 x3 x4 w hF; cases hF
        | succ n28 ih28 =>
          intro a0 x1 x3 x4 w hF
          have hF : F_X0_roundOf_B28  (F_X0_roundOf_L12  n12) (F_X0_roundOf_L28  (F_X0_roundOf_L12  n12) n28) a0 x1 x3 x4 w = some (r9, w9) := hF
          unfold F_X0_roundOf_B28 at hF
          refine j_iload B dX0_roundOf_28 rfl ?_
          refine j_bipush (v := 7) B dX0_roundOf_30 (by decide) ?_
          refine j_icmp_ge (tgt := 52) B dX0_roundOf_32 (by decide) hF (fun h32 hF => ?_) (fun h32 hF => ?_)
          · refine j_iinc (v := x3 + 1) (vs' := [some (va_rf a0), some (.int x1), none, some (.int (x3 + 1)), some (.int x4), none, none]) B dX0_roundOf_52 (by decide) rfl rfl rfl ?_
            refine j_goto (tgt := 12) B dX0_roundOf_55 (by decide) ?_
            refine j_msk [true, true, false, true, false, false, false] rfl ?_
            exact ih12 a0 x1 (x3 + 1) w hF
          · refine j_aload_n B dX0_roundOf_35 rfl ?_
            refine j_getA B fl_X0_101 dX0_roundOf_36 hF (fun a36p hF => ?_)
            refine j_iload_n B dX0_roundOf_39 rfl ?_
            refine j_aaload B 103 rfl rfl dX0_roundOf_40 hF (fun a40p hF => ?_)
            refine j_iload B dX0_roundOf_41 rfl ?_
            refine j_ldc (v := 1000000) B q671 dX0_roundOf_43 ?_
            refine j_iastore B dX0_roundOf_45 hF (fun w45 hF => ?_)
            refine j_iinc (v := x4 + 1) (vs' := [some (va_rf a0), some (.int x1), none, some (.int x3), some (.int (x4 + 1)), none, none]) B dX0_roundOf_46 (by decide) rfl rfl rfl ?_
            refine j_goto (tgt := 28) B dX0_roundOf_49 (by decide) ?_
            exact ih28 a0 x1 x3 (x4 + 1) w45 hF
      refine j_iload_n B dX0_roundOf_12 rfl ?_
      refine j_aload_n B dX0_roundOf_13 rfl ?_
      refine j_getA B fl_X0_98 dX0_roundOf_14 hF (fun a14p hF => ?_)
      refine j_aload_n B dX0_roundOf_17 rfl ?_
      refine j_getI B fl_X0_279 dX0_roundOf_18 hF (fun i18 hF => ?_)
      refine j_iaload B dX0_roundOf_21 hF (fun i21 hF => ?_)
      refine j_icmp_ge (tgt := 58) B dX0_roundOf_22 (by decide) hF (fun h22 hF => ?_) (fun h22 hF => ?_)
      · refine j_aload_n B dX0_roundOf_58 rfl ?_
        refine j_getA B fl_X0_101 dX0_roundOf_59 hF (fun a59p hF => ?_)
        refine j_iconst (v := 0) B dX0_roundOf_62 (by decide) ?_
        refine j_aaload B 103 rfl rfl dX0_roundOf_63 hF (fun a63p hF => ?_)
        refine j_aload_n B dX0_roundOf_64 rfl ?_
        refine j_getA B fl_X0_61 dX0_roundOf_65 hF (fun a65p hF => ?_)
        refine j_getA B fl_X0_113 dX0_roundOf_68 hF (fun a68p hF => ?_)
        refine j_iconst (v := 1) B dX0_roundOf_71 (by decide) ?_
        refine j_aaload B 103 rfl rfl dX0_roundOf_72 hF (fun a72p hF => ?_)
        refine j_iload_n B dX0_roundOf_73 rfl ?_
        refine j_iaload B dX0_roundOf_74 hF (fun i74 hF => ?_)
        refine j_iconst (v := 0) B dX0_roundOf_75 (by decide) ?_
        refine j_iastore B dX0_roundOf_76 hF (fun w76 hF => ?_)
        refine j_aload_n B dX0_roundOf_77 rfl ?_
        refine j_iload_n B dX0_roundOf_78 rfl ?_
        obtain ⟨i79, e79, hF⟩ := bo hF
        refine j_rV (st2 := [.int i79]) B [.int x1] [] cv_X0_167 dX0_roundOf_79 hl hR (ct_X0_bearsOf G e79) rfl rfl rfl rfl trivial (Nat.le_of_ble_eq_true rfl) ?_
        refine j_istore_n (vs' := [some (va_rf a0), some (.int x1), none, some (.int i79), none, none, none]) B dX0_roundOf_82 (by decide) rfl ?_
        refine j_aload_n B dX0_roundOf_83 rfl ?_
        refine j_getI B fl_X0_279 dX0_roundOf_84 hF (fun i84 hF => ?_)
        refine j_if_ne (tgt := 94) B dX0_roundOf_87 (by decide) hF (fun h87 hF => ?_) (fun h87 hF => ?_)
        · refine j_ldc (v := 1000000) B q671 dX0_roundOf_94 ?_
          refine j_msk [true, false, false, true, false, false, false] rfl ?_
          exact jb96 a0 i79 1000000 w76 hF
        · refine j_iconst (v := 0) B dX0_roundOf_90 (by decide) ?_
          refine j_goto (tgt := 96) B dX0_roundOf_91 (by decide) ?_
          refine j_msk [true, false, false, true, false, false, false] rfl ?_
          exact jb96 a0 i79 0 w76 hF
      · refine j_iconst (v := 0) B dX0_roundOf_25 (by decide) ?_
        refine j_istore (vs' := [some (va_rf a0), some (.int x1), none, some (.int x3), some (.int 0), none, none]) B dX0_roundOf_26 (by decide) rfl ?_
        exact lp28 fu a0 x1 x3 0 w hF
  refine j_aload_n B dX0_roundOf_0 rfl ?_
  refine j_iload_n B dX0_roundOf_1 rfl ?_
  obtain ⟨w2, e2, hF⟩ := bo hF
  refine j_rV (st2 := []) B [.int x2] [] cv_X0_294 dX0_roundOf_2 hl hR (ct_X0_collects G e2) rfl rfl rfl rfl trivial (Nat.le_of_ble_eq_true rfl) ?_
  refine j_aload_n B dX0_roundOf_5 rfl ?_
  refine j_iload_n B dX0_roundOf_6 rfl ?_
  obtain ⟨w7, e7, hF⟩ := bo hF
  refine j_rV (st2 := []) B [.int x1] [] cv_X0_239 dX0_roundOf_7 hl hR (ct_X0_tellsFor G e7) rfl rfl rfl rfl trivial (Nat.le_of_ble_eq_true rfl) ?_
  refine j_iconst (v := 0) B dX0_roundOf_10 (by decide) ?_
  refine j_istore_n (vs' := [some (va_rf a0), some (.int x1), some (.int x2), some (.int 0), none, none, none]) B dX0_roundOf_11 (by decide) rfl ?_
  refine j_msk [true, true, false, true, false, false, false] rfl ?_
  exact lp12 fu a0 x1 0 w7 hF
theorem cv_X0_309 : CV "CarryFair" 309 0 yX0_whyNot cX0_whyNot 3 (some .int) 2 := ⟨_, _, rfl, lw_V q848 q850 qs19 q126 q851, by decide +kernel⟩
theorem cv_X0_312 : CV "CarryFair" 312 0 yX0_roundOf cX0_roundOf 7 (some .int) 2 := ⟨_, _, rfl, lw_V q874 q876 qs24 q126 q877, by decide +kernel⟩
def F_X0_round (a0 : Option Nat) (x1 : Int32) (x2 : Int32) (w : cH) : Option (Int32 × cH) :=
  if tg w a0 = some 0 then ((F_X0_whyNot a0 x1 x2 w).bind fun i3 =>if ¬ i3 = (-1) then (cb (F_X0_finding a0 i3 w) fun i27 w27 => some (i27, w27)) else (cb (F_X0_roundOf a0 x1 x2 w) fun i16 w16 => cb (F_X0_orNone a0 i16 w16) fun i19 w19 => some (i19, w19))) else none
abbrev rm_X0_round : Room := { frames := 6, cells := 0, slots := 0, locals := 142 }
set_option maxHeartbeats 4000000 in
set_option maxRecDepth 100000 in
theorem ct_X0_round {l : Launch} {g : Gt} (G : Gok g) {a0 : Option Nat} {x1 : Int32} {x2 : Int32} {w : cH} {r9 : Int32} {w9 : cH} (hF : F_X0_round a0 x1 x2 w = some (r9, w9)) : tg w a0 = some 0 ∧ Mx l yX0_round (ws_ yX0_round cX0_round 4 (some .int)) rm_X0_round g [va_rf a0, .int x1, .int x2] w (.returned (some (.int r9))) w9 0 0 := by
  unfold F_X0_round at hF
  obtain ⟨ht, hF⟩ := bg hF
  refine ⟨ht, mk_ct cX0_round 4 (some .int) "CarryFair" (plainFor_of_name (by decide)) rfl (lg_le ⟨cr _, rfl, rfl, trivial⟩ (Nat.le_of_ble_eq_true rfl)) (av_ok ⟨cr _, rfl, rfl, trivial⟩) G (fun x B hl hR hin hh => ?_)⟩
  show J g x _ _ 0 0 w 0 0 0 [some (va_rf a0), some (.int x1), some (.int x2), none] []
  refine j_aload_n B dX0_round_0 rfl ?_
  refine j_iload_n B dX0_round_1 rfl ?_
  refine j_iload_n B dX0_round_2 rfl ?_
  obtain ⟨i3, e3, hF⟩ := bo hF
  refine j_rV (st2 := [.int i3]) B [.int x1, .int x2] [] cv_X0_309 dX0_round_3 hl hR (ct_X0_whyNot G e3) rfl rfl rfl rfl trivial (Nat.le_of_ble_eq_true rfl) ?_
  refine j_istore_n (vs' := [some (va_rf a0), some (.int x1), some (.int x2), some (.int i3)]) B dX0_round_6 (by decide) rfl ?_
  refine j_iload_n B dX0_round_7 rfl ?_
  refine j_iconst (v := (-1)) B dX0_round_8 (by decide) ?_
  refine j_icmp_ne (tgt := 25) B dX0_round_9 (by decide) hF (fun h9 hF => ?_) (fun h9 hF => ?_)
  · refine j_aload_n B dX0_round_25 rfl ?_
    refine j_iload_n B dX0_round_26 rfl ?_
    obtain ⟨i27, w27, e27, hF⟩ := bc hF
    refine j_rV (st2 := [.int i27]) B [.int i3] [] cv_X0_142 dX0_round_27 hl hR (ct_X0_finding G e27) rfl rfl rfl rfl trivial (Nat.le_of_ble_eq_true rfl) ?_
    exact j_lIw B rfl dX0_round_30 hF (by decide) (by decide)
  · refine j_aload_n B dX0_round_12 rfl ?_
    refine j_aload_n B dX0_round_13 rfl ?_
    refine j_iload_n B dX0_round_14 rfl ?_
    refine j_iload_n B dX0_round_15 rfl ?_
    obtain ⟨i16, w16, e16, hF⟩ := bc hF
    refine j_rV (st2 := [.int i16, va_rf a0]) B [.int x1, .int x2] [va_rf a0] cv_X0_312 dX0_round_16 hl hR (ct_X0_roundOf G e16) rfl rfl rfl rfl ⟨cr _, trivial⟩ (Nat.le_of_ble_eq_true rfl) ?_
    obtain ⟨i19, w19, e19, hF⟩ := bc hF
    refine j_rV (st2 := [.int i19]) B [.int i16] [] cv_X0_223 dX0_round_19 hl hR (ct_X0_orNone G e19) rfl rfl rfl rfl trivial (Nat.le_of_ble_eq_true rfl) ?_
    refine j_goto (tgt := 30) B dX0_round_22 (by decide) ?_
    exact j_lIw B rfl dX0_round_30 hF (by decide) (by decide)
def F_X0_getsFor_J75 (rc5 : (Option Nat) → Int32 → Int32 → Int32 → Int32 → cH → Option (Int32 × cH)) (a0 : Option Nat) (x1 : Int32) (x2 : Int32) (x4 : Int32) (s0 : Int32) (w : cH) : Option (Int32 × cH) :=
  rc5 a0 x1 x2 s0 (x4 + 1) w
def F_X0_getsFor_J74 (rc5 : (Option Nat) → Int32 → Int32 → Int32 → Int32 → cH → Option (Int32 × cH)) (a0 : Option Nat) (x1 : Int32) (x2 : Int32) (x4 : Int32) (s0 : Int32) (s1 : Int32) (w : cH) : Option (Int32 × cH) :=
  F_X0_getsFor_J75  rc5 a0 x1 x2 x4 (s1 + s0) w
def F_X0_getsFor_J41 (rc5 : (Option Nat) → Int32 → Int32 → Int32 → Int32 → cH → Option (Int32 × cH)) (a0 : Option Nat) (x1 : Int32) (x2 : Int32) (x3 : Int32) (x4 : Int32) (s0 : Int32) (w : cH) : Option (Int32 × cH) :=
  if ¬ s0 = (-1) then (if (F_X0_has x2 x4) = 0 then (F_X0_getsFor_J74  rc5 a0 x1 x2 x4 0 x3 w) else ((F_X0_getsOf a0 x1 s0 w).bind fun i67 => F_X0_getsFor_J74  rc5 a0 x1 x2 x4 i67 x3 w)) else (F_X0_getsFor_J75  rc5 a0 x1 x2 x4 (-1) w)
def F_X0_getsFor_B5 (rc5 : Option Nat → Int32 → Int32 → Int32 → Int32 → cH → Option (Int32 × cH)) (a0 : Option Nat) (x1 : Int32) (x2 : Int32) (x3 : Int32) (x4 : Int32) (w : cH) : Option (Int32 × cH) :=
  (fA w a0 0 3).bind fun a8p => (fI w a8p 4 2).bind fun i11 =>if i11 ≤ x4 then (some (x3, w)) else (if x3 = (-1) then (some (x3, w)) else (if (F_X0_has x2 x4) = 0 then (F_X0_getsFor_J41  rc5 a0 x1 x2 x3 x4 0 w) else (cb (F_X0_worthOf a0 x4 w) fun i34 w34 => F_X0_getsFor_J41  rc5 a0 x1 x2 x3 x4 i34 w34)))
def F_X0_getsFor_L5 : Nat → Option Nat → Int32 → Int32 → Int32 → Int32 → cH → Option (Int32 × cH)
  | 0, _, _, _, _, _, _ => none
  | n9 + 1, a0, x1, x2, x3, x4, w => F_X0_getsFor_B5  (F_X0_getsFor_L5  n9) a0 x1 x2 x3 x4 w
def F_X0_getsFor (a0 : Option Nat) (x1 : Int32) (x2 : Int32) (w : cH) : Option (Int32 × cH) :=
  if tg w a0 = some 0 then (F_X0_getsFor_L5  fu a0 x1 x2 0 0 w) else none
abbrev rm_X0_getsFor : Room := { frames := 5, cells := 0, slots := 0, locals := 117 }
set_option maxHeartbeats 4000000 in
set_option maxRecDepth 100000 in
theorem ct_X0_getsFor {l : Launch} {g : Gt} (G : Gok g) {a0 : Option Nat} {x1 : Int32} {x2 : Int32} {w : cH} {r9 : Int32} {w9 : cH} (hF : F_X0_getsFor a0 x1 x2 w = some (r9, w9)) : tg w a0 = some 0 ∧ Mx l yX0_getsFor (ws_ yX0_getsFor cX0_getsFor 6 (some .int)) rm_X0_getsFor g [va_rf a0, .int x1, .int x2] w (.returned (some (.int r9))) w9 0 0 := by
  unfold F_X0_getsFor at hF
  obtain ⟨ht, hF⟩ := bg hF
  refine ⟨ht, mk_ct cX0_getsFor 6 (some .int) "CarryFair" (plainFor_of_name (by decide)) rfl (lg_le ⟨cr _, rfl, rfl, trivial⟩ (Nat.le_of_ble_eq_true rfl)) (av_ok ⟨cr _, rfl, rfl, trivial⟩) G (fun x B hl hR hin hh => ?_)⟩
  show J g x _ _ 0 0 w 0 0 0 [some (va_rf a0), some (.int x1), some (.int x2), none, none, none] []
  have lp5 : ∀ (n9 : Nat) (a0 : Option Nat) (x1 : Int32) (x2 : Int32) (x3 : Int32) (x4 : Int32) (w : cH), F_X0_getsFor_L5  n9 a0 x1 x2 x3 x4 w = some (r9, w9) → J g x (.returned (some (.int r9))) w9 0 0 w 0 0 5 [some (va_rf a0), some (.int x1), some (.int x2), some (.int x3), some (.int x4), none] [] := by
    intro n9
    induction n9 with
    | zero => intro a0 x1 x2 x3 x4 w hF; cases hF
    | succ n5 ih5 =>
      intro a0 x1 x2 x3 x4 w hF
      have hF : F_X0_getsFor_B5  (F_X0_getsFor_L5  n5) a0 x1 x2 x3 x4 w = some (r9, w9) := hF
      unfold F_X0_getsFor_B5 at hF
      have jb75 : ∀ (a0 : Option Nat) (x1 : Int32) (x2 : Int32) (x4 : Int32) (s0 : Int32) (w : cH), F_X0_getsFor_J75  (F_X0_getsFor_L5  n5) a0 x1 x2 x4 s0 w = some (r9, w9) → J g x (.returned (some (.int r9))) w9 0 0 w 0 0 75 [some (va_rf a0), some (.int x1), some (.int x2), none, some (.int x4), none] [.int s0] := by
        intro a0 x1 x2 x4 s0 w hF
        unfold F_X0_getsFor_J75 at hF
        refine j_istore_n (vs' := [some (va_rf a0), some (.int x1), some (.int x2), some (.int s0), some (.int x4), none]) B dX0_getsFor_75 (by decide) rfl ?_
        refine j_iinc (v := x4 + 1) (vs' := [some (va_rf a0), some (.int x1), some (.int x2), some (.int s0), some (.int (x4 + 1)), none]) B dX0_getsFor_76 (by decide) rfl rfl rfl ?_
        refine j_goto (tgt := 5) B dX0_getsFor_79 (by decide) ?_
        exact ih5 a0 x1 x2 s0 (x4 + 1) w hF
      have jb74 : ∀ (a0 : Option Nat) (x1 : Int32) (x2 : Int32) (x4 : Int32) (s0 : Int32) (s1 : Int32) (w : cH), F_X0_getsFor_J74  (F_X0_getsFor_L5  n5) a0 x1 x2 x4 s0 s1 w = some (r9, w9) → J g x (.returned (some (.int r9))) w9 0 0 w 0 0 74 [some (va_rf a0), some (.int x1), some (.int x2), none, some (.int x4), none] [.int s0, .int s1] := by
        intro a0 x1 x2 x4 s0 s1 w hF
        unfold F_X0_getsFor_J74 at hF
        refine j_iadd B dX0_getsFor_74 ?_
        exact jb75 a0 x1 x2 x4 (s1 + s0) w hF
      have jb41 : ∀ (a0 : Option Nat) (x1 : Int32) (x2 : Int32) (x3 : Int32) (x4 : Int32) (s0 : Int32) (w : cH), F_X0_getsFor_J41  (F_X0_getsFor_L5  n5) a0 x1 x2 x3 x4 s0 w = some (r9, w9) → J g x (.returned (some (.int r9))) w9 0 0 w 0 0 41 [some (va_rf a0), some (.int x1), some (.int x2), some (.int x3), some (.int x4), none] [.int s0] := by
        intro a0 x1 x2 x3 x4 s0 w hF
        unfold F_X0_getsFor_J41 at hF
        refine j_istore (vs' := [some (va_rf a0), some (.int x1), some (.int x2), some (.int x3), some (.int x4), some (.int s0)]) B dX0_getsFor_41 (by decide) rfl ?_
        refine j_iload B dX0_getsFor_43 rfl ?_
        refine j_iconst (v := (-1)) B dX0_getsFor_45 (by decide) ?_
        refine j_icmp_ne (tgt := 53) B dX0_getsFor_46 (by decide) hF (fun h46 hF => ?_) (fun h46 hF => ?_)
        · refine j_iload_n B dX0_getsFor_53 rfl ?_
          refine j_iload_n B dX0_getsFor_54 rfl ?_
          refine j_iload B dX0_getsFor_55 rfl ?_
          refine j_rS (st2 := [.int (F_X0_has x2 x4), .int x3]) B [.int x2, .int x4] [.int x3] cs_X0_258 dX0_getsFor_57 hl hR (ct_X0_has G) rfl rfl rfl rfl ⟨rfl, trivial⟩ (Nat.le_of_ble_eq_true rfl) ?_
          refine j_if_eq (tgt := 73) B dX0_getsFor_60 (by decide) hF (fun h60 hF => ?_) (fun h60 hF => ?_)
          · refine j_iconst (v := 0) B dX0_getsFor_73 (by decide) ?_
            refine j_msk [true, true, true, false, true, false] rfl ?_
            exact jb74 a0 x1 x2 x4 0 x3 w hF
          · refine j_aload_n B dX0_getsFor_63 rfl ?_
            refine j_iload_n B dX0_getsFor_64 rfl ?_
            refine j_iload B dX0_getsFor_65 rfl ?_
            obtain ⟨i67, e67, hF⟩ := bo hF
            refine j_rV (st2 := [.int i67, .int x3]) B [.int x1, .int s0] [.int x3] cv_X0_261 dX0_getsFor_67 hl hR (ct_X0_getsOf G e67) rfl rfl rfl rfl ⟨rfl, trivial⟩ (Nat.le_of_ble_eq_true rfl) ?_
            refine j_goto (tgt := 74) B dX0_getsFor_70 (by decide) ?_
            refine j_msk [true, true, true, false, true, false] rfl ?_
            exact jb74 a0 x1 x2 x4 i67 x3 w hF
        · refine j_iconst (v := (-1)) B dX0_getsFor_49 (by decide) ?_
          refine j_goto (tgt := 75) B dX0_getsFor_50 (by decide) ?_
          refine j_msk [true, true, true, false, true, false] rfl ?_
          exact jb75 a0 x1 x2 x4 (-1) w hF
      refine j_iload B dX0_getsFor_5 rfl ?_
      refine j_aload_n B dX0_getsFor_7 rfl ?_
      refine j_getA B fl_X0_61 dX0_getsFor_8 hF (fun a8p hF => ?_)
      refine j_getI B fl_X0_127 dX0_getsFor_11 hF (fun i11 hF => ?_)
      refine j_icmp_ge (tgt := 82) B dX0_getsFor_14 (by decide) hF (fun h14 hF => ?_) (fun h14 hF => ?_)
      · refine j_iload_n B dX0_getsFor_82 rfl ?_
        exact j_lIw B rfl dX0_getsFor_83 hF (by decide) (by decide)
      · refine j_iload_n B dX0_getsFor_17 rfl ?_
        refine j_iconst (v := (-1)) B dX0_getsFor_18 (by decide) ?_
        refine j_icmp_eq (tgt := 82) B dX0_getsFor_19 (by decide) hF (fun h19 hF => ?_) (fun h19 hF => ?_)
        · refine j_iload_n B dX0_getsFor_82 rfl ?_
          exact j_lIw B rfl dX0_getsFor_83 hF (by decide) (by decide)
        · refine j_iload_n B dX0_getsFor_22 rfl ?_
          refine j_iload B dX0_getsFor_23 rfl ?_
          refine j_rS (st2 := [.int (F_X0_has x2 x4)]) B [.int x2, .int x4] [] cs_X0_258 dX0_getsFor_25 hl hR (ct_X0_has G) rfl rfl rfl rfl trivial (Nat.le_of_ble_eq_true rfl) ?_
          refine j_if_eq (tgt := 40) B dX0_getsFor_28 (by decide) hF (fun h28 hF => ?_) (fun h28 hF => ?_)
          · refine j_iconst (v := 0) B dX0_getsFor_40 (by decide) ?_
            exact jb41 a0 x1 x2 x3 x4 0 w hF
          · refine j_aload_n B dX0_getsFor_31 rfl ?_
            refine j_iload B dX0_getsFor_32 rfl ?_
            obtain ⟨i34, w34, e34, hF⟩ := bc hF
            refine j_rV (st2 := [.int i34]) B [.int x4] [] cv_X0_220 dX0_getsFor_34 hl hR (ct_X0_worthOf G e34) rfl rfl rfl rfl trivial (Nat.le_of_ble_eq_true rfl) ?_
            refine j_goto (tgt := 41) B dX0_getsFor_37 (by decide) ?_
            exact jb41 a0 x1 x2 x3 x4 i34 w34 hF
  refine j_iconst (v := 0) B dX0_getsFor_0 (by decide) ?_
  refine j_istore_n (vs' := [some (va_rf a0), some (.int x1), some (.int x2), some (.int 0), none, none]) B dX0_getsFor_1 (by decide) rfl ?_
  refine j_iconst (v := 0) B dX0_getsFor_2 (by decide) ?_
  refine j_istore (vs' := [some (va_rf a0), some (.int x1), some (.int x2), some (.int 0), some (.int 0), none]) B dX0_getsFor_3 (by decide) rfl ?_
  exact lp5 fu a0 x1 x2 0 0 w hF
theorem cv_X0_315 : CV "CarryFair" 315 0 yX0_getsFor cX0_getsFor 6 (some .int) 2 := ⟨_, _, rfl, lw_V q906 q908 qs31 q126 q909, by decide +kernel⟩
def F_X0_gets_J29 (a0 : Option Nat) (w : cH) : Option (Int32 × cH) :=
  cb (F_X0_finding a0 0 w) fun i31 w31 => some (i31, w31)
def F_X0_gets (a0 : Option Nat) (x1 : Int32) (x2 : Int32) (w : cH) : Option (Int32 × cH) :=
  if tg w a0 = some 0 then ((F_X0_isCarrier a0 x1 w).bind fun i2 =>if i2 = 0 then (F_X0_gets_J29  a0 w) else ((F_X0_isFew a0 x2 w).bind fun i10 =>if i10 = 0 then (F_X0_gets_J29  a0 w) else (cb (F_X0_getsFor a0 x1 x2 w) fun i20 w20 => cb (F_X0_orNone a0 i20 w20) fun i23 w23 => some (i23, w23)))) else none
abbrev rm_X0_gets : Room := { frames := 6, cells := 0, slots := 0, locals := 142 }
set_option maxHeartbeats 4000000 in
set_option maxRecDepth 100000 in
theorem ct_X0_gets {l : Launch} {g : Gt} (G : Gok g) {a0 : Option Nat} {x1 : Int32} {x2 : Int32} {w : cH} {r9 : Int32} {w9 : cH} (hF : F_X0_gets a0 x1 x2 w = some (r9, w9)) : tg w a0 = some 0 ∧ Mx l yX0_gets (ws_ yX0_gets cX0_gets 3 (some .int)) rm_X0_gets g [va_rf a0, .int x1, .int x2] w (.returned (some (.int r9))) w9 0 0 := by
  unfold F_X0_gets at hF
  obtain ⟨ht, hF⟩ := bg hF
  refine ⟨ht, mk_ct cX0_gets 3 (some .int) "CarryFair" (plainFor_of_name (by decide)) rfl (lg_le ⟨cr _, rfl, rfl, trivial⟩ (Nat.le_of_ble_eq_true rfl)) (av_ok ⟨cr _, rfl, rfl, trivial⟩) G (fun x B hl hR hin hh => ?_)⟩
  show J g x _ _ 0 0 w 0 0 0 [some (va_rf a0), some (.int x1), some (.int x2)] []
  have jb29 : ∀ (a0 : Option Nat) (w : cH), F_X0_gets_J29  a0 w = some (r9, w9) → J g x (.returned (some (.int r9))) w9 0 0 w 0 0 29 [some (va_rf a0), none, none] [] := by
    intro a0 w hF
    unfold F_X0_gets_J29 at hF
    refine j_aload_n B dX0_gets_29 rfl ?_
    refine j_iconst (v := 0) B dX0_gets_30 (by decide) ?_
    obtain ⟨i31, w31, e31, hF⟩ := bc hF
    refine j_rV (st2 := [.int i31]) B [.int 0] [] cv_X0_142 dX0_gets_31 hl hR (ct_X0_finding G e31) rfl rfl rfl rfl trivial (Nat.le_of_ble_eq_true rfl) ?_
    exact j_lIw B rfl dX0_gets_34 hF (by decide) (by decide)
  refine j_aload_n B dX0_gets_0 rfl ?_
  refine j_iload_n B dX0_gets_1 rfl ?_
  obtain ⟨i2, e2, hF⟩ := bo hF
  refine j_rV (st2 := [.int i2]) B [.int x1] [] cv_X0_161 dX0_gets_2 hl hR (ct_X0_isCarrier G e2) rfl rfl rfl rfl trivial (Nat.le_of_ble_eq_true rfl) ?_
  refine j_if_eq (tgt := 29) B dX0_gets_5 (by decide) hF (fun h5 hF => ?_) (fun h5 hF => ?_)
  · refine j_msk [true, false, false] rfl ?_
    exact jb29 a0 w hF
  · refine j_aload_n B dX0_gets_8 rfl ?_
    refine j_iload_n B dX0_gets_9 rfl ?_
    obtain ⟨i10, e10, hF⟩ := bo hF
    refine j_rV (st2 := [.int i10]) B [.int x2] [] cv_X0_300 dX0_gets_10 hl hR (ct_X0_isFew G e10) rfl rfl rfl rfl trivial (Nat.le_of_ble_eq_true rfl) ?_
    refine j_if_eq (tgt := 29) B dX0_gets_13 (by decide) hF (fun h13 hF => ?_) (fun h13 hF => ?_)
    · refine j_msk [true, false, false] rfl ?_
      exact jb29 a0 w hF
    · refine j_aload_n B dX0_gets_16 rfl ?_
      refine j_aload_n B dX0_gets_17 rfl ?_
      refine j_iload_n B dX0_gets_18 rfl ?_
      refine j_iload_n B dX0_gets_19 rfl ?_
      obtain ⟨i20, w20, e20, hF⟩ := bc hF
      refine j_rV (st2 := [.int i20, va_rf a0]) B [.int x1, .int x2] [va_rf a0] cv_X0_315 dX0_gets_20 hl hR (ct_X0_getsFor G e20) rfl rfl rfl rfl ⟨cr _, trivial⟩ (Nat.le_of_ble_eq_true rfl) ?_
      obtain ⟨i23, w23, e23, hF⟩ := bc hF
      refine j_rV (st2 := [.int i23]) B [.int i20] [] cv_X0_223 dX0_gets_23 hl hR (ct_X0_orNone G e23) rfl rfl rfl rfl trivial (Nat.le_of_ble_eq_true rfl) ?_
      refine j_goto (tgt := 34) B dX0_gets_26 (by decide) ?_
      exact j_lIw B rfl dX0_gets_34 hF (by decide) (by decide)
def F_X0_whyNoWare_J16  (w : cH) : Option Int32 :=
  some (0)
def F_X0_whyNoWare (a0 : Option Nat) (x1 : Int32) (x2 : Int32) (w : cH) : Option Int32 :=
  if tg w a0 = some 0 then ((F_X0_isCarrier a0 x1 w).bind fun i2 =>if i2 = 0 then (F_X0_whyNoWare_J16   w) else ((F_X0_isWare a0 x2 w).bind fun i10 =>if ¬ i10 = 0 then ((fA w a0 0 3).bind fun a21p => (fA w a21p 4 5).bind fun a24p => (aA w a24p 103 1).bind fun a28p => (aI w a28p 100 x2).bind fun i30 =>if ¬ i30 = (-1) then (some (4)) else ((F_X0_isEmpty a0 x1 w).bind fun i37 =>if i37 = 0 then (some (4)) else (some ((-1))))) else (F_X0_whyNoWare_J16   w))) else none
abbrev rm_X0_whyNoWare : Room := { frames := 2, cells := 0, slots := 0, locals := 44 }
set_option maxHeartbeats 4000000 in
set_option maxRecDepth 100000 in
theorem ct_X0_whyNoWare {l : Launch} {g : Gt} (G : Gok g) {a0 : Option Nat} {x1 : Int32} {x2 : Int32} {w : cH} {r9 : Int32} (hF : F_X0_whyNoWare a0 x1 x2 w = some r9) : tg w a0 = some 0 ∧ Mx l yX0_whyNoWare (ws_ yX0_whyNoWare cX0_whyNoWare 3 (some .int)) rm_X0_whyNoWare g [va_rf a0, .int x1, .int x2] w (.returned (some (.int r9))) w 0 0 := by
  unfold F_X0_whyNoWare at hF
  obtain ⟨ht, hF⟩ := bg hF
  refine ⟨ht, mk_ct cX0_whyNoWare 3 (some .int) "CarryFair" (plainFor_of_name (by decide)) rfl (lg_le ⟨cr _, rfl, rfl, trivial⟩ (Nat.le_of_ble_eq_true rfl)) (av_ok ⟨cr _, rfl, rfl, trivial⟩) G (fun x B hl hR hin hh => ?_)⟩
  show J g x _ _ 0 0 w 0 0 0 [some (va_rf a0), some (.int x1), some (.int x2)] []
  have jb16 : F_X0_whyNoWare_J16  w = some r9 → J g x (.returned (some (.int r9))) w 0 0 w 0 0 16 [none, none, none] [] := by
    intro  hF
    unfold F_X0_whyNoWare_J16 at hF
    refine j_iconst (v := 0) B dX0_whyNoWare_16 (by decide) ?_
    refine j_goto (tgt := 48) B dX0_whyNoWare_17 (by decide) ?_
    exact j_lI B rfl dX0_whyNoWare_48 hF (by decide) (by decide)
  refine j_aload_n B dX0_whyNoWare_0 rfl ?_
  refine j_iload_n B dX0_whyNoWare_1 rfl ?_
  obtain ⟨i2, e2, hF⟩ := bo hF
  refine j_rV (st2 := [.int i2]) B [.int x1] [] cv_X0_161 dX0_whyNoWare_2 hl hR (ct_X0_isCarrier G e2) rfl rfl rfl rfl trivial (Nat.le_of_ble_eq_true rfl) ?_
  refine j_if_eq (tgt := 16) B dX0_whyNoWare_5 (by decide) hF (fun h5 hF => ?_) (fun h5 hF => ?_)
  · refine j_msk [false, false, false] rfl ?_
    exact jb16  hF
  · refine j_aload_n B dX0_whyNoWare_8 rfl ?_
    refine j_iload_n B dX0_whyNoWare_9 rfl ?_
    obtain ⟨i10, e10, hF⟩ := bo hF
    refine j_rV (st2 := [.int i10]) B [.int x2] [] cv_X0_233 dX0_whyNoWare_10 hl hR (ct_X0_isWare G e10) rfl rfl rfl rfl trivial (Nat.le_of_ble_eq_true rfl) ?_
    refine j_if_ne (tgt := 20) B dX0_whyNoWare_13 (by decide) hF (fun h13 hF => ?_) (fun h13 hF => ?_)
    · refine j_aload_n B dX0_whyNoWare_20 rfl ?_
      refine j_getA B fl_X0_61 dX0_whyNoWare_21 hF (fun a21p hF => ?_)
      refine j_getA B fl_X0_236 dX0_whyNoWare_24 hF (fun a24p hF => ?_)
      refine j_iconst (v := 1) B dX0_whyNoWare_27 (by decide) ?_
      refine j_aaload B 103 rfl rfl dX0_whyNoWare_28 hF (fun a28p hF => ?_)
      refine j_iload_n B dX0_whyNoWare_29 rfl ?_
      refine j_iaload B dX0_whyNoWare_30 hF (fun i30 hF => ?_)
      refine j_iconst (v := (-1)) B dX0_whyNoWare_31 (by decide) ?_
      refine j_icmp_ne (tgt := 47) B dX0_whyNoWare_32 (by decide) hF (fun h32 hF => ?_) (fun h32 hF => ?_)
      · refine j_iconst (v := 4) B dX0_whyNoWare_47 (by decide) ?_
        exact j_lI B rfl dX0_whyNoWare_48 hF (by decide) (by decide)
      · refine j_aload_n B dX0_whyNoWare_35 rfl ?_
        refine j_iload_n B dX0_whyNoWare_36 rfl ?_
        obtain ⟨i37, e37, hF⟩ := bo hF
        refine j_rV (st2 := [.int i37]) B [.int x1] [] cv_X0_306 dX0_whyNoWare_37 hl hR (ct_X0_isEmpty G e37) rfl rfl rfl rfl trivial (Nat.le_of_ble_eq_true rfl) ?_
        refine j_if_eq (tgt := 47) B dX0_whyNoWare_40 (by decide) hF (fun h40 hF => ?_) (fun h40 hF => ?_)
        · refine j_iconst (v := 4) B dX0_whyNoWare_47 (by decide) ?_
          exact j_lI B rfl dX0_whyNoWare_48 hF (by decide) (by decide)
        · refine j_iconst (v := (-1)) B dX0_whyNoWare_43 (by decide) ?_
          refine j_goto (tgt := 48) B dX0_whyNoWare_44 (by decide) ?_
          exact j_lI B rfl dX0_whyNoWare_48 hF (by decide) (by decide)
    · refine j_msk [false, false, false] rfl ?_
      exact jb16  hF
theorem fp_X0_318 : FP "CarryFair" 318 0 17 .int false := ⟨RX0, TX0, 20, rfl, by decide, in_X0, Or.inl q456, rfl, (fun h => by cases h), by decide +kernel, ap_X0, tyX0, tyX0_ok⟩
def F_X0_shortestFor_J136 (rc45 : (Option Nat) → Int32 → Int32 → Int32 → Int32 → Int32 → cH → Option (Int32 × cH)) (a0 : Option Nat) (x1 : Int32) (x3 : Int32) (x4 : Int32) (x5 : Int32) (x6 : Int32) (w : cH) : Option (Int32 × cH) :=
  rc45 a0 x1 x3 x4 x5 (x6 + 1) w
def F_X0_shortestFor_J126 (rc45 : (Option Nat) → Int32 → Int32 → Int32 → Int32 → Int32 → cH → Option (Int32 × cH)) (a0 : Option Nat) (x1 : Int32) (x3 : Int32) (x4 : Int32) (x6 : Int32) (x8 : Int32) (w : cH) : Option (Int32 × cH) :=
  (pV w a0 0 17 (.int x6)).bind fun w133 => F_X0_shortestFor_J136  rc45 a0 x1 x3 x4 x8 x6 w133
def F_X0_shortestFor_J105 (rc45 : (Option Nat) → Int32 → Int32 → Int32 → Int32 → Int32 → cH → Option (Int32 × cH)) (a0 : Option Nat) (x1 : Int32) (x3 : Int32) (x4 : Int32) (x5 : Int32) (x6 : Int32) (s0 : Int32) (w : cH) : Option (Int32 × cH) :=
  if s0 = (-1) then (F_X0_shortestFor_J136  rc45 a0 x1 x3 x4 x5 x6 w) else (if x5 = (-1) then (F_X0_shortestFor_J126  rc45 a0 x1 x3 x4 x6 s0 w) else (if x5 ≤ s0 then (F_X0_shortestFor_J136  rc45 a0 x1 x3 x4 x5 x6 w) else (F_X0_shortestFor_J126  rc45 a0 x1 x3 x4 x6 s0 w)))
def F_X0_shortestFor_J87 (rc45 : (Option Nat) → Int32 → Int32 → Int32 → Int32 → Int32 → cH → Option (Int32 × cH)) (a0 : Option Nat) (x1 : Int32) (x3 : Int32) (x4 : Int32) (x5 : Int32) (x6 : Int32) (s0 : Int32) (w : cH) : Option (Int32 × cH) :=
  if s0 = 0 then (F_X0_shortestFor_J105  rc45 a0 x1 x3 x4 x5 x6 (-1) w) else (cb (F_X0_roundOf a0 x1 x6 w) fun i98 w98 => F_X0_shortestFor_J105  rc45 a0 x1 x3 x4 x5 x6 i98 w98)
def F_X0_shortestFor_J86 (rc45 : (Option Nat) → Int32 → Int32 → Int32 → Int32 → Int32 → cH → Option (Int32 × cH)) (a0 : Option Nat) (x1 : Int32) (x3 : Int32) (x4 : Int32) (x5 : Int32) (x6 : Int32) (w : cH) : Option (Int32 × cH) :=
  F_X0_shortestFor_J87  rc45 a0 x1 x3 x4 x5 x6 0 w
def F_X0_shortestFor_B45 (rc45 : Option Nat → Int32 → Int32 → Int32 → Int32 → Int32 → cH → Option (Int32 × cH)) (a0 : Option Nat) (x1 : Int32) (x3 : Int32) (x4 : Int32) (x5 : Int32) (x6 : Int32) (w : cH) : Option (Int32 × cH) :=
  if x4 < x6 then (some (x5, w)) else (if ¬ (x6 &&& (x4 ^^^ (-1))) = 0 then (F_X0_shortestFor_J86  rc45 a0 x1 x3 x4 x5 x6 w) else ((F_X0_isFew a0 x6 w).bind fun i65 =>if i65 = 0 then (F_X0_shortestFor_J86  rc45 a0 x1 x3 x4 x5 x6 w) else (cb (F_X0_getsFor a0 x1 x6 w) fun i75 w75 =>if i75 < x3 then (F_X0_shortestFor_J86  rc45 a0 x1 x3 x4 x5 x6 w75) else (F_X0_shortestFor_J87  rc45 a0 x1 x3 x4 x5 x6 1 w75))))
def F_X0_shortestFor_L45 : Nat → Option Nat → Int32 → Int32 → Int32 → Int32 → Int32 → cH → Option (Int32 × cH)
  | 0, _, _, _, _, _, _, _ => none
  | n9 + 1, a0, x1, x3, x4, x5, x6, w => F_X0_shortestFor_B45  (F_X0_shortestFor_L45  n9) a0 x1 x3 x4 x5 x6 w
def F_X0_shortestFor (a0 : Option Nat) (x1 : Int32) (x2 : Int32) (w : cH) : Option (Int32 × cH) :=
  if tg w a0 = some 0 then ((fA w a0 0 3).bind fun a1p => (fA w a1p 4 5).bind fun a4p => (aA w a4p 103 0).bind fun a8p => (aI w a8p 100 x2).bind fun i10 => (fA w a0 0 3).bind fun a12p => (fA w a12p 4 1).bind fun a15p => (aA w a15p 103 3).bind fun a19p => (aI w a19p 100 x1).bind fun i21 => (fA w a0 0 3).bind fun a25p => (F_X4_being a25p 0 w).bind fun i29 => (pV w a0 0 17 (.int (-1))).bind fun w39 => F_X0_shortestFor_L45  fu a0 x1 (i10 - i21) i29 (-1) 0 w39) else none
abbrev rm_X0_shortestFor : Room := { frames := 6, cells := 0, slots := 0, locals := 142 }
set_option maxHeartbeats 4000000 in
set_option maxRecDepth 100000 in
theorem ct_X0_shortestFor {l : Launch} {g : Gt} (G : Gok g) {a0 : Option Nat} {x1 : Int32} {x2 : Int32} {w : cH} {r9 : Int32} {w9 : cH} (hF : F_X0_shortestFor a0 x1 x2 w = some (r9, w9)) : tg w a0 = some 0 ∧ Mx l yX0_shortestFor (ws_ yX0_shortestFor cX0_shortestFor 9 (some .int)) rm_X0_shortestFor g [va_rf a0, .int x1, .int x2] w (.returned (some (.int r9))) w9 0 0 := by
  unfold F_X0_shortestFor at hF
  obtain ⟨ht, hF⟩ := bg hF
  refine ⟨ht, mk_ct cX0_shortestFor 9 (some .int) "CarryFair" (plainFor_of_name (by decide)) rfl (lg_le ⟨cr _, rfl, rfl, trivial⟩ (Nat.le_of_ble_eq_true rfl)) (av_ok ⟨cr _, rfl, rfl, trivial⟩) G (fun x B hl hR hin hh => ?_)⟩
  show J g x _ _ 0 0 w 0 0 0 [some (va_rf a0), some (.int x1), some (.int x2), none, none, none, none, none, none] []
  have lp45 : ∀ (n9 : Nat) (a0 : Option Nat) (x1 : Int32) (x3 : Int32) (x4 : Int32) (x5 : Int32) (x6 : Int32) (w : cH), F_X0_shortestFor_L45  n9 a0 x1 x3 x4 x5 x6 w = some (r9, w9) → J g x (.returned (some (.int r9))) w9 0 0 w 0 0 45 [some (va_rf a0), some (.int x1), none, some (.int x3), some (.int x4), some (.int x5), some (.int x6), none, none] [] := by
    intro n9
    induction n9 with
    | zero => intro a0 x1 x3 x4 x5 x6 w hF; cases hF
    | succ n45 ih45 =>
      intro a0 x1 x3 x4 x5 x6 w hF
      have hF : F_X0_shortestFor_B45  (F_X0_shortestFor_L45  n45) a0 x1 x3 x4 x5 x6 w = some (r9, w9) := hF
      unfold F_X0_shortestFor_B45 at hF
      have jb136 : ∀ (a0 : Option Nat) (x1 : Int32) (x3 : Int32) (x4 : Int32) (x5 : Int32) (x6 : Int32) (w : cH), F_X0_shortestFor_J136  (F_X0_shortestFor_L45  n45) a0 x1 x3 x4 x5 x6 w = some (r9, w9) → J g x (.returned (some (.int r9))) w9 0 0 w 0 0 136 [some (va_rf a0), some (.int x1), none, some (.int x3), some (.int x4), some (.int x5), some (.int x6), none, none] [] := by
        intro a0 x1 x3 x4 x5 x6 w hF
        unfold F_X0_shortestFor_J136 at hF
        refine j_iinc (v := x6 + 1) (vs' := [some (va_rf a0), some (.int x1), none, some (.int x3), some (.int x4), some (.int x5), some (.int (x6 + 1)), none, none]) B dX0_shortestFor_136 (by decide) rfl rfl rfl ?_
        refine j_goto (tgt := 45) B dX0_shortestFor_139 (by decide) ?_
        exact ih45 a0 x1 x3 x4 x5 (x6 + 1) w hF
      have jb126 : ∀ (a0 : Option Nat) (x1 : Int32) (x3 : Int32) (x4 : Int32) (x6 : Int32) (x8 : Int32) (w : cH), F_X0_shortestFor_J126  (F_X0_shortestFor_L45  n45) a0 x1 x3 x4 x6 x8 w = some (r9, w9) → J g x (.returned (some (.int r9))) w9 0 0 w 0 0 126 [some (va_rf a0), some (.int x1), none, some (.int x3), some (.int x4), none, some (.int x6), none, some (.int x8)] [] := by
        intro a0 x1 x3 x4 x6 x8 w hF
        unfold F_X0_shortestFor_J126 at hF
        refine j_iload B dX0_shortestFor_126 rfl ?_
        refine j_istore (vs' := [some (va_rf a0), some (.int x1), none, some (.int x3), some (.int x4), some (.int x8), some (.int x6), none, some (.int x8)]) B dX0_shortestFor_128 (by decide) rfl ?_
        refine j_aload_n B dX0_shortestFor_130 rfl ?_
        refine j_iload B dX0_shortestFor_131 rfl ?_
        refine j_putV B fp_X0_318 (fun h => by cases h) rfl rfl dX0_shortestFor_133 hF (fun w133 hF => ?_)
        refine j_msk [true, true, false, true, true, true, true, false, false] rfl ?_
        exact jb136 a0 x1 x3 x4 x8 x6 w133 hF
      have jb105 : ∀ (a0 : Option Nat) (x1 : Int32) (x3 : Int32) (x4 : Int32) (x5 : Int32) (x6 : Int32) (s0 : Int32) (w : cH), F_X0_shortestFor_J105  (F_X0_shortestFor_L45  n45) a0 x1 x3 x4 x5 x6 s0 w = some (r9, w9) → J g x (.returned (some (.int r9))) w9 0 0 w 0 0 105 [some (va_rf a0), some (.int x1), none, some (.int x3), some (.int x4), some (.int x5), some (.int x6), none, none] [.int s0] := by
        intro a0 x1 x3 x4 x5 x6 s0 w hF
        unfold F_X0_shortestFor_J105 at hF
        refine j_istore (vs' := [some (va_rf a0), some (.int x1), none, some (.int x3), some (.int x4), some (.int x5), some (.int x6), none, some (.int s0)]) B dX0_shortestFor_105 (by decide) rfl ?_
        refine j_iload B dX0_shortestFor_107 rfl ?_
        refine j_iconst (v := (-1)) B dX0_shortestFor_109 (by decide) ?_
        refine j_icmp_eq (tgt := 136) B dX0_shortestFor_110 (by decide) hF (fun h110 hF => ?_) (fun h110 hF => ?_)
        · refine j_msk [true, true, false, true, true, true, true, false, false] rfl ?_
          exact jb136 a0 x1 x3 x4 x5 x6 w hF
        · refine j_iload B dX0_shortestFor_113 rfl ?_
          refine j_iconst (v := (-1)) B dX0_shortestFor_115 (by decide) ?_
          refine j_icmp_eq (tgt := 126) B dX0_shortestFor_116 (by decide) hF (fun h116 hF => ?_) (fun h116 hF => ?_)
          · refine j_msk [true, true, false, true, true, false, true, false, true] rfl ?_
            exact jb126 a0 x1 x3 x4 x6 s0 w hF
          · refine j_iload B dX0_shortestFor_119 rfl ?_
            refine j_iload B dX0_shortestFor_121 rfl ?_
            refine j_icmp_ge (tgt := 136) B dX0_shortestFor_123 (by decide) hF (fun h123 hF => ?_) (fun h123 hF => ?_)
            · refine j_msk [true, true, false, true, true, true, true, false, false] rfl ?_
              exact jb136 a0 x1 x3 x4 x5 x6 w hF
            · refine j_msk [true, true, false, true, true, false, true, false, true] rfl ?_
              exact jb126 a0 x1 x3 x4 x6 s0 w hF
      have jb87 : ∀ (a0 : Option Nat) (x1 : Int32) (x3 : Int32) (x4 : Int32) (x5 : Int32) (x6 : Int32) (s0 : Int32) (w : cH), F_X0_shortestFor_J87  (F_X0_shortestFor_L45  n45) a0 x1 x3 x4 x5 x6 s0 w = some (r9, w9) → J g x (.returned (some (.int r9))) w9 0 0 w 0 0 87 [some (va_rf a0), some (.int x1), none, some (.int x3), some (.int x4), some (.int x5), some (.int x6), none, none] [.int s0] := by
        intro a0 x1 x3 x4 x5 x6 s0 w hF
        unfold F_X0_shortestFor_J87 at hF
        refine j_istore (vs' := [some (va_rf a0), some (.int x1), none, some (.int x3), some (.int x4), some (.int x5), some (.int x6), some (.int s0), none]) B dX0_shortestFor_87 (by decide) rfl ?_
        refine j_iload B dX0_shortestFor_89 rfl ?_
        refine j_if_eq (tgt := 104) B dX0_shortestFor_91 (by decide) hF (fun h91 hF => ?_) (fun h91 hF => ?_)
        · refine j_iconst (v := (-1)) B dX0_shortestFor_104 (by decide) ?_
          refine j_msk [true, true, false, true, true, true, true, false, false] rfl ?_
          exact jb105 a0 x1 x3 x4 x5 x6 (-1) w hF
        · refine j_aload_n B dX0_shortestFor_94 rfl ?_
          refine j_iload_n B dX0_shortestFor_95 rfl ?_
          refine j_iload B dX0_shortestFor_96 rfl ?_
          obtain ⟨i98, w98, e98, hF⟩ := bc hF
          refine j_rV (st2 := [.int i98]) B [.int x1, .int x6] [] cv_X0_312 dX0_shortestFor_98 hl hR (ct_X0_roundOf G e98) rfl rfl rfl rfl trivial (Nat.le_of_ble_eq_true rfl) ?_
          refine j_goto (tgt := 105) B dX0_shortestFor_101 (by decide) ?_
          refine j_msk [true, true, false, true, true, true, true, false, false] rfl ?_
          exact jb105 a0 x1 x3 x4 x5 x6 i98 w98 hF
      have jb86 : ∀ (a0 : Option Nat) (x1 : Int32) (x3 : Int32) (x4 : Int32) (x5 : Int32) (x6 : Int32) (w : cH), F_X0_shortestFor_J86  (F_X0_shortestFor_L45  n45) a0 x1 x3 x4 x5 x6 w = some (r9, w9) → J g x (.returned (some (.int r9))) w9 0 0 w 0 0 86 [some (va_rf a0), some (.int x1), none, some (.int x3), some (.int x4), some (.int x5), some (.int x6), none, none] [] := by
        intro a0 x1 x3 x4 x5 x6 w hF
        unfold F_X0_shortestFor_J86 at hF
        refine j_iconst (v := 0) B dX0_shortestFor_86 (by decide) ?_
        exact jb87 a0 x1 x3 x4 x5 x6 0 w hF
      refine j_iload B dX0_shortestFor_45 rfl ?_
      refine j_iload B dX0_shortestFor_47 rfl ?_
      refine j_icmp_gt (tgt := 142) B dX0_shortestFor_49 (by decide) hF (fun h49 hF => ?_) (fun h49 hF => ?_)
      · refine j_iload B dX0_shortestFor_142 rfl ?_
        exact j_lIw B rfl dX0_shortestFor_144 hF (by decide) (by decide)
      · refine j_iload B dX0_shortestFor_52 rfl ?_
        refine j_iload B dX0_shortestFor_54 rfl ?_
        refine j_iconst (v := (-1)) B dX0_shortestFor_56 (by decide) ?_
        refine j_ixor B dX0_shortestFor_57 ?_
        refine j_iand B dX0_shortestFor_58 ?_
        refine j_if_ne (tgt := 86) B dX0_shortestFor_59 (by decide) hF (fun h59 hF => ?_) (fun h59 hF => ?_)
        · exact jb86 a0 x1 x3 x4 x5 x6 w hF
        · refine j_aload_n B dX0_shortestFor_62 rfl ?_
          refine j_iload B dX0_shortestFor_63 rfl ?_
          obtain ⟨i65, e65, hF⟩ := bo hF
          refine j_rV (st2 := [.int i65]) B [.int x6] [] cv_X0_300 dX0_shortestFor_65 hl hR (ct_X0_isFew G e65) rfl rfl rfl rfl trivial (Nat.le_of_ble_eq_true rfl) ?_
          refine j_if_eq (tgt := 86) B dX0_shortestFor_68 (by decide) hF (fun h68 hF => ?_) (fun h68 hF => ?_)
          · exact jb86 a0 x1 x3 x4 x5 x6 w hF
          · refine j_aload_n B dX0_shortestFor_71 rfl ?_
            refine j_iload_n B dX0_shortestFor_72 rfl ?_
            refine j_iload B dX0_shortestFor_73 rfl ?_
            obtain ⟨i75, w75, e75, hF⟩ := bc hF
            refine j_rV (st2 := [.int i75]) B [.int x1, .int x6] [] cv_X0_315 dX0_shortestFor_75 hl hR (ct_X0_getsFor G e75) rfl rfl rfl rfl trivial (Nat.le_of_ble_eq_true rfl) ?_
            refine j_iload_n B dX0_shortestFor_78 rfl ?_
            refine j_icmp_lt (tgt := 86) B dX0_shortestFor_79 (by decide) hF (fun h79 hF => ?_) (fun h79 hF => ?_)
            · exact jb86 a0 x1 x3 x4 x5 x6 w75 hF
            · refine j_iconst (v := 1) B dX0_shortestFor_82 (by decide) ?_
              refine j_goto (tgt := 87) B dX0_shortestFor_83 (by decide) ?_
              exact jb87 a0 x1 x3 x4 x5 x6 1 w75 hF
  refine j_aload_n B dX0_shortestFor_0 rfl ?_
  refine j_getA B fl_X0_61 dX0_shortestFor_1 hF (fun a1p hF => ?_)
  refine j_getA B fl_X0_236 dX0_shortestFor_4 hF (fun a4p hF => ?_)
  refine j_iconst (v := 0) B dX0_shortestFor_7 (by decide) ?_
  refine j_aaload B 103 rfl rfl dX0_shortestFor_8 hF (fun a8p hF => ?_)
  refine j_iload_n B dX0_shortestFor_9 rfl ?_
  refine j_iaload B dX0_shortestFor_10 hF (fun i10 hF => ?_)
  refine j_aload_n B dX0_shortestFor_11 rfl ?_
  refine j_getA B fl_X0_61 dX0_shortestFor_12 hF (fun a12p hF => ?_)
  refine j_getA B fl_X0_113 dX0_shortestFor_15 hF (fun a15p hF => ?_)
  refine j_iconst (v := 3) B dX0_shortestFor_18 (by decide) ?_
  refine j_aaload B 103 rfl rfl dX0_shortestFor_19 hF (fun a19p hF => ?_)
  refine j_iload_n B dX0_shortestFor_20 rfl ?_
  refine j_iaload B dX0_shortestFor_21 hF (fun i21 hF => ?_)
  refine j_isub B dX0_shortestFor_22 ?_
  refine j_istore_n (vs' := [some (va_rf a0), some (.int x1), some (.int x2), some (.int (i10 - i21)), none, none, none, none, none]) B dX0_shortestFor_23 (by decide) rfl ?_
  refine j_aload_n B dX0_shortestFor_24 rfl ?_
  refine j_getA B fl_X0_61 dX0_shortestFor_25 hF (fun a25p hF => ?_)
  refine j_iconst (v := 0) B dX0_shortestFor_28 (by decide) ?_
  obtain ⟨i29, e29, hF⟩ := bo hF
  refine j_rV (st2 := [.int i29]) B [.int 0] [] cv_X0_270 dX0_shortestFor_29 hl hR (ct_X4_being G e29) rfl rfl rfl rfl trivial (Nat.le_of_ble_eq_true rfl) ?_
  refine j_istore (vs' := [some (va_rf a0), some (.int x1), some (.int x2), some (.int (i10 - i21)), some (.int i29), none, none, none, none]) B dX0_shortestFor_32 (by decide) rfl ?_
  refine j_iconst (v := (-1)) B dX0_shortestFor_34 (by decide) ?_
  refine j_istore (vs' := [some (va_rf a0), some (.int x1), some (.int x2), some (.int (i10 - i21)), some (.int i29), some (.int (-1)), none, none, none]) B dX0_shortestFor_35 (by decide) rfl ?_
  refine j_aload_n B dX0_shortestFor_37 rfl ?_
  refine j_iconst (v := (-1)) B dX0_shortestFor_38 (by decide) ?_
  refine j_putV B fp_X0_318 (fun h => by cases h) rfl rfl dX0_shortestFor_39 hF (fun w39 hF => ?_)
  refine j_iconst (v := 0) B dX0_shortestFor_42 (by decide) ?_
  refine j_istore (vs' := [some (va_rf a0), some (.int x1), some (.int x2), some (.int (i10 - i21)), some (.int i29), some (.int (-1)), some (.int 0), none, none]) B dX0_shortestFor_43 (by decide) rfl ?_
  refine j_msk [true, true, false, true, true, true, true, false, false] rfl ?_
  exact lp45 fu a0 x1 (i10 - i21) i29 (-1) 0 w39 hF
theorem cv_X0_321 : CV "CarryFair" 321 0 yX0_whyNoWare cX0_whyNoWare 3 (some .int) 2 := ⟨_, _, rfl, lw_V q914 q916 qs32 q126 q917, by decide +kernel⟩
theorem cv_X0_324 : CV "CarryFair" 324 0 yX0_shortestFor cX0_shortestFor 9 (some .int) 2 := ⟨_, _, rfl, lw_V q918 q920 qs33 q126 q921, by decide +kernel⟩
def F_X0_cheapest (a0 : Option Nat) (x1 : Int32) (x2 : Int32) (w : cH) : Option (Int32 × cH) :=
  if tg w a0 = some 0 then ((F_X0_whyNoWare a0 x1 x2 w).bind fun i3 =>if ¬ i3 = (-1) then (cb (F_X0_finding a0 i3 w) fun i27 w27 => some (i27, w27)) else (cb (F_X0_shortestFor a0 x1 x2 w) fun i16 w16 => cb (F_X0_orNone a0 i16 w16) fun i19 w19 => some (i19, w19))) else none
abbrev rm_X0_cheapest : Room := { frames := 7, cells := 0, slots := 0, locals := 170 }
set_option maxHeartbeats 4000000 in
set_option maxRecDepth 100000 in
theorem ct_X0_cheapest {l : Launch} {g : Gt} (G : Gok g) {a0 : Option Nat} {x1 : Int32} {x2 : Int32} {w : cH} {r9 : Int32} {w9 : cH} (hF : F_X0_cheapest a0 x1 x2 w = some (r9, w9)) : tg w a0 = some 0 ∧ Mx l yX0_cheapest (ws_ yX0_cheapest cX0_cheapest 4 (some .int)) rm_X0_cheapest g [va_rf a0, .int x1, .int x2] w (.returned (some (.int r9))) w9 0 0 := by
  unfold F_X0_cheapest at hF
  obtain ⟨ht, hF⟩ := bg hF
  refine ⟨ht, mk_ct cX0_cheapest 4 (some .int) "CarryFair" (plainFor_of_name (by decide)) rfl (lg_le ⟨cr _, rfl, rfl, trivial⟩ (Nat.le_of_ble_eq_true rfl)) (av_ok ⟨cr _, rfl, rfl, trivial⟩) G (fun x B hl hR hin hh => ?_)⟩
  show J g x _ _ 0 0 w 0 0 0 [some (va_rf a0), some (.int x1), some (.int x2), none] []
  refine j_aload_n B dX0_cheapest_0 rfl ?_
  refine j_iload_n B dX0_cheapest_1 rfl ?_
  refine j_iload_n B dX0_cheapest_2 rfl ?_
  obtain ⟨i3, e3, hF⟩ := bo hF
  refine j_rV (st2 := [.int i3]) B [.int x1, .int x2] [] cv_X0_321 dX0_cheapest_3 hl hR (ct_X0_whyNoWare G e3) rfl rfl rfl rfl trivial (Nat.le_of_ble_eq_true rfl) ?_
  refine j_istore_n (vs' := [some (va_rf a0), some (.int x1), some (.int x2), some (.int i3)]) B dX0_cheapest_6 (by decide) rfl ?_
  refine j_iload_n B dX0_cheapest_7 rfl ?_
  refine j_iconst (v := (-1)) B dX0_cheapest_8 (by decide) ?_
  refine j_icmp_ne (tgt := 25) B dX0_cheapest_9 (by decide) hF (fun h9 hF => ?_) (fun h9 hF => ?_)
  · refine j_aload_n B dX0_cheapest_25 rfl ?_
    refine j_iload_n B dX0_cheapest_26 rfl ?_
    obtain ⟨i27, w27, e27, hF⟩ := bc hF
    refine j_rV (st2 := [.int i27]) B [.int i3] [] cv_X0_142 dX0_cheapest_27 hl hR (ct_X0_finding G e27) rfl rfl rfl rfl trivial (Nat.le_of_ble_eq_true rfl) ?_
    exact j_lIw B rfl dX0_cheapest_30 hF (by decide) (by decide)
  · refine j_aload_n B dX0_cheapest_12 rfl ?_
    refine j_aload_n B dX0_cheapest_13 rfl ?_
    refine j_iload_n B dX0_cheapest_14 rfl ?_
    refine j_iload_n B dX0_cheapest_15 rfl ?_
    obtain ⟨i16, w16, e16, hF⟩ := bc hF
    refine j_rV (st2 := [.int i16, va_rf a0]) B [.int x1, .int x2] [va_rf a0] cv_X0_324 dX0_cheapest_16 hl hR (ct_X0_shortestFor G e16) rfl rfl rfl rfl ⟨cr _, trivial⟩ (Nat.le_of_ble_eq_true rfl) ?_
    obtain ⟨i19, w19, e19, hF⟩ := bc hF
    refine j_rV (st2 := [.int i19]) B [.int i16] [] cv_X0_223 dX0_cheapest_19 hl hR (ct_X0_orNone G e19) rfl rfl rfl rfl trivial (Nat.le_of_ble_eq_true rfl) ?_
    refine j_goto (tgt := 30) B dX0_cheapest_22 (by decide) ?_
    exact j_lIw B rfl dX0_cheapest_30 hF (by decide) (by decide)
theorem fl_X0_318 : FL "CarryFair" 318 0 17 := ⟨RX0, TX0, 20, rfl, by decide, in_X0, Or.inl q456⟩
def F_X0_which (a0 : Option Nat) (x1 : Int32) (x2 : Int32) (w : cH) : Option (Int32 × cH) :=
  if tg w a0 = some 0 then ((F_X0_whyNoWare a0 x1 x2 w).bind fun i3 =>if i3 = (-1) then (cb (F_X0_shortestFor a0 x1 x2 w) fun i21 w21 =>if ¬ i21 = (-1) then ((fI w21 a0 0 17).bind fun i37 => some (i37, w21)) else (cb (F_X0_finding a0 3 w21) fun i30 w30 => some (i30, w30))) else (cb (F_X0_finding a0 i3 w) fun i14 w14 => some (i14, w14))) else none
abbrev rm_X0_which : Room := { frames := 7, cells := 0, slots := 0, locals := 170 }
set_option maxHeartbeats 4000000 in
set_option maxRecDepth 100000 in
theorem ct_X0_which {l : Launch} {g : Gt} (G : Gok g) {a0 : Option Nat} {x1 : Int32} {x2 : Int32} {w : cH} {r9 : Int32} {w9 : cH} (hF : F_X0_which a0 x1 x2 w = some (r9, w9)) : tg w a0 = some 0 ∧ Mx l yX0_which (ws_ yX0_which cX0_which 4 (some .int)) rm_X0_which g [va_rf a0, .int x1, .int x2] w (.returned (some (.int r9))) w9 0 0 := by
  unfold F_X0_which at hF
  obtain ⟨ht, hF⟩ := bg hF
  refine ⟨ht, mk_ct cX0_which 4 (some .int) "CarryFair" (plainFor_of_name (by decide)) rfl (lg_le ⟨cr _, rfl, rfl, trivial⟩ (Nat.le_of_ble_eq_true rfl)) (av_ok ⟨cr _, rfl, rfl, trivial⟩) G (fun x B hl hR hin hh => ?_)⟩
  show J g x _ _ 0 0 w 0 0 0 [some (va_rf a0), some (.int x1), some (.int x2), none] []
  refine j_aload_n B dX0_which_0 rfl ?_
  refine j_iload_n B dX0_which_1 rfl ?_
  refine j_iload_n B dX0_which_2 rfl ?_
  obtain ⟨i3, e3, hF⟩ := bo hF
  refine j_rV (st2 := [.int i3]) B [.int x1, .int x2] [] cv_X0_321 dX0_which_3 hl hR (ct_X0_whyNoWare G e3) rfl rfl rfl rfl trivial (Nat.le_of_ble_eq_true rfl) ?_
  refine j_istore_n (vs' := [some (va_rf a0), some (.int x1), some (.int x2), some (.int i3)]) B dX0_which_6 (by decide) rfl ?_
  refine j_iload_n B dX0_which_7 rfl ?_
  refine j_iconst (v := (-1)) B dX0_which_8 (by decide) ?_
  refine j_icmp_eq (tgt := 18) B dX0_which_9 (by decide) hF (fun h9 hF => ?_) (fun h9 hF => ?_)
  · refine j_aload_n B dX0_which_18 rfl ?_
    refine j_iload_n B dX0_which_19 rfl ?_
    refine j_iload_n B dX0_which_20 rfl ?_
    obtain ⟨i21, w21, e21, hF⟩ := bc hF
    refine j_rV (st2 := [.int i21]) B [.int x1, .int x2] [] cv_X0_324 dX0_which_21 hl hR (ct_X0_shortestFor G e21) rfl rfl rfl rfl trivial (Nat.le_of_ble_eq_true rfl) ?_
    refine j_iconst (v := (-1)) B dX0_which_24 (by decide) ?_
    refine j_icmp_ne (tgt := 36) B dX0_which_25 (by decide) hF (fun h25 hF => ?_) (fun h25 hF => ?_)
    · refine j_aload_n B dX0_which_36 rfl ?_
      refine j_getI B fl_X0_318 dX0_which_37 hF (fun i37 hF => ?_)
      exact j_lIw B rfl dX0_which_40 hF (by decide) (by decide)
    · refine j_aload_n B dX0_which_28 rfl ?_
      refine j_iconst (v := 3) B dX0_which_29 (by decide) ?_
      obtain ⟨i30, w30, e30, hF⟩ := bc hF
      refine j_rV (st2 := [.int i30]) B [.int 3] [] cv_X0_142 dX0_which_30 hl hR (ct_X0_finding G e30) rfl rfl rfl rfl trivial (Nat.le_of_ble_eq_true rfl) ?_
      refine j_goto (tgt := 40) B dX0_which_33 (by decide) ?_
      exact j_lIw B rfl dX0_which_40 hF (by decide) (by decide)
  · refine j_aload_n B dX0_which_12 rfl ?_
    refine j_iload_n B dX0_which_13 rfl ?_
    obtain ⟨i14, w14, e14, hF⟩ := bc hF
    refine j_rV (st2 := [.int i14]) B [.int i3] [] cv_X0_142 dX0_which_14 hl hR (ct_X0_finding G e14) rfl rfl rfl rfl trivial (Nat.le_of_ble_eq_true rfl) ?_
    exact j_lIw B rfl dX0_which_17 hF (by decide) (by decide)
def F_X0_whoShortest_J84 (rc8 : (Option Nat) → Int32 → Int32 → Int32 → Int32 → cH → Option (Int32 × cH)) (a0 : Option Nat) (x1 : Int32) (x2 : Int32) (x4 : Int32) (s0 : Int32) (w : cH) : Option (Int32 × cH) :=
  rc8 a0 x1 x2 s0 (x4 + 1) w
def F_X0_whoShortest_J72 (rc8 : (Option Nat) → Int32 → Int32 → Int32 → Int32 → cH → Option (Int32 × cH)) (a0 : Option Nat) (x1 : Int32) (x3 : Int32) (x4 : Int32) (x5 : Int32) (x6 : Int32) (s0 : Int32) (w : cH) : Option (Int32 × cH) :=
  if x6 = 0 then (F_X0_whoShortest_J84  rc8 a0 x1 s0 x4 x3 w) else (F_X0_whoShortest_J84  rc8 a0 x1 s0 x4 x5 w)
def F_X0_whoShortest_J59 (rc8 : (Option Nat) → Int32 → Int32 → Int32 → Int32 → cH → Option (Int32 × cH)) (a0 : Option Nat) (x1 : Int32) (x2 : Int32) (x3 : Int32) (x4 : Int32) (x5 : Int32) (s0 : Int32) (w : cH) : Option (Int32 × cH) :=
  if s0 = 0 then (F_X0_whoShortest_J72  rc8 a0 x1 x3 x4 x5 s0 x2 w) else (F_X0_whoShortest_J72  rc8 a0 x1 x3 x4 x5 s0 x4 w)
def F_X0_whoShortest_J58 (rc8 : (Option Nat) → Int32 → Int32 → Int32 → Int32 → cH → Option (Int32 × cH)) (a0 : Option Nat) (x1 : Int32) (x2 : Int32) (x3 : Int32) (x4 : Int32) (x5 : Int32) (w : cH) : Option (Int32 × cH) :=
  F_X0_whoShortest_J59  rc8 a0 x1 x2 x3 x4 x5 0 w
def F_X0_whoShortest_J40 (rc8 : (Option Nat) → Int32 → Int32 → Int32 → Int32 → cH → Option (Int32 × cH)) (a0 : Option Nat) (x1 : Int32) (x2 : Int32) (x3 : Int32) (x4 : Int32) (s0 : Int32) (w : cH) : Option (Int32 × cH) :=
  if s0 = (-1) then (F_X0_whoShortest_J58  rc8 a0 x1 x2 x3 x4 s0 w) else (if x3 ≤ s0 then (F_X0_whoShortest_J58  rc8 a0 x1 x2 x3 x4 s0 w) else (F_X0_whoShortest_J59  rc8 a0 x1 x2 x3 x4 s0 1 w))
def F_X0_whoShortest_B8 (rc8 : Option Nat → Int32 → Int32 → Int32 → Int32 → cH → Option (Int32 × cH)) (a0 : Option Nat) (x1 : Int32) (x2 : Int32) (x3 : Int32) (x4 : Int32) (w : cH) : Option (Int32 × cH) :=
  (fA w a0 0 3).bind fun a11p => (fI w a11p 4 0).bind fun i14 =>if i14 ≤ x4 then (some (x2, w)) else ((F_X0_isEmpty a0 x4 w).bind fun i23 =>if i23 = 0 then (F_X0_whoShortest_J40  rc8 a0 x1 x2 x3 x4 (-1) w) else (cb (F_X0_roundOf a0 x4 x1 w) fun i33 w33 => F_X0_whoShortest_J40  rc8 a0 x1 x2 x3 x4 i33 w33))
def F_X0_whoShortest_L8 : Nat → Option Nat → Int32 → Int32 → Int32 → Int32 → cH → Option (Int32 × cH)
  | 0, _, _, _, _, _, _ => none
  | n9 + 1, a0, x1, x2, x3, x4, w => F_X0_whoShortest_B8  (F_X0_whoShortest_L8  n9) a0 x1 x2 x3 x4 w
def F_X0_whoShortest (a0 : Option Nat) (x1 : Int32) (w : cH) : Option (Int32 × cH) :=
  if tg w a0 = some 0 then (F_X0_whoShortest_L8  fu a0 x1 (-1) 1000000 0 w) else none
abbrev rm_X0_whoShortest : Room := { frames := 6, cells := 0, slots := 0, locals := 142 }
set_option maxHeartbeats 4000000 in
set_option maxRecDepth 100000 in
theorem ct_X0_whoShortest {l : Launch} {g : Gt} (G : Gok g) {a0 : Option Nat} {x1 : Int32} {w : cH} {r9 : Int32} {w9 : cH} (hF : F_X0_whoShortest a0 x1 w = some (r9, w9)) : tg w a0 = some 0 ∧ Mx l yX0_whoShortest (ws_ yX0_whoShortest cX0_whoShortest 7 (some .int)) rm_X0_whoShortest g [va_rf a0, .int x1] w (.returned (some (.int r9))) w9 0 0 := by
  unfold F_X0_whoShortest at hF
  obtain ⟨ht, hF⟩ := bg hF
  refine ⟨ht, mk_ct cX0_whoShortest 7 (some .int) "CarryFair" (plainFor_of_name (by decide)) rfl (lg_le ⟨cr _, rfl, trivial⟩ (Nat.le_of_ble_eq_true rfl)) (av_ok ⟨cr _, rfl, trivial⟩) G (fun x B hl hR hin hh => ?_)⟩
  show J g x _ _ 0 0 w 0 0 0 [some (va_rf a0), some (.int x1), none, none, none, none, none] []
  have lp8 : ∀ (n9 : Nat) (a0 : Option Nat) (x1 : Int32) (x2 : Int32) (x3 : Int32) (x4 : Int32) (w : cH), F_X0_whoShortest_L8  n9 a0 x1 x2 x3 x4 w = some (r9, w9) → J g x (.returned (some (.int r9))) w9 0 0 w 0 0 8 [some (va_rf a0), some (.int x1), some (.int x2), some (.int x3), some (.int x4), none, none] [] := by
    intro n9
    induction n9 with
    | zero => intro a0 x1 x2 x3 x4 w hF; cases hF
    | succ n8 ih8 =>
      intro a0 x1 x2 x3 x4 w hF
      have hF : F_X0_whoShortest_B8  (F_X0_whoShortest_L8  n8) a0 x1 x2 x3 x4 w = some (r9, w9) := hF
      unfold F_X0_whoShortest_B8 at hF
      have jb84 : ∀ (a0 : Option Nat) (x1 : Int32) (x2 : Int32) (x4 : Int32) (s0 : Int32) (w : cH), F_X0_whoShortest_J84  (F_X0_whoShortest_L8  n8) a0 x1 x2 x4 s0 w = some (r9, w9) → J g x (.returned (some (.int r9))) w9 0 0 w 0 0 84 [some (va_rf a0), some (.int x1), some (.int x2), none, some (.int x4), none, none] [.int s0] := by
        intro a0 x1 x2 x4 s0 w hF
        unfold F_X0_whoShortest_J84 at hF
        refine j_istore_n (vs' := [some (va_rf a0), some (.int x1), some (.int x2), some (.int s0), some (.int x4), none, none]) B dX0_whoShortest_84 (by decide) rfl ?_
        refine j_iinc (v := x4 + 1) (vs' := [some (va_rf a0), some (.int x1), some (.int x2), some (.int s0), some (.int (x4 + 1)), none, none]) B dX0_whoShortest_85 (by decide) rfl rfl rfl ?_
        refine j_goto (tgt := 8) B dX0_whoShortest_88 (by decide) ?_
        exact ih8 a0 x1 x2 s0 (x4 + 1) w hF
      have jb72 : ∀ (a0 : Option Nat) (x1 : Int32) (x3 : Int32) (x4 : Int32) (x5 : Int32) (x6 : Int32) (s0 : Int32) (w : cH), F_X0_whoShortest_J72  (F_X0_whoShortest_L8  n8) a0 x1 x3 x4 x5 x6 s0 w = some (r9, w9) → J g x (.returned (some (.int r9))) w9 0 0 w 0 0 72 [some (va_rf a0), some (.int x1), none, some (.int x3), some (.int x4), some (.int x5), some (.int x6)] [.int s0] := by
        intro a0 x1 x3 x4 x5 x6 s0 w hF
        unfold F_X0_whoShortest_J72 at hF
        refine j_istore_n (vs' := [some (va_rf a0), some (.int x1), some (.int s0), some (.int x3), some (.int x4), some (.int x5), some (.int x6)]) B dX0_whoShortest_72 (by decide) rfl ?_
        refine j_iload B dX0_whoShortest_73 rfl ?_
        refine j_if_eq (tgt := 83) B dX0_whoShortest_75 (by decide) hF (fun h75 hF => ?_) (fun h75 hF => ?_)
        · refine j_iload_n B dX0_whoShortest_83 rfl ?_
          refine j_msk [true, true, true, false, true, false, false] rfl ?_
          exact jb84 a0 x1 s0 x4 x3 w hF
        · refine j_iload B dX0_whoShortest_78 rfl ?_
          refine j_goto (tgt := 84) B dX0_whoShortest_80 (by decide) ?_
          refine j_msk [true, true, true, false, true, false, false] rfl ?_
          exact jb84 a0 x1 s0 x4 x5 w hF
      have jb59 : ∀ (a0 : Option Nat) (x1 : Int32) (x2 : Int32) (x3 : Int32) (x4 : Int32) (x5 : Int32) (s0 : Int32) (w : cH), F_X0_whoShortest_J59  (F_X0_whoShortest_L8  n8) a0 x1 x2 x3 x4 x5 s0 w = some (r9, w9) → J g x (.returned (some (.int r9))) w9 0 0 w 0 0 59 [some (va_rf a0), some (.int x1), some (.int x2), some (.int x3), some (.int x4), some (.int x5), none] [.int s0] := by
        intro a0 x1 x2 x3 x4 x5 s0 w hF
        unfold F_X0_whoShortest_J59 at hF
        refine j_istore (vs' := [some (va_rf a0), some (.int x1), some (.int x2), some (.int x3), some (.int x4), some (.int x5), some (.int s0)]) B dX0_whoShortest_59 (by decide) rfl ?_
        refine j_iload B dX0_whoShortest_61 rfl ?_
        refine j_if_eq (tgt := 71) B dX0_whoShortest_63 (by decide) hF (fun h63 hF => ?_) (fun h63 hF => ?_)
        · refine j_iload_n B dX0_whoShortest_71 rfl ?_
          refine j_msk [true, true, false, true, true, true, true] rfl ?_
          exact jb72 a0 x1 x3 x4 x5 s0 x2 w hF
        · refine j_iload B dX0_whoShortest_66 rfl ?_
          refine j_goto (tgt := 72) B dX0_whoShortest_68 (by decide) ?_
          refine j_msk [true, true, false, true, true, true, true] rfl ?_
          exact jb72 a0 x1 x3 x4 x5 s0 x4 w hF
      have jb58 : ∀ (a0 : Option Nat) (x1 : Int32) (x2 : Int32) (x3 : Int32) (x4 : Int32) (x5 : Int32) (w : cH), F_X0_whoShortest_J58  (F_X0_whoShortest_L8  n8) a0 x1 x2 x3 x4 x5 w = some (r9, w9) → J g x (.returned (some (.int r9))) w9 0 0 w 0 0 58 [some (va_rf a0), some (.int x1), some (.int x2), some (.int x3), some (.int x4), some (.int x5), none] [] := by
        intro a0 x1 x2 x3 x4 x5 w hF
        unfold F_X0_whoShortest_J58 at hF
        refine j_iconst (v := 0) B dX0_whoShortest_58 (by decide) ?_
        exact jb59 a0 x1 x2 x3 x4 x5 0 w hF
      have jb40 : ∀ (a0 : Option Nat) (x1 : Int32) (x2 : Int32) (x3 : Int32) (x4 : Int32) (s0 : Int32) (w : cH), F_X0_whoShortest_J40  (F_X0_whoShortest_L8  n8) a0 x1 x2 x3 x4 s0 w = some (r9, w9) → J g x (.returned (some (.int r9))) w9 0 0 w 0 0 40 [some (va_rf a0), some (.int x1), some (.int x2), some (.int x3), some (.int x4), none, none] [.int s0] := by
        intro a0 x1 x2 x3 x4 s0 w hF
        unfold F_X0_whoShortest_J40 at hF
        refine j_istore (vs' := [some (va_rf a0), some (.int x1), some (.int x2), some (.int x3), some (.int x4), some (.int s0), none]) B dX0_whoShortest_40 (by decide) rfl ?_
        refine j_iload B dX0_whoShortest_42 rfl ?_
        refine j_iconst (v := (-1)) B dX0_whoShortest_44 (by decide) ?_
        refine j_icmp_eq (tgt := 58) B dX0_whoShortest_45 (by decide) hF (fun h45 hF => ?_) (fun h45 hF => ?_)
        · exact jb58 a0 x1 x2 x3 x4 s0 w hF
        · refine j_iload B dX0_whoShortest_48 rfl ?_
          refine j_iload_n B dX0_whoShortest_50 rfl ?_
          refine j_icmp_ge (tgt := 58) B dX0_whoShortest_51 (by decide) hF (fun h51 hF => ?_) (fun h51 hF => ?_)
          · exact jb58 a0 x1 x2 x3 x4 s0 w hF
          · refine j_iconst (v := 1) B dX0_whoShortest_54 (by decide) ?_
            refine j_goto (tgt := 59) B dX0_whoShortest_55 (by decide) ?_
            exact jb59 a0 x1 x2 x3 x4 s0 1 w hF
      refine j_iload B dX0_whoShortest_8 rfl ?_
      refine j_aload_n B dX0_whoShortest_10 rfl ?_
      refine j_getA B fl_X0_61 dX0_whoShortest_11 hF (fun a11p hF => ?_)
      refine j_getI B fl_X0_125 dX0_whoShortest_14 hF (fun i14 hF => ?_)
      refine j_icmp_ge (tgt := 91) B dX0_whoShortest_17 (by decide) hF (fun h17 hF => ?_) (fun h17 hF => ?_)
      · refine j_iload_n B dX0_whoShortest_91 rfl ?_
        exact j_lIw B rfl dX0_whoShortest_92 hF (by decide) (by decide)
      · refine j_aload_n B dX0_whoShortest_20 rfl ?_
        refine j_iload B dX0_whoShortest_21 rfl ?_
        obtain ⟨i23, e23, hF⟩ := bo hF
        refine j_rV (st2 := [.int i23]) B [.int x4] [] cv_X0_306 dX0_whoShortest_23 hl hR (ct_X0_isEmpty G e23) rfl rfl rfl rfl trivial (Nat.le_of_ble_eq_true rfl) ?_
        refine j_if_eq (tgt := 39) B dX0_whoShortest_26 (by decide) hF (fun h26 hF => ?_) (fun h26 hF => ?_)
        · refine j_iconst (v := (-1)) B dX0_whoShortest_39 (by decide) ?_
          exact jb40 a0 x1 x2 x3 x4 (-1) w hF
        · refine j_aload_n B dX0_whoShortest_29 rfl ?_
          refine j_iload B dX0_whoShortest_30 rfl ?_
          refine j_iload_n B dX0_whoShortest_32 rfl ?_
          obtain ⟨i33, w33, e33, hF⟩ := bc hF
          refine j_rV (st2 := [.int i33]) B [.int x4, .int x1] [] cv_X0_312 dX0_whoShortest_33 hl hR (ct_X0_roundOf G e33) rfl rfl rfl rfl trivial (Nat.le_of_ble_eq_true rfl) ?_
          refine j_goto (tgt := 40) B dX0_whoShortest_36 (by decide) ?_
          exact jb40 a0 x1 x2 x3 x4 i33 w33 hF
  refine j_iconst (v := (-1)) B dX0_whoShortest_0 (by decide) ?_
  refine j_istore_n (vs' := [some (va_rf a0), some (.int x1), some (.int (-1)), none, none, none, none]) B dX0_whoShortest_1 (by decide) rfl ?_
  refine j_ldc (v := 1000000) B q671 dX0_whoShortest_2 ?_
  refine j_istore_n (vs' := [some (va_rf a0), some (.int x1), some (.int (-1)), some (.int 1000000), none, none, none]) B dX0_whoShortest_4 (by decide) rfl ?_
  refine j_iconst (v := 0) B dX0_whoShortest_5 (by decide) ?_
  refine j_istore (vs' := [some (va_rf a0), some (.int x1), some (.int (-1)), some (.int 1000000), some (.int 0), none, none]) B dX0_whoShortest_6 (by decide) rfl ?_
  exact lp8 fu a0 x1 (-1) 1000000 0 w hF
theorem cv_X0_327 : CV "CarryFair" 327 0 yX0_whoShortest cX0_whoShortest 7 (some .int) 1 := ⟨_, _, rfl, lw_V q930 q932 qs34 q126 q933, by decide +kernel⟩
def F_X0_who (a0 : Option Nat) (x1 : Int32) (w : cH) : Option (Int32 × cH) :=
  if tg w a0 = some 0 then ((F_X0_isFew a0 x1 w).bind fun i2 =>if ¬ i2 = 0 then ((F_X0_allLie a0 x1 w).bind fun i16 =>if i16 = 0 then (cb (F_X0_finding a0 4 w) fun i36 w36 => some (i36, w36)) else (cb (F_X0_whoShortest a0 x1 w) fun i25 w25 => cb (F_X0_orNone a0 i25 w25) fun i28 w28 => some (i28, w28))) else (cb (F_X0_finding a0 0 w) fun i10 w10 => some (i10, w10))) else none
abbrev rm_X0_who : Room := { frames := 7, cells := 0, slots := 0, locals := 168 }
set_option maxHeartbeats 4000000 in
set_option maxRecDepth 100000 in
theorem ct_X0_who {l : Launch} {g : Gt} (G : Gok g) {a0 : Option Nat} {x1 : Int32} {w : cH} {r9 : Int32} {w9 : cH} (hF : F_X0_who a0 x1 w = some (r9, w9)) : tg w a0 = some 0 ∧ Mx l yX0_who (ws_ yX0_who cX0_who 2 (some .int)) rm_X0_who g [va_rf a0, .int x1] w (.returned (some (.int r9))) w9 0 0 := by
  unfold F_X0_who at hF
  obtain ⟨ht, hF⟩ := bg hF
  refine ⟨ht, mk_ct cX0_who 2 (some .int) "CarryFair" (plainFor_of_name (by decide)) rfl (lg_le ⟨cr _, rfl, trivial⟩ (Nat.le_of_ble_eq_true rfl)) (av_ok ⟨cr _, rfl, trivial⟩) G (fun x B hl hR hin hh => ?_)⟩
  show J g x _ _ 0 0 w 0 0 0 [some (va_rf a0), some (.int x1)] []
  refine j_aload_n B dX0_who_0 rfl ?_
  refine j_iload_n B dX0_who_1 rfl ?_
  obtain ⟨i2, e2, hF⟩ := bo hF
  refine j_rV (st2 := [.int i2]) B [.int x1] [] cv_X0_300 dX0_who_2 hl hR (ct_X0_isFew G e2) rfl rfl rfl rfl trivial (Nat.le_of_ble_eq_true rfl) ?_
  refine j_if_ne (tgt := 14) B dX0_who_5 (by decide) hF (fun h5 hF => ?_) (fun h5 hF => ?_)
  · refine j_aload_n B dX0_who_14 rfl ?_
    refine j_iload_n B dX0_who_15 rfl ?_
    obtain ⟨i16, e16, hF⟩ := bo hF
    refine j_rV (st2 := [.int i16]) B [.int x1] [] cv_X0_303 dX0_who_16 hl hR (ct_X0_allLie G e16) rfl rfl rfl rfl trivial (Nat.le_of_ble_eq_true rfl) ?_
    refine j_if_eq (tgt := 34) B dX0_who_19 (by decide) hF (fun h19 hF => ?_) (fun h19 hF => ?_)
    · refine j_aload_n B dX0_who_34 rfl ?_
      refine j_iconst (v := 4) B dX0_who_35 (by decide) ?_
      obtain ⟨i36, w36, e36, hF⟩ := bc hF
      refine j_rV (st2 := [.int i36]) B [.int 4] [] cv_X0_142 dX0_who_36 hl hR (ct_X0_finding G e36) rfl rfl rfl rfl trivial (Nat.le_of_ble_eq_true rfl) ?_
      exact j_lIw B rfl dX0_who_39 hF (by decide) (by decide)
    · refine j_aload_n B dX0_who_22 rfl ?_
      refine j_aload_n B dX0_who_23 rfl ?_
      refine j_iload_n B dX0_who_24 rfl ?_
      obtain ⟨i25, w25, e25, hF⟩ := bc hF
      refine j_rV (st2 := [.int i25, va_rf a0]) B [.int x1] [va_rf a0] cv_X0_327 dX0_who_25 hl hR (ct_X0_whoShortest G e25) rfl rfl rfl rfl ⟨cr _, trivial⟩ (Nat.le_of_ble_eq_true rfl) ?_
      obtain ⟨i28, w28, e28, hF⟩ := bc hF
      refine j_rV (st2 := [.int i28]) B [.int i25] [] cv_X0_223 dX0_who_28 hl hR (ct_X0_orNone G e28) rfl rfl rfl rfl trivial (Nat.le_of_ble_eq_true rfl) ?_
      refine j_goto (tgt := 39) B dX0_who_31 (by decide) ?_
      exact j_lIw B rfl dX0_who_39 hF (by decide) (by decide)
  · refine j_aload_n B dX0_who_8 rfl ?_
    refine j_iconst (v := 0) B dX0_who_9 (by decide) ?_
    obtain ⟨i10, w10, e10, hF⟩ := bc hF
    refine j_rV (st2 := [.int i10]) B [.int 0] [] cv_X0_142 dX0_who_10 hl hR (ct_X0_finding G e10) rfl rfl rfl rfl trivial (Nat.le_of_ble_eq_true rfl) ?_
    exact j_lIw B rfl dX0_who_13 hF (by decide) (by decide)
def F_X0_spared_J71 (rc6 : (Option Nat) → Int32 → Int32 → Int32 → Int32 → Int32 → cH → Option (Int32 × cH)) (a0 : Option Nat) (x1 : Int32) (x2 : Int32) (x3 : Int32) (x4 : Int32) (x5 : Int32) (w : cH) : Option (Int32 × cH) :=
  rc6 a0 x1 x2 x3 x4 (x5 + 1) w
def F_X0_spared_B6 (rc6 : Option Nat → Int32 → Int32 → Int32 → Int32 → Int32 → cH → Option (Int32 × cH)) (a0 : Option Nat) (x1 : Int32) (x2 : Int32) (x3 : Int32) (x4 : Int32) (x5 : Int32) (w : cH) : Option (Int32 × cH) :=
  (fA w a0 0 3).bind fun a9p => (fI w a9p 4 2).bind fun i12 =>if i12 ≤ x5 then (some (x4 - x3, w)) else (if (F_X0_has x2 x5) = 0 then (F_X0_spared_J71  rc6 a0 x1 x2 x3 x4 x5 w) else (cb (F_X0_roundOf a0 x1 (1 <<< (x5 &&& 31)) w) fun i35 w35 => (fA w35 a0 0 12).bind fun a39p => (fA w35 a0 0 3).bind fun a43p => (fA w35 a43p 4 3).bind fun a46p => (aA w35 a46p 103 2).bind fun a50p => (aI w35 a50p 100 x5).bind fun i53 => (aA w35 a39p 103 i53).bind fun a54p => (fA w35 a0 0 3).bind fun a56p => (fA w35 a56p 4 1).bind fun a59p => (aA w35 a59p 103 1).bind fun a63p => (aI w35 a63p 100 x1).bind fun i65 => (aI w35 a54p 100 i65).bind fun i66 => F_X0_spared_J71  rc6 a0 x1 x2 x3 (x4 + (i35 + i66)) x5 w35))
def F_X0_spared_L6 : Nat → Option Nat → Int32 → Int32 → Int32 → Int32 → Int32 → cH → Option (Int32 × cH)
  | 0, _, _, _, _, _, _, _ => none
  | n9 + 1, a0, x1, x2, x3, x4, x5, w => F_X0_spared_B6  (F_X0_spared_L6  n9) a0 x1 x2 x3 x4 x5 w
def F_X0_spared (a0 : Option Nat) (x1 : Int32) (x2 : Int32) (x3 : Int32) (w : cH) : Option (Int32 × cH) :=
  if tg w a0 = some 0 then (F_X0_spared_L6  fu a0 x1 x2 x3 0 0 w) else none
abbrev rm_X0_spared : Room := { frames := 6, cells := 0, slots := 0, locals := 142 }
set_option maxHeartbeats 4000000 in
set_option maxRecDepth 100000 in
theorem ct_X0_spared {l : Launch} {g : Gt} (G : Gok g) {a0 : Option Nat} {x1 : Int32} {x2 : Int32} {x3 : Int32} {w : cH} {r9 : Int32} {w9 : cH} (hF : F_X0_spared a0 x1 x2 x3 w = some (r9, w9)) : tg w a0 = some 0 ∧ Mx l yX0_spared (ws_ yX0_spared cX0_spared 6 (some .int)) rm_X0_spared g [va_rf a0, .int x1, .int x2, .int x3] w (.returned (some (.int r9))) w9 0 0 := by
  unfold F_X0_spared at hF
  obtain ⟨ht, hF⟩ := bg hF
  refine ⟨ht, mk_ct cX0_spared 6 (some .int) "CarryFair" (plainFor_of_name (by decide)) rfl (lg_le ⟨cr _, rfl, rfl, rfl, trivial⟩ (Nat.le_of_ble_eq_true rfl)) (av_ok ⟨cr _, rfl, rfl, rfl, trivial⟩) G (fun x B hl hR hin hh => ?_)⟩
  show J g x _ _ 0 0 w 0 0 0 [some (va_rf a0), some (.int x1), some (.int x2), some (.int x3), none, none] []
  have lp6 : ∀ (n9 : Nat) (a0 : Option Nat) (x1 : Int32) (x2 : Int32) (x3 : Int32) (x4 : Int32) (x5 : Int32) (w : cH), F_X0_spared_L6  n9 a0 x1 x2 x3 x4 x5 w = some (r9, w9) → J g x (.returned (some (.int r9))) w9 0 0 w 0 0 6 [some (va_rf a0), some (.int x1), some (.int x2), some (.int x3), some (.int x4), some (.int x5)] [] := by
    intro n9
    induction n9 with
    | zero => intro a0 x1 x2 x3 x4 x5 w hF; cases hF
    | succ n6 ih6 =>
      intro a0 x1 x2 x3 x4 x5 w hF
      have hF : F_X0_spared_B6  (F_X0_spared_L6  n6) a0 x1 x2 x3 x4 x5 w = some (r9, w9) := hF
      unfold F_X0_spared_B6 at hF
      have jb71 : ∀ (a0 : Option Nat) (x1 : Int32) (x2 : Int32) (x3 : Int32) (x4 : Int32) (x5 : Int32) (w : cH), F_X0_spared_J71  (F_X0_spared_L6  n6) a0 x1 x2 x3 x4 x5 w = some (r9, w9) → J g x (.returned (some (.int r9))) w9 0 0 w 0 0 71 [some (va_rf a0), some (.int x1), some (.int x2), some (.int x3), some (.int x4), some (.int x5)] [] := by
        intro a0 x1 x2 x3 x4 x5 w hF
        unfold F_X0_spared_J71 at hF
        refine j_iinc (v := x5 + 1) (vs' := [some (va_rf a0), some (.int x1), some (.int x2), some (.int x3), some (.int x4), some (.int (x5 + 1))]) B dX0_spared_71 (by decide) rfl rfl rfl ?_
        refine j_goto (tgt := 6) B dX0_spared_74 (by decide) ?_
        exact ih6 a0 x1 x2 x3 x4 (x5 + 1) w hF
      refine j_iload B dX0_spared_6 rfl ?_
      refine j_aload_n B dX0_spared_8 rfl ?_
      refine j_getA B fl_X0_61 dX0_spared_9 hF (fun a9p hF => ?_)
      refine j_getI B fl_X0_127 dX0_spared_12 hF (fun i12 hF => ?_)
      refine j_icmp_ge (tgt := 77) B dX0_spared_15 (by decide) hF (fun h15 hF => ?_) (fun h15 hF => ?_)
      · refine j_iload B dX0_spared_77 rfl ?_
        refine j_iload_n B dX0_spared_79 rfl ?_
        refine j_isub B dX0_spared_80 ?_
        exact j_lIw B rfl dX0_spared_81 hF (by decide) (by decide)
      · refine j_iload_n B dX0_spared_18 rfl ?_
        refine j_iload B dX0_spared_19 rfl ?_
        refine j_rS (st2 := [.int (F_X0_has x2 x5)]) B [.int x2, .int x5] [] cs_X0_258 dX0_spared_21 hl hR (ct_X0_has G) rfl rfl rfl rfl trivial (Nat.le_of_ble_eq_true rfl) ?_
        refine j_if_eq (tgt := 71) B dX0_spared_24 (by decide) hF (fun h24 hF => ?_) (fun h24 hF => ?_)
        · exact jb71 a0 x1 x2 x3 x4 x5 w hF
        · refine j_iload B dX0_spared_27 rfl ?_
          refine j_aload_n B dX0_spared_29 rfl ?_
          refine j_iload_n B dX0_spared_30 rfl ?_
          refine j_iconst (v := 1) B dX0_spared_31 (by decide) ?_
          refine j_iload B dX0_spared_32 rfl ?_
          refine j_ishl B dX0_spared_34 ?_
          obtain ⟨i35, w35, e35, hF⟩ := bc hF
          refine j_rV (st2 := [.int i35, .int x4]) B [.int x1, .int (1 <<< (x5 &&& 31))] [.int x4] cv_X0_312 dX0_spared_35 hl hR (ct_X0_roundOf G e35) rfl rfl rfl rfl ⟨rfl, trivial⟩ (Nat.le_of_ble_eq_true rfl) ?_
          refine j_aload_n B dX0_spared_38 rfl ?_
          refine j_getA B fl_X0_92 dX0_spared_39 hF (fun a39p hF => ?_)
          refine j_aload_n B dX0_spared_42 rfl ?_
          refine j_getA B fl_X0_61 dX0_spared_43 hF (fun a43p hF => ?_)
          refine j_getA B fl_X0_214 dX0_spared_46 hF (fun a46p hF => ?_)
          refine j_iconst (v := 2) B dX0_spared_49 (by decide) ?_
          refine j_aaload B 103 rfl rfl dX0_spared_50 hF (fun a50p hF => ?_)
          refine j_iload B dX0_spared_51 rfl ?_
          refine j_iaload B dX0_spared_53 hF (fun i53 hF => ?_)
          refine j_aaload B 103 rfl rfl dX0_spared_54 hF (fun a54p hF => ?_)
          refine j_aload_n B dX0_spared_55 rfl ?_
          refine j_getA B fl_X0_61 dX0_spared_56 hF (fun a56p hF => ?_)
          refine j_getA B fl_X0_113 dX0_spared_59 hF (fun a59p hF => ?_)
          refine j_iconst (v := 1) B dX0_spared_62 (by decide) ?_
          refine j_aaload B 103 rfl rfl dX0_spared_63 hF (fun a63p hF => ?_)
          refine j_iload_n B dX0_spared_64 rfl ?_
          refine j_iaload B dX0_spared_65 hF (fun i65 hF => ?_)
          refine j_iaload B dX0_spared_66 hF (fun i66 hF => ?_)
          refine j_iadd B dX0_spared_67 ?_
          refine j_iadd B dX0_spared_68 ?_
          refine j_istore (vs' := [some (va_rf a0), some (.int x1), some (.int x2), some (.int x3), some (.int (x4 + (i35 + i66))), some (.int x5)]) B dX0_spared_69 (by decide) rfl ?_
          exact jb71 a0 x1 x2 x3 (x4 + (i35 + i66)) x5 w35 hF
  refine j_iconst (v := 0) B dX0_spared_0 (by decide) ?_
  refine j_istore (vs' := [some (va_rf a0), some (.int x1), some (.int x2), some (.int x3), some (.int 0), none]) B dX0_spared_1 (by decide) rfl ?_
  refine j_iconst (v := 0) B dX0_spared_3 (by decide) ?_
  refine j_istore (vs' := [some (va_rf a0), some (.int x1), some (.int x2), some (.int x3), some (.int 0), some (.int 0)]) B dX0_spared_4 (by decide) rfl ?_
  exact lp6 fu a0 x1 x2 x3 0 0 w hF
theorem cv_X0_330 : CV "CarryFair" 330 0 yX0_spared cX0_spared 6 (some .int) 3 := ⟨_, _, rfl, lw_V q938 q940 qs35 q126 q941, by decide +kernel⟩
def F_X0_joined (a0 : Option Nat) (x1 : Int32) (x2 : Int32) (w : cH) : Option (Int32 × cH) :=
  if tg w a0 = some 0 then ((F_X0_whyNot a0 x1 x2 w).bind fun i3 =>if i3 = (-1) then (cb (F_X0_roundOf a0 x1 x2 w) fun i21 w21 =>if ¬ i21 = (-1) then (cb (F_X0_spared a0 x1 x2 i21 w21) fun i45 w45 => some (i45, w45)) else (cb (F_X0_finding a0 3 w21) fun i34 w34 => some (i34, w34))) else (cb (F_X0_finding a0 i3 w) fun i14 w14 => some (i14, w14))) else none
abbrev rm_X0_joined : Room := { frames := 7, cells := 0, slots := 0, locals := 167 }
set_option maxHeartbeats 4000000 in
set_option maxRecDepth 100000 in
theorem ct_X0_joined {l : Launch} {g : Gt} (G : Gok g) {a0 : Option Nat} {x1 : Int32} {x2 : Int32} {w : cH} {r9 : Int32} {w9 : cH} (hF : F_X0_joined a0 x1 x2 w = some (r9, w9)) : tg w a0 = some 0 ∧ Mx l yX0_joined (ws_ yX0_joined cX0_joined 5 (some .int)) rm_X0_joined g [va_rf a0, .int x1, .int x2] w (.returned (some (.int r9))) w9 0 0 := by
  unfold F_X0_joined at hF
  obtain ⟨ht, hF⟩ := bg hF
  refine ⟨ht, mk_ct cX0_joined 5 (some .int) "CarryFair" (plainFor_of_name (by decide)) rfl (lg_le ⟨cr _, rfl, rfl, trivial⟩ (Nat.le_of_ble_eq_true rfl)) (av_ok ⟨cr _, rfl, rfl, trivial⟩) G (fun x B hl hR hin hh => ?_)⟩
  show J g x _ _ 0 0 w 0 0 0 [some (va_rf a0), some (.int x1), some (.int x2), none, none] []
  refine j_aload_n B dX0_joined_0 rfl ?_
  refine j_iload_n B dX0_joined_1 rfl ?_
  refine j_iload_n B dX0_joined_2 rfl ?_
  obtain ⟨i3, e3, hF⟩ := bo hF
  refine j_rV (st2 := [.int i3]) B [.int x1, .int x2] [] cv_X0_309 dX0_joined_3 hl hR (ct_X0_whyNot G e3) rfl rfl rfl rfl trivial (Nat.le_of_ble_eq_true rfl) ?_
  refine j_istore_n (vs' := [some (va_rf a0), some (.int x1), some (.int x2), some (.int i3), none]) B dX0_joined_6 (by decide) rfl ?_
  refine j_iload_n B dX0_joined_7 rfl ?_
  refine j_iconst (v := (-1)) B dX0_joined_8 (by decide) ?_
  refine j_icmp_eq (tgt := 18) B dX0_joined_9 (by decide) hF (fun h9 hF => ?_) (fun h9 hF => ?_)
  · refine j_aload_n B dX0_joined_18 rfl ?_
    refine j_iload_n B dX0_joined_19 rfl ?_
    refine j_iload_n B dX0_joined_20 rfl ?_
    obtain ⟨i21, w21, e21, hF⟩ := bc hF
    refine j_rV (st2 := [.int i21]) B [.int x1, .int x2] [] cv_X0_312 dX0_joined_21 hl hR (ct_X0_roundOf G e21) rfl rfl rfl rfl trivial (Nat.le_of_ble_eq_true rfl) ?_
    refine j_istore (vs' := [some (va_rf a0), some (.int x1), some (.int x2), some (.int i3), some (.int i21)]) B dX0_joined_24 (by decide) rfl ?_
    refine j_iload B dX0_joined_26 rfl ?_
    refine j_iconst (v := (-1)) B dX0_joined_28 (by decide) ?_
    refine j_icmp_ne (tgt := 40) B dX0_joined_29 (by decide) hF (fun h29 hF => ?_) (fun h29 hF => ?_)
    · refine j_aload_n B dX0_joined_40 rfl ?_
      refine j_iload_n B dX0_joined_41 rfl ?_
      refine j_iload_n B dX0_joined_42 rfl ?_
      refine j_iload B dX0_joined_43 rfl ?_
      obtain ⟨i45, w45, e45, hF⟩ := bc hF
      refine j_rV (st2 := [.int i45]) B [.int x1, .int x2, .int i21] [] cv_X0_330 dX0_joined_45 hl hR (ct_X0_spared G e45) rfl rfl rfl rfl trivial (Nat.le_of_ble_eq_true rfl) ?_
      exact j_lIw B rfl dX0_joined_48 hF (by decide) (by decide)
    · refine j_aload_n B dX0_joined_32 rfl ?_
      refine j_iconst (v := 3) B dX0_joined_33 (by decide) ?_
      obtain ⟨i34, w34, e34, hF⟩ := bc hF
      refine j_rV (st2 := [.int i34]) B [.int 3] [] cv_X0_142 dX0_joined_34 hl hR (ct_X0_finding G e34) rfl rfl rfl rfl trivial (Nat.le_of_ble_eq_true rfl) ?_
      refine j_goto (tgt := 48) B dX0_joined_37 (by decide) ?_
      exact j_lIw B rfl dX0_joined_48 hF (by decide) (by decide)
  · refine j_aload_n B dX0_joined_12 rfl ?_
    refine j_iload_n B dX0_joined_13 rfl ?_
    obtain ⟨i14, w14, e14, hF⟩ := bc hF
    refine j_rV (st2 := [.int i14]) B [.int i3] [] cv_X0_142 dX0_joined_14 hl hR (ct_X0_finding G e14) rfl rfl rfl rfl trivial (Nat.le_of_ble_eq_true rfl) ?_
    exact j_lIw B rfl dX0_joined_17 hF (by decide) (by decide)
def F_X0_whyNotBoth (a0 : Option Nat) (x1 : Int32) (x2 : Int32) (x3 : Int32) (w : cH) : Option Int32 :=
  if tg w a0 = some 0 then ((F_X0_isCarrier a0 x1 w).bind fun i2 =>if i2 = 0 then (some (0)) else ((F_X0_isCarrier a0 x2 w).bind fun i10 =>if i10 = 0 then (some (0)) else (if x1 = x2 then (some (0)) else ((F_X0_isFew a0 x3 w).bind fun i23 =>if ¬ i23 = 0 then ((F_X0_allLie a0 x3 w).bind fun i33 =>if i33 = 0 then (some (4)) else ((F_X0_isEmpty a0 x1 w).bind fun i41 =>if i41 = 0 then (some (4)) else ((F_X0_isEmpty a0 x2 w).bind fun i49 =>if i49 = 0 then (some (4)) else (some ((-1)))))) else (some (0)))))) else none
abbrev rm_X0_whyNotBoth : Room := { frames := 3, cells := 0, slots := 0, locals := 64 }
set_option maxHeartbeats 4000000 in
set_option maxRecDepth 100000 in
theorem ct_X0_whyNotBoth {l : Launch} {g : Gt} (G : Gok g) {a0 : Option Nat} {x1 : Int32} {x2 : Int32} {x3 : Int32} {w : cH} {r9 : Int32} (hF : F_X0_whyNotBoth a0 x1 x2 x3 w = some r9) : tg w a0 = some 0 ∧ Mx l yX0_whyNotBoth (ws_ yX0_whyNotBoth cX0_whyNotBoth 4 (some .int)) rm_X0_whyNotBoth g [va_rf a0, .int x1, .int x2, .int x3] w (.returned (some (.int r9))) w 0 0 := by
  unfold F_X0_whyNotBoth at hF
  obtain ⟨ht, hF⟩ := bg hF
  refine ⟨ht, mk_ct cX0_whyNotBoth 4 (some .int) "CarryFair" (plainFor_of_name (by decide)) rfl (lg_le ⟨cr _, rfl, rfl, rfl, trivial⟩ (Nat.le_of_ble_eq_true rfl)) (av_ok ⟨cr _, rfl, rfl, rfl, trivial⟩) G (fun x B hl hR hin hh => ?_)⟩
  show J g x _ _ 0 0 w 0 0 0 [some (va_rf a0), some (.int x1), some (.int x2), some (.int x3)] []
  refine j_aload_n B dX0_whyNotBoth_0 rfl ?_
  refine j_iload_n B dX0_whyNotBoth_1 rfl ?_
  obtain ⟨i2, e2, hF⟩ := bo hF
  refine j_rV (st2 := [.int i2]) B [.int x1] [] cv_X0_161 dX0_whyNotBoth_2 hl hR (ct_X0_isCarrier G e2) rfl rfl rfl rfl trivial (Nat.le_of_ble_eq_true rfl) ?_
  refine j_if_eq (tgt := 29) B dX0_whyNotBoth_5 (by decide) hF (fun h5 hF => ?_) (fun h5 hF => ?_)
  · refine j_iconst (v := 0) B dX0_whyNotBoth_29 (by decide) ?_
    exact j_lI B rfl dX0_whyNotBoth_30 hF (by decide) (by decide)
  · refine j_aload_n B dX0_whyNotBoth_8 rfl ?_
    refine j_iload_n B dX0_whyNotBoth_9 rfl ?_
    obtain ⟨i10, e10, hF⟩ := bo hF
    refine j_rV (st2 := [.int i10]) B [.int x2] [] cv_X0_161 dX0_whyNotBoth_10 hl hR (ct_X0_isCarrier G e10) rfl rfl rfl rfl trivial (Nat.le_of_ble_eq_true rfl) ?_
    refine j_if_eq (tgt := 29) B dX0_whyNotBoth_13 (by decide) hF (fun h13 hF => ?_) (fun h13 hF => ?_)
    · refine j_iconst (v := 0) B dX0_whyNotBoth_29 (by decide) ?_
      exact j_lI B rfl dX0_whyNotBoth_30 hF (by decide) (by decide)
    · refine j_iload_n B dX0_whyNotBoth_16 rfl ?_
      refine j_iload_n B dX0_whyNotBoth_17 rfl ?_
      refine j_icmp_eq (tgt := 29) B dX0_whyNotBoth_18 (by decide) hF (fun h18 hF => ?_) (fun h18 hF => ?_)
      · refine j_iconst (v := 0) B dX0_whyNotBoth_29 (by decide) ?_
        exact j_lI B rfl dX0_whyNotBoth_30 hF (by decide) (by decide)
      · refine j_aload_n B dX0_whyNotBoth_21 rfl ?_
        refine j_iload_n B dX0_whyNotBoth_22 rfl ?_
        obtain ⟨i23, e23, hF⟩ := bo hF
        refine j_rV (st2 := [.int i23]) B [.int x3] [] cv_X0_300 dX0_whyNotBoth_23 hl hR (ct_X0_isFew G e23) rfl rfl rfl rfl trivial (Nat.le_of_ble_eq_true rfl) ?_
        refine j_if_ne (tgt := 31) B dX0_whyNotBoth_26 (by decide) hF (fun h26 hF => ?_) (fun h26 hF => ?_)
        · refine j_aload_n B dX0_whyNotBoth_31 rfl ?_
          refine j_iload_n B dX0_whyNotBoth_32 rfl ?_
          obtain ⟨i33, e33, hF⟩ := bo hF
          refine j_rV (st2 := [.int i33]) B [.int x3] [] cv_X0_303 dX0_whyNotBoth_33 hl hR (ct_X0_allLie G e33) rfl rfl rfl rfl trivial (Nat.le_of_ble_eq_true rfl) ?_
          refine j_if_eq (tgt := 59) B dX0_whyNotBoth_36 (by decide) hF (fun h36 hF => ?_) (fun h36 hF => ?_)
          · refine j_iconst (v := 4) B dX0_whyNotBoth_59 (by decide) ?_
            exact j_lI B rfl dX0_whyNotBoth_60 hF (by decide) (by decide)
          · refine j_aload_n B dX0_whyNotBoth_39 rfl ?_
            refine j_iload_n B dX0_whyNotBoth_40 rfl ?_
            obtain ⟨i41, e41, hF⟩ := bo hF
            refine j_rV (st2 := [.int i41]) B [.int x1] [] cv_X0_306 dX0_whyNotBoth_41 hl hR (ct_X0_isEmpty G e41) rfl rfl rfl rfl trivial (Nat.le_of_ble_eq_true rfl) ?_
            refine j_if_eq (tgt := 59) B dX0_whyNotBoth_44 (by decide) hF (fun h44 hF => ?_) (fun h44 hF => ?_)
            · refine j_iconst (v := 4) B dX0_whyNotBoth_59 (by decide) ?_
              exact j_lI B rfl dX0_whyNotBoth_60 hF (by decide) (by decide)
            · refine j_aload_n B dX0_whyNotBoth_47 rfl ?_
              refine j_iload_n B dX0_whyNotBoth_48 rfl ?_
              obtain ⟨i49, e49, hF⟩ := bo hF
              refine j_rV (st2 := [.int i49]) B [.int x2] [] cv_X0_306 dX0_whyNotBoth_49 hl hR (ct_X0_isEmpty G e49) rfl rfl rfl rfl trivial (Nat.le_of_ble_eq_true rfl) ?_
              refine j_if_eq (tgt := 59) B dX0_whyNotBoth_52 (by decide) hF (fun h52 hF => ?_) (fun h52 hF => ?_)
              · refine j_iconst (v := 4) B dX0_whyNotBoth_59 (by decide) ?_
                exact j_lI B rfl dX0_whyNotBoth_60 hF (by decide) (by decide)
              · refine j_iconst (v := (-1)) B dX0_whyNotBoth_55 (by decide) ?_
                refine j_goto (tgt := 60) B dX0_whyNotBoth_56 (by decide) ?_
                exact j_lI B rfl dX0_whyNotBoth_60 hF (by decide) (by decide)
        · refine j_iconst (v := 0) B dX0_whyNotBoth_29 (by decide) ?_
          exact j_lI B rfl dX0_whyNotBoth_30 hF (by decide) (by decide)
theorem fp_X0_333 : FP "CarryFair" 333 0 18 .int false := ⟨RX0, TX0, 20, rfl, by decide, in_X0, Or.inl q457, rfl, (fun h => by cases h), by decide +kernel, ap_X0, tyX0, tyX0_ok⟩
def F_X0_sharedBy_J97 (rc11 : (Option Nat) → Int32 → Int32 → Int32 → Int32 → Int32 → cH → Option (Int32 × cH)) (a0 : Option Nat) (x1 : Int32) (x2 : Int32) (x3 : Int32) (x4 : Int32) (x5 : Int32) (w : cH) : Option (Int32 × cH) :=
  rc11 a0 x1 x2 x3 x4 (x5 + 1) w
def F_X0_sharedBy_J84 (rc11 : (Option Nat) → Int32 → Int32 → Int32 → Int32 → Int32 → cH → Option (Int32 × cH)) (a0 : Option Nat) (x1 : Int32) (x2 : Int32) (x3 : Int32) (x5 : Int32) (x6 : Int32) (x7 : Int32) (w : cH) : Option (Int32 × cH) :=
  (pV w a0 0 18 (.int x5)).bind fun w94 => F_X0_sharedBy_J97  rc11 a0 x1 x2 x3 (x6 + x7) x5 w94
def F_X0_sharedBy_J60 (rc11 : (Option Nat) → Int32 → Int32 → Int32 → Int32 → Int32 → cH → Option (Int32 × cH)) (a0 : Option Nat) (x1 : Int32) (x2 : Int32) (x3 : Int32) (x4 : Int32) (x5 : Int32) (x6 : Int32) (s0 : Int32) (w : cH) : Option (Int32 × cH) :=
  if s0 = (-1) then (F_X0_sharedBy_J97  rc11 a0 x1 x2 x3 x4 x5 w) else (if x4 = (-1) then (F_X0_sharedBy_J84  rc11 a0 x1 x2 x3 x5 x6 s0 w) else (if x4 ≤ (x6 + s0) then (F_X0_sharedBy_J97  rc11 a0 x1 x2 x3 x4 x5 w) else (F_X0_sharedBy_J84  rc11 a0 x1 x2 x3 x5 x6 s0 w)))
def F_X0_sharedBy_J37 (rc11 : (Option Nat) → Int32 → Int32 → Int32 → Int32 → Int32 → cH → Option (Int32 × cH)) (a0 : Option Nat) (x1 : Int32) (x2 : Int32) (x3 : Int32) (x4 : Int32) (x5 : Int32) (s0 : Int32) (w : cH) : Option (Int32 × cH) :=
  if ¬ s0 = (-1) then (cb (F_X0_roundOf a0 x2 (x3 &&& (x5 ^^^ (-1))) w) fun i57 w57 => F_X0_sharedBy_J60  rc11 a0 x1 x2 x3 x4 x5 s0 i57 w57) else (F_X0_sharedBy_J60  rc11 a0 x1 x2 x3 x4 x5 s0 (-1) w)
def F_X0_sharedBy_B11 (rc11 : Option Nat → Int32 → Int32 → Int32 → Int32 → Int32 → cH → Option (Int32 × cH)) (a0 : Option Nat) (x1 : Int32) (x2 : Int32) (x3 : Int32) (x4 : Int32) (x5 : Int32) (w : cH) : Option (Int32 × cH) :=
  if x3 < x5 then (some (x4, w)) else (if ¬ (x5 &&& (x3 ^^^ (-1))) = 0 then (F_X0_sharedBy_J37  rc11 a0 x1 x2 x3 x4 x5 (-1) w) else (cb (F_X0_roundOf a0 x1 x5 w) fun i30 w30 => F_X0_sharedBy_J37  rc11 a0 x1 x2 x3 x4 x5 i30 w30))
def F_X0_sharedBy_L11 : Nat → Option Nat → Int32 → Int32 → Int32 → Int32 → Int32 → cH → Option (Int32 × cH)
  | 0, _, _, _, _, _, _, _ => none
  | n9 + 1, a0, x1, x2, x3, x4, x5, w => F_X0_sharedBy_B11  (F_X0_sharedBy_L11  n9) a0 x1 x2 x3 x4 x5 w
def F_X0_sharedBy (a0 : Option Nat) (x1 : Int32) (x2 : Int32) (x3 : Int32) (w : cH) : Option (Int32 × cH) :=
  if tg w a0 = some 0 then ((pV w a0 0 18 (.int (-1))).bind fun w5 => F_X0_sharedBy_L11  fu a0 x1 x2 x3 (-1) 0 w5) else none
abbrev rm_X0_sharedBy : Room := { frames := 6, cells := 0, slots := 0, locals := 142 }
set_option maxHeartbeats 4000000 in
set_option maxRecDepth 100000 in
theorem ct_X0_sharedBy {l : Launch} {g : Gt} (G : Gok g) {a0 : Option Nat} {x1 : Int32} {x2 : Int32} {x3 : Int32} {w : cH} {r9 : Int32} {w9 : cH} (hF : F_X0_sharedBy a0 x1 x2 x3 w = some (r9, w9)) : tg w a0 = some 0 ∧ Mx l yX0_sharedBy (ws_ yX0_sharedBy cX0_sharedBy 8 (some .int)) rm_X0_sharedBy g [va_rf a0, .int x1, .int x2, .int x3] w (.returned (some (.int r9))) w9 0 0 := by
  unfold F_X0_sharedBy at hF
  obtain ⟨ht, hF⟩ := bg hF
  refine ⟨ht, mk_ct cX0_sharedBy 8 (some .int) "CarryFair" (plainFor_of_name (by decide)) rfl (lg_le ⟨cr _, rfl, rfl, rfl, trivial⟩ (Nat.le_of_ble_eq_true rfl)) (av_ok ⟨cr _, rfl, rfl, rfl, trivial⟩) G (fun x B hl hR hin hh => ?_)⟩
  show J g x _ _ 0 0 w 0 0 0 [some (va_rf a0), some (.int x1), some (.int x2), some (.int x3), none, none, none, none] []
  have lp11 : ∀ (n9 : Nat) (a0 : Option Nat) (x1 : Int32) (x2 : Int32) (x3 : Int32) (x4 : Int32) (x5 : Int32) (w : cH), F_X0_sharedBy_L11  n9 a0 x1 x2 x3 x4 x5 w = some (r9, w9) → J g x (.returned (some (.int r9))) w9 0 0 w 0 0 11 [some (va_rf a0), some (.int x1), some (.int x2), some (.int x3), some (.int x4), some (.int x5), none, none] [] := by
    intro n9
    induction n9 with
    | zero => intro a0 x1 x2 x3 x4 x5 w hF; cases hF
    | succ n11 ih11 =>
      intro a0 x1 x2 x3 x4 x5 w hF
      have hF : F_X0_sharedBy_B11  (F_X0_sharedBy_L11  n11) a0 x1 x2 x3 x4 x5 w = some (r9, w9) := hF
      unfold F_X0_sharedBy_B11 at hF
      have jb97 : ∀ (a0 : Option Nat) (x1 : Int32) (x2 : Int32) (x3 : Int32) (x4 : Int32) (x5 : Int32) (w : cH), F_X0_sharedBy_J97  (F_X0_sharedBy_L11  n11) a0 x1 x2 x3 x4 x5 w = some (r9, w9) → J g x (.returned (some (.int r9))) w9 0 0 w 0 0 97 [some (va_rf a0), some (.int x1), some (.int x2), some (.int x3), some (.int x4), some (.int x5), none, none] [] := by
        intro a0 x1 x2 x3 x4 x5 w hF
        unfold F_X0_sharedBy_J97 at hF
        refine j_iinc (v := x5 + 1) (vs' := [some (va_rf a0), some (.int x1), some (.int x2), some (.int x3), some (.int x4), some (.int (x5 + 1)), none, none]) B dX0_sharedBy_97 (by decide) rfl rfl rfl ?_
        refine j_goto (tgt := 11) B dX0_sharedBy_100 (by decide) ?_
        exact ih11 a0 x1 x2 x3 x4 (x5 + 1) w hF
      have jb84 : ∀ (a0 : Option Nat) (x1 : Int32) (x2 : Int32) (x3 : Int32) (x5 : Int32) (x6 : Int32) (x7 : Int32) (w : cH), F_X0_sharedBy_J84  (F_X0_sharedBy_L11  n11) a0 x1 x2 x3 x5 x6 x7 w = some (r9, w9) → J g x (.returned (some (.int r9))) w9 0 0 w 0 0 84 [some (va_rf a0), some (.int x1), some (.int x2), some (.int x3), none, some (.int x5), some (.int x6), some (.int x7)] [] := by
        intro a0 x1 x2 x3 x5 x6 x7 w hF
        unfold F_X0_sharedBy_J84 at hF
        refine j_iload B dX0_sharedBy_84 rfl ?_
        refine j_iload B dX0_sharedBy_86 rfl ?_
        refine j_iadd B dX0_sharedBy_88 ?_
        refine j_istore (vs' := [some (va_rf a0), some (.int x1), some (.int x2), some (.int x3), some (.int (x6 + x7)), some (.int x5), some (.int x6), some (.int x7)]) B dX0_sharedBy_89 (by decide) rfl ?_
        refine j_aload_n B dX0_sharedBy_91 rfl ?_
        refine j_iload B dX0_sharedBy_92 rfl ?_
        refine j_putV B fp_X0_333 (fun h => by cases h) rfl rfl dX0_sharedBy_94 hF (fun w94 hF => ?_)
        refine j_msk [true, true, true, true, true, true, false, false] rfl ?_
        exact jb97 a0 x1 x2 x3 (x6 + x7) x5 w94 hF
      have jb60 : ∀ (a0 : Option Nat) (x1 : Int32) (x2 : Int32) (x3 : Int32) (x4 : Int32) (x5 : Int32) (x6 : Int32) (s0 : Int32) (w : cH), F_X0_sharedBy_J60  (F_X0_sharedBy_L11  n11) a0 x1 x2 x3 x4 x5 x6 s0 w = some (r9, w9) → J g x (.returned (some (.int r9))) w9 0 0 w 0 0 60 [some (va_rf a0), some (.int x1), some (.int x2), some (.int x3), some (.int x4), some (.int x5), some (.int x6), none] [.int s0] := by
        intro a0 x1 x2 x3 x4 x5 x6 s0 w hF
        unfold F_X0_sharedBy_J60 at hF
        refine j_istore (vs' := [some (va_rf a0), some (.int x1), some (.int x2), some (.int x3), some (.int x4), some (.int x5), some (.int x6), some (.int s0)]) B dX0_sharedBy_60 (by decide) rfl ?_
        refine j_iload B dX0_sharedBy_62 rfl ?_
        refine j_iconst (v := (-1)) B dX0_sharedBy_64 (by decide) ?_
        refine j_icmp_eq (tgt := 97) B dX0_sharedBy_65 (by decide) hF (fun h65 hF => ?_) (fun h65 hF => ?_)
        · refine j_msk [true, true, true, true, true, true, false, false] rfl ?_
          exact jb97 a0 x1 x2 x3 x4 x5 w hF
        · refine j_iload B dX0_sharedBy_68 rfl ?_
          refine j_iconst (v := (-1)) B dX0_sharedBy_70 (by decide) ?_
          refine j_icmp_eq (tgt := 84) B dX0_sharedBy_71 (by decide) hF (fun h71 hF => ?_) (fun h71 hF => ?_)
          · refine j_msk [true, true, true, true, false, true, true, true] rfl ?_
            exact jb84 a0 x1 x2 x3 x5 x6 s0 w hF
          · refine j_iload B dX0_sharedBy_74 rfl ?_
            refine j_iload B dX0_sharedBy_76 rfl ?_
            refine j_iadd B dX0_sharedBy_78 ?_
            refine j_iload B dX0_sharedBy_79 rfl ?_
            refine j_icmp_ge (tgt := 97) B dX0_sharedBy_81 (by decide) hF (fun h81 hF => ?_) (fun h81 hF => ?_)
            · refine j_msk [true, true, true, true, true, true, false, false] rfl ?_
              exact jb97 a0 x1 x2 x3 x4 x5 w hF
            · refine j_msk [true, true, true, true, false, true, true, true] rfl ?_
              exact jb84 a0 x1 x2 x3 x5 x6 s0 w hF
      have jb37 : ∀ (a0 : Option Nat) (x1 : Int32) (x2 : Int32) (x3 : Int32) (x4 : Int32) (x5 : Int32) (s0 : Int32) (w : cH), F_X0_sharedBy_J37  (F_X0_sharedBy_L11  n11) a0 x1 x2 x3 x4 x5 s0 w = some (r9, w9) → J g x (.returned (some (.int r9))) w9 0 0 w 0 0 37 [some (va_rf a0), some (.int x1), some (.int x2), some (.int x3), some (.int x4), some (.int x5), none, none] [.int s0] := by
        intro a0 x1 x2 x3 x4 x5 s0 w hF
        unfold F_X0_sharedBy_J37 at hF
        refine j_istore (vs' := [some (va_rf a0), some (.int x1), some (.int x2), some (.int x3), some (.int x4), some (.int x5), some (.int s0), none]) B dX0_sharedBy_37 (by decide) rfl ?_
        refine j_iload B dX0_sharedBy_39 rfl ?_
        refine j_iconst (v := (-1)) B dX0_sharedBy_41 (by decide) ?_
        refine j_icmp_ne (tgt := 49) B dX0_sharedBy_42 (by decide) hF (fun h42 hF => ?_) (fun h42 hF => ?_)
        · refine j_aload_n B dX0_sharedBy_49 rfl ?_
          refine j_iload_n B dX0_sharedBy_50 rfl ?_
          refine j_iload_n B dX0_sharedBy_51 rfl ?_
          refine j_iload B dX0_sharedBy_52 rfl ?_
          refine j_iconst (v := (-1)) B dX0_sharedBy_54 (by decide) ?_
          refine j_ixor B dX0_sharedBy_55 ?_
          refine j_iand B dX0_sharedBy_56 ?_
          obtain ⟨i57, w57, e57, hF⟩ := bc hF
          refine j_rV (st2 := [.int i57]) B [.int x2, .int (x3 &&& (x5 ^^^ (-1)))] [] cv_X0_312 dX0_sharedBy_57 hl hR (ct_X0_roundOf G e57) rfl rfl rfl rfl trivial (Nat.le_of_ble_eq_true rfl) ?_
          exact jb60 a0 x1 x2 x3 x4 x5 s0 i57 w57 hF
        · refine j_iconst (v := (-1)) B dX0_sharedBy_45 (by decide) ?_
          refine j_goto (tgt := 60) B dX0_sharedBy_46 (by decide) ?_
          exact jb60 a0 x1 x2 x3 x4 x5 s0 (-1) w hF
      refine j_iload B dX0_sharedBy_11 rfl ?_
      refine j_iload_n B dX0_sharedBy_13 rfl ?_
      refine j_icmp_gt (tgt := 103) B dX0_sharedBy_14 (by decide) hF (fun h14 hF => ?_) (fun h14 hF => ?_)
      · refine j_iload B dX0_sharedBy_103 rfl ?_
        exact j_lIw B rfl dX0_sharedBy_105 hF (by decide) (by decide)
      · refine j_iload B dX0_sharedBy_17 rfl ?_
        refine j_iload_n B dX0_sharedBy_19 rfl ?_
        refine j_iconst (v := (-1)) B dX0_sharedBy_20 (by decide) ?_
        refine j_ixor B dX0_sharedBy_21 ?_
        refine j_iand B dX0_sharedBy_22 ?_
        refine j_if_ne (tgt := 36) B dX0_sharedBy_23 (by decide) hF (fun h23 hF => ?_) (fun h23 hF => ?_)
        · refine j_iconst (v := (-1)) B dX0_sharedBy_36 (by decide) ?_
          exact jb37 a0 x1 x2 x3 x4 x5 (-1) w hF
        · refine j_aload_n B dX0_sharedBy_26 rfl ?_
          refine j_iload_n B dX0_sharedBy_27 rfl ?_
          refine j_iload B dX0_sharedBy_28 rfl ?_
          obtain ⟨i30, w30, e30, hF⟩ := bc hF
          refine j_rV (st2 := [.int i30]) B [.int x1, .int x5] [] cv_X0_312 dX0_sharedBy_30 hl hR (ct_X0_roundOf G e30) rfl rfl rfl rfl trivial (Nat.le_of_ble_eq_true rfl) ?_
          refine j_goto (tgt := 37) B dX0_sharedBy_33 (by decide) ?_
          exact jb37 a0 x1 x2 x3 x4 x5 i30 w30 hF
  refine j_iconst (v := (-1)) B dX0_sharedBy_0 (by decide) ?_
  refine j_istore (vs' := [some (va_rf a0), some (.int x1), some (.int x2), some (.int x3), some (.int (-1)), none, none, none]) B dX0_sharedBy_1 (by decide) rfl ?_
  refine j_aload_n B dX0_sharedBy_3 rfl ?_
  refine j_iconst (v := (-1)) B dX0_sharedBy_4 (by decide) ?_
  refine j_putV B fp_X0_333 (fun h => by cases h) rfl rfl dX0_sharedBy_5 hF (fun w5 hF => ?_)
  refine j_iconst (v := 0) B dX0_sharedBy_8 (by decide) ?_
  refine j_istore (vs' := [some (va_rf a0), some (.int x1), some (.int x2), some (.int x3), some (.int (-1)), some (.int 0), none, none]) B dX0_sharedBy_9 (by decide) rfl ?_
  exact lp11 fu a0 x1 x2 x3 (-1) 0 w5 hF
theorem cv_X0_336 : CV "CarryFair" 336 0 yX0_whyNotBoth cX0_whyNotBoth 4 (some .int) 3 := ⟨_, _, rfl, lw_V q946 q948 qs36 q126 q949, by decide +kernel⟩
theorem cv_X0_339 : CV "CarryFair" 339 0 yX0_sharedBy cX0_sharedBy 8 (some .int) 3 := ⟨_, _, rfl, lw_V q950 q952 qs37 q126 q953, by decide +kernel⟩
def F_X0_shared (a0 : Option Nat) (x1 : Int32) (x2 : Int32) (x3 : Int32) (w : cH) : Option (Int32 × cH) :=
  if tg w a0 = some 0 then ((F_X0_whyNotBoth a0 x1 x2 x3 w).bind fun i4 =>if ¬ i4 = (-1) then (cb (F_X0_finding a0 i4 w) fun i32 w32 => some (i32, w32)) else (cb (F_X0_sharedBy a0 x1 x2 x3 w) fun i20 w20 => cb (F_X0_orNone a0 i20 w20) fun i23 w23 => some (i23, w23))) else none
abbrev rm_X0_shared : Room := { frames := 7, cells := 0, slots := 0, locals := 169 }
set_option maxHeartbeats 4000000 in
set_option maxRecDepth 100000 in
theorem ct_X0_shared {l : Launch} {g : Gt} (G : Gok g) {a0 : Option Nat} {x1 : Int32} {x2 : Int32} {x3 : Int32} {w : cH} {r9 : Int32} {w9 : cH} (hF : F_X0_shared a0 x1 x2 x3 w = some (r9, w9)) : tg w a0 = some 0 ∧ Mx l yX0_shared (ws_ yX0_shared cX0_shared 5 (some .int)) rm_X0_shared g [va_rf a0, .int x1, .int x2, .int x3] w (.returned (some (.int r9))) w9 0 0 := by
  unfold F_X0_shared at hF
  obtain ⟨ht, hF⟩ := bg hF
  refine ⟨ht, mk_ct cX0_shared 5 (some .int) "CarryFair" (plainFor_of_name (by decide)) rfl (lg_le ⟨cr _, rfl, rfl, rfl, trivial⟩ (Nat.le_of_ble_eq_true rfl)) (av_ok ⟨cr _, rfl, rfl, rfl, trivial⟩) G (fun x B hl hR hin hh => ?_)⟩
  show J g x _ _ 0 0 w 0 0 0 [some (va_rf a0), some (.int x1), some (.int x2), some (.int x3), none] []
  refine j_aload_n B dX0_shared_0 rfl ?_
  refine j_iload_n B dX0_shared_1 rfl ?_
  refine j_iload_n B dX0_shared_2 rfl ?_
  refine j_iload_n B dX0_shared_3 rfl ?_
  obtain ⟨i4, e4, hF⟩ := bo hF
  refine j_rV (st2 := [.int i4]) B [.int x1, .int x2, .int x3] [] cv_X0_336 dX0_shared_4 hl hR (ct_X0_whyNotBoth G e4) rfl rfl rfl rfl trivial (Nat.le_of_ble_eq_true rfl) ?_
  refine j_istore (vs' := [some (va_rf a0), some (.int x1), some (.int x2), some (.int x3), some (.int i4)]) B dX0_shared_7 (by decide) rfl ?_
  refine j_iload B dX0_shared_9 rfl ?_
  refine j_iconst (v := (-1)) B dX0_shared_11 (by decide) ?_
  refine j_icmp_ne (tgt := 29) B dX0_shared_12 (by decide) hF (fun h12 hF => ?_) (fun h12 hF => ?_)
  · refine j_aload_n B dX0_shared_29 rfl ?_
    refine j_iload B dX0_shared_30 rfl ?_
    obtain ⟨i32, w32, e32, hF⟩ := bc hF
    refine j_rV (st2 := [.int i32]) B [.int i4] [] cv_X0_142 dX0_shared_32 hl hR (ct_X0_finding G e32) rfl rfl rfl rfl trivial (Nat.le_of_ble_eq_true rfl) ?_
    exact j_lIw B rfl dX0_shared_35 hF (by decide) (by decide)
  · refine j_aload_n B dX0_shared_15 rfl ?_
    refine j_aload_n B dX0_shared_16 rfl ?_
    refine j_iload_n B dX0_shared_17 rfl ?_
    refine j_iload_n B dX0_shared_18 rfl ?_
    refine j_iload_n B dX0_shared_19 rfl ?_
    obtain ⟨i20, w20, e20, hF⟩ := bc hF
    refine j_rV (st2 := [.int i20, va_rf a0]) B [.int x1, .int x2, .int x3] [va_rf a0] cv_X0_339 dX0_shared_20 hl hR (ct_X0_sharedBy G e20) rfl rfl rfl rfl ⟨cr _, trivial⟩ (Nat.le_of_ble_eq_true rfl) ?_
    obtain ⟨i23, w23, e23, hF⟩ := bc hF
    refine j_rV (st2 := [.int i23]) B [.int i20] [] cv_X0_223 dX0_shared_23 hl hR (ct_X0_orNone G e23) rfl rfl rfl rfl trivial (Nat.le_of_ble_eq_true rfl) ?_
    refine j_goto (tgt := 35) B dX0_shared_26 (by decide) ?_
    exact j_lIw B rfl dX0_shared_35 hF (by decide) (by decide)
theorem fl_X0_333 : FL "CarryFair" 333 0 18 := ⟨RX0, TX0, 20, rfl, by decide, in_X0, Or.inl q457⟩
def F_X0_part (a0 : Option Nat) (x1 : Int32) (x2 : Int32) (x3 : Int32) (w : cH) : Option (Int32 × cH) :=
  if tg w a0 = some 0 then ((F_X0_whyNotBoth a0 x1 x2 x3 w).bind fun i4 =>if i4 = (-1) then (cb (F_X0_sharedBy a0 x1 x2 x3 w) fun i26 w26 =>if ¬ i26 = (-1) then ((fI w26 a0 0 18).bind fun i42 => some (i42, w26)) else (cb (F_X0_finding a0 3 w26) fun i35 w35 => some (i35, w35))) else (cb (F_X0_finding a0 i4 w) fun i18 w18 => some (i18, w18))) else none
abbrev rm_X0_part : Room := { frames := 7, cells := 0, slots := 0, locals := 169 }
set_option maxHeartbeats 4000000 in
set_option maxRecDepth 100000 in
theorem ct_X0_part {l : Launch} {g : Gt} (G : Gok g) {a0 : Option Nat} {x1 : Int32} {x2 : Int32} {x3 : Int32} {w : cH} {r9 : Int32} {w9 : cH} (hF : F_X0_part a0 x1 x2 x3 w = some (r9, w9)) : tg w a0 = some 0 ∧ Mx l yX0_part (ws_ yX0_part cX0_part 5 (some .int)) rm_X0_part g [va_rf a0, .int x1, .int x2, .int x3] w (.returned (some (.int r9))) w9 0 0 := by
  unfold F_X0_part at hF
  obtain ⟨ht, hF⟩ := bg hF
  refine ⟨ht, mk_ct cX0_part 5 (some .int) "CarryFair" (plainFor_of_name (by decide)) rfl (lg_le ⟨cr _, rfl, rfl, rfl, trivial⟩ (Nat.le_of_ble_eq_true rfl)) (av_ok ⟨cr _, rfl, rfl, rfl, trivial⟩) G (fun x B hl hR hin hh => ?_)⟩
  show J g x _ _ 0 0 w 0 0 0 [some (va_rf a0), some (.int x1), some (.int x2), some (.int x3), none] []
  refine j_aload_n B dX0_part_0 rfl ?_
  refine j_iload_n B dX0_part_1 rfl ?_
  refine j_iload_n B dX0_part_2 rfl ?_
  refine j_iload_n B dX0_part_3 rfl ?_
  obtain ⟨i4, e4, hF⟩ := bo hF
  refine j_rV (st2 := [.int i4]) B [.int x1, .int x2, .int x3] [] cv_X0_336 dX0_part_4 hl hR (ct_X0_whyNotBoth G e4) rfl rfl rfl rfl trivial (Nat.le_of_ble_eq_true rfl) ?_
  refine j_istore (vs' := [some (va_rf a0), some (.int x1), some (.int x2), some (.int x3), some (.int i4)]) B dX0_part_7 (by decide) rfl ?_
  refine j_iload B dX0_part_9 rfl ?_
  refine j_iconst (v := (-1)) B dX0_part_11 (by decide) ?_
  refine j_icmp_eq (tgt := 22) B dX0_part_12 (by decide) hF (fun h12 hF => ?_) (fun h12 hF => ?_)
  · refine j_aload_n B dX0_part_22 rfl ?_
    refine j_iload_n B dX0_part_23 rfl ?_
    refine j_iload_n B dX0_part_24 rfl ?_
    refine j_iload_n B dX0_part_25 rfl ?_
    obtain ⟨i26, w26, e26, hF⟩ := bc hF
    refine j_rV (st2 := [.int i26]) B [.int x1, .int x2, .int x3] [] cv_X0_339 dX0_part_26 hl hR (ct_X0_sharedBy G e26) rfl rfl rfl rfl trivial (Nat.le_of_ble_eq_true rfl) ?_
    refine j_iconst (v := (-1)) B dX0_part_29 (by decide) ?_
    refine j_icmp_ne (tgt := 41) B dX0_part_30 (by decide) hF (fun h30 hF => ?_) (fun h30 hF => ?_)
    · refine j_aload_n B dX0_part_41 rfl ?_
      refine j_getI B fl_X0_333 dX0_part_42 hF (fun i42 hF => ?_)
      exact j_lIw B rfl dX0_part_45 hF (by decide) (by decide)
    · refine j_aload_n B dX0_part_33 rfl ?_
      refine j_iconst (v := 3) B dX0_part_34 (by decide) ?_
      obtain ⟨i35, w35, e35, hF⟩ := bc hF
      refine j_rV (st2 := [.int i35]) B [.int 3] [] cv_X0_142 dX0_part_35 hl hR (ct_X0_finding G e35) rfl rfl rfl rfl trivial (Nat.le_of_ble_eq_true rfl) ?_
      refine j_goto (tgt := 45) B dX0_part_38 (by decide) ?_
      exact j_lIw B rfl dX0_part_45 hF (by decide) (by decide)
  · refine j_aload_n B dX0_part_15 rfl ?_
    refine j_iload B dX0_part_16 rfl ?_
    obtain ⟨i18, w18, e18, hF⟩ := bc hF
    refine j_rV (st2 := [.int i18]) B [.int i4] [] cv_X0_142 dX0_part_18 hl hR (ct_X0_finding G e18) rfl rfl rfl rfl trivial (Nat.le_of_ble_eq_true rfl) ?_
    exact j_lIw B rfl dX0_part_21 hF (by decide) (by decide)
