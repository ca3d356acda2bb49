theorem ap_X4 : apT TX4 10 := by unfold apT; decide +kernel
theorem fl_X4_32 : FL "CarryFair$World" 32 4 9 := ⟨RX4, TX4, 10, rfl, by decide, in_X4, Or.inl q277⟩
theorem fp_X4_11 : FP "CarryFair$World" 11 4 1 (.array (.array .int)) true := ⟨RX4, TX4, 10, rfl, by decide, in_X4, Or.inl q258, rfl, (fun _ => rfl), by decide +kernel, ap_X4, tyX4, tyX4_ok⟩
theorem fp_X4_16 : FP "CarryFair$World" 16 4 3 (.array (.array .int)) true := ⟨RX4, TX4, 10, rfl, by decide, in_X4, Or.inl q264, rfl, (fun _ => rfl), by decide +kernel, ap_X4, tyX4, tyX4_ok⟩
theorem fp_X4_19 : FP "CarryFair$World" 19 4 5 (.array (.array .int)) true := ⟨RX4, TX4, 10, rfl, by decide, in_X4, Or.inl q269, rfl, (fun _ => rfl), by decide +kernel, ap_X4, tyX4, tyX4_ok⟩
theorem fp_X4_22 : FP "CarryFair$World" 22 4 6 (.array (.array .int)) true := ⟨RX4, TX4, 10, rfl, by decide, in_X4, Or.inl q271, rfl, (fun _ => rfl), by decide +kernel, ap_X4, tyX4, tyX4_ok⟩
theorem fp_X4_25 : FP "CarryFair$World" 25 4 7 (.array (.array .int)) true := ⟨RX4, TX4, 10, rfl, by decide, in_X4, Or.inl q273, rfl, (fun _ => rfl), by decide +kernel, ap_X4, tyX4, tyX4_ok⟩
theorem fp_X4_28 : FP "CarryFair$World" 28 4 8 .int false := ⟨RX4, TX4, 10, rfl, by decide, in_X4, Or.inl q275, rfl, (fun h => by cases h), by decide +kernel, ap_X4, tyX4, tyX4_ok⟩
theorem fp_X4_32 : FP "CarryFair$World" 32 4 9 (.array .int) true := ⟨RX4, TX4, 10, rfl, by decide, in_X4, Or.inl q277, rfl, (fun _ => rfl), by decide +kernel, ap_X4, tyX4, tyX4_ok⟩
def F_X4_init_B76 (rc76 : Option Nat → Int32 → cH → Option cH) (a0 : Option Nat) (x1 : Int32) (w : cH) : Option cH :=
  if 10 ≤ x1 then (some w) else ((fA w a0 4 9).bind fun a83p => (aS w a83p 100 x1 (.int (-1))).bind fun w88 => rc76 a0 (x1 + 1) w88)
def F_X4_init_L76 : Nat → Option Nat → Int32 → cH → Option cH
  | 0, _, _, _ => none
  | n9 + 1, a0, x1, w => F_X4_init_B76  (F_X4_init_L76  n9) a0 x1 w
def F_X4_init (a0 : Nat) (w : cH) : Option cH :=
  if tg w (some a0) = some 4 then ((some (nM w 5 6)).bind fun w8 => (pV w8 (some a0) 4 1 (va_rf (some w.2))).bind fun w12 => (some (nM w12 5 8)).bind fun w19 => (pV w19 (some a0) 4 3 (va_rf (some w12.2))).bind fun w23 => (some (nM w23 2 6)).bind fun w30 => (pV w30 (some a0) 4 5 (va_rf (some w23.2))).bind fun w34 => (some (nM w34 7 7)).bind fun w42 => (pV w42 (some a0) 4 6 (va_rf (some w34.2))).bind fun w46 => (some (nM w46 7 7)).bind fun w54 => (pV w54 (some a0) 4 7 (va_rf (some w46.2))).bind fun w58 => (pV w58 (some a0) 4 8 (.int 1)).bind fun w63 => (some (nA w63 100 10)).bind fun w69 => (pV w69 (some a0) 4 9 (va_rf (some w63.2))).bind fun w71 => F_X4_init_L76  fu (some a0) 0 w71) else none
abbrev rm_X4_init : Room := { frames := 1, cells := 32, slots := 216, locals := 20 }
set_option maxHeartbeats 4000000 in
set_option maxRecDepth 100000 in
theorem ct_X4_init {l : Launch} {g : Gt} (G : Gok g) {a0 : Nat} {w : cH}  {w9 : cH} (hF : F_X4_init a0 w = some w9) : tg w (some a0) = some 4 ∧ Mx l yX4_init (ws_ yX4_init cX4_init 2 none) rm_X4_init g [va_rf (some a0)] w (.returned none) w9 32 216 := by
  unfold F_X4_init at hF
  obtain ⟨ht, hF⟩ := bg hF
  refine ⟨ht, mk_ct cX4_init 2 none "CarryFair$World" (plainFor_of_name (by decide)) rfl (lg_le ⟨cr _, trivial⟩ (Nat.le_of_ble_eq_true rfl)) (av_ok ⟨cr _, trivial⟩) G (fun x B hl hR hin hh => ?_)⟩
  show J g x _ _ 32 216 w 0 0 0 [some (va_rf (some a0)), none] []
  have lp76 : ∀ (n9 : Nat) (a0 : Option Nat) (x1 : Int32) (w : cH), F_X4_init_L76  n9 a0 x1 w = some w9 → J g x (.returned none) w9 32 216 w 32 216 76 [some (va_rf a0), some (.int x1)] [] := by
    intro n9
    induction n9 with
    | zero => intro a0 x1 w hF; cases hF
    | succ n76 ih76 =>
      intro a0 x1 w hF
      have hF : F_X4_init_B76  (F_X4_init_L76  n76) a0 x1 w = some w9 := hF
      unfold F_X4_init_B76 at hF
      refine j_iload_n B dX4_init_76 rfl ?_
      refine j_bipush (v := 10) B dX4_init_77 (by decide) ?_
      refine j_icmp_ge (tgt := 95) B dX4_init_79 (by decide) hF (fun h79 hF => ?_) (fun h79 hF => ?_)
      · exact j_lV B rfl dX4_init_95 hF (by decide) (by decide)
      · refine j_aload_n B dX4_init_82 rfl ?_
        refine j_getA B fl_X4_32 dX4_init_83 hF (fun a83p hF => ?_)
        refine j_iload_n B dX4_init_86 rfl ?_
        refine j_iconst (v := (-1)) B dX4_init_87 (by decide) ?_
        refine j_iastore B dX4_init_88 hF (fun w88 hF => ?_)
        refine j_iinc (v := x1 + 1) (vs' := [some (va_rf a0), some (.int (x1 + 1))]) B dX4_init_89 (by decide) rfl rfl rfl ?_
        refine j_goto (tgt := 76) B dX4_init_92 (by decide) ?_
        exact ih76 a0 (x1 + 1) w88 hF
  refine j_aload_n B dX4_init_0 rfl ?_
  refine j_objInit (a := a0) B q252 q156 q157 dX4_init_1 hR (by decide) (by decide) trivial ?_
  refine j_aload_n B dX4_init_4 rfl ?_
  refine j_iconst (v := 5) B dX4_init_5 (by decide) ?_
  refine j_bipush (v := 6) B dX4_init_6 (by decide) ?_
  obtain ⟨w8, e8, hF⟩ := bo hF
  refine j_multi (ra := 5) (rb := 6) B q253 q254 dX4_init_8 (by decide) (by decide) (by decide) (by decide) (by decide) hR (by decide) (by decide) ?_
  rw [Option.some.inj e8]
  refine j_putV B fp_X4_11 (fun _ => hin) (nar_rf _ _ (Or.inr ⟨_, rfl⟩)) (fit_rf _ _ (Or.inr ⟨_, rfl⟩)) dX4_init_12 hF (fun w12 hF => ?_)
  refine j_aload_n B dX4_init_15 rfl ?_
  refine j_iconst (v := 5) B dX4_init_16 (by decide) ?_
  refine j_bipush (v := 8) B dX4_init_17 (by decide) ?_
  obtain ⟨w19, e19, hF⟩ := bo hF
  refine j_multi (ra := 5) (rb := 8) B q253 q254 dX4_init_19 (by decide) (by decide) (by decide) (by decide) (by decide) hR (by decide) (by decide) ?_
  rw [Option.some.inj e19]
  refine j_putV B fp_X4_16 (fun _ => hin) (nar_rf _ _ (Or.inr ⟨_, rfl⟩)) (fit_rf _ _ (Or.inr ⟨_, rfl⟩)) dX4_init_23 hF (fun w23 hF => ?_)
  refine j_aload_n B dX4_init_26 rfl ?_
  refine j_iconst (v := 2) B dX4_init_27 (by decide) ?_
  refine j_bipush (v := 6) B dX4_init_28 (by decide) ?_
  obtain ⟨w30, e30, hF⟩ := bo hF
  refine j_multi (ra := 2) (rb := 6) B q253 q254 dX4_init_30 (by decide) (by decide) (by decide) (by decide) (by decide) hR (by decide) (by decide) ?_
  rw [Option.some.inj e30]
  refine j_putV B fp_X4_19 (fun _ => hin) (nar_rf _ _ (Or.inr ⟨_, rfl⟩)) (fit_rf _ _ (Or.inr ⟨_, rfl⟩)) dX4_init_34 hF (fun w34 hF => ?_)
  refine j_aload_n B dX4_init_37 rfl ?_
  refine j_bipush (v := 7) B dX4_init_38 (by decide) ?_
  refine j_bipush (v := 7) B dX4_init_40 (by decide) ?_
  obtain ⟨w42, e42, hF⟩ := bo hF
  refine j_multi (ra := 7) (rb := 7) B q253 q254 dX4_init_42 (by decide) (by decide) (by decide) (by decide) (by decide) hR (by decide) (by decide) ?_
  rw [Option.some.inj e42]
  refine j_putV B fp_X4_22 (fun _ => hin) (nar_rf _ _ (Or.inr ⟨_, rfl⟩)) (fit_rf _ _ (Or.inr ⟨_, rfl⟩)) dX4_init_46 hF (fun w46 hF => ?_)
  refine j_aload_n B dX4_init_49 rfl ?_
  refine j_bipush (v := 7) B dX4_init_50 (by decide) ?_
  refine j_bipush (v := 7) B dX4_init_52 (by decide) ?_
  obtain ⟨w54, e54, hF⟩ := bo hF
  refine j_multi (ra := 7) (rb := 7) B q253 q254 dX4_init_54 (by decide) (by decide) (by decide) (by decide) (by decide) hR (by decide) (by decide) ?_
  rw [Option.some.inj e54]
  refine j_putV B fp_X4_25 (fun _ => hin) (nar_rf _ _ (Or.inr ⟨_, rfl⟩)) (fit_rf _ _ (Or.inr ⟨_, rfl⟩)) dX4_init_58 hF (fun w58 hF => ?_)
  refine j_aload_n B dX4_init_61 rfl ?_
  refine j_iconst (v := 1) B dX4_init_62 (by decide) ?_
  refine j_putV B fp_X4_28 (fun h => by cases h) rfl rfl dX4_init_63 hF (fun w63 hF => ?_)
  refine j_aload_n B dX4_init_66 rfl ?_
  refine j_bipush (v := 10) B dX4_init_67 (by decide) ?_
  obtain ⟨w69, e69, hF⟩ := bo hF
  refine j_newarray (at9 := .int) (ty := .int) (N := 10) B 100 rfl rfl rfl q301 dX4_init_69 (by decide) (by decide) (by decide) hR (by decide) (by decide) ?_
  rw [Option.some.inj e69]
  refine j_putV B fp_X4_32 (fun _ => hin) (nar_rf _ _ (Or.inr ⟨_, rfl⟩)) (fit_rf _ _ (Or.inr ⟨_, rfl⟩)) dX4_init_71 hF (fun w71 hF => ?_)
  refine j_iconst (v := 0) B dX4_init_74 (by decide) ?_
  refine j_istore_n (vs' := [some (va_rf (some a0)), some (.int 0)]) B dX4_init_75 (by decide) rfl ?_
  exact lp76 fu (some a0) 0 w71 hF
theorem fl_X4_11 : FL "CarryFair$World" 11 4 1 := ⟨RX4, TX4, 10, rfl, by decide, in_X4, Or.inl q258⟩
theorem fl_X4_46 : FL "CarryFair$World" 46 4 0 := ⟨RX4, TX4, 10, rfl, by decide, in_X4, Or.inl q255⟩
theorem fp_X4_46 : FP "CarryFair$World" 46 4 0 .int false := ⟨RX4, TX4, 10, rfl, by decide, in_X4, Or.inl q255, rfl, (fun h => by cases h), by decide +kernel, ap_X4, tyX4, tyX4_ok⟩
def F_X4_addCarrier (a0 : Option Nat) (x1 : Int32) (x2 : Int32) (x3 : Int32) (w : cH) : Option cH :=
  if tg w a0 = some 4 then ((fA w a0 4 1).bind fun a1p => (aA w a1p 103 0).bind fun a5p => (fI w a0 4 0).bind fun i7 => (aS w a5p 100 i7 (.int x1)).bind fun w11 => (fA w11 a0 4 1).bind fun a13p => (aA w11 a13p 103 1).bind fun a17p => (fI w11 a0 4 0).bind fun i19 => (aS w11 a17p 100 i19 (.int x2)).bind fun w23 => (fA w23 a0 4 1).bind fun a25p => (aA w23 a25p 103 2).bind fun a29p => (fI w23 a0 4 0).bind fun i31 => (aS w23 a29p 100 i31 (.int x3)).bind fun w35 => (fA w35 a0 4 1).bind fun a37p => (aA w35 a37p 103 3).bind fun a41p => (fI w35 a0 4 0).bind fun i43 => (aS w35 a41p 100 i43 (.int 0)).bind fun w47 => (fA w47 a0 4 1).bind fun a49p => (aA w47 a49p 103 4).bind fun a53p => (fI w47 a0 4 0).bind fun i55 => (aS w47 a53p 100 i55 (.int 0)).bind fun w59 => (fI w59 a0 4 0).bind fun i62 => (pV w59 a0 4 0 (.int (i62 + 1))).bind fun w67 => some w67) else none
abbrev rm_X4_addCarrier : Room := { frames := 0, cells := 0, slots := 0, locals := 0 }
set_option maxHeartbeats 4000000 in
set_option maxRecDepth 100000 in
theorem ct_X4_addCarrier {l : Launch} {g : Gt} (G : Gok g) {a0 : Option Nat} {x1 : Int32} {x2 : Int32} {x3 : Int32} {w : cH}  {w9 : cH} (hF : F_X4_addCarrier a0 x1 x2 x3 w = some w9) : tg w a0 = some 4 ∧ Mx l yX4_addCarrier (ws_ yX4_addCarrier cX4_addCarrier 4 none) rm_X4_addCarrier g [va_rf a0, .int x1, .int x2, .int x3] w (.returned none) w9 0 0 := by
  unfold F_X4_addCarrier at hF
  obtain ⟨ht, hF⟩ := bg hF
  refine ⟨ht, mk_ct cX4_addCarrier 4 none "CarryFair$World" (plainFor_of_name (by decide)) rfl (lg_le ⟨cr _, rfl, rfl, rfl, trivial⟩ (Nat.le_of_ble_eq_true rfl)) (av_ok ⟨cr _, rfl, rfl, rfl, trivial⟩) G (fun x B hl hR hin hh => ?_)⟩
  show J g x _ _ 0 0 w 0 0 0 [some (va_rf a0), some (.int x1), some (.int x2), some (.int x3)] []
  refine j_aload_n B dX4_addCarrier_0 rfl ?_
  refine j_getA B fl_X4_11 dX4_addCarrier_1 hF (fun a1p hF => ?_)
  refine j_iconst (v := 0) B dX4_addCarrier_4 (by decide) ?_
  refine j_aaload B 103 rfl rfl dX4_addCarrier_5 hF (fun a5p hF => ?_)
  refine j_aload_n B dX4_addCarrier_6 rfl ?_
  refine j_getI B fl_X4_46 dX4_addCarrier_7 hF (fun i7 hF => ?_)
  refine j_iload_n B dX4_addCarrier_10 rfl ?_
  refine j_iastore B dX4_addCarrier_11 hF (fun w11 hF => ?_)
  refine j_aload_n B dX4_addCarrier_12 rfl ?_
  refine j_getA B fl_X4_11 dX4_addCarrier_13 hF (fun a13p hF => ?_)
  refine j_iconst (v := 1) B dX4_addCarrier_16 (by decide) ?_
  refine j_aaload B 103 rfl rfl dX4_addCarrier_17 hF (fun a17p hF => ?_)
  refine j_aload_n B dX4_addCarrier_18 rfl ?_
  refine j_getI B fl_X4_46 dX4_addCarrier_19 hF (fun i19 hF => ?_)
  refine j_iload_n B dX4_addCarrier_22 rfl ?_
  refine j_iastore B dX4_addCarrier_23 hF (fun w23 hF => ?_)
  refine j_aload_n B dX4_addCarrier_24 rfl ?_
  refine j_getA B fl_X4_11 dX4_addCarrier_25 hF (fun a25p hF => ?_)
  refine j_iconst (v := 2) B dX4_addCarrier_28 (by decide) ?_
  refine j_aaload B 103 rfl rfl dX4_addCarrier_29 hF (fun a29p hF => ?_)
  refine j_aload_n B dX4_addCarrier_30 rfl ?_
  refine j_getI B fl_X4_46 dX4_addCarrier_31 hF (fun i31 hF => ?_)
  refine j_iload_n B dX4_addCarrier_34 rfl ?_
  refine j_iastore B dX4_addCarrier_35 hF (fun w35 hF => ?_)
  refine j_aload_n B dX4_addCarrier_36 rfl ?_
  refine j_getA B fl_X4_11 dX4_addCarrier_37 hF (fun a37p hF => ?_)
  refine j_iconst (v := 3) B dX4_addCarrier_40 (by decide) ?_
  refine j_aaload B 103 rfl rfl dX4_addCarrier_41 hF (fun a41p hF => ?_)
  refine j_aload_n B dX4_addCarrier_42 rfl ?_
  refine j_getI B fl_X4_46 dX4_addCarrier_43 hF (fun i43 hF => ?_)
  refine j_iconst (v := 0) B dX4_addCarrier_46 (by decide) ?_
  refine j_iastore B dX4_addCarrier_47 hF (fun w47 hF => ?_)
  refine j_aload_n B dX4_addCarrier_48 rfl ?_
  refine j_getA B fl_X4_11 dX4_addCarrier_49 hF (fun a49p hF => ?_)
  refine j_iconst (v := 4) B dX4_addCarrier_52 (by decide) ?_
  refine j_aaload B 103 rfl rfl dX4_addCarrier_53 hF (fun a53p hF => ?_)
  refine j_aload_n B dX4_addCarrier_54 rfl ?_
  refine j_getI B fl_X4_46 dX4_addCarrier_55 hF (fun i55 hF => ?_)
  refine j_iconst (v := 0) B dX4_addCarrier_58 (by decide) ?_
  refine j_iastore B dX4_addCarrier_59 hF (fun w59 hF => ?_)
  refine j_aload_n B dX4_addCarrier_60 rfl ?_
  refine j_dup B dX4_addCarrier_61 (cr _) ?_
  refine j_getI B fl_X4_46 dX4_addCarrier_62 hF (fun i62 hF => ?_)
  refine j_iconst (v := 1) B dX4_addCarrier_65 (by decide) ?_
  refine j_iadd B dX4_addCarrier_66 ?_
  refine j_putV B fp_X4_46 (fun h => by cases h) rfl rfl dX4_addCarrier_67 hF (fun w67 hF => ?_)
  exact j_lV B rfl dX4_addCarrier_70 hF (by decide) (by decide)
theorem fl_X4_49 : FL "CarryFair$World" 49 4 2 := ⟨RX4, TX4, 10, rfl, by decide, in_X4, Or.inl q261⟩
theorem fl_X4_16 : FL "CarryFair$World" 16 4 3 := ⟨RX4, TX4, 10, rfl, by decide, in_X4, Or.inl q264⟩
def F_X4_carriedBy_J44 (rc4 : (Option Nat) → Int32 → Int32 → Int32 → cH → Option Int32) (a0 : Option Nat) (x1 : Int32) (x3 : Int32) (s0 : Int32) (s1 : Int32) (w : cH) : Option Int32 :=
  rc4 a0 x1 (s1 ||| s0) (x3 + 1) w
def F_X4_carriedBy_J43 (rc4 : (Option Nat) → Int32 → Int32 → Int32 → cH → Option Int32) (a0 : Option Nat) (x1 : Int32) (x3 : Int32) (s0 : Int32) (w : cH) : Option Int32 :=
  F_X4_carriedBy_J44  rc4 a0 x1 x3 0 s0 w
def F_X4_carriedBy_B4 (rc4 : Option Nat → Int32 → Int32 → Int32 → cH → Option Int32) (a0 : Option Nat) (x1 : Int32) (x2 : Int32) (x3 : Int32) (w : cH) : Option Int32 :=
  (fI w a0 4 2).bind fun i6 =>if i6 ≤ x3 then (some (x2)) else ((fA w a0 4 3).bind fun a14p => (aA w a14p 103 3).bind fun a18p => (aI w a18p 100 x3).bind fun i20 =>if ¬ i20 = 1 then (F_X4_carriedBy_J43  rc4 a0 x1 x3 x2 w) else ((fA w a0 4 3).bind fun a26p => (aA w a26p 103 4).bind fun a30p => (aI w a30p 100 x3).bind fun i32 =>if ¬ i32 = x1 then (F_X4_carriedBy_J43  rc4 a0 x1 x3 x2 w) else (F_X4_carriedBy_J44  rc4 a0 x1 x3 (1 <<< (x3 &&& 31)) x2 w)))
def F_X4_carriedBy_L4 : Nat → Option Nat → Int32 → Int32 → Int32 → cH → Option Int32
  | 0, _, _, _, _, _ => none
  | n9 + 1, a0, x1, x2, x3, w => F_X4_carriedBy_B4  (F_X4_carriedBy_L4  n9) a0 x1 x2 x3 w
def F_X4_carriedBy (a0 : Option Nat) (x1 : Int32) (w : cH) : Option Int32 :=
  if tg w a0 = some 4 then (F_X4_carriedBy_L4  fu a0 x1 0 0 w) else none
abbrev rm_X4_carriedBy : Room := { frames := 0, cells := 0, slots := 0, locals := 0 }
set_option maxHeartbeats 4000000 in
set_option maxRecDepth 100000 in
theorem ct_X4_carriedBy {l : Launch} {g : Gt} (G : Gok g) {a0 : Option Nat} {x1 : Int32} {w : cH} {r9 : Int32} (hF : F_X4_carriedBy a0 x1 w = some r9) : tg w a0 = some 4 ∧ Mx l yX4_carriedBy (ws_ yX4_carriedBy cX4_carriedBy 4 (some .int)) rm_X4_carriedBy g [va_rf a0, .int x1] w (.returned (some (.int r9))) w 0 0 := by
  unfold F_X4_carriedBy at hF
  obtain ⟨ht, hF⟩ := bg hF
  refine ⟨ht, mk_ct cX4_carriedBy 4 (some .int) "CarryFair$World" (plainFor_of_name (by decide)) rfl (lg_le ⟨cr _, rfl, trivial⟩ (Nat.le_of_ble_eq_true rfl)) (av_ok ⟨cr _, rfl, trivial⟩) G (fun x B hl hR hin hh => ?_)⟩
  show J g x _ _ 0 0 w 0 0 0 [some (va_rf a0), some (.int x1), none, none] []
  have lp4 : ∀ (n9 : Nat) (a0 : Option Nat) (x1 : Int32) (x2 : Int32) (x3 : Int32), F_X4_carriedBy_L4  n9 a0 x1 x2 x3 w = some r9 → J g x (.returned (some (.int r9))) w 0 0 w 0 0 4 [some (va_rf a0), some (.int x1), some (.int x2), some (.int x3)] [] := by
    intro n9
    induction n9 with
    | zero => intro a0 x1 x2 x3 hF; cases hF
    | succ n4 ih4 =>
      intro a0 x1 x2 x3 hF
      have hF : F_X4_carriedBy_B4  (F_X4_carriedBy_L4  n4) a0 x1 x2 x3 w = some r9 := hF
      unfold F_X4_carriedBy_B4 at hF
      have jb44 : ∀ (a0 : Option Nat) (x1 : Int32) (x3 : Int32) (s0 : Int32) (s1 : Int32), F_X4_carriedBy_J44  (F_X4_carriedBy_L4  n4) a0 x1 x3 s0 s1 w = some r9 → J g x (.returned (some (.int r9))) w 0 0 w 0 0 44 [some (va_rf a0), some (.int x1), none, some (.int x3)] [.int s0, .int s1] := by
        intro a0 x1 x3 s0 s1 hF
        unfold F_X4_carriedBy_J44 at hF
        refine j_ior B dX4_carriedBy_44 ?_
        refine j_istore_n (vs' := [some (va_rf a0), some (.int x1), some (.int (s1 ||| s0)), some (.int x3)]) B dX4_carriedBy_45 (by decide) rfl ?_
        refine j_iinc (v := x3 + 1) (vs' := [some (va_rf a0), some (.int x1), some (.int (s1 ||| s0)), some (.int (x3 + 1))]) B dX4_carriedBy_46 (by decide) rfl rfl rfl ?_
        refine j_goto (tgt := 4) B dX4_carriedBy_49 (by decide) ?_
        exact ih4 a0 x1 (s1 ||| s0) (x3 + 1) hF
      have jb43 : ∀ (a0 : Option Nat) (x1 : Int32) (x3 : Int32) (s0 : Int32), F_X4_carriedBy_J43  (F_X4_carriedBy_L4  n4) a0 x1 x3 s0 w = some r9 → J g x (.returned (some (.int r9))) w 0 0 w 0 0 43 [some (va_rf a0), some (.int x1), none, some (.int x3)] [.int s0] := by
        intro a0 x1 x3 s0 hF
        unfold F_X4_carriedBy_J43 at hF
        refine j_iconst (v := 0) B dX4_carriedBy_43 (by decide) ?_
        exact jb44 a0 x1 x3 0 s0 hF
      refine j_iload_n B dX4_carriedBy_4 rfl ?_
      refine j_aload_n B dX4_carriedBy_5 rfl ?_
      refine j_getI B fl_X4_49 dX4_carriedBy_6 hF (fun i6 hF => ?_)
      refine j_icmp_ge (tgt := 52) B dX4_carriedBy_9 (by decide) hF (fun h9 hF => ?_) (fun h9 hF => ?_)
      · refine j_iload_n B dX4_carriedBy_52 rfl ?_
        exact j_lI B rfl dX4_carriedBy_53 hF (by decide) (by decide)
      · refine j_iload_n B dX4_carriedBy_12 rfl ?_
        refine j_aload_n B dX4_carriedBy_13 rfl ?_
        refine j_getA B fl_X4_16 dX4_carriedBy_14 hF (fun a14p hF => ?_)
        refine j_iconst (v := 3) B dX4_carriedBy_17 (by decide) ?_
        refine j_aaload B 103 rfl rfl dX4_carriedBy_18 hF (fun a18p hF => ?_)
        refine j_iload_n B dX4_carriedBy_19 rfl ?_
        refine j_iaload B dX4_carriedBy_20 hF (fun i20 hF => ?_)
        refine j_iconst (v := 1) B dX4_carriedBy_21 (by decide) ?_
        refine j_icmp_ne (tgt := 43) B dX4_carriedBy_22 (by decide) hF (fun h22 hF => ?_) (fun h22 hF => ?_)
        · refine j_msk [true, true, false, true] rfl ?_
          exact jb43 a0 x1 x3 x2 hF
        · refine j_aload_n B dX4_carriedBy_25 rfl ?_
          refine j_getA B fl_X4_16 dX4_carriedBy_26 hF (fun a26p hF => ?_)
          refine j_iconst (v := 4) B dX4_carriedBy_29 (by decide) ?_
          refine j_aaload B 103 rfl rfl dX4_carriedBy_30 hF (fun a30p hF => ?_)
          refine j_iload_n B dX4_carriedBy_31 rfl ?_
          refine j_iaload B dX4_carriedBy_32 hF (fun i32 hF => ?_)
          refine j_iload_n B dX4_carriedBy_33 rfl ?_
          refine j_icmp_ne (tgt := 43) B dX4_carriedBy_34 (by decide) hF (fun h34 hF => ?_) (fun h34 hF => ?_)
          · refine j_msk [true, true, false, true] rfl ?_
            exact jb43 a0 x1 x3 x2 hF
          · refine j_iconst (v := 1) B dX4_carriedBy_37 (by decide) ?_
            refine j_iload_n B dX4_carriedBy_38 rfl ?_
            refine j_ishl B dX4_carriedBy_39 ?_
            refine j_goto (tgt := 44) B dX4_carriedBy_40 (by decide) ?_
            refine j_msk [true, true, false, true] rfl ?_
            exact jb44 a0 x1 x3 (1 <<< (x3 &&& 31)) x2 hF
  refine j_iconst (v := 0) B dX4_carriedBy_0 (by decide) ?_
  refine j_istore_n (vs' := [some (va_rf a0), some (.int x1), some (.int 0), none]) B dX4_carriedBy_1 (by decide) rfl ?_
  refine j_iconst (v := 0) B dX4_carriedBy_2 (by decide) ?_
  refine j_istore_n (vs' := [some (va_rf a0), some (.int x1), some (.int 0), some (.int 0)]) B dX4_carriedBy_3 (by decide) rfl ?_
  exact lp4 fu a0 x1 0 0 hF
def F_X0_has (x0 : Int32) (x1 : Int32) : Int32 :=
  if ¬ ((x0 >>> (x1 &&& 31)) &&& 1) = 1 then (0) else (1)
abbrev rm_X0_has : Room := { frames := 0, cells := 0, slots := 0, locals := 0 }
set_option maxHeartbeats 4000000 in
set_option maxRecDepth 100000 in
theorem ct_X0_has {l : Launch} {g : Gt} (G : Gok g) {x0 : Int32} {x1 : Int32} {w : cH} : Mx l yX0_has (ws_ yX0_has cX0_has 2 (some .boolean)) rm_X0_has g [.int x0, .int x1] w (.returned (some (.int (F_X0_has x0 x1)))) w 0 0 := by
  generalize hF : F_X0_has x0 x1 = r9
  unfold F_X0_has at hF
  refine mk_ct cX0_has 2 (some .boolean) "CarryFair" (plainFor_of_name (by decide)) rfl (lg_le ⟨rfl, rfl, trivial⟩ (Nat.le_of_ble_eq_true rfl)) (av_ok ⟨rfl, rfl, trivial⟩) G (fun x B hl hR hin hh => ?_)
  show J g x _ _ 0 0 w 0 0 0 [some (.int x0), some (.int x1)] []
  refine j_iload_n B dX0_has_0 rfl ?_
  refine j_iload_n B dX0_has_1 rfl ?_
  refine j_ishr B dX0_has_2 ?_
  refine j_iconst (v := 1) B dX0_has_3 (by decide) ?_
  refine j_iand B dX0_has_4 ?_
  refine j_iconst (v := 1) B dX0_has_5 (by decide) ?_
  refine j_icmp_ne (tgt := 13) B dX0_has_6 (by decide) hF (fun h6 hF => ?_) (fun h6 hF => ?_)
  · refine j_iconst (v := 0) B dX0_has_13 (by decide) ?_
    exact j_lZp B (by decide) rfl dX0_has_14 hF (by decide) (by decide)
  · refine j_iconst (v := 1) B dX0_has_9 (by decide) ?_
    refine j_goto (tgt := 14) B dX0_has_10 (by decide) ?_
    exact j_lZp B (by decide) rfl dX0_has_14 hF (by decide) (by decide)
theorem cs_X4_60 : CS "CarryFair$World" 60 yX0_has cX0_has 2 (some .boolean) 2 := ⟨Or.inr ⟨⟨_, q614⟩, q615, q126, q616⟩, by decide +kernel⟩
def F_X4_weight_J33 (rc4 : (Option Nat) → Int32 → Int32 → Int32 → cH → Option Int32) (a0 : Option Nat) (x1 : Int32) (x3 : Int32) (s0 : Int32) (s1 : Int32) (w : cH) : Option Int32 :=
  rc4 a0 x1 (s1 + s0) (x3 + 1) w
def F_X4_weight_B4 (rc4 : Option Nat → Int32 → Int32 → Int32 → cH → Option Int32) (a0 : Option Nat) (x1 : Int32) (x2 : Int32) (x3 : Int32) (w : cH) : Option Int32 :=
  (fI w a0 4 2).bind fun i6 =>if i6 ≤ x3 then (some (x2)) else (if (F_X0_has x1 x3) = 0 then (F_X4_weight_J33  rc4 a0 x1 x3 0 x2 w) else ((fA w a0 4 3).bind fun a22p => (aA w a22p 103 0).bind fun a26p => (aI w a26p 100 x3).bind fun i28 => F_X4_weight_J33  rc4 a0 x1 x3 i28 x2 w))
def F_X4_weight_L4 : Nat → Option Nat → Int32 → Int32 → Int32 → cH → Option Int32
  | 0, _, _, _, _, _ => none
  | n9 + 1, a0, x1, x2, x3, w => F_X4_weight_B4  (F_X4_weight_L4  n9) a0 x1 x2 x3 w
def F_X4_weight (a0 : Option Nat) (x1 : Int32) (w : cH) : Option Int32 :=
  if tg w a0 = some 4 then (F_X4_weight_L4  fu a0 x1 0 0 w) else none
abbrev rm_X4_weight : Room := { frames := 1, cells := 0, slots := 0, locals := 21 }
set_option maxHeartbeats 4000000 in
set_option maxRecDepth 100000 in
theorem ct_X4_weight {l : Launch} {g : Gt} (G : Gok g) {a0 : Option Nat} {x1 : Int32} {w : cH} {r9 : Int32} (hF : F_X4_weight a0 x1 w = some r9) : tg w a0 = some 4 ∧ Mx l yX4_weight (ws_ yX4_weight cX4_weight 4 (some .int)) rm_X4_weight g [va_rf a0, .int x1] w (.returned (some (.int r9))) w 0 0 := by
  unfold F_X4_weight at hF
  obtain ⟨ht, hF⟩ := bg hF
  refine ⟨ht, mk_ct cX4_weight 4 (some .int) "CarryFair$World" (plainFor_of_name (by decide)) rfl (lg_le ⟨cr _, rfl, trivial⟩ (Nat.le_of_ble_eq_true rfl)) (av_ok ⟨cr _, rfl, trivial⟩) G (fun x B hl hR hin hh => ?_)⟩
  show J g x _ _ 0 0 w 0 0 0 [some (va_rf a0), some (.int x1), none, none] []
  have lp4 : ∀ (n9 : Nat) (a0 : Option Nat) (x1 : Int32) (x2 : Int32) (x3 : Int32), F_X4_weight_L4  n9 a0 x1 x2 x3 w = some r9 → J g x (.returned (some (.int r9))) w 0 0 w 0 0 4 [some (va_rf a0), some (.int x1), some (.int x2), some (.int x3)] [] := by
    intro n9
    induction n9 with
    | zero => intro a0 x1 x2 x3 hF; cases hF
    | succ n4 ih4 =>
      intro a0 x1 x2 x3 hF
      have hF : F_X4_weight_B4  (F_X4_weight_L4  n4) a0 x1 x2 x3 w = some r9 := hF
      unfold F_X4_weight_B4 at hF
      have jb33 : ∀ (a0 : Option Nat) (x1 : Int32) (x3 : Int32) (s0 : Int32) (s1 : Int32), F_X4_weight_J33  (F_X4_weight_L4  n4) a0 x1 x3 s0 s1 w = some r9 → J g x (.returned (some (.int r9))) w 0 0 w 0 0 33 [some (va_rf a0), some (.int x1), none, some (.int x3)] [.int s0, .int s1] := by
        intro a0 x1 x3 s0 s1 hF
        unfold F_X4_weight_J33 at hF
        refine j_iadd B dX4_weight_33 ?_
        refine j_istore_n (vs' := [some (va_rf a0), some (.int x1), some (.int (s1 + s0)), some (.int x3)]) B dX4_weight_34 (by decide) rfl ?_
        refine j_iinc (v := x3 + 1) (vs' := [some (va_rf a0), some (.int x1), some (.int (s1 + s0)), some (.int (x3 + 1))]) B dX4_weight_35 (by decide) rfl rfl rfl ?_
        refine j_goto (tgt := 4) B dX4_weight_38 (by decide) ?_
        exact ih4 a0 x1 (s1 + s0) (x3 + 1) hF
      refine j_iload_n B dX4_weight_4 rfl ?_
      refine j_aload_n B dX4_weight_5 rfl ?_
      refine j_getI B fl_X4_49 dX4_weight_6 hF (fun i6 hF => ?_)
      refine j_icmp_ge (tgt := 41) B dX4_weight_9 (by decide) hF (fun h9 hF => ?_) (fun h9 hF => ?_)
      · refine j_iload_n B dX4_weight_41 rfl ?_
        exact j_lI B rfl dX4_weight_42 hF (by decide) (by decide)
      · refine j_iload_n B dX4_weight_12 rfl ?_
        refine j_iload_n B dX4_weight_13 rfl ?_
        refine j_iload_n B dX4_weight_14 rfl ?_
        refine j_rS (st2 := [.int (F_X0_has x1 x3), .int x2]) B [.int x1, .int x3] [.int x2] cs_X4_60 dX4_weight_15 hl hR (ct_X0_has G) rfl rfl rfl rfl ⟨rfl, trivial⟩ (Nat.le_of_ble_eq_true rfl) ?_
        refine j_if_eq (tgt := 32) B dX4_weight_18 (by decide) hF (fun h18 hF => ?_) (fun h18 hF => ?_)
        · refine j_iconst (v := 0) B dX4_weight_32 (by decide) ?_
          refine j_msk [true, true, false, true] rfl ?_
          exact jb33 a0 x1 x3 0 x2 hF
        · refine j_aload_n B dX4_weight_21 rfl ?_
          refine j_getA B fl_X4_16 dX4_weight_22 hF (fun a22p hF => ?_)
          refine j_iconst (v := 0) B dX4_weight_25 (by decide) ?_
          refine j_aaload B 103 rfl rfl dX4_weight_26 hF (fun a26p hF => ?_)
          refine j_iload_n B dX4_weight_27 rfl ?_
          refine j_iaload B dX4_weight_28 hF (fun i28 hF => ?_)
          refine j_goto (tgt := 33) B dX4_weight_29 (by decide) ?_
          refine j_msk [true, true, false, true] rfl ?_
          exact jb33 a0 x1 x3 i28 x2 hF
  refine j_iconst (v := 0) B dX4_weight_0 (by decide) ?_
  refine j_istore_n (vs' := [some (va_rf a0), some (.int x1), some (.int 0), none]) B dX4_weight_1 (by decide) rfl ?_
  refine j_iconst (v := 0) B dX4_weight_2 (by decide) ?_
  refine j_istore_n (vs' := [some (va_rf a0), some (.int x1), some (.int 0), some (.int 0)]) B dX4_weight_3 (by decide) rfl ?_
  exact lp4 fu a0 x1 0 0 hF
theorem fl_X4_22 : FL "CarryFair$World" 22 4 6 := ⟨RX4, TX4, 10, rfl, by decide, in_X4, Or.inl q271⟩
theorem fl_X4_25 : FL "CarryFair$World" 25 4 7 := ⟨RX4, TX4, 10, rfl, by decide, in_X4, Or.inl q273⟩
def F_X4_lays (a0 : Option Nat) (x1 : Int32) (x2 : Int32) (x3 : Int32) (x4 : Int32) (w : cH) : Option cH :=
  if tg w a0 = some 4 then ((fA w a0 4 6).bind fun a1p => (aA w a1p 103 x1).bind fun a5p => (aS w a5p 100 x2 (.int x3)).bind fun w8 => (fA w8 a0 4 6).bind fun a10p => (aA w8 a10p 103 x2).bind fun a14p => (aS w8 a14p 100 x1 (.int x3)).bind fun w17 => (fA w17 a0 4 7).bind fun a19p => (aA w17 a19p 103 x1).bind fun a23p => (aS w17 a23p 100 x2 (.int x4)).bind fun w27 => (fA w27 a0 4 7).bind fun a29p => (aA w27 a29p 103 x2).bind fun a33p => (aS w27 a33p 100 x1 (.int x4)).bind fun w37 => some w37) else none
abbrev rm_X4_lays : Room := { frames := 0, cells := 0, slots := 0, locals := 0 }
set_option maxHeartbeats 4000000 in
set_option maxRecDepth 100000 in
theorem ct_X4_lays {l : Launch} {g : Gt} (G : Gok g) {a0 : Option Nat} {x1 : Int32} {x2 : Int32} {x3 : Int32} {x4 : Int32} {w : cH}  {w9 : cH} (hF : F_X4_lays a0 x1 x2 x3 x4 w = some w9) : tg w a0 = some 4 ∧ Mx l yX4_lays (ws_ yX4_lays cX4_lays 5 none) rm_X4_lays g [va_rf a0, .int x1, .int x2, .int x3, .int x4] w (.returned none) w9 0 0 := by
  unfold F_X4_lays at hF
  obtain ⟨ht, hF⟩ := bg hF
  refine ⟨ht, mk_ct cX4_lays 5 none "CarryFair$World" (plainFor_of_name (by decide)) rfl (lg_le ⟨cr _, rfl, rfl, rfl, rfl, trivial⟩ (Nat.le_of_ble_eq_true rfl)) (av_ok ⟨cr _, rfl, rfl, rfl, rfl, trivial⟩) G (fun x B hl hR hin hh => ?_)⟩
  show J g x _ _ 0 0 w 0 0 0 [some (va_rf a0), some (.int x1), some (.int x2), some (.int x3), some (.int x4)] []
  refine j_aload_n B dX4_lays_0 rfl ?_
  refine j_getA B fl_X4_22 dX4_lays_1 hF (fun a1p hF => ?_)
  refine j_iload_n B dX4_lays_4 rfl ?_
  refine j_aaload B 103 rfl rfl dX4_lays_5 hF (fun a5p hF => ?_)
  refine j_iload_n B dX4_lays_6 rfl ?_
  refine j_iload_n B dX4_lays_7 rfl ?_
  refine j_iastore B dX4_lays_8 hF (fun w8 hF => ?_)
  refine j_aload_n B dX4_lays_9 rfl ?_
  refine j_getA B fl_X4_22 dX4_lays_10 hF (fun a10p hF => ?_)
  refine j_iload_n B dX4_lays_13 rfl ?_
  refine j_aaload B 103 rfl rfl dX4_lays_14 hF (fun a14p hF => ?_)
  refine j_iload_n B dX4_lays_15 rfl ?_
  refine j_iload_n B dX4_lays_16 rfl ?_
  refine j_iastore B dX4_lays_17 hF (fun w17 hF => ?_)
  refine j_aload_n B dX4_lays_18 rfl ?_
  refine j_getA B fl_X4_25 dX4_lays_19 hF (fun a19p hF => ?_)
  refine j_iload_n B dX4_lays_22 rfl ?_
  refine j_aaload B 103 rfl rfl dX4_lays_23 hF (fun a23p hF => ?_)
  refine j_iload_n B dX4_lays_24 rfl ?_
  refine j_iload B dX4_lays_25 rfl ?_
  refine j_iastore B dX4_lays_27 hF (fun w27 hF => ?_)
  refine j_aload_n B dX4_lays_28 rfl ?_
  refine j_getA B fl_X4_25 dX4_lays_29 hF (fun a29p hF => ?_)
  refine j_iload_n B dX4_lays_32 rfl ?_
  refine j_aaload B 103 rfl rfl dX4_lays_33 hF (fun a33p hF => ?_)
  refine j_iload_n B dX4_lays_34 rfl ?_
  refine j_iload B dX4_lays_35 rfl ?_
  refine j_iastore B dX4_lays_37 hF (fun w37 hF => ?_)
  exact j_lV B rfl dX4_lays_38 hF (by decide) (by decide)
theorem fp_X4_49 : FP "CarryFair$World" 49 4 2 .int false := ⟨RX4, TX4, 10, rfl, by decide, in_X4, Or.inl q261, rfl, (fun h => by cases h), by decide +kernel, ap_X4, tyX4, tyX4_ok⟩
def F_X4_addErrand (a0 : Option Nat) (x1 : Int32) (x2 : Int32) (x3 : Int32) (w : cH) : Option cH :=
  if tg w a0 = some 4 then ((fA w a0 4 3).bind fun a1p => (aA w a1p 103 0).bind fun a5p => (fI w a0 4 2).bind fun i7 => (aS w a5p 100 i7 (.int x1)).bind fun w11 => (fA w11 a0 4 3).bind fun a13p => (aA w11 a13p 103 1).bind fun a17p => (fI w11 a0 4 2).bind fun i19 => (aS w11 a17p 100 i19 (.int x2)).bind fun w23 => (fA w23 a0 4 3).bind fun a25p => (aA w23 a25p 103 2).bind fun a29p => (fI w23 a0 4 2).bind fun i31 => (aS w23 a29p 100 i31 (.int x3)).bind fun w35 => (fA w35 a0 4 3).bind fun a37p => (aA w35 a37p 103 3).bind fun a41p => (fI w35 a0 4 2).bind fun i43 => (aS w35 a41p 100 i43 (.int 0)).bind fun w47 => (fA w47 a0 4 3).bind fun a49p => (aA w47 a49p 103 4).bind fun a53p => (fI w47 a0 4 2).bind fun i55 => (aS w47 a53p 100 i55 (.int (-1))).bind fun w59 => (fI w59 a0 4 2).bind fun i62 => (pV w59 a0 4 2 (.int (i62 + 1))).bind fun w67 => some w67) else none
abbrev rm_X4_addErrand : Room := { frames := 0, cells := 0, slots := 0, locals := 0 }
set_option maxHeartbeats 4000000 in
set_option maxRecDepth 100000 in
theorem ct_X4_addErrand {l : Launch} {g : Gt} (G : Gok g) {a0 : Option Nat} {x1 : Int32} {x2 : Int32} {x3 : Int32} {w : cH}  {w9 : cH} (hF : F_X4_addErrand a0 x1 x2 x3 w = some w9) : tg w a0 = some 4 ∧ Mx l yX4_addErrand (ws_ yX4_addErrand cX4_addErrand 4 none) rm_X4_addErrand g [va_rf a0, .int x1, .int x2, .int x3] w (.returned none) w9 0 0 := by
  unfold F_X4_addErrand at hF
  obtain ⟨ht, hF⟩ := bg hF
  refine ⟨ht, mk_ct cX4_addErrand 4 none "CarryFair$World" (plainFor_of_name (by decide)) rfl (lg_le ⟨cr _, rfl, rfl, rfl, trivial⟩ (Nat.le_of_ble_eq_true rfl)) (av_ok ⟨cr _, rfl, rfl, rfl, trivial⟩) G (fun x B hl hR hin hh => ?_)⟩
  show J g x _ _ 0 0 w 0 0 0 [some (va_rf a0), some (.int x1), some (.int x2), some (.int x3)] []
  refine j_aload_n B dX4_addErrand_0 rfl ?_
  refine j_getA B fl_X4_16 dX4_addErrand_1 hF (fun a1p hF => ?_)
  refine j_iconst (v := 0) B dX4_addErrand_4 (by decide) ?_
  refine j_aaload B 103 rfl rfl dX4_addErrand_5 hF (fun a5p hF => ?_)
  refine j_aload_n B dX4_addErrand_6 rfl ?_
  refine j_getI B fl_X4_49 dX4_addErrand_7 hF (fun i7 hF => ?_)
  refine j_iload_n B dX4_addErrand_10 rfl ?_
  refine j_iastore B dX4_addErrand_11 hF (fun w11 hF => ?_)
  refine j_aload_n B dX4_addErrand_12 rfl ?_
  refine j_getA B fl_X4_16 dX4_addErrand_13 hF (fun a13p hF => ?_)
  refine j_iconst (v := 1) B dX4_addErrand_16 (by decide) ?_
  refine j_aaload B 103 rfl rfl dX4_addErrand_17 hF (fun a17p hF => ?_)
  refine j_aload_n B dX4_addErrand_18 rfl ?_
  refine j_getI B fl_X4_49 dX4_addErrand_19 hF (fun i19 hF => ?_)
  refine j_iload_n B dX4_addErrand_22 rfl ?_
  refine j_iastore B dX4_addErrand_23 hF (fun w23 hF => ?_)
  refine j_aload_n B dX4_addErrand_24 rfl ?_
  refine j_getA B fl_X4_16 dX4_addErrand_25 hF (fun a25p hF => ?_)
  refine j_iconst (v := 2) B dX4_addErrand_28 (by decide) ?_
  refine j_aaload B 103 rfl rfl dX4_addErrand_29 hF (fun a29p hF => ?_)
  refine j_aload_n B dX4_addErrand_30 rfl ?_
  refine j_getI B fl_X4_49 dX4_addErrand_31 hF (fun i31 hF => ?_)
  refine j_iload_n B dX4_addErrand_34 rfl ?_
  refine j_iastore B dX4_addErrand_35 hF (fun w35 hF => ?_)
  refine j_aload_n B dX4_addErrand_36 rfl ?_
  refine j_getA B fl_X4_16 dX4_addErrand_37 hF (fun a37p hF => ?_)
  refine j_iconst (v := 3) B dX4_addErrand_40 (by decide) ?_
  refine j_aaload B 103 rfl rfl dX4_addErrand_41 hF (fun a41p hF => ?_)
  refine j_aload_n B dX4_addErrand_42 rfl ?_
  refine j_getI B fl_X4_49 dX4_addErrand_43 hF (fun i43 hF => ?_)
  refine j_iconst (v := 0) B dX4_addErrand_46 (by decide) ?_
  refine j_iastore B dX4_addErrand_47 hF (fun w47 hF => ?_)
  refine j_aload_n B dX4_addErrand_48 rfl ?_
  refine j_getA B fl_X4_16 dX4_addErrand_49 hF (fun a49p hF => ?_)
  refine j_iconst (v := 4) B dX4_addErrand_52 (by decide) ?_
  refine j_aaload B 103 rfl rfl dX4_addErrand_53 hF (fun a53p hF => ?_)
  refine j_aload_n B dX4_addErrand_54 rfl ?_
  refine j_getI B fl_X4_49 dX4_addErrand_55 hF (fun i55 hF => ?_)
  refine j_iconst (v := (-1)) B dX4_addErrand_58 (by decide) ?_
  refine j_iastore B dX4_addErrand_59 hF (fun w59 hF => ?_)
  refine j_aload_n B dX4_addErrand_60 rfl ?_
  refine j_dup B dX4_addErrand_61 (cr _) ?_
  refine j_getI B fl_X4_49 dX4_addErrand_62 hF (fun i62 hF => ?_)
  refine j_iconst (v := 1) B dX4_addErrand_65 (by decide) ?_
  refine j_iadd B dX4_addErrand_66 ?_
  refine j_putV B fp_X4_49 (fun h => by cases h) rfl rfl dX4_addErrand_67 hF (fun w67 hF => ?_)
  exact j_lV B rfl dX4_addErrand_70 hF (by decide) (by decide)
theorem fl_X4_19 : FL "CarryFair$World" 19 4 5 := ⟨RX4, TX4, 10, rfl, by decide, in_X4, Or.inl q269⟩
theorem fl_X4_52 : FL "CarryFair$World" 52 4 4 := ⟨RX4, TX4, 10, rfl, by decide, in_X4, Or.inl q266⟩
theorem fp_X4_52 : FP "CarryFair$World" 52 4 4 .int false := ⟨RX4, TX4, 10, rfl, by decide, in_X4, Or.inl q266, rfl, (fun h => by cases h), by decide +kernel, ap_X4, tyX4, tyX4_ok⟩
def F_X4_addWare (a0 : Option Nat) (x1 : Int32) (w : cH) : Option cH :=
  if tg w a0 = some 4 then ((fA w a0 4 5).bind fun a1p => (aA w a1p 103 0).bind fun a5p => (fI w a0 4 4).bind fun i7 => (aS w a5p 100 i7 (.int x1)).bind fun w11 => (fA w11 a0 4 5).bind fun a13p => (aA w11 a13p 103 1).bind fun a17p => (fI w11 a0 4 4).bind fun i19 => (aS w11 a17p 100 i19 (.int (-1))).bind fun w23 => (fI w23 a0 4 4).bind fun i26 => (pV w23 a0 4 4 (.int (i26 + 1))).bind fun w31 => some w31) else none
abbrev rm_X4_addWare : Room := { frames := 0, cells := 0, slots := 0, locals := 0 }
set_option maxHeartbeats 4000000 in
set_option maxRecDepth 100000 in
theorem ct_X4_addWare {l : Launch} {g : Gt} (G : Gok g) {a0 : Option Nat} {x1 : Int32} {w : cH}  {w9 : cH} (hF : F_X4_addWare a0 x1 w = some w9) : tg w a0 = some 4 ∧ Mx l yX4_addWare (ws_ yX4_addWare cX4_addWare 2 none) rm_X4_addWare g [va_rf a0, .int x1] w (.returned none) w9 0 0 := by
  unfold F_X4_addWare at hF
  obtain ⟨ht, hF⟩ := bg hF
  refine ⟨ht, mk_ct cX4_addWare 2 none "CarryFair$World" (plainFor_of_name (by decide)) rfl (lg_le ⟨cr _, rfl, trivial⟩ (Nat.le_of_ble_eq_true rfl)) (av_ok ⟨cr _, rfl, trivial⟩) G (fun x B hl hR hin hh => ?_)⟩
  show J g x _ _ 0 0 w 0 0 0 [some (va_rf a0), some (.int x1)] []
  refine j_aload_n B dX4_addWare_0 rfl ?_
  refine j_getA B fl_X4_19 dX4_addWare_1 hF (fun a1p hF => ?_)
  refine j_iconst (v := 0) B dX4_addWare_4 (by decide) ?_
  refine j_aaload B 103 rfl rfl dX4_addWare_5 hF (fun a5p hF => ?_)
  refine j_aload_n B dX4_addWare_6 rfl ?_
  refine j_getI B fl_X4_52 dX4_addWare_7 hF (fun i7 hF => ?_)
  refine j_iload_n B dX4_addWare_10 rfl ?_
  refine j_iastore B dX4_addWare_11 hF (fun w11 hF => ?_)
  refine j_aload_n B dX4_addWare_12 rfl ?_
  refine j_getA B fl_X4_19 dX4_addWare_13 hF (fun a13p hF => ?_)
  refine j_iconst (v := 1) B dX4_addWare_16 (by decide) ?_
  refine j_aaload B 103 rfl rfl dX4_addWare_17 hF (fun a17p hF => ?_)
  refine j_aload_n B dX4_addWare_18 rfl ?_
  refine j_getI B fl_X4_52 dX4_addWare_19 hF (fun i19 hF => ?_)
  refine j_iconst (v := (-1)) B dX4_addWare_22 (by decide) ?_
  refine j_iastore B dX4_addWare_23 hF (fun w23 hF => ?_)
  refine j_aload_n B dX4_addWare_24 rfl ?_
  refine j_dup B dX4_addWare_25 (cr _) ?_
  refine j_getI B fl_X4_52 dX4_addWare_26 hF (fun i26 hF => ?_)
  refine j_iconst (v := 1) B dX4_addWare_29 (by decide) ?_
  refine j_iadd B dX4_addWare_30 ?_
  refine j_putV B fp_X4_52 (fun h => by cases h) rfl rfl dX4_addWare_31 hF (fun w31 hF => ?_)
  exact j_lV B rfl dX4_addWare_34 hF (by decide) (by decide)
def F_X4_liesAt (a0 : Option Nat) (x1 : Int32) (x2 : Int32) (w : cH) : Option Int32 :=
  if tg w a0 = some 4 then ((fA w a0 4 3).bind fun a1p => (aA w a1p 103 3).bind fun a5p => (aI w a5p 100 x1).bind fun i7 =>if ¬ i7 = 0 then (some (0)) else ((fA w a0 4 3).bind fun a12p => (aA w a12p 103 1).bind fun a16p => (aI w a16p 100 x1).bind fun i18 =>if ¬ i18 = x2 then (some (0)) else (some (1)))) else none
abbrev rm_X4_liesAt : Room := { frames := 0, cells := 0, slots := 0, locals := 0 }
set_option maxHeartbeats 4000000 in
set_option maxRecDepth 100000 in
theorem ct_X4_liesAt {l : Launch} {g : Gt} (G : Gok g) {a0 : Option Nat} {x1 : Int32} {x2 : Int32} {w : cH} {r9 : Int32} (hF : F_X4_liesAt a0 x1 x2 w = some r9) : tg w a0 = some 4 ∧ Mx l yX4_liesAt (ws_ yX4_liesAt cX4_liesAt 3 (some .boolean)) rm_X4_liesAt g [va_rf a0, .int x1, .int x2] w (.returned (some (.int r9))) w 0 0 := by
  unfold F_X4_liesAt at hF
  obtain ⟨ht, hF⟩ := bg hF
  refine ⟨ht, mk_ct cX4_liesAt 3 (some .boolean) "CarryFair$World" (plainFor_of_name (by decide)) rfl (lg_le ⟨cr _, rfl, rfl, trivial⟩ (Nat.le_of_ble_eq_true rfl)) (av_ok ⟨cr _, rfl, rfl, trivial⟩) G (fun x B hl hR hin hh => ?_)⟩
  show J g x _ _ 0 0 w 0 0 0 [some (va_rf a0), some (.int x1), some (.int x2)] []
  refine j_aload_n B dX4_liesAt_0 rfl ?_
  refine j_getA B fl_X4_16 dX4_liesAt_1 hF (fun a1p hF => ?_)
  refine j_iconst (v := 3) B dX4_liesAt_4 (by decide) ?_
  refine j_aaload B 103 rfl rfl dX4_liesAt_5 hF (fun a5p hF => ?_)
  refine j_iload_n B dX4_liesAt_6 rfl ?_
  refine j_iaload B dX4_liesAt_7 hF (fun i7 hF => ?_)
  refine j_if_ne (tgt := 27) B dX4_liesAt_8 (by decide) hF (fun h8 hF => ?_) (fun h8 hF => ?_)
  · refine j_iconst (v := 0) B dX4_liesAt_27 (by decide) ?_
    exact j_lZ B (by decide) rfl dX4_liesAt_28 hF (by decide) (by decide)
  · refine j_aload_n B dX4_liesAt_11 rfl ?_
    refine j_getA B fl_X4_16 dX4_liesAt_12 hF (fun a12p hF => ?_)
    refine j_iconst (v := 1) B dX4_liesAt_15 (by decide) ?_
    refine j_aaload B 103 rfl rfl dX4_liesAt_16 hF (fun a16p hF => ?_)
    refine j_iload_n B dX4_liesAt_17 rfl ?_
    refine j_iaload B dX4_liesAt_18 hF (fun i18 hF => ?_)
    refine j_iload_n B dX4_liesAt_19 rfl ?_
    refine j_icmp_ne (tgt := 27) B dX4_liesAt_20 (by decide) hF (fun h20 hF => ?_) (fun h20 hF => ?_)
    · refine j_iconst (v := 0) B dX4_liesAt_27 (by decide) ?_
      exact j_lZ B (by decide) rfl dX4_liesAt_28 hF (by decide) (by decide)
    · refine j_iconst (v := 1) B dX4_liesAt_23 (by decide) ?_
      refine j_goto (tgt := 28) B dX4_liesAt_24 (by decide) ?_
      exact j_lZ B (by decide) rfl dX4_liesAt_28 hF (by decide) (by decide)
def F_X4_puts (a0 : Option Nat) (x1 : Int32) (x2 : Int32) (x3 : Int32) (w : cH) : Option cH :=
  if tg w a0 = some 4 then ((fA w a0 4 3).bind fun a1p => (aA w a1p 103 3).bind fun a5p => (aS w a5p 100 x1 (.int x2)).bind fun w8 => (fA w8 a0 4 3).bind fun a10p => (aA w8 a10p 103 4).bind fun a14p => (aS w8 a14p 100 x1 (.int x3)).bind fun w17 => some w17) else none
abbrev rm_X4_puts : Room := { frames := 0, cells := 0, slots := 0, locals := 0 }
set_option maxHeartbeats 4000000 in
set_option maxRecDepth 100000 in
theorem ct_X4_puts {l : Launch} {g : Gt} (G : Gok g) {a0 : Option Nat} {x1 : Int32} {x2 : Int32} {x3 : Int32} {w : cH}  {w9 : cH} (hF : F_X4_puts a0 x1 x2 x3 w = some w9) : tg w a0 = some 4 ∧ Mx l yX4_puts (ws_ yX4_puts cX4_puts 4 none) rm_X4_puts g [va_rf a0, .int x1, .int x2, .int x3] w (.returned none) w9 0 0 := by
  unfold F_X4_puts at hF
  obtain ⟨ht, hF⟩ := bg hF
  refine ⟨ht, mk_ct cX4_puts 4 none "CarryFair$World" (plainFor_of_name (by decide)) rfl (lg_le ⟨cr _, rfl, rfl, rfl, trivial⟩ (Nat.le_of_ble_eq_true rfl)) (av_ok ⟨cr _, rfl, rfl, rfl, trivial⟩) G (fun x B hl hR hin hh => ?_)⟩
  show J g x _ _ 0 0 w 0 0 0 [some (va_rf a0), some (.int x1), some (.int x2), some (.int x3)] []
  refine j_aload_n B dX4_puts_0 rfl ?_
  refine j_getA B fl_X4_16 dX4_puts_1 hF (fun a1p hF => ?_)
  refine j_iconst (v := 3) B dX4_puts_4 (by decide) ?_
  refine j_aaload B 103 rfl rfl dX4_puts_5 hF (fun a5p hF => ?_)
  refine j_iload_n B dX4_puts_6 rfl ?_
  refine j_iload_n B dX4_puts_7 rfl ?_
  refine j_iastore B dX4_puts_8 hF (fun w8 hF => ?_)
  refine j_aload_n B dX4_puts_9 rfl ?_
  refine j_getA B fl_X4_16 dX4_puts_10 hF (fun a10p hF => ?_)
  refine j_iconst (v := 4) B dX4_puts_13 (by decide) ?_
  refine j_aaload B 103 rfl rfl dX4_puts_14 hF (fun a14p hF => ?_)
  refine j_iload_n B dX4_puts_15 rfl ?_
  refine j_iload_n B dX4_puts_16 rfl ?_
  refine j_iastore B dX4_puts_17 hF (fun w17 hF => ?_)
  exact j_lV B rfl dX4_puts_18 hF (by decide) (by decide)
def F_X4_being_J32 (rc4 : (Option Nat) → Int32 → Int32 → Int32 → cH → Option Int32) (a0 : Option Nat) (x1 : Int32) (x3 : Int32) (s0 : Int32) (s1 : Int32) (w : cH) : Option Int32 :=
  rc4 a0 x1 (s1 ||| s0) (x3 + 1) w
def F_X4_being_B4 (rc4 : Option Nat → Int32 → Int32 → Int32 → cH → Option Int32) (a0 : Option Nat) (x1 : Int32) (x2 : Int32) (x3 : Int32) (w : cH) : Option Int32 :=
  (fI w a0 4 2).bind fun i6 =>if i6 ≤ x3 then (some (x2)) else ((fA w a0 4 3).bind fun a14p => (aA w a14p 103 3).bind fun a18p => (aI w a18p 100 x3).bind fun i20 =>if ¬ i20 = x1 then (F_X4_being_J32  rc4 a0 x1 x3 0 x2 w) else (F_X4_being_J32  rc4 a0 x1 x3 (1 <<< (x3 &&& 31)) x2 w))
def F_X4_being_L4 : Nat → Option Nat → Int32 → Int32 → Int32 → cH → Option Int32
  | 0, _, _, _, _, _ => none
  | n9 + 1, a0, x1, x2, x3, w => F_X4_being_B4  (F_X4_being_L4  n9) a0 x1 x2 x3 w
def F_X4_being (a0 : Option Nat) (x1 : Int32) (w : cH) : Option Int32 :=
  if tg w a0 = some 4 then (F_X4_being_L4  fu a0 x1 0 0 w) else none
abbrev rm_X4_being : Room := { frames := 0, cells := 0, slots := 0, locals := 0 }
set_option maxHeartbeats 4000000 in
set_option maxRecDepth 100000 in
theorem ct_X4_being {l : Launch} {g : Gt} (G : Gok g) {a0 : Option Nat} {x1 : Int32} {w : cH} {r9 : Int32} (hF : F_X4_being a0 x1 w = some r9) : tg w a0 = some 4 ∧ Mx l yX4_being (ws_ yX4_being cX4_being 4 (some .int)) rm_X4_being g [va_rf a0, .int x1] w (.returned (some (.int r9))) w 0 0 := by
  unfold F_X4_being at hF
  obtain ⟨ht, hF⟩ := bg hF
  refine ⟨ht, mk_ct cX4_being 4 (some .int) "CarryFair$World" (plainFor_of_name (by decide)) rfl (lg_le ⟨cr _, rfl, trivial⟩ (Nat.le_of_ble_eq_true rfl)) (av_ok ⟨cr _, rfl, trivial⟩) G (fun x B hl hR hin hh => ?_)⟩
  show J g x _ _ 0 0 w 0 0 0 [some (va_rf a0), some (.int x1), none, none] []
  have lp4 : ∀ (n9 : Nat) (a0 : Option Nat) (x1 : Int32) (x2 : Int32) (x3 : Int32), F_X4_being_L4  n9 a0 x1 x2 x3 w = some r9 → J g x (.returned (some (.int r9))) w 0 0 w 0 0 4 [some (va_rf a0), some (.int x1), some (.int x2), some (.int x3)] [] := by
    intro n9
    induction n9 with
    | zero => intro a0 x1 x2 x3 hF; cases hF
    | succ n4 ih4 =>
      intro a0 x1 x2 x3 hF
      have hF : F_X4_being_B4  (F_X4_being_L4  n4) a0 x1 x2 x3 w = some r9 := hF
      unfold F_X4_being_B4 at hF
      have jb32 : ∀ (a0 : Option Nat) (x1 : Int32) (x3 : Int32) (s0 : Int32) (s1 : Int32), F_X4_being_J32  (F_X4_being_L4  n4) a0 x1 x3 s0 s1 w = some r9 → J g x (.returned (some (.int r9))) w 0 0 w 0 0 32 [some (va_rf a0), some (.int x1), none, some (.int x3)] [.int s0, .int s1] := by
        intro a0 x1 x3 s0 s1 hF
        unfold F_X4_being_J32 at hF
        refine j_ior B dX4_being_32 ?_
        refine j_istore_n (vs' := [some (va_rf a0), some (.int x1), some (.int (s1 ||| s0)), some (.int x3)]) B dX4_being_33 (by decide) rfl ?_
        refine j_iinc (v := x3 + 1) (vs' := [some (va_rf a0), some (.int x1), some (.int (s1 ||| s0)), some (.int (x3 + 1))]) B dX4_being_34 (by decide) rfl rfl rfl ?_
        refine j_goto (tgt := 4) B dX4_being_37 (by decide) ?_
        exact ih4 a0 x1 (s1 ||| s0) (x3 + 1) hF
      refine j_iload_n B dX4_being_4 rfl ?_
      refine j_aload_n B dX4_being_5 rfl ?_
      refine j_getI B fl_X4_49 dX4_being_6 hF (fun i6 hF => ?_)
      refine j_icmp_ge (tgt := 40) B dX4_being_9 (by decide) hF (fun h9 hF => ?_) (fun h9 hF => ?_)
      · refine j_iload_n B dX4_being_40 rfl ?_
        exact j_lI B rfl dX4_being_41 hF (by decide) (by decide)
      · refine j_iload_n B dX4_being_12 rfl ?_
        refine j_aload_n B dX4_being_13 rfl ?_
        refine j_getA B fl_X4_16 dX4_being_14 hF (fun a14p hF => ?_)
        refine j_iconst (v := 3) B dX4_being_17 (by decide) ?_
        refine j_aaload B 103 rfl rfl dX4_being_18 hF (fun a18p hF => ?_)
        refine j_iload_n B dX4_being_19 rfl ?_
        refine j_iaload B dX4_being_20 hF (fun i20 hF => ?_)
        refine j_iload_n B dX4_being_21 rfl ?_
        refine j_icmp_ne (tgt := 31) B dX4_being_22 (by decide) hF (fun h22 hF => ?_) (fun h22 hF => ?_)
        · refine j_iconst (v := 0) B dX4_being_31 (by decide) ?_
          refine j_msk [true, true, false, true] rfl ?_
          exact jb32 a0 x1 x3 0 x2 hF
        · refine j_iconst (v := 1) B dX4_being_25 (by decide) ?_
          refine j_iload_n B dX4_being_26 rfl ?_
          refine j_ishl B dX4_being_27 ?_
          refine j_goto (tgt := 32) B dX4_being_28 (by decide) ?_
          refine j_msk [true, true, false, true] rfl ?_
          exact jb32 a0 x1 x3 (1 <<< (x3 &&& 31)) x2 hF
  refine j_iconst (v := 0) B dX4_being_0 (by decide) ?_
  refine j_istore_n (vs' := [some (va_rf a0), some (.int x1), some (.int 0), none]) B dX4_being_1 (by decide) rfl ?_
  refine j_iconst (v := 0) B dX4_being_2 (by decide) ?_
  refine j_istore_n (vs' := [some (va_rf a0), some (.int x1), some (.int 0), some (.int 0)]) B dX4_being_3 (by decide) rfl ?_
  exact lp4 fu a0 x1 0 0 hF
def F_X4_sold_J32 (rc4 : (Option Nat) → Int32 → Int32 → cH → Option Int32) (a0 : Option Nat) (x2 : Int32) (s0 : Int32) (s1 : Int32) (w : cH) : Option Int32 :=
  rc4 a0 (s1 ||| s0) (x2 + 1) w
def F_X4_sold_B4 (rc4 : Option Nat → Int32 → Int32 → cH → Option Int32) (a0 : Option Nat) (x1 : Int32) (x2 : Int32) (w : cH) : Option Int32 :=
  (fI w a0 4 4).bind fun i6 =>if i6 ≤ x2 then (some (x1)) else ((fA w a0 4 5).bind fun a14p => (aA w a14p 103 1).bind fun a18p => (aI w a18p 100 x2).bind fun i20 =>if ¬ i20 = (-1) then (F_X4_sold_J32  rc4 a0 x2 (1 <<< (x2 &&& 31)) x1 w) else (F_X4_sold_J32  rc4 a0 x2 0 x1 w))
def F_X4_sold_L4 : Nat → Option Nat → Int32 → Int32 → cH → Option Int32
  | 0, _, _, _, _ => none
  | n9 + 1, a0, x1, x2, w => F_X4_sold_B4  (F_X4_sold_L4  n9) a0 x1 x2 w
def F_X4_sold (a0 : Option Nat) (w : cH) : Option Int32 :=
  if tg w a0 = some 4 then (F_X4_sold_L4  fu a0 0 0 w) else none
abbrev rm_X4_sold : Room := { frames := 0, cells := 0, slots := 0, locals := 0 }
set_option maxHeartbeats 4000000 in
set_option maxRecDepth 100000 in
theorem ct_X4_sold {l : Launch} {g : Gt} (G : Gok g) {a0 : Option Nat} {w : cH} {r9 : Int32} (hF : F_X4_sold a0 w = some r9) : tg w a0 = some 4 ∧ Mx l yX4_sold (ws_ yX4_sold cX4_sold 3 (some .int)) rm_X4_sold g [va_rf a0] w (.returned (some (.int r9))) w 0 0 := by
  unfold F_X4_sold at hF
  obtain ⟨ht, hF⟩ := bg hF
  refine ⟨ht, mk_ct cX4_sold 3 (some .int) "CarryFair$World" (plainFor_of_name (by decide)) rfl (lg_le ⟨cr _, trivial⟩ (Nat.le_of_ble_eq_true rfl)) (av_ok ⟨cr _, trivial⟩) G (fun x B hl hR hin hh => ?_)⟩
  show J g x _ _ 0 0 w 0 0 0 [some (va_rf a0), none, none] []
  have lp4 : ∀ (n9 : Nat) (a0 : Option Nat) (x1 : Int32) (x2 : Int32), F_X4_sold_L4  n9 a0 x1 x2 w = some r9 → J g x (.returned (some (.int r9))) w 0 0 w 0 0 4 [some (va_rf a0), some (.int x1), some (.int x2)] [] := by
    intro n9
    induction n9 with
    | zero => intro a0 x1 x2 hF; cases hF
    | succ n4 ih4 =>
      intro a0 x1 x2 hF
      have hF : F_X4_sold_B4  (F_X4_sold_L4  n4) a0 x1 x2 w = some r9 := hF
      unfold F_X4_sold_B4 at hF
      have jb32 : ∀ (a0 : Option Nat) (x2 : Int32) (s0 : Int32) (s1 : Int32), F_X4_sold_J32  (F_X4_sold_L4  n4) a0 x2 s0 s1 w = some r9 → J g x (.returned (some (.int r9))) w 0 0 w 0 0 32 [some (va_rf a0), none, some (.int x2)] [.int s0, .int s1] := by
        intro a0 x2 s0 s1 hF
        unfold F_X4_sold_J32 at hF
        refine j_ior B dX4_sold_32 ?_
        refine j_istore_n (vs' := [some (va_rf a0), some (.int (s1 ||| s0)), some (.int x2)]) B dX4_sold_33 (by decide) rfl ?_
        refine j_iinc (v := x2 + 1) (vs' := [some (va_rf a0), some (.int (s1 ||| s0)), some (.int (x2 + 1))]) B dX4_sold_34 (by decide) rfl rfl rfl ?_
        refine j_goto (tgt := 4) B dX4_sold_37 (by decide) ?_
        exact ih4 a0 (s1 ||| s0) (x2 + 1) hF
      refine j_iload_n B dX4_sold_4 rfl ?_
      refine j_aload_n B dX4_sold_5 rfl ?_
      refine j_getI B fl_X4_52 dX4_sold_6 hF (fun i6 hF => ?_)
      refine j_icmp_ge (tgt := 40) B dX4_sold_9 (by decide) hF (fun h9 hF => ?_) (fun h9 hF => ?_)
      · refine j_iload_n B dX4_sold_40 rfl ?_
        exact j_lI B rfl dX4_sold_41 hF (by decide) (by decide)
      · refine j_iload_n B dX4_sold_12 rfl ?_
        refine j_aload_n B dX4_sold_13 rfl ?_
        refine j_getA B fl_X4_19 dX4_sold_14 hF (fun a14p hF => ?_)
        refine j_iconst (v := 1) B dX4_sold_17 (by decide) ?_
        refine j_aaload B 103 rfl rfl dX4_sold_18 hF (fun a18p hF => ?_)
        refine j_iload_n B dX4_sold_19 rfl ?_
        refine j_iaload B dX4_sold_20 hF (fun i20 hF => ?_)
        refine j_iconst (v := (-1)) B dX4_sold_21 (by decide) ?_
        refine j_icmp_ne (tgt := 29) B dX4_sold_22 (by decide) hF (fun h22 hF => ?_) (fun h22 hF => ?_)
        · refine j_iconst (v := 1) B dX4_sold_29 (by decide) ?_
          refine j_iload_n B dX4_sold_30 rfl ?_
          refine j_ishl B dX4_sold_31 ?_
          refine j_msk [true, false, true] rfl ?_
          exact jb32 a0 x2 (1 <<< (x2 &&& 31)) x1 hF
        · refine j_iconst (v := 0) B dX4_sold_25 (by decide) ?_
          refine j_goto (tgt := 32) B dX4_sold_26 (by decide) ?_
          refine j_msk [true, false, true] rfl ?_
          exact jb32 a0 x2 0 x1 hF
  refine j_iconst (v := 0) B dX4_sold_0 (by decide) ?_
  refine j_istore_n (vs' := [some (va_rf a0), some (.int 0), none]) B dX4_sold_1 (by decide) rfl ?_
  refine j_iconst (v := 0) B dX4_sold_2 (by decide) ?_
  refine j_istore_n (vs' := [some (va_rf a0), some (.int 0), some (.int 0)]) B dX4_sold_3 (by decide) rfl ?_
  exact lp4 fu a0 0 0 hF
def F_X4_sumOf_B4 (rc4 : Option Nat → Int32 → Int32 → Int32 → cH → Option Int32) (a0 : Option Nat) (x1 : Int32) (x2 : Int32) (x3 : Int32) (w : cH) : Option Int32 :=
  (fI w a0 4 0).bind fun i6 =>if i6 ≤ x3 then (some (x2)) else ((fA w a0 4 1).bind fun a14p => (aA w a14p 103 x1).bind fun a18p => (aI w a18p 100 x3).bind fun i20 => rc4 a0 x1 (x2 + i20) (x3 + 1) w)
def F_X4_sumOf_L4 : Nat → Option Nat → Int32 → Int32 → Int32 → cH → Option Int32
  | 0, _, _, _, _, _ => none
  | n9 + 1, a0, x1, x2, x3, w => F_X4_sumOf_B4  (F_X4_sumOf_L4  n9) a0 x1 x2 x3 w
def F_X4_sumOf (a0 : Option Nat) (x1 : Int32) (w : cH) : Option Int32 :=
  if tg w a0 = some 4 then (F_X4_sumOf_L4  fu a0 x1 0 0 w) else none
abbrev rm_X4_sumOf : Room := { frames := 0, cells := 0, slots := 0, locals := 0 }
set_option maxHeartbeats 4000000 in
set_option maxRecDepth 100000 in
theorem ct_X4_sumOf {l : Launch} {g : Gt} (G : Gok g) {a0 : Option Nat} {x1 : Int32} {w : cH} {r9 : Int32} (hF : F_X4_sumOf a0 x1 w = some r9) : tg w a0 = some 4 ∧ Mx l yX4_sumOf (ws_ yX4_sumOf cX4_sumOf 4 (some .int)) rm_X4_sumOf g [va_rf a0, .int x1] w (.returned (some (.int r9))) w 0 0 := by
  unfold F_X4_sumOf at hF
  obtain ⟨ht, hF⟩ := bg hF
  refine ⟨ht, mk_ct cX4_sumOf 4 (some .int) "CarryFair$World" (plainFor_of_name (by decide)) rfl (lg_le ⟨cr _, rfl, trivial⟩ (Nat.le_of_ble_eq_true rfl)) (av_ok ⟨cr _, rfl, trivial⟩) G (fun x B hl hR hin hh => ?_)⟩
  show J g x _ _ 0 0 w 0 0 0 [some (va_rf a0), some (.int x1), none, none] []
  have lp4 : ∀ (n9 : Nat) (a0 : Option Nat) (x1 : Int32) (x2 : Int32) (x3 : Int32), F_X4_sumOf_L4  n9 a0 x1 x2 x3 w = some r9 → J g x (.returned (some (.int r9))) w 0 0 w 0 0 4 [some (va_rf a0), some (.int x1), some (.int x2), some (.int x3)] [] := by
    intro n9
    induction n9 with
    | zero => intro a0 x1 x2 x3 hF; cases hF
    | succ n4 ih4 =>
      intro a0 x1 x2 x3 hF
      have hF : F_X4_sumOf_B4  (F_X4_sumOf_L4  n4) a0 x1 x2 x3 w = some r9 := hF
      unfold F_X4_sumOf_B4 at hF
      refine j_iload_n B dX4_sumOf_4 rfl ?_
      refine j_aload_n B dX4_sumOf_5 rfl ?_
      refine j_getI B fl_X4_46 dX4_sumOf_6 hF (fun i6 hF => ?_)
      refine j_icmp_ge (tgt := 29) B dX4_sumOf_9 (by decide) hF (fun h9 hF => ?_) (fun h9 hF => ?_)
      · refine j_iload_n B dX4_sumOf_29 rfl ?_
        exact j_lI B rfl dX4_sumOf_30 hF (by decide) (by decide)
      · refine j_iload_n B dX4_sumOf_12 rfl ?_
        refine j_aload_n B dX4_sumOf_13 rfl ?_
        refine j_getA B fl_X4_11 dX4_sumOf_14 hF (fun a14p hF => ?_)
        refine j_iload_n B dX4_sumOf_17 rfl ?_
        refine j_aaload B 103 rfl rfl dX4_sumOf_18 hF (fun a18p hF => ?_)
        refine j_iload_n B dX4_sumOf_19 rfl ?_
        refine j_iaload B dX4_sumOf_20 hF (fun i20 hF => ?_)
        refine j_iadd B dX4_sumOf_21 ?_
        refine j_istore_n (vs' := [some (va_rf a0), some (.int x1), some (.int (x2 + i20)), some (.int x3)]) B dX4_sumOf_22 (by decide) rfl ?_
        refine j_iinc (v := x3 + 1) (vs' := [some (va_rf a0), some (.int x1), some (.int (x2 + i20)), some (.int (x3 + 1))]) B dX4_sumOf_23 (by decide) rfl rfl rfl ?_
        refine j_goto (tgt := 4) B dX4_sumOf_26 (by decide) ?_
        exact ih4 a0 x1 (x2 + i20) (x3 + 1) hF
  refine j_iconst (v := 0) B dX4_sumOf_0 (by decide) ?_
  refine j_istore_n (vs' := [some (va_rf a0), some (.int x1), some (.int 0), none]) B dX4_sumOf_1 (by decide) rfl ?_
  refine j_iconst (v := 0) B dX4_sumOf_2 (by decide) ?_
  refine j_istore_n (vs' := [some (va_rf a0), some (.int x1), some (.int 0), some (.int 0)]) B dX4_sumOf_3 (by decide) rfl ?_
  exact lp4 fu a0 x1 0 0 hF
def F_X4_withWays_J37 (rc4 : (Option Nat) → Int32 → Int32 → cH → Option Int32) (rc12 : (Option Nat) → Int32 → Int32 → Int32 → cH → Option Int32) (a0 : Option Nat) (x2 : Int32) (x3 : Int32) (s0 : Int32) (s1 : Int32) (w : cH) : Option Int32 :=
  rc12 a0 (s1 ||| s0) x2 (x3 + 1) w
def F_X4_withWays_B12 (rc4 : (Option Nat) → Int32 → Int32 → cH → Option Int32) (rc12 : Option Nat → Int32 → Int32 → Int32 → cH → Option Int32) (a0 : Option Nat) (x1 : Int32) (x2 : Int32) (x3 : Int32) (w : cH) : Option Int32 :=
  if 7 ≤ x3 then (rc4 a0 x1 (x2 + 1) w) else ((fA w a0 4 6).bind fun a20p => (aA w a20p 103 x2).bind fun a24p => (aI w a24p 100 x3).bind fun i26 =>if i26 ≤ 0 then (F_X4_withWays_J37  rc4 rc12 a0 x2 x3 0 x1 w) else (F_X4_withWays_J37  rc4 rc12 a0 x2 x3 (1 <<< (x2 &&& 31)) x1 w))
def F_X4_withWays_L12 (rc4 : (Option Nat) → Int32 → Int32 → cH → Option Int32) : Nat → Option Nat → Int32 → Int32 → Int32 → cH → Option Int32
  | 0, _, _, _, _, _ => none
  | n9 + 1, a0, x1, x2, x3, w => F_X4_withWays_B12  rc4 (F_X4_withWays_L12  rc4 n9) a0 x1 x2 x3 w
def F_X4_withWays_B4 (rc4 : Option Nat → Int32 → Int32 → cH → Option Int32) (a0 : Option Nat) (x1 : Int32) (x2 : Int32) (w : cH) : Option Int32 :=
  if 7 ≤ x2 then (some (x1)) else (F_X4_withWays_L12  rc4 fu a0 x1 x2 0 w)
def F_X4_withWays_L4 : Nat → Option Nat → Int32 → Int32 → cH → Option Int32
  | 0, _, _, _, _ => none
  | n9 + 1, a0, x1, x2, w => F_X4_withWays_B4  (F_X4_withWays_L4  n9) a0 x1 x2 w
def F_X4_withWays (a0 : Option Nat) (w : cH) : Option Int32 :=
  if tg w a0 = some 4 then (F_X4_withWays_L4  fu a0 0 0 w) else none
abbrev rm_X4_withWays : Room := { frames := 0, cells := 0, slots := 0, locals := 0 }
set_option maxHeartbeats 4000000 in
set_option maxRecDepth 100000 in
theorem ct_X4_withWays {l : Launch} {g : Gt} (G : Gok g) {a0 : Option Nat} {w : cH} {r9 : Int32} (hF : F_X4_withWays a0 w = some r9) : tg w a0 = some 4 ∧ Mx l yX4_withWays (ws_ yX4_withWays cX4_withWays 4 (some .int)) rm_X4_withWays g [va_rf a0] w (.returned (some (.int r9))) w 0 0 := by
  unfold F_X4_withWays at hF
  obtain ⟨ht, hF⟩ := bg hF
  refine ⟨ht, mk_ct cX4_withWays 4 (some .int) "CarryFair$World" (plainFor_of_name (by decide)) rfl (lg_le ⟨cr _, trivial⟩ (Nat.le_of_ble_eq_true rfl)) (av_ok ⟨cr _, trivial⟩) G (fun x B hl hR hin hh => ?_)⟩
  show J g x _ _ 0 0 w 0 0 0 [some (va_rf a0), none, none, none] []
  have lp4 : ∀ (n9 : Nat) (a0 : Option Nat) (x1 : Int32) (x2 : Int32), F_X4_withWays_L4  n9 a0 x1 x2 w = some r9 → J g x (.returned (some (.int r9))) w 0 0 w 0 0 4 [some (va_rf a0), some (.int x1), some (.int x2), none] [] := by
    intro n9
    induction n9 with
    | zero => intro a0 x1 x2 hF; cases hF
    | succ n4 ih4 =>
      intro a0 x1 x2 hF
      have hF : F_X4_withWays_B4  (F_X4_withWays_L4  n4) a0 x1 x2 w = some r9 := hF
      unfold F_X4_withWays_B4 at hF
      have lp12 : ∀ (n9 : Nat) (a0 : Option Nat) (x1 : Int32) (x2 : Int32) (x3 : Int32), F_X4_withWays_L12  (F_X4_withWays_L4  n4) n9 a0 x1 x2 x3 w = some r9 → J g x (.returned (some (.int r9))) w 0 0 w 0 0 12 [some (va_rf a0), some (.int x1), some (.int x2), some (.int x3)] [] := by
        intro n9
        induction n9 with
        | zero => intro a0 x1 x2 x3 hF; cases hF
        | succ n12 ih12 =>
          intro a0 x1 x2 x3 hF
          have hF : F_X4_withWays_B12  (F_X4_withWays_L4  n4) (F_X4_withWays_L12  (F_X4_withWays_L4  n4) n12) a0 x1 x2 x3 w = some r9 := hF
          unfold F_X4_withWays_B12 at hF
          have jb37 : ∀ (a0 : Option Nat) (x2 : Int32) (x3 : Int32) (s0 : Int32) (s1 : Int32), F_X4_withWays_J37  (F_X4_withWays_L4  n4) (F_X4_withWays_L12  (F_X4_withWays_L4  n4) n12) a0 x2 x3 s0 s1 w = some r9 → J g x (.returned (some (.int r9))) w 0 0 w 0 0 37 [some (va_rf a0), none, some (.int x2), some (.int x3)] [.int s0, .int s1] := by
            intro a0 x2 x3 s0 s1 hF
            unfold F_X4_withWays_J37 at hF
            refine j_ior B dX4_withWays_37 ?_
            refine j_istore_n (vs' := [some (va_rf a0), some (.int (s1 ||| s0)), some (.int x2), some (.int x3)]) B dX4_withWays_38 (by decide) rfl ?_
            refine j_iinc (v := x3 + 1) (vs' := [some (va_rf a0), some (.int (s1 ||| s0)), some (.int x2), some (.int (x3 + 1))]) B dX4_withWays_39 (by decide) rfl rfl rfl ?_
            refine j_goto (tgt := 12) B dX4_withWays_42 (by decide) ?_
            exact ih12 a0 (s1 ||| s0) x2 (x3 + 1) hF
          refine j_iload_n B dX4_withWays_12 rfl ?_
          refine j_bipush (v := 7) B dX4_withWays_13 (by decide) ?_
          refine j_icmp_ge (tgt := 45) B dX4_withWays_15 (by decide) hF (fun h15 hF => ?_) (fun h15 hF => ?_)
          · refine j_iinc (v := x2 + 1) (vs' := [some (va_rf a0), some (.int x1), some (.int (x2 + 1)), some (.int x3)]) B dX4_withWays_45 (by decide) rfl rfl rfl ?_
            refine j_goto (tgt := 4) B dX4_withWays_48 (by decide) ?_
            refine j_msk [true, true, true, false] rfl ?_
            exact ih4 a0 x1 (x2 + 1) hF
          · refine j_iload_n B dX4_withWays_18 rfl ?_
            refine j_aload_n B dX4_withWays_19 rfl ?_
            refine j_getA B fl_X4_22 dX4_withWays_20 hF (fun a20p hF => ?_)
            refine j_iload_n B dX4_withWays_23 rfl ?_
            refine j_aaload B 103 rfl rfl dX4_withWays_24 hF (fun a24p hF => ?_)
            refine j_iload_n B dX4_withWays_25 rfl ?_
            refine j_iaload B dX4_withWays_26 hF (fun i26 hF => ?_)
            refine j_if_le (tgt := 36) B dX4_withWays_27 (by decide) hF (fun h27 hF => ?_) (fun h27 hF => ?_)
            · refine j_iconst (v := 0) B dX4_withWays_36 (by decide) ?_
              refine j_msk [true, false, true, true] rfl ?_
              exact jb37 a0 x2 x3 0 x1 hF
            · refine j_iconst (v := 1) B dX4_withWays_30 (by decide) ?_
              refine j_iload_n B dX4_withWays_31 rfl ?_
              refine j_ishl B dX4_withWays_32 ?_
              refine j_goto (tgt := 37) B dX4_withWays_33 (by decide) ?_
              refine j_msk [true, false, true, true] rfl ?_
              exact jb37 a0 x2 x3 (1 <<< (x2 &&& 31)) x1 hF
      refine j_iload_n B dX4_withWays_4 rfl ?_
      refine j_bipush (v := 7) B dX4_withWays_5 (by decide) ?_
      refine j_icmp_ge (tgt := 51) B dX4_withWays_7 (by decide) hF (fun h7 hF => ?_) (fun h7 hF => ?_)
      · refine j_iload_n B dX4_withWays_51 rfl ?_
        exact j_lI B rfl dX4_withWays_52 hF (by decide) (by decide)
      · refine j_iconst (v := 0) B dX4_withWays_10 (by decide) ?_
        refine j_istore_n (vs' := [some (va_rf a0), some (.int x1), some (.int x2), some (.int 0)]) B dX4_withWays_11 (by decide) rfl ?_
        exact lp12 fu a0 x1 x2 0 hF
  refine j_iconst (v := 0) B dX4_withWays_0 (by decide) ?_
  refine j_istore_n (vs' := [some (va_rf a0), some (.int 0), none, none]) B dX4_withWays_1 (by decide) rfl ?_
  refine j_iconst (v := 0) B dX4_withWays_2 (by decide) ?_
  refine j_istore_n (vs' := [some (va_rf a0), some (.int 0), some (.int 0), none]) B dX4_withWays_3 (by decide) rfl ?_
  exact lp4 fu a0 0 0 hF
theorem fl_X4_28 : FL "CarryFair$World" 28 4 8 := ⟨RX4, TX4, 10, rfl, by decide, in_X4, Or.inl q275⟩
def F_X4_draw (a0 : Option Nat) (w : cH) : Option (Int32 × cH) :=
  if tg w a0 = some 4 then ((fI w a0 4 8).bind fun i2 => (pV w a0 4 8 (.int ((i2 * 1103515245) + 12345))).bind fun w12 => (fI w12 a0 4 8).bind fun i16 => some ((i16.toUInt32 >>> ((8 : Int32).toUInt32 &&& Int32.toUInt32 31)).toInt32, w12)) else none
abbrev rm_X4_draw : Room := { frames := 0, cells := 0, slots := 0, locals := 0 }
set_option maxHeartbeats 4000000 in
set_option maxRecDepth 100000 in
theorem ct_X4_draw {l : Launch} {g : Gt} (G : Gok g) {a0 : Option Nat} {w : cH} {r9 : Int32} {w9 : cH} (hF : F_X4_draw a0 w = some (r9, w9)) : tg w a0 = some 4 ∧ Mx l yX4_draw (ws_ yX4_draw cX4_draw 1 (some .int)) rm_X4_draw g [va_rf a0] w (.returned (some (.int r9))) w9 0 0 := by
  unfold F_X4_draw at hF
  obtain ⟨ht, hF⟩ := bg hF
  refine ⟨ht, mk_ct cX4_draw 1 (some .int) "CarryFair$World" (plainFor_of_name (by decide)) rfl (lg_le ⟨cr _, trivial⟩ (Nat.le_of_ble_eq_true rfl)) (av_ok ⟨cr _, trivial⟩) G (fun x B hl hR hin hh => ?_)⟩
  show J g x _ _ 0 0 w 0 0 0 [some (va_rf a0)] []
  refine j_aload_n B dX4_draw_0 rfl ?_
  refine j_aload_n B dX4_draw_1 rfl ?_
  refine j_getI B fl_X4_28 dX4_draw_2 hF (fun i2 hF => ?_)
  refine j_ldc (v := 1103515245) B q1031 dX4_draw_5 ?_
  refine j_imul B dX4_draw_7 ?_
  refine j_sipush (v := 12345) B dX4_draw_8 (by decide) ?_
  refine j_iadd B dX4_draw_11 ?_
  refine j_putV B fp_X4_28 (fun h => by cases h) rfl rfl dX4_draw_12 hF (fun w12 hF => ?_)
  refine j_aload_n B dX4_draw_15 rfl ?_
  refine j_getI B fl_X4_28 dX4_draw_16 hF (fun i16 hF => ?_)
  refine j_bipush (v := 8) B dX4_draw_19 (by decide) ?_
  refine j_iushr B dX4_draw_21 ?_
  exact j_lIw B rfl dX4_draw_22 hF (by decide) (by decide)
def F_X4_copy (a0 : Option Nat) (a1 : Option Nat) (w : cH) : Option cH :=
  (aL w a1).bind fun i5 => (cpA w a0 0 a1 0 i5 100).bind fun w6 => some w6
abbrev rm_X4_copy : Room := { frames := 1, cells := 0, slots := 0, locals := 26 }
set_option maxHeartbeats 4000000 in
set_option maxRecDepth 100000 in
theorem ct_X4_copy {l : Launch} {g : Gt} (G : Gok g) {a0 : Option Nat} {a1 : Option Nat} {w : cH}  {w9 : cH} (hF : F_X4_copy a0 a1 w = some w9) : Mx l yX4_copy (ws_ yX4_copy cX4_copy 2 none) rm_X4_copy g [va_rf a0, va_rf a1] w (.returned none) w9 0 0 := by
  unfold F_X4_copy at hF
  refine mk_ct cX4_copy 2 none "CarryFair$World" (plainFor_of_name (by decide)) rfl (lg_le ⟨cr _, cr _, trivial⟩ (Nat.le_of_ble_eq_true rfl)) (av_ok ⟨cr _, cr _, trivial⟩) G (fun x B hl hR hin hh => ?_)
  show J g x _ _ 0 0 w 0 0 0 [some (va_rf a0), some (va_rf a1)] []
  refine j_aload_n B dX4_copy_0 rfl ?_
  refine j_iconst (v := 0) B dX4_copy_1 (by decide) ?_
  refine j_aload_n B dX4_copy_2 rfl ?_
  refine j_iconst (v := 0) B dX4_copy_3 (by decide) ?_
  refine j_aload_n B dX4_copy_4 rfl ?_
  refine j_alen B dX4_copy_5 hF (fun i5 hF => ?_)
  refine j_acopy (t := 100) B rfl rfl q1050 q1052 q1051 q145 dX4_copy_6 hR (by decide) (by decide) trivial hF (fun w6 hF => ?_)
  exact j_lV B rfl dX4_copy_9 hF (by decide) (by decide)
theorem cs_X4_42 : CS "CarryFair$World" 42 yX4_copy cX4_copy 2 none 2 := ⟨Or.inl (lw_S q1047 q1048 q133 q1049), by decide +kernel⟩
def F_X4_copyAll_B2 (rc2 : Option Nat → Option Nat → Int32 → cH → Option cH) (a0 : Option Nat) (a1 : Option Nat) (x2 : Int32) (w : cH) : Option cH :=
  (aL w a1).bind fun i4 =>if i4 ≤ x2 then (some w) else ((aA w a0 103 x2).bind fun a10p => (aA w a1 103 x2).bind fun a13p => (F_X4_copy a10p a13p w).bind fun w14 => rc2 a0 a1 (x2 + 1) w14)
def F_X4_copyAll_L2 : Nat → Option Nat → Option Nat → Int32 → cH → Option cH
  | 0, _, _, _, _ => none
  | n9 + 1, a0, a1, x2, w => F_X4_copyAll_B2  (F_X4_copyAll_L2  n9) a0 a1 x2 w
def F_X4_copyAll (a0 : Option Nat) (a1 : Option Nat) (w : cH) : Option cH :=
  F_X4_copyAll_L2  fu a0 a1 0 w
abbrev rm_X4_copyAll : Room := { frames := 2, cells := 0, slots := 0, locals := 47 }
set_option maxHeartbeats 4000000 in
set_option maxRecDepth 100000 in
theorem ct_X4_copyAll {l : Launch} {g : Gt} (G : Gok g) {a0 : Option Nat} {a1 : Option Nat} {w : cH}  {w9 : cH} (hF : F_X4_copyAll a0 a1 w = some w9) : Mx l yX4_copyAll (ws_ yX4_copyAll cX4_copyAll 3 none) rm_X4_copyAll g [va_rf a0, va_rf a1] w (.returned none) w9 0 0 := by
  unfold F_X4_copyAll at hF
  refine mk_ct cX4_copyAll 3 none "CarryFair$World" (plainFor_of_name (by decide)) rfl (lg_le ⟨cr _, cr _, trivial⟩ (Nat.le_of_ble_eq_true rfl)) (av_ok ⟨cr _, cr _, trivial⟩) G (fun x B hl hR hin hh => ?_)
  show J g x _ _ 0 0 w 0 0 0 [some (va_rf a0), some (va_rf a1), none] []
  have lp2 : ∀ (n9 : Nat) (a0 : Option Nat) (a1 : Option Nat) (x2 : Int32) (w : cH), F_X4_copyAll_L2  n9 a0 a1 x2 w = some w9 → J g x (.returned none) w9 0 0 w 0 0 2 [some (va_rf a0), some (va_rf a1), some (.int x2)] [] := by
    intro n9
    induction n9 with
    | zero => intro a0 a1 x2 w hF; cases hF
    | succ n2 ih2 =>
      intro a0 a1 x2 w hF
      have hF : F_X4_copyAll_B2  (F_X4_copyAll_L2  n2) a0 a1 x2 w = some w9 := hF
      unfold F_X4_copyAll_B2 at hF
      refine j_iload_n B dX4_copyAll_2 rfl ?_
      refine j_aload_n B dX4_copyAll_3 rfl ?_
      refine j_alen B dX4_copyAll_4 hF (fun i4 hF => ?_)
      refine j_icmp_ge (tgt := 23) B dX4_copyAll_5 (by decide) hF (fun h5 hF => ?_) (fun h5 hF => ?_)
      · exact j_lV B rfl dX4_copyAll_23 hF (by decide) (by decide)
      · refine j_aload_n B dX4_copyAll_8 rfl ?_
        refine j_iload_n B dX4_copyAll_9 rfl ?_
        refine j_aaload B 103 rfl rfl dX4_copyAll_10 hF (fun a10p hF => ?_)
        refine j_aload_n B dX4_copyAll_11 rfl ?_
        refine j_iload_n B dX4_copyAll_12 rfl ?_
        refine j_aaload B 103 rfl rfl dX4_copyAll_13 hF (fun a13p hF => ?_)
        obtain ⟨w14, e14, hF⟩ := bo hF
        refine j_rS (st2 := []) B [va_rf a10p, va_rf a13p] [] cs_X4_42 dX4_copyAll_14 hl hR (ct_X4_copy G e14) rfl rfl rfl rfl trivial (Nat.le_of_ble_eq_true rfl) ?_
        refine j_iinc (v := x2 + 1) (vs' := [some (va_rf a0), some (va_rf a1), some (.int (x2 + 1))]) B dX4_copyAll_17 (by decide) rfl rfl rfl ?_
        refine j_goto (tgt := 2) B dX4_copyAll_20 (by decide) ?_
        exact ih2 a0 a1 (x2 + 1) w14 hF
  refine j_iconst (v := 0) B dX4_copyAll_0 (by decide) ?_
  refine j_istore_n (vs' := [some (va_rf a0), some (va_rf a1), some (.int 0)]) B dX4_copyAll_1 (by decide) rfl ?_
  exact lp2 fu a0 a1 0 w hF
theorem cs_X4_55 : CS "CarryFair$World" 55 yX4_copyAll cX4_copyAll 3 none 2 := ⟨Or.inl (lw_S q1044 q1045 q133 q1046), by decide +kernel⟩
def F_X4_become (a0 : Option Nat) (a1 : Option Nat) (w : cH) : Option cH :=
  if tg w a0 = some 4 then ((fI w a1 4 0).bind fun i2 => (pV w a0 4 0 (.int i2)).bind fun w5 => (fI w5 a1 4 2).bind fun i10 => (pV w5 a0 4 2 (.int i10)).bind fun w13 => (fI w13 a1 4 4).bind fun i18 => (pV w13 a0 4 4 (.int i18)).bind fun w21 => (fI w21 a1 4 8).bind fun i26 => (pV w21 a0 4 8 (.int i26)).bind fun w29 => (fA w29 a1 4 1).bind fun a33p => (fA w29 a0 4 1).bind fun a37p => (F_X4_copyAll a33p a37p w29).bind fun w40 => (fA w40 a1 4 3).bind fun a44p => (fA w40 a0 4 3).bind fun a48p => (F_X4_copyAll a44p a48p w40).bind fun w51 => (fA w51 a1 4 5).bind fun a55p => (fA w51 a0 4 5).bind fun a59p => (F_X4_copyAll a55p a59p w51).bind fun w62 => (fA w62 a1 4 6).bind fun a66p => (fA w62 a0 4 6).bind fun a70p => (F_X4_copyAll a66p a70p w62).bind fun w73 => (fA w73 a1 4 7).bind fun a77p => (fA w73 a0 4 7).bind fun a81p => (F_X4_copyAll a77p a81p w73).bind fun w84 => (fA w84 a1 4 9).bind fun a88p => (fA w84 a0 4 9).bind fun a92p => (F_X4_copy a88p a92p w84).bind fun w95 => some w95) else none
abbrev rm_X4_become : Room := { frames := 3, cells := 0, slots := 0, locals := 69 }
set_option maxHeartbeats 4000000 in
set_option maxRecDepth 100000 in
theorem ct_X4_become {l : Launch} {g : Gt} (G : Gok g) {a0 : Option Nat} {a1 : Option Nat} {w : cH}  {w9 : cH} (hF : F_X4_become a0 a1 w = some w9) : tg w a0 = some 4 ∧ Mx l yX4_become (ws_ yX4_become cX4_become 2 none) rm_X4_become g [va_rf a0, va_rf a1] w (.returned none) w9 0 0 := by
  unfold F_X4_become at hF
  obtain ⟨ht, hF⟩ := bg hF
  refine ⟨ht, mk_ct cX4_become 2 none "CarryFair$World" (plainFor_of_name (by decide)) rfl (lg_le ⟨cr _, cr _, trivial⟩ (Nat.le_of_ble_eq_true rfl)) (av_ok ⟨cr _, cr _, trivial⟩) G (fun x B hl hR hin hh => ?_)⟩
  show J g x _ _ 0 0 w 0 0 0 [some (va_rf a0), some (va_rf a1)] []
  refine j_aload_n B dX4_become_0 rfl ?_
  refine j_aload_n B dX4_become_1 rfl ?_
  refine j_getI B fl_X4_46 dX4_become_2 hF (fun i2 hF => ?_)
  refine j_putV B fp_X4_46 (fun h => by cases h) rfl rfl dX4_become_5 hF (fun w5 hF => ?_)
  refine j_aload_n B dX4_become_8 rfl ?_
  refine j_aload_n B dX4_become_9 rfl ?_
  refine j_getI B fl_X4_49 dX4_become_10 hF (fun i10 hF => ?_)
  refine j_putV B fp_X4_49 (fun h => by cases h) rfl rfl dX4_become_13 hF (fun w13 hF => ?_)
  refine j_aload_n B dX4_become_16 rfl ?_
  refine j_aload_n B dX4_become_17 rfl ?_
  refine j_getI B fl_X4_52 dX4_become_18 hF (fun i18 hF => ?_)
  refine j_putV B fp_X4_52 (fun h => by cases h) rfl rfl dX4_become_21 hF (fun w21 hF => ?_)
  refine j_aload_n B dX4_become_24 rfl ?_
  refine j_aload_n B dX4_become_25 rfl ?_
  refine j_getI B fl_X4_28 dX4_become_26 hF (fun i26 hF => ?_)
  refine j_putV B fp_X4_28 (fun h => by cases h) rfl rfl dX4_become_29 hF (fun w29 hF => ?_)
  refine j_aload_n B dX4_become_32 rfl ?_
  refine j_getA B fl_X4_11 dX4_become_33 hF (fun a33p hF => ?_)
  refine j_aload_n B dX4_become_36 rfl ?_
  refine j_getA B fl_X4_11 dX4_become_37 hF (fun a37p hF => ?_)
  obtain ⟨w40, e40, hF⟩ := bo hF
  refine j_rS (st2 := []) B [va_rf a33p, va_rf a37p] [] cs_X4_55 dX4_become_40 hl hR (ct_X4_copyAll G e40) rfl rfl rfl rfl trivial (Nat.le_of_ble_eq_true rfl) ?_
  refine j_aload_n B dX4_become_43 rfl ?_
  refine j_getA B fl_X4_16 dX4_become_44 hF (fun a44p hF => ?_)
  refine j_aload_n B dX4_become_47 rfl ?_
  refine j_getA B fl_X4_16 dX4_become_48 hF (fun a48p hF => ?_)
  obtain ⟨w51, e51, hF⟩ := bo hF
  refine j_rS (st2 := []) B [va_rf a44p, va_rf a48p] [] cs_X4_55 dX4_become_51 hl hR (ct_X4_copyAll G e51) rfl rfl rfl rfl trivial (Nat.le_of_ble_eq_true rfl) ?_
  refine j_aload_n B dX4_become_54 rfl ?_
  refine j_getA B fl_X4_19 dX4_become_55 hF (fun a55p hF => ?_)
  refine j_aload_n B dX4_become_58 rfl ?_
  refine j_getA B fl_X4_19 dX4_become_59 hF (fun a59p hF => ?_)
  obtain ⟨w62, e62, hF⟩ := bo hF
  refine j_rS (st2 := []) B [va_rf a55p, va_rf a59p] [] cs_X4_55 dX4_become_62 hl hR (ct_X4_copyAll G e62) rfl rfl rfl rfl trivial (Nat.le_of_ble_eq_true rfl) ?_
  refine j_aload_n B dX4_become_65 rfl ?_
  refine j_getA B fl_X4_22 dX4_become_66 hF (fun a66p hF => ?_)
  refine j_aload_n B dX4_become_69 rfl ?_
  refine j_getA B fl_X4_22 dX4_become_70 hF (fun a70p hF => ?_)
  obtain ⟨w73, e73, hF⟩ := bo hF
  refine j_rS (st2 := []) B [va_rf a66p, va_rf a70p] [] cs_X4_55 dX4_become_73 hl hR (ct_X4_copyAll G e73) rfl rfl rfl rfl trivial (Nat.le_of_ble_eq_true rfl) ?_
  refine j_aload_n B dX4_become_76 rfl ?_
  refine j_getA B fl_X4_25 dX4_become_77 hF (fun a77p hF => ?_)
  refine j_aload_n B dX4_become_80 rfl ?_
  refine j_getA B fl_X4_25 dX4_become_81 hF (fun a81p hF => ?_)
  obtain ⟨w84, e84, hF⟩ := bo hF
  refine j_rS (st2 := []) B [va_rf a77p, va_rf a81p] [] cs_X4_55 dX4_become_84 hl hR (ct_X4_copyAll G e84) rfl rfl rfl rfl trivial (Nat.le_of_ble_eq_true rfl) ?_
  refine j_aload_n B dX4_become_87 rfl ?_
  refine j_getA B fl_X4_32 dX4_become_88 hF (fun a88p hF => ?_)
  refine j_aload_n B dX4_become_91 rfl ?_
  refine j_getA B fl_X4_32 dX4_become_92 hF (fun a92p hF => ?_)
  obtain ⟨w95, e95, hF⟩ := bo hF
  refine j_rS (st2 := []) B [va_rf a88p, va_rf a92p] [] cs_X4_42 dX4_become_95 hl hR (ct_X4_copy G e95) rfl rfl rfl rfl trivial (Nat.le_of_ble_eq_true rfl) ?_
  exact j_lV B rfl dX4_become_98 hF (by decide) (by decide)
theorem ap_X1 : apT TX1 7 := by unfold apT; decide +kernel
theorem ap_X3 : apT TX3 6 := by unfold apT; decide +kernel
theorem fpc_J0_7 : FPc "java/lang/Throwable" 7 [1, 3] 0 (.object "java/lang/Throwable") false := by
  intro t ht
  simp only [List.mem_cons, List.not_mem_nil, or_false] at ht
  rcases ht with rfl | rfl
  · exact ⟨RX1, TX1, 7, rfl, by decide, in_X1, Or.inl q213, rfl, (fun h => by cases h), by decide +kernel, ap_X1, tyX1, tyX1_ok⟩
  · exact ⟨RX3, TX3, 6, rfl, by decide, in_X3, Or.inl q213, rfl, (fun h => by cases h), by decide +kernel, ap_X3, tyX3, tyX3_ok⟩
theorem fpc_J0_17 : FPc "java/lang/Throwable" 17 [1, 3] 1 (.array (.object "java/lang/StackTraceElement")) false := by
  intro t ht
  simp only [List.mem_cons, List.not_mem_nil, or_false] at ht
  rcases ht with rfl | rfl
  · exact ⟨RX1, TX1, 7, rfl, by decide, in_X1, Or.inl q214, rfl, (fun h => by cases h), by decide +kernel, ap_X1, tyX1, tyX1_ok⟩
  · exact ⟨RX3, TX3, 6, rfl, by decide, in_X3, Or.inl q214, rfl, (fun h => by cases h), by decide +kernel, ap_X3, tyX3, tyX3_ok⟩
theorem fpc_J0_24 : FPc "java/lang/Throwable" 24 [1, 3] 2 (.object "java/util/List") false := by
  intro t ht
  simp only [List.mem_cons, List.not_mem_nil, or_false] at ht
  rcases ht with rfl | rfl
  · exact ⟨RX1, TX1, 7, rfl, by decide, in_X1, Or.inl q215, rfl, (fun h => by cases h), by decide +kernel, ap_X1, tyX1, tyX1_ok⟩
  · exact ⟨RX3, TX3, 6, rfl, by decide, in_X3, Or.inl q215, rfl, (fun h => by cases h), by decide +kernel, ap_X3, tyX3, tyX3_ok⟩
theorem fpc_J0_31 : FPc "java/lang/Throwable" 31 [1, 3] 3 (.object "java/lang/String") false := by
  intro t ht
  simp only [List.mem_cons, List.not_mem_nil, or_false] at ht
  rcases ht with rfl | rfl
  · exact ⟨RX1, TX1, 7, rfl, by decide, in_X1, Or.inl q212, rfl, (fun h => by cases h), by decide +kernel, ap_X1, tyX1, tyX1_ok⟩
  · exact ⟨RX3, TX3, 6, rfl, by decide, in_X3, Or.inl q212, rfl, (fun h => by cases h), by decide +kernel, ap_X3, tyX3, tyX3_ok⟩
def F_J0_init_2_J41 (g : Gt) (a0 : Option Nat) (a1 : Option Nat) (a2 : Option Nat) (x3 : Int32) (w : cH) : Option cH :=
  (pVc w a0 [1, 3] 3 (va_rf a1)).bind fun w43 => (pVc w43 a0 [1, 3] 0 (va_rf a2)).bind fun w48 =>if ¬ x3 = 0 then (some w48) else ((pVc w48 a0 [1, 3] 2 (va_rf none)).bind fun w57 => some w57)
def F_J0_init_2 (g : Gt) (a0 : Nat) (a1 : Option Nat) (a2 : Option Nat) (x3 : Int32) (x4 : Int32) (w : cH) : Option cH :=
  if tgi w (some a0) [1, 3] = true then ((pVc w (some a0) [1, 3] 0 (va_rf (some a0))).bind fun w6 => (pVc w6 (some a0) [1, 3] 1 (va_rf (stv g "java/lang/Throwable" "UNASSIGNED_STACK" "[Ljava/lang/StackTraceElement;"))).bind fun w13 => (pVc w13 (some a0) [1, 3] 2 (va_rf (stv g "java/lang/Throwable" "SUPPRESSED_SENTINEL" "Ljava/util/List;"))).bind fun w20 =>if x4 = 0 then ((pVc w20 (some a0) [1, 3] 1 (va_rf none)).bind fun w38 => F_J0_init_2_J41 g  (some a0) a1 a2 x3 w38) else (none)) else none
abbrev rm_J0_init_2 : Room := { frames := 1, cells := 0, slots := 0, locals := 20 }
set_option maxHeartbeats 4000000 in
set_option maxRecDepth 100000 in
theorem ct_J0_init_2 {l : Launch} {g : Gt} (G : Gok g) {a0 : Nat} {a1 : Option Nat} {a2 : Option Nat} {x3 : Int32} {x4 : Int32} {w : cH}  {w9 : cH} (hF : F_J0_init_2 g a0 a1 a2 x3 x4 w = some w9) : tgi w (some a0) [1, 3] = true ∧ Mx l yJ0_init_2 (ws_ yJ0_init_2 cJ0_init_2 5 none) rm_J0_init_2 g [va_rf (some a0), va_rf a1, va_rf a2, .int x3, .int x4] w (.returned none) w9 0 0 := by
  unfold F_J0_init_2 at hF
  obtain ⟨ht, hF⟩ := bg hF
  refine ⟨ht, mk_ct cJ0_init_2 5 none "java/lang/Throwable" (by decide +kernel) rfl (lg_le ⟨cr _, cr _, cr _, rfl, rfl, trivial⟩ (Nat.le_of_ble_eq_true rfl)) (av_ok ⟨cr _, cr _, cr _, rfl, rfl, trivial⟩) G (fun x B hl hR hin hh => ?_)⟩
  show J g x _ _ 0 0 w 0 0 0 [some (va_rf (some a0)), some (va_rf a1), some (va_rf a2), some (.int x3), some (.int x4)] []
  obtain ⟨t9, ht9, hm9⟩ := tgi_some ht
  have hc9 : clsTag t9 := by
    simp only [List.mem_cons, List.not_mem_nil, or_false] at hm9
    exact clsTag_of (by omega)
  have jb41 : ∀ (a0 : Option Nat) (a1 : Option Nat) (a2 : Option Nat) (x3 : Int32) (w : cH), F_J0_init_2_J41 g  a0 a1 a2 x3 w = some w9 → J g x (.returned none) w9 0 0 w 0 0 41 [some (va_rf a0), some (va_rf a1), some (va_rf a2), some (.int x3), none] [] := by
    intro a0 a1 a2 x3 w hF
    unfold F_J0_init_2_J41 at hF
    refine j_aload_n B dJ0_init_2_41 rfl ?_
    refine j_aload_n B dJ0_init_2_42 rfl ?_
    refine j_putVc B fpc_J0_31 (fun h => by cases h) (nar_rf _ _ (Or.inl ⟨_, rfl⟩)) (fit_rf _ _ (Or.inl ⟨_, rfl⟩)) dJ0_init_2_43 hF (fun w43 hF => ?_)
    refine j_aload_n B dJ0_init_2_46 rfl ?_
    refine j_aload_n B dJ0_init_2_47 rfl ?_
    refine j_putVc B fpc_J0_7 (fun h => by cases h) (nar_rf _ _ (Or.inl ⟨_, rfl⟩)) (fit_rf _ _ (Or.inl ⟨_, rfl⟩)) dJ0_init_2_48 hF (fun w48 hF => ?_)
    refine j_iload_n B dJ0_init_2_51 rfl ?_
    refine j_if_ne (tgt := 60) B dJ0_init_2_52 (by decide) hF (fun h52 hF => ?_) (fun h52 hF => ?_)
    · exact j_lV B rfl dJ0_init_2_60 hF (by decide) (by decide)
    · refine j_aload_n B dJ0_init_2_55 rfl ?_
      refine j_null B dJ0_init_2_56 ?_
      refine j_putVc B fpc_J0_24 (fun h => by cases h) (nar_rf _ _ (Or.inl ⟨_, rfl⟩)) (fit_rf _ _ (Or.inl ⟨_, rfl⟩)) dJ0_init_2_57 hF (fun w57 hF => ?_)
      exact j_lV B rfl dJ0_init_2_60 hF (by decide) (by decide)
  refine j_aload_n B dJ0_init_2_0 rfl ?_
  refine j_objInit (a := a0) B q183 q156 q157 dJ0_init_2_1 hR (by decide) (by decide) trivial ?_
  refine j_aload_n B dJ0_init_2_4 rfl ?_
  refine j_aload_n B dJ0_init_2_5 rfl ?_
  refine j_putVc B fpc_J0_7 (fun h => by cases h) (nar_rf _ _ (Or.inl ⟨_, rfl⟩)) (fit_rf _ _ (Or.inl ⟨_, rfl⟩)) dJ0_init_2_6 hF (fun w6 hF => ?_)
  refine j_aload_n B dJ0_init_2_9 rfl ?_
  refine j_gets B (Z_ref G q185 (lw_all_tbl q127) (nar_of G (by decide +kernel))) q184 dJ0_init_2_10 ?_
  refine j_putVc B fpc_J0_17 (fun h => by cases h) (nar_rf _ _ (Or.inr ⟨_, rfl⟩)) (fit_rf _ _ (Or.inr ⟨_, rfl⟩)) dJ0_init_2_13 hF (fun w13 hF => ?_)
  refine j_aload_n B dJ0_init_2_16 rfl ?_
  refine j_gets B (Z_ref G q187 (lw_all_tbl q127) (nar_of G (by decide +kernel))) q186 dJ0_init_2_17 ?_
  refine j_putVc B fpc_J0_24 (fun h => by cases h) (nar_rf _ _ (Or.inl ⟨_, rfl⟩)) (fit_rf _ _ (Or.inl ⟨_, rfl⟩)) dJ0_init_2_20 hF (fun w20 hF => ?_)
  refine j_iload B dJ0_init_2_23 rfl ?_
  refine j_if_eq (tgt := 36) B dJ0_init_2_25 (by decide) hF (fun h25 hF => ?_) (fun h25 hF => ?_)
  · refine j_aload_n B dJ0_init_2_36 rfl ?_
    refine j_null B dJ0_init_2_37 ?_
    refine j_putVc B fpc_J0_17 (fun h => by cases h) (nar_rf _ _ (Or.inr ⟨_, rfl⟩)) (fit_rf _ _ (Or.inr ⟨_, rfl⟩)) dJ0_init_2_38 hF (fun w38 hF => ?_)
    refine j_msk [true, true, true, true, false] rfl ?_
    exact jb41 (some a0) a1 a2 x3 w38 hF
  · refine j_aload_n B dJ0_init_2_28 rfl ?_
    cases hF
theorem ci_J1_16 : CI "java/lang/Exception" 16 yJ0_init_2 cJ0_init_2 5 4 := ⟨Or.inl q207, q208, q127, q209, rfl, by decide +kernel⟩
def F_J1_init (g : Gt) (a0 : Nat) (a1 : Option Nat) (a2 : Option Nat) (x3 : Int32) (x4 : Int32) (w : cH) : Option cH :=
  if tgi w (some a0) [1, 3] = true then ((F_J0_init_2 g a0 a1 a2 x3 x4 w).bind fun w6 => some w6) else none
abbrev rm_J1_init : Room := { frames := 2, cells := 0, slots := 0, locals := 44 }
set_option maxHeartbeats 4000000 in
set_option maxRecDepth 100000 in
theorem ct_J1_init {l : Launch} {g : Gt} (G : Gok g) {a0 : Nat} {a1 : Option Nat} {a2 : Option Nat} {x3 : Int32} {x4 : Int32} {w : cH}  {w9 : cH} (hF : F_J1_init g a0 a1 a2 x3 x4 w = some w9) : tgi w (some a0) [1, 3] = true ∧ Mx l yJ1_init (ws_ yJ1_init cJ1_init 5 none) rm_J1_init g [va_rf (some a0), va_rf a1, va_rf a2, .int x3, .int x4] w (.returned none) w9 0 0 := by
  unfold F_J1_init at hF
  obtain ⟨ht, hF⟩ := bg hF
  refine ⟨ht, mk_ct cJ1_init 5 none "java/lang/Exception" (by decide +kernel) rfl (lg_le ⟨cr _, cr _, cr _, rfl, rfl, trivial⟩ (Nat.le_of_ble_eq_true rfl)) (av_ok ⟨cr _, cr _, cr _, rfl, rfl, trivial⟩) G (fun x B hl hR hin hh => ?_)⟩
  show J g x _ _ 0 0 w 0 0 0 [some (va_rf (some a0)), some (va_rf a1), some (va_rf a2), some (.int x3), some (.int x4)] []
  obtain ⟨t9, ht9, hm9⟩ := tgi_some ht
  have hc9 : clsTag t9 := by
    simp only [List.mem_cons, List.not_mem_nil, or_false] at hm9
    exact clsTag_of (by omega)
  refine j_aload_n B dJ1_init_0 rfl ?_
  refine j_aload_n B dJ1_init_1 rfl ?_
  refine j_aload_n B dJ1_init_2 rfl ?_
  refine j_iload_n B dJ1_init_3 rfl ?_
  refine j_iload B dJ1_init_4 rfl ?_
  obtain ⟨w6, e6, hF⟩ := bo hF
  refine j_rI (st2 := []) B [va_rf a1, va_rf a2, .int x3, .int x4] [] ci_J1_16 dJ1_init_6 hl hR (ct_J0_init_2 G e6).2 rfl rfl rfl rfl trivial (Nat.le_of_ble_eq_true rfl) ?_
  exact j_lV B rfl dJ1_init_9 hF (by decide) (by decide)
theorem ci_J2_16 : CI "java/lang/RuntimeException" 16 yJ1_init cJ1_init 5 4 := ⟨Or.inl q204, q205, q128, q206, rfl, by decide +kernel⟩
def F_J2_init (g : Gt) (a0 : Nat) (a1 : Option Nat) (a2 : Option Nat) (x3 : Int32) (x4 : Int32) (w : cH) : Option cH :=
  if tgi w (some a0) [1, 3] = true then ((F_J1_init g a0 a1 a2 x3 x4 w).bind fun w6 => some w6) else none
abbrev rm_J2_init : Room := { frames := 3, cells := 0, slots := 0, locals := 68 }
set_option maxHeartbeats 4000000 in
set_option maxRecDepth 100000 in
theorem ct_J2_init {l : Launch} {g : Gt} (G : Gok g) {a0 : Nat} {a1 : Option Nat} {a2 : Option Nat} {x3 : Int32} {x4 : Int32} {w : cH}  {w9 : cH} (hF : F_J2_init g a0 a1 a2 x3 x4 w = some w9) : tgi w (some a0) [1, 3] = true ∧ Mx l yJ2_init (ws_ yJ2_init cJ2_init 5 none) rm_J2_init g [va_rf (some a0), va_rf a1, va_rf a2, .int x3, .int x4] w (.returned none) w9 0 0 := by
  unfold F_J2_init at hF
  obtain ⟨ht, hF⟩ := bg hF
  refine ⟨ht, mk_ct cJ2_init 5 none "java/lang/RuntimeException" (by decide +kernel) rfl (lg_le ⟨cr _, cr _, cr _, rfl, rfl, trivial⟩ (Nat.le_of_ble_eq_true rfl)) (av_ok ⟨cr _, cr _, cr _, rfl, rfl, trivial⟩) G (fun x B hl hR hin hh => ?_)⟩
  show J g x _ _ 0 0 w 0 0 0 [some (va_rf (some a0)), some (va_rf a1), some (va_rf a2), some (.int x3), some (.int x4)] []
  obtain ⟨t9, ht9, hm9⟩ := tgi_some ht
  have hc9 : clsTag t9 := by
    simp only [List.mem_cons, List.not_mem_nil, or_false] at hm9
    exact clsTag_of (by omega)
  refine j_aload_n B dJ2_init_0 rfl ?_
  refine j_aload_n B dJ2_init_1 rfl ?_
  refine j_aload_n B dJ2_init_2 rfl ?_
  refine j_iload_n B dJ2_init_3 rfl ?_
  refine j_iload B dJ2_init_4 rfl ?_
  obtain ⟨w6, e6, hF⟩ := bo hF
  refine j_rI (st2 := []) B [va_rf a1, va_rf a2, .int x3, .int x4] [] ci_J2_16 dJ2_init_6 hl hR (ct_J1_init G e6).2 rfl rfl rfl rfl trivial (Nat.le_of_ble_eq_true rfl) ?_
  exact j_lV B rfl dJ2_init_9 hF (by decide) (by decide)
theorem ci_X1_1 : CI "CarryFair$Refusal" 1 yJ2_init cJ2_init 5 4 := ⟨Or.inl q201, q202, q129, q203, rfl, by decide +kernel⟩
def F_X1_init (g : Gt) (a0 : Nat) (w : cH) : Option cH :=
  if tg w (some a0) = some 1 then ((F_J2_init g a0 none none 0 0 w).bind fun w5 => some w5) else none
abbrev rm_X1_init : Room := { frames := 4, cells := 0, slots := 0, locals := 92 }
set_option maxHeartbeats 4000000 in
set_option maxRecDepth 100000 in
theorem ct_X1_init {l : Launch} {g : Gt} (G : Gok g) {a0 : Nat} {w : cH}  {w9 : cH} (hF : F_X1_init g a0 w = some w9) : tg w (some a0) = some 1 ∧ Mx l yX1_init (ws_ yX1_init cX1_init 1 none) rm_X1_init g [va_rf (some a0)] w (.returned none) w9 0 0 := by
  unfold F_X1_init at hF
  obtain ⟨ht, hF⟩ := bg hF
  refine ⟨ht, mk_ct cX1_init 1 none "CarryFair$Refusal" (plainFor_of_name (by decide)) rfl (lg_le ⟨cr _, trivial⟩ (Nat.le_of_ble_eq_true rfl)) (av_ok ⟨cr _, trivial⟩) G (fun x B hl hR hin hh => ?_)⟩
  show J g x _ _ 0 0 w 0 0 0 [some (va_rf (some a0))] []
  refine j_aload_n B dX1_init_0 rfl ?_
  refine j_null B dX1_init_1 ?_
  refine j_null B dX1_init_2 ?_
  refine j_iconst (v := 0) B dX1_init_3 (by decide) ?_
  refine j_iconst (v := 0) B dX1_init_4 (by decide) ?_
  obtain ⟨w5, e5, hF⟩ := bo hF
  refine j_rI (st2 := []) B [va_rf none, va_rf none, .int 0, .int 0] [] ci_X1_1 dX1_init_5 hl hR (ct_J2_init G e5).2 rfl rfl rfl rfl trivial (Nat.le_of_ble_eq_true rfl) ?_
  exact j_lV B rfl dX1_init_8 hF (by decide) (by decide)
theorem ci_X3_1 : CI "CarryFair$Wrong" 1 yJ2_init cJ2_init 5 4 := ⟨Or.inl q244, q202, q129, q203, rfl, by decide +kernel⟩
def F_X3_init (g : Gt) (a0 : Nat) (w : cH) : Option cH :=
  if tg w (some a0) = some 3 then ((F_J2_init g a0 none none 0 0 w).bind fun w5 => some w5) else none
abbrev rm_X3_init : Room := { frames := 4, cells := 0, slots := 0, locals := 92 }
set_option maxHeartbeats 4000000 in
set_option maxRecDepth 100000 in
theorem ct_X3_init {l : Launch} {g : Gt} (G : Gok g) {a0 : Nat} {w : cH}  {w9 : cH} (hF : F_X3_init g a0 w = some w9) : tg w (some a0) = some 3 ∧ Mx l yX3_init (ws_ yX3_init cX3_init 1 none) rm_X3_init g [va_rf (some a0)] w (.returned none) w9 0 0 := by
  unfold F_X3_init at hF
  obtain ⟨ht, hF⟩ := bg hF
  refine ⟨ht, mk_ct cX3_init 1 none "CarryFair$Wrong" (plainFor_of_name (by decide)) rfl (lg_le ⟨cr _, trivial⟩ (Nat.le_of_ble_eq_true rfl)) (av_ok ⟨cr _, trivial⟩) G (fun x B hl hR hin hh => ?_)⟩
  show J g x _ _ 0 0 w 0 0 0 [some (va_rf (some a0))] []
  refine j_aload_n B dX3_init_0 rfl ?_
  refine j_null B dX3_init_1 ?_
  refine j_null B dX3_init_2 ?_
  refine j_iconst (v := 0) B dX3_init_3 (by decide) ?_
  refine j_iconst (v := 0) B dX3_init_4 (by decide) ?_
  obtain ⟨w5, e5, hF⟩ := bo hF
  refine j_rI (st2 := []) B [va_rf none, va_rf none, .int 0, .int 0] [] ci_X3_1 dX3_init_5 hl hR (ct_J2_init G e5).2 rfl rfl rfl rfl trivial (Nat.le_of_ble_eq_true rfl) ?_
  exact j_lV B rfl dX3_init_8 hF (by decide) (by decide)
theorem ap_X2 : apT TX2 8 := by unfold apT; decide +kernel
theorem fp_X2_12 : FP "CarryFair$Reader" 12 2 0 (.object "CarryFair$Wrong") true := ⟨RX2, TX2, 8, rfl, by decide, in_X2, Or.inl q302, rfl, (fun _ => rfl), by decide +kernel, ap_X2, tyX2, tyX2_ok⟩
theorem fp_X2_18 : FP "CarryFair$Reader" 18 2 1 (.array .byte) true := ⟨RX2, TX2, 8, rfl, by decide, in_X2, Or.inl q303, rfl, (fun _ => rfl), by decide +kernel, ap_X2, tyX2, tyX2_ok⟩
theorem fp_X2_25 : FP "CarryFair$Reader" 25 2 2 (.object "CarryFair$World") true := ⟨RX2, TX2, 8, rfl, by decide, in_X2, Or.inl q305, rfl, (fun _ => rfl), by decide +kernel, ap_X2, tyX2, tyX2_ok⟩
def dfX3 : Nat → Value := fun k => defaultValue (tyX3 k)
theorem nw_X2_9 : NW "CarryFair$Reader" 9 3 6 dfX3 := ⟨RX3, TX3, 6, tyX3, rfl, in_X3, tyX3_ok, q232, q233, q132, fun _ _ => rfl⟩
def dfX4 : Nat → Value := fun k => defaultValue (tyX4 k)
theorem nw_X2_22 : NW "CarryFair$Reader" 22 4 10 dfX4 := ⟨RX4, TX4, 10, tyX4, rfl, in_X4, tyX4_ok, q247, q248, q133, fun _ _ => rfl⟩
theorem ci_X2_11 : CI "CarryFair$Reader" 11 yX3_init cX3_init 1 0 := ⟨Or.inl q241, q242, q132, q243, rfl, by decide +kernel⟩
theorem ci_X2_24 : CI "CarryFair$Reader" 24 yX4_init cX4_init 2 0 := ⟨Or.inl q249, q250, q133, q251, rfl, by decide +kernel⟩
def F_X2_init (g : Gt) (a0 : Nat) (w : cH) : Option cH :=
  if tg w (some a0) = some 2 then ((some (nO w 3 6 dfX3)).bind fun w5 => (F_X3_init g w.2 w5).bind fun w9 => (pV w9 (some a0) 2 0 (va_rf (some w.2))).bind fun w12 => (some (nA w12 101 120)).bind fun w18 => (pV w18 (some a0) 2 1 (va_rf (some w12.2))).bind fun w20 => (some (nO w20 4 10 dfX4)).bind fun w24 => (F_X4_init w20.2 w24).bind fun w28 => (pV w28 (some a0) 2 2 (va_rf (some w20.2))).bind fun w31 => some w31) else none
abbrev rm_X2_init : Room := { frames := 5, cells := 35, slots := 352, locals := 112 }
set_option maxHeartbeats 4000000 in
set_option maxRecDepth 100000 in
theorem ct_X2_init {l : Launch} {g : Gt} (G : Gok g) {a0 : Nat} {w : cH}  {w9 : cH} (hF : F_X2_init g a0 w = some w9) : tg w (some a0) = some 2 ∧ Mx l yX2_init (ws_ yX2_init cX2_init 1 none) rm_X2_init g [va_rf (some a0)] w (.returned none) w9 35 352 := by
  unfold F_X2_init at hF
  obtain ⟨ht, hF⟩ := bg hF
  refine ⟨ht, mk_ct cX2_init 1 none "CarryFair$Reader" (plainFor_of_name (by decide)) rfl (lg_le ⟨cr _, trivial⟩ (Nat.le_of_ble_eq_true rfl)) (av_ok ⟨cr _, trivial⟩) G (fun x B hl hR hin hh => ?_)⟩
  show J g x _ _ 35 352 w 0 0 0 [some (va_rf (some a0))] []
  refine j_aload_n B dX2_init_0 rfl ?_
  refine j_objInit (a := a0) B q231 q156 q157 dX2_init_1 hR (by decide) (by decide) trivial ?_
  refine j_aload_n B dX2_init_4 rfl ?_
  obtain ⟨w5, e5, hF⟩ := bo hF
  refine j_new (N := 6) B nw_X2_9 rfl dX2_init_5 hR (by decide) (by decide) ?_
  rw [Option.some.inj e5]
  refine j_dup B dX2_init_8 (cr _) ?_
  obtain ⟨w9, e9, hF⟩ := bo hF
  refine j_rI (st2 := [va_rf (some w.2), va_rf (some a0)]) B [] [va_rf (some w.2), va_rf (some a0)] ci_X2_11 dX2_init_9 hl hR (ct_X3_init G e9).2 rfl rfl rfl rfl ⟨cr _, cr _, trivial⟩ (Nat.le_of_ble_eq_true rfl) ?_
  refine j_putV B fp_X2_12 (fun _ => hin) (nar_rf _ _ (Or.inl ⟨_, rfl⟩)) (fit_rf _ _ (Or.inl ⟨_, rfl⟩)) dX2_init_12 hF (fun w12 hF => ?_)
  refine j_aload_n B dX2_init_15 rfl ?_
  refine j_bipush (v := 120) B dX2_init_16 (by decide) ?_
  obtain ⟨w18, e18, hF⟩ := bo hF
  refine j_newarray (at9 := .byte) (ty := .byte) (N := 120) B 101 rfl rfl rfl q300 dX2_init_18 (by decide) (by decide) (by decide) hR (by decide) (by decide) ?_
  rw [Option.some.inj e18]
  refine j_putV B fp_X2_18 (fun _ => hin) (nar_rf _ _ (Or.inr ⟨_, rfl⟩)) (fit_rf _ _ (Or.inr ⟨_, rfl⟩)) dX2_init_20 hF (fun w20 hF => ?_)
  refine j_aload_n B dX2_init_23 rfl ?_
  obtain ⟨w24, e24, hF⟩ := bo hF
  refine j_new (N := 10) B nw_X2_22 rfl dX2_init_24 hR (by decide) (by decide) ?_
  rw [Option.some.inj e24]
  refine j_dup B dX2_init_27 (cr _) ?_
  obtain ⟨w28, e28, hF⟩ := bo hF
  refine j_rI (st2 := [va_rf (some w20.2), va_rf (some a0)]) B [] [va_rf (some w20.2), va_rf (some a0)] ci_X2_24 dX2_init_28 hl hR (ct_X4_init G e28).2 rfl rfl rfl rfl ⟨cr _, cr _, trivial⟩ (Nat.le_of_ble_eq_true rfl) ?_
  refine j_putV B fp_X2_25 (fun _ => hin) (nar_rf _ _ (Or.inl ⟨_, rfl⟩)) (fit_rf _ _ (Or.inl ⟨_, rfl⟩)) dX2_init_31 hF (fun w31 hF => ?_)
  exact j_lV B rfl dX2_init_34 hF (by decide) (by decide)
def F_X5_init (a0 : Nat) (w : cH) : Option cH :=
  if tg w (some a0) = some 5 then (some w) else none
abbrev rm_X5_init : Room := { frames := 1, cells := 0, slots := 0, locals := 20 }
set_option maxHeartbeats 4000000 in
set_option maxRecDepth 100000 in
theorem ct_X5_init {l : Launch} {g : Gt} (G : Gok g) {a0 : Nat} {w : cH}  {w9 : cH} (hF : F_X5_init a0 w = some w9) : tg w (some a0) = some 5 ∧ Mx l yX5_init (ws_ yX5_init cX5_init 1 none) rm_X5_init g [va_rf (some a0)] w (.returned none) w9 0 0 := by
  unfold F_X5_init at hF
  obtain ⟨ht, hF⟩ := bg hF
  refine ⟨ht, mk_ct cX5_init 1 none "CarryFair$Slot" (plainFor_of_name (by decide)) rfl (lg_le ⟨cr _, trivial⟩ (Nat.le_of_ble_eq_true rfl)) (av_ok ⟨cr _, trivial⟩) G (fun x B hl hR hin hh => ?_)⟩
  show J g x _ _ 0 0 w 0 0 0 [some (va_rf (some a0))] []
  refine j_aload_n B dX5_init_0 rfl ?_
  refine j_objInit (a := a0) B q340 q156 q157 dX5_init_1 hR (by decide) (by decide) trivial ?_
  exact j_lV B rfl dX5_init_4 hF (by decide) (by decide)
theorem ap_X10 : apT TX10 4 := by unfold apT; decide +kernel
theorem ap_X11 : apT TX11 3 := by unfold apT; decide +kernel
theorem ap_X12 : apT TX12 4 := by unfold apT; decide +kernel
theorem ap_X6 : apT TX6 2 := by unfold apT; decide +kernel
theorem ap_X7 : apT TX7 3 := by unfold apT; decide +kernel
theorem ap_X8 : apT TX8 3 := by unfold apT; decide +kernel
theorem ap_X9 : apT TX9 4 := by unfold apT; decide +kernel
theorem fpc_X6_3 : FPc "CarryFair$Carrier" 3 [6, 7, 8, 9, 10, 11, 12] 1 (.object "CarryFair") true := by
  intro t ht
  simp only [List.mem_cons, List.not_mem_nil, or_false] at ht
  rcases ht with rfl | rfl | rfl | rfl | rfl | rfl | rfl
  · exact ⟨RX6, TX6, 2, rfl, by decide, in_X6, Or.inl q361, rfl, (fun _ => rfl), by decide +kernel, ap_X6, tyX6, tyX6_ok⟩
  · exact ⟨RX7, TX7, 3, rfl, by decide, in_X7, Or.inl q361, rfl, (fun _ => rfl), by decide +kernel, ap_X7, tyX7, tyX7_ok⟩
  · exact ⟨RX8, TX8, 3, rfl, by decide, in_X8, Or.inl q361, rfl, (fun _ => rfl), by decide +kernel, ap_X8, tyX8, tyX8_ok⟩
  · exact ⟨RX9, TX9, 4, rfl, by decide, in_X9, Or.inl q361, rfl, (fun _ => rfl), by decide +kernel, ap_X9, tyX9, tyX9_ok⟩
  · exact ⟨RX10, TX10, 4, rfl, by decide, in_X10, Or.inl q361, rfl, (fun _ => rfl), by decide +kernel, ap_X10, tyX10, tyX10_ok⟩
  · exact ⟨RX11, TX11, 3, rfl, by decide, in_X11, Or.inl q361, rfl, (fun _ => rfl), by decide +kernel, ap_X11, tyX11, tyX11_ok⟩
  · exact ⟨RX12, TX12, 4, rfl, by decide, in_X12, Or.inl q361, rfl, (fun _ => rfl), by decide +kernel, ap_X12, tyX12, tyX12_ok⟩
theorem fpc_X6_15 : FPc "CarryFair$Carrier" 15 [6, 7, 8, 9, 10, 11, 12] 0 .int true := by
  intro t ht
  simp only [List.mem_cons, List.not_mem_nil, or_false] at ht
  rcases ht with rfl | rfl | rfl | rfl | rfl | rfl | rfl
  · exact ⟨RX6, TX6, 2, rfl, by decide, in_X6, Or.inl q359, rfl, (fun _ => rfl), by decide +kernel, ap_X6, tyX6, tyX6_ok⟩
  · exact ⟨RX7, TX7, 3, rfl, by decide, in_X7, Or.inl q359, rfl, (fun _ => rfl), by decide +kernel, ap_X7, tyX7, tyX7_ok⟩
  · exact ⟨RX8, TX8, 3, rfl, by decide, in_X8, Or.inl q359, rfl, (fun _ => rfl), by decide +kernel, ap_X8, tyX8, tyX8_ok⟩
  · exact ⟨RX9, TX9, 4, rfl, by decide, in_X9, Or.inl q359, rfl, (fun _ => rfl), by decide +kernel, ap_X9, tyX9, tyX9_ok⟩
  · exact ⟨RX10, TX10, 4, rfl, by decide, in_X10, Or.inl q359, rfl, (fun _ => rfl), by decide +kernel, ap_X10, tyX10, tyX10_ok⟩
  · exact ⟨RX11, TX11, 3, rfl, by decide, in_X11, Or.inl q359, rfl, (fun _ => rfl), by decide +kernel, ap_X11, tyX11, tyX11_ok⟩
  · exact ⟨RX12, TX12, 4, rfl, by decide, in_X12, Or.inl q359, rfl, (fun _ => rfl), by decide +kernel, ap_X12, tyX12, tyX12_ok⟩
def F_X6_init (a0 : Nat) (a1 : Option Nat) (x2 : Int32) (w : cH) : Option cH :=
  if tgi w (some a0) [6, 7, 8, 9, 10, 11, 12] = true then ((pVc w (some a0) [6, 7, 8, 9, 10, 11, 12] 1 (va_rf a1)).bind fun w2 => (pVc w2 (some a0) [6, 7, 8, 9, 10, 11, 12] 0 (.int x2)).bind fun w11 => some w11) else none
abbrev rm_X6_init : Room := { frames := 1, cells := 0, slots := 0, locals := 20 }
set_option maxHeartbeats 4000000 in
set_option maxRecDepth 100000 in
theorem ct_X6_init {l : Launch} {g : Gt} (G : Gok g) {a0 : Nat} {a1 : Option Nat} {x2 : Int32} {w : cH}  {w9 : cH} (hF : F_X6_init a0 a1 x2 w = some w9) : tgi w (some a0) [6, 7, 8, 9, 10, 11, 12] = true ∧ Mx l yX6_init (ws_ yX6_init cX6_init 3 none) rm_X6_init g [va_rf (some a0), va_rf a1, .int x2] w (.returned none) w9 0 0 := by
  unfold F_X6_init at hF
  obtain ⟨ht, hF⟩ := bg hF
  refine ⟨ht, mk_ct cX6_init 3 none "CarryFair$Carrier" (plainFor_of_name (by decide)) rfl (lg_le ⟨cr _, cr _, rfl, trivial⟩ (Nat.le_of_ble_eq_true rfl)) (av_ok ⟨cr _, cr _, rfl, trivial⟩) G (fun x B hl hR hin hh => ?_)⟩
  show J g x _ _ 0 0 w 0 0 0 [some (va_rf (some a0)), some (va_rf a1), some (.int x2)] []
  obtain ⟨t9, ht9, hm9⟩ := tgi_some ht
  have hc9 : clsTag t9 := by
    simp only [List.mem_cons, List.not_mem_nil, or_false] at hm9
    exact clsTag_of (by omega)
  refine j_aload_n B dX6_init_0 rfl ?_
  refine j_aload_n B dX6_init_1 rfl ?_
  refine j_putVc B fpc_X6_3 (fun _ => hin) (nar_rf _ _ (Or.inl ⟨_, rfl⟩)) (fit_rf _ _ (Or.inl ⟨_, rfl⟩)) dX6_init_2 hF (fun w2 hF => ?_)
  refine j_aload_n B dX6_init_5 rfl ?_
  refine j_objInit (a := a0) B q357 q156 q157 dX6_init_6 hR (by decide) (by decide) trivial ?_
  refine j_aload_n B dX6_init_9 rfl ?_
  refine j_iload_n B dX6_init_10 rfl ?_
  refine j_putVc B fpc_X6_15 (fun _ => hin) rfl rfl dX6_init_11 hF (fun w11 hF => ?_)
  exact j_lV B rfl dX6_init_14 hF (by decide) (by decide)
theorem fpc_X7_3 : FPc "CarryFair$Old" 3 [7, 9] 2 (.object "CarryFair") true := by
  intro t ht
  simp only [List.mem_cons, List.not_mem_nil, or_false] at ht
  rcases ht with rfl | rfl
  · exact ⟨RX7, TX7, 3, rfl, by decide, in_X7, Or.inl q358, rfl, (fun _ => rfl), by decide +kernel, ap_X7, tyX7, tyX7_ok⟩
  · exact ⟨RX9, TX9, 4, rfl, by decide, in_X9, Or.inl q358, rfl, (fun _ => rfl), by decide +kernel, ap_X9, tyX9, tyX9_ok⟩
theorem ci_X7_9 : CI "CarryFair$Old" 9 yX6_init cX6_init 3 2 := ⟨Or.inl q354, q355, q135, q356, rfl, by decide +kernel⟩
def F_X7_init (a0 : Nat) (a1 : Option Nat) (x2 : Int32) (w : cH) : Option cH :=
  if tgi w (some a0) [7, 9] = true then ((pVc w (some a0) [7, 9] 2 (va_rf a1)).bind fun w2 => (F_X6_init a0 a1 x2 w2).bind fun w8 => some w8) else none
abbrev rm_X7_init : Room := { frames := 2, cells := 0, slots := 0, locals := 42 }
set_option maxHeartbeats 4000000 in
set_option maxRecDepth 100000 in
theorem ct_X7_init {l : Launch} {g : Gt} (G : Gok g) {a0 : Nat} {a1 : Option Nat} {x2 : Int32} {w : cH}  {w9 : cH} (hF : F_X7_init a0 a1 x2 w = some w9) : tgi w (some a0) [7, 9] = true ∧ Mx l yX7_init (ws_ yX7_init cX7_init 3 none) rm_X7_init g [va_rf (some a0), va_rf a1, .int x2] w (.returned none) w9 0 0 := by
  unfold F_X7_init at hF
  obtain ⟨ht, hF⟩ := bg hF
  refine ⟨ht, mk_ct cX7_init 3 none "CarryFair$Old" (plainFor_of_name (by decide)) rfl (lg_le ⟨cr _, cr _, rfl, trivial⟩ (Nat.le_of_ble_eq_true rfl)) (av_ok ⟨cr _, cr _, rfl, trivial⟩) G (fun x B hl hR hin hh => ?_)⟩
  show J g x _ _ 0 0 w 0 0 0 [some (va_rf (some a0)), some (va_rf a1), some (.int x2)] []
  obtain ⟨t9, ht9, hm9⟩ := tgi_some ht
  have hc9 : clsTag t9 := by
    simp only [List.mem_cons, List.not_mem_nil, or_false] at hm9
    exact clsTag_of (by omega)
  refine j_aload_n B dX7_init_0 rfl ?_
  refine j_aload_n B dX7_init_1 rfl ?_
  refine j_putVc B fpc_X7_3 (fun _ => hin) (nar_rf _ _ (Or.inl ⟨_, rfl⟩)) (fit_rf _ _ (Or.inl ⟨_, rfl⟩)) dX7_init_2 hF (fun w2 hF => ?_)
  refine j_aload_n B dX7_init_5 rfl ?_
  refine j_aload_n B dX7_init_6 rfl ?_
  refine j_iload_n B dX7_init_7 rfl ?_
  obtain ⟨w8, e8, hF⟩ := bo hF
  refine j_rI (st2 := []) B [va_rf a1, .int x2] [] ci_X7_9 dX7_init_8 hl hR (ct_X6_init G e8).2 rfl rfl rfl rfl trivial (Nat.le_of_ble_eq_true rfl) ?_
  exact j_lV B rfl dX7_init_11 hF (by decide) (by decide)
theorem fpc_X8_3 : FPc "CarryFair$Paired" 3 [8, 10] 2 (.object "CarryFair") true := by
  intro t ht
  simp only [List.mem_cons, List.not_mem_nil, or_false] at ht
  rcases ht with rfl | rfl
  · exact ⟨RX8, TX8, 3, rfl, by decide, in_X8, Or.inl q375, rfl, (fun _ => rfl), by decide +kernel, ap_X8, tyX8, tyX8_ok⟩
  · exact ⟨RX10, TX10, 4, rfl, by decide, in_X10, Or.inl q375, rfl, (fun _ => rfl), by decide +kernel, ap_X10, tyX10, tyX10_ok⟩
theorem ci_X8_9 : CI "CarryFair$Paired" 9 yX6_init cX6_init 3 2 := ⟨Or.inl q374, q355, q135, q356, rfl, by decide +kernel⟩
def F_X8_init (a0 : Nat) (a1 : Option Nat) (x2 : Int32) (w : cH) : Option cH :=
  if tgi w (some a0) [8, 10] = true then ((pVc w (some a0) [8, 10] 2 (va_rf a1)).bind fun w2 => (F_X6_init a0 a1 x2 w2).bind fun w8 => some w8) else none
abbrev rm_X8_init : Room := { frames := 2, cells := 0, slots := 0, locals := 42 }
set_option maxHeartbeats 4000000 in
set_option maxRecDepth 100000 in
theorem ct_X8_init {l : Launch} {g : Gt} (G : Gok g) {a0 : Nat} {a1 : Option Nat} {x2 : Int32} {w : cH}  {w9 : cH} (hF : F_X8_init a0 a1 x2 w = some w9) : tgi w (some a0) [8, 10] = true ∧ Mx l yX8_init (ws_ yX8_init cX8_init 3 none) rm_X8_init g [va_rf (some a0), va_rf a1, .int x2] w (.returned none) w9 0 0 := by
  unfold F_X8_init at hF
  obtain ⟨ht, hF⟩ := bg hF
  refine ⟨ht, mk_ct cX8_init 3 none "CarryFair$Paired" (plainFor_of_name (by decide)) rfl (lg_le ⟨cr _, cr _, rfl, trivial⟩ (Nat.le_of_ble_eq_true rfl)) (av_ok ⟨cr _, cr _, rfl, trivial⟩) G (fun x B hl hR hin hh => ?_)⟩
  show J g x _ _ 0 0 w 0 0 0 [some (va_rf (some a0)), some (va_rf a1), some (.int x2)] []
  obtain ⟨t9, ht9, hm9⟩ := tgi_some ht
  have hc9 : clsTag t9 := by
    simp only [List.mem_cons, List.not_mem_nil, or_false] at hm9
    exact clsTag_of (by omega)
  refine j_aload_n B dX8_init_0 rfl ?_
  refine j_aload_n B dX8_init_1 rfl ?_
  refine j_putVc B fpc_X8_3 (fun _ => hin) (nar_rf _ _ (Or.inl ⟨_, rfl⟩)) (fit_rf _ _ (Or.inl ⟨_, rfl⟩)) dX8_init_2 hF (fun w2 hF => ?_)
  refine j_aload_n B dX8_init_5 rfl ?_
  refine j_aload_n B dX8_init_6 rfl ?_
  refine j_iload_n B dX8_init_7 rfl ?_
  obtain ⟨w8, e8, hF⟩ := bo hF
  refine j_rI (st2 := []) B [va_rf a1, .int x2] [] ci_X8_9 dX8_init_8 hl hR (ct_X6_init G e8).2 rfl rfl rfl rfl trivial (Nat.le_of_ble_eq_true rfl) ?_
  exact j_lV B rfl dX8_init_11 hF (by decide) (by decide)
theorem fpc_X9_1 : FPc "CarryFair$Cheating" 1 [9] 3 (.object "CarryFair") true := by
  intro t ht
  simp only [List.mem_cons, List.not_mem_nil, or_false] at ht
  rcases ht with rfl
  · exact ⟨RX9, TX9, 4, rfl, by decide, in_X9, Or.inl q387, rfl, (fun _ => rfl), by decide +kernel, ap_X9, tyX9, tyX9_ok⟩
theorem ci_X9_7 : CI "CarryFair$Cheating" 7 yX7_init cX7_init 3 2 := ⟨Or.inl q386, q352, q136, q353, rfl, by decide +kernel⟩
def F_X9_init (a0 : Nat) (a1 : Option Nat) (x2 : Int32) (w : cH) : Option cH :=
  if tgi w (some a0) [9] = true then ((pVc w (some a0) [9] 3 (va_rf a1)).bind fun w2 => (F_X7_init a0 a1 x2 w2).bind fun w8 => some w8) else none
abbrev rm_X9_init : Room := { frames := 3, cells := 0, slots := 0, locals := 64 }
set_option maxHeartbeats 4000000 in
set_option maxRecDepth 100000 in
theorem ct_X9_init {l : Launch} {g : Gt} (G : Gok g) {a0 : Nat} {a1 : Option Nat} {x2 : Int32} {w : cH}  {w9 : cH} (hF : F_X9_init a0 a1 x2 w = some w9) : tgi w (some a0) [9] = true ∧ Mx l yX9_init (ws_ yX9_init cX9_init 3 none) rm_X9_init g [va_rf (some a0), va_rf a1, .int x2] w (.returned none) w9 0 0 := by
  unfold F_X9_init at hF
  obtain ⟨ht, hF⟩ := bg hF
  refine ⟨ht, mk_ct cX9_init 3 none "CarryFair$Cheating" (plainFor_of_name (by decide)) rfl (lg_le ⟨cr _, cr _, rfl, trivial⟩ (Nat.le_of_ble_eq_true rfl)) (av_ok ⟨cr _, cr _, rfl, trivial⟩) G (fun x B hl hR hin hh => ?_)⟩
  show J g x _ _ 0 0 w 0 0 0 [some (va_rf (some a0)), some (va_rf a1), some (.int x2)] []
  obtain ⟨t9, ht9, hm9⟩ := tgi_some ht
  have hc9 : clsTag t9 := by
    simp only [List.mem_cons, List.not_mem_nil, or_false] at hm9
    exact clsTag_of (by omega)
  refine j_aload_n B dX9_init_0 rfl ?_
  refine j_aload_n B dX9_init_1 rfl ?_
  refine j_putVc B fpc_X9_1 (fun _ => hin) (nar_rf _ _ (Or.inl ⟨_, rfl⟩)) (fit_rf _ _ (Or.inl ⟨_, rfl⟩)) dX9_init_2 hF (fun w2 hF => ?_)
  refine j_aload_n B dX9_init_5 rfl ?_
  refine j_aload_n B dX9_init_6 rfl ?_
  refine j_iload_n B dX9_init_7 rfl ?_
  obtain ⟨w8, e8, hF⟩ := bo hF
  refine j_rI (st2 := []) B [va_rf a1, .int x2] [] ci_X9_7 dX9_init_8 hl hR (ct_X7_init G e8).2 rfl rfl rfl rfl trivial (Nat.le_of_ble_eq_true rfl) ?_
  exact j_lV B rfl dX9_init_11 hF (by decide) (by decide)
theorem fpc_X10_1 : FPc "CarryFair$Handed" 1 [10] 3 (.object "CarryFair") true := by
  intro t ht
  simp only [List.mem_cons, List.not_mem_nil, or_false] at ht
  rcases ht with rfl
  · exact ⟨RX10, TX10, 4, rfl, by decide, in_X10, Or.inl q400, rfl, (fun _ => rfl), by decide +kernel, ap_X10, tyX10, tyX10_ok⟩
theorem ci_X10_7 : CI "CarryFair$Handed" 7 yX8_init cX8_init 3 2 := ⟨Or.inl q399, q372, q137, q373, rfl, by decide +kernel⟩
def F_X10_init (a0 : Nat) (a1 : Option Nat) (x2 : Int32) (w : cH) : Option cH :=
  if tgi w (some a0) [10] = true then ((pVc w (some a0) [10] 3 (va_rf a1)).bind fun w2 => (F_X8_init a0 a1 x2 w2).bind fun w8 => some w8) else none
abbrev rm_X10_init : Room := { frames := 3, cells := 0, slots := 0, locals := 64 }
set_option maxHeartbeats 4000000 in
set_option maxRecDepth 100000 in
theorem ct_X10_init {l : Launch} {g : Gt} (G : Gok g) {a0 : Nat} {a1 : Option Nat} {x2 : Int32} {w : cH}  {w9 : cH} (hF : F_X10_init a0 a1 x2 w = some w9) : tgi w (some a0) [10] = true ∧ Mx l yX10_init (ws_ yX10_init cX10_init 3 none) rm_X10_init g [va_rf (some a0), va_rf a1, .int x2] w (.returned none) w9 0 0 := by
  unfold F_X10_init at hF
  obtain ⟨ht, hF⟩ := bg hF
  refine ⟨ht, mk_ct cX10_init 3 none "CarryFair$Handed" (plainFor_of_name (by decide)) rfl (lg_le ⟨cr _, cr _, rfl, trivial⟩ (Nat.le_of_ble_eq_true rfl)) (av_ok ⟨cr _, cr _, rfl, trivial⟩) G (fun x B hl hR hin hh => ?_)⟩
  show J g x _ _ 0 0 w 0 0 0 [some (va_rf (some a0)), some (va_rf a1), some (.int x2)] []
  obtain ⟨t9, ht9, hm9⟩ := tgi_some ht
  have hc9 : clsTag t9 := by
    simp only [List.mem_cons, List.not_mem_nil, or_false] at hm9
    exact clsTag_of (by omega)
  refine j_aload_n B dX10_init_0 rfl ?_
  refine j_aload_n B dX10_init_1 rfl ?_
  refine j_putVc B fpc_X10_1 (fun _ => hin) (nar_rf _ _ (Or.inl ⟨_, rfl⟩)) (fit_rf _ _ (Or.inl ⟨_, rfl⟩)) dX10_init_2 hF (fun w2 hF => ?_)
  refine j_aload_n B dX10_init_5 rfl ?_
  refine j_aload_n B dX10_init_6 rfl ?_
  refine j_iload_n B dX10_init_7 rfl ?_
  obtain ⟨w8, e8, hF⟩ := bo hF
  refine j_rI (st2 := []) B [va_rf a1, .int x2] [] ci_X10_7 dX10_init_8 hl hR (ct_X8_init G e8).2 rfl rfl rfl rfl trivial (Nat.le_of_ble_eq_true rfl) ?_
  exact j_lV B rfl dX10_init_11 hF (by decide) (by decide)
