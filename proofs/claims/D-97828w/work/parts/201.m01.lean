theorem fpc_X11_3 : FPc "CarryFair$Watery" 3 [11, 12] 2 (.object "CarryFair") true := by
  intro t ht
  simp only [List.mem_cons, List.not_mem_nil, or_false] at ht
  rcases ht with rfl | rfl
  · exact ⟨RX11, TX11, 3, rfl, by decide, in_X11, Or.inl q413, rfl, (fun _ => rfl), by decide +kernel, ap_X11, tyX11, tyX11_ok⟩
  · exact ⟨RX12, TX12, 4, rfl, by decide, in_X12, Or.inl q413, rfl, (fun _ => rfl), by decide +kernel, ap_X12, tyX12, tyX12_ok⟩
theorem ci_X11_9 : CI "CarryFair$Watery" 9 yX6_init cX6_init 3 2 := ⟨Or.inl q412, q355, q135, q356, rfl, by decide +kernel⟩
def F_X11_init (a0 : Nat) (a1 : Option Nat) (x2 : Int32) (w : cH) : Option cH :=
  if tgi w (some a0) [11, 12] = true then ((pVc w (some a0) [11, 12] 2 (va_rf a1)).bind fun w2 => (F_X6_init a0 a1 x2 w2).bind fun w8 => some w8) else none
abbrev rm_X11_init : Room := { frames := 2, cells := 0, slots := 0, locals := 42 }
set_option maxHeartbeats 4000000 in
set_option maxRecDepth 100000 in
theorem ct_X11_init {l : Launch} {g : Gt} (G : Gok g) {a0 : Nat} {a1 : Option Nat} {x2 : Int32} {w : cH}  {w9 : cH} (hF : F_X11_init a0 a1 x2 w = some w9) : tgi w (some a0) [11, 12] = true ∧ Mx l yX11_init (ws_ yX11_init cX11_init 3 none) rm_X11_init g [va_rf (some a0), va_rf a1, .int x2] w (.returned none) w9 0 0 := by
  unfold F_X11_init at hF
  obtain ⟨ht, hF⟩ := bg hF
  refine ⟨ht, mk_ct cX11_init 3 none "CarryFair$Watery" (plainFor_of_name (by decide)) rfl (lg_le ⟨cr _, cr _, rfl, trivial⟩ (Nat.le_of_ble_eq_true rfl)) (av_ok ⟨cr _, cr _, rfl, trivial⟩) G (fun x B hl hR hin hh => ?_)⟩
  show J g x _ _ 0 0 w 0 0 0 [some (va_rf (some a0)), some (va_rf a1), some (.int x2)] []
  obtain ⟨t9, ht9, hm9⟩ := tgi_some ht
  have hc9 : clsTag t9 := by
    simp only [List.mem_cons, List.not_mem_nil, or_false] at hm9
    exact clsTag_of (by omega)
  refine j_aload_n B dX11_init_0 rfl ?_
  refine j_aload_n B dX11_init_1 rfl ?_
  refine j_putVc B fpc_X11_3 (fun _ => hin) (nar_rf _ _ (Or.inl ⟨_, rfl⟩)) (fit_rf _ _ (Or.inl ⟨_, rfl⟩)) dX11_init_2 hF (fun w2 hF => ?_)
  refine j_aload_n B dX11_init_5 rfl ?_
  refine j_aload_n B dX11_init_6 rfl ?_
  refine j_iload_n B dX11_init_7 rfl ?_
  obtain ⟨w8, e8, hF⟩ := bo hF
  refine j_rI (st2 := []) B [va_rf a1, .int x2] [] ci_X11_9 dX11_init_8 hl hR (ct_X6_init G e8).2 rfl rfl rfl rfl trivial (Nat.le_of_ble_eq_true rfl) ?_
  exact j_lV B rfl dX11_init_11 hF (by decide) (by decide)
theorem fpc_X12_1 : FPc "CarryFair$Boated" 1 [12] 3 (.object "CarryFair") true := by
  intro t ht
  simp only [List.mem_cons, List.not_mem_nil, or_false] at ht
  rcases ht with rfl
  · exact ⟨RX12, TX12, 4, rfl, by decide, in_X12, Or.inl q425, rfl, (fun _ => rfl), by decide +kernel, ap_X12, tyX12, tyX12_ok⟩
theorem ci_X12_7 : CI "CarryFair$Boated" 7 yX11_init cX11_init 3 2 := ⟨Or.inl q424, q410, q140, q411, rfl, by decide +kernel⟩
def F_X12_init (a0 : Nat) (a1 : Option Nat) (x2 : Int32) (w : cH) : Option cH :=
  if tgi w (some a0) [12] = true then ((pVc w (some a0) [12] 3 (va_rf a1)).bind fun w2 => (F_X11_init a0 a1 x2 w2).bind fun w8 => some w8) else none
abbrev rm_X12_init : Room := { frames := 3, cells := 0, slots := 0, locals := 64 }
set_option maxHeartbeats 4000000 in
set_option maxRecDepth 100000 in
theorem ct_X12_init {l : Launch} {g : Gt} (G : Gok g) {a0 : Nat} {a1 : Option Nat} {x2 : Int32} {w : cH}  {w9 : cH} (hF : F_X12_init a0 a1 x2 w = some w9) : tgi w (some a0) [12] = true ∧ Mx l yX12_init (ws_ yX12_init cX12_init 3 none) rm_X12_init g [va_rf (some a0), va_rf a1, .int x2] w (.returned none) w9 0 0 := by
  unfold F_X12_init at hF
  obtain ⟨ht, hF⟩ := bg hF
  refine ⟨ht, mk_ct cX12_init 3 none "CarryFair$Boated" (plainFor_of_name (by decide)) rfl (lg_le ⟨cr _, cr _, rfl, trivial⟩ (Nat.le_of_ble_eq_true rfl)) (av_ok ⟨cr _, cr _, rfl, trivial⟩) G (fun x B hl hR hin hh => ?_)⟩
  show J g x _ _ 0 0 w 0 0 0 [some (va_rf (some a0)), some (va_rf a1), some (.int x2)] []
  obtain ⟨t9, ht9, hm9⟩ := tgi_some ht
  have hc9 : clsTag t9 := by
    simp only [List.mem_cons, List.not_mem_nil, or_false] at hm9
    exact clsTag_of (by omega)
  refine j_aload_n B dX12_init_0 rfl ?_
  refine j_aload_n B dX12_init_1 rfl ?_
  refine j_putVc B fpc_X12_1 (fun _ => hin) (nar_rf _ _ (Or.inl ⟨_, rfl⟩)) (fit_rf _ _ (Or.inl ⟨_, rfl⟩)) dX12_init_2 hF (fun w2 hF => ?_)
  refine j_aload_n B dX12_init_5 rfl ?_
  refine j_aload_n B dX12_init_6 rfl ?_
  refine j_iload_n B dX12_init_7 rfl ?_
  obtain ⟨w8, e8, hF⟩ := bo hF
  refine j_rI (st2 := []) B [va_rf a1, .int x2] [] ci_X12_7 dX12_init_8 hl hR (ct_X11_init G e8).2 rfl rfl rfl rfl trivial (Nat.le_of_ble_eq_true rfl) ?_
  exact j_lV B rfl dX12_init_11 hF (by decide) (by decide)
def dfX7 : Nat → Value := fun k => defaultValue (tyX7 k)
theorem nw_X0_15 : NW "CarryFair" 15 7 3 dfX7 := ⟨RX7, TX7, 3, tyX7, rfl, in_X7, tyX7_ok, q349, q350, q136, fun _ _ => rfl⟩
def dfX8 : Nat → Value := fun k => defaultValue (tyX8 k)
theorem nw_X0_21 : NW "CarryFair" 21 8 3 dfX8 := ⟨RX8, TX8, 3, tyX8, rfl, in_X8, tyX8_ok, q369, q370, q137, fun _ _ => rfl⟩
def dfX9 : Nat → Value := fun k => defaultValue (tyX9 k)
theorem nw_X0_24 : NW "CarryFair" 24 9 4 dfX9 := ⟨RX9, TX9, 4, tyX9, rfl, in_X9, tyX9_ok, q381, q382, q138, fun _ _ => rfl⟩
def dfX10 : Nat → Value := fun k => defaultValue (tyX10 k)
theorem nw_X0_27 : NW "CarryFair" 27 10 4 dfX10 := ⟨RX10, TX10, 4, tyX10, rfl, in_X10, tyX10_ok, q394, q395, q139, fun _ _ => rfl⟩
def dfX11 : Nat → Value := fun k => defaultValue (tyX11 k)
theorem nw_X0_30 : NW "CarryFair" 30 11 3 dfX11 := ⟨RX11, TX11, 3, tyX11, rfl, in_X11, tyX11_ok, q407, q408, q140, fun _ _ => rfl⟩
def dfX12 : Nat → Value := fun k => defaultValue (tyX12 k)
theorem nw_X0_33 : NW "CarryFair" 33 12 4 dfX12 := ⟨RX12, TX12, 4, tyX12, rfl, in_X12, tyX12_ok, q419, q420, q141, fun _ _ => rfl⟩
def dfX6 : Nat → Value := fun k => defaultValue (tyX6 k)
theorem nw_X0_36 : NW "CarryFair" 36 6 2 dfX6 := ⟨RX6, TX6, 2, tyX6, rfl, in_X6, tyX6_ok, q432, q433, q135, fun _ _ => rfl⟩
theorem ci_X0_17 : CI "CarryFair" 17 yX7_init cX7_init 3 2 := ⟨Or.inl q351, q352, q136, q353, rfl, by decide +kernel⟩
theorem ci_X0_23 : CI "CarryFair" 23 yX8_init cX8_init 3 2 := ⟨Or.inl q371, q372, q137, q373, rfl, by decide +kernel⟩
theorem ci_X0_26 : CI "CarryFair" 26 yX9_init cX9_init 3 2 := ⟨Or.inl q383, q384, q138, q385, rfl, by decide +kernel⟩
theorem ci_X0_29 : CI "CarryFair" 29 yX10_init cX10_init 3 2 := ⟨Or.inl q396, q397, q139, q398, rfl, by decide +kernel⟩
theorem ci_X0_32 : CI "CarryFair" 32 yX11_init cX11_init 3 2 := ⟨Or.inl q409, q410, q140, q411, rfl, by decide +kernel⟩
theorem ci_X0_35 : CI "CarryFair" 35 yX12_init cX12_init 3 2 := ⟨Or.inl q421, q422, q141, q423, rfl, by decide +kernel⟩
theorem ci_X0_38 : CI "CarryFair" 38 yX6_init cX6_init 3 2 := ⟨Or.inl q434, q355, q135, q356, rfl, by decide +kernel⟩
def F_X0_made (a0 : Option Nat) (x1 : Int32) (x2 : Int32) (w : cH) : Option (Option Nat × cH) :=
  if tg w a0 = some 0 then (if x1 = 1 then ((some (nO w 7 3 dfX7)).bind fun w40 => (F_X7_init w.2 a0 x2 w40).bind fun w46 => some (some w.2, w46)) else if x1 = 2 then ((some (nO w 8 3 dfX8)).bind fun w50 => (F_X8_init w.2 a0 x2 w50).bind fun w56 => some (some w.2, w56)) else if x1 = 3 then ((some (nO w 9 4 dfX9)).bind fun w60 => (F_X9_init w.2 a0 x2 w60).bind fun w66 => some (some w.2, w66)) else if x1 = 4 then ((some (nO w 10 4 dfX10)).bind fun w70 => (F_X10_init w.2 a0 x2 w70).bind fun w76 => some (some w.2, w76)) else if x1 = 5 then ((some (nO w 11 3 dfX11)).bind fun w80 => (F_X11_init w.2 a0 x2 w80).bind fun w86 => some (some w.2, w86)) else if x1 = 6 then ((some (nO w 12 4 dfX12)).bind fun w90 => (F_X12_init w.2 a0 x2 w90).bind fun w96 => some (some w.2, w96)) else ((some (nO w 6 2 dfX6)).bind fun w100 => (F_X6_init w.2 a0 x2 w100).bind fun w106 => some (some w.2, w106))) else none
abbrev rm_X0_made : Room := { frames := 4, cells := 1, slots := 4, locals := 86 }
set_option maxHeartbeats 4000000 in
set_option maxRecDepth 100000 in
theorem ct_X0_made {l : Launch} {g : Gt} (G : Gok g) {a0 : Option Nat} {x1 : Int32} {x2 : Int32} {w : cH} {r9 : Option Nat} {w9 : cH} (hF : F_X0_made a0 x1 x2 w = some (r9, w9)) : tg w a0 = some 0 ∧ Mx l yX0_made (ws_ yX0_made cX0_made 3 (some (.object "CarryFair$Carrier"))) rm_X0_made g [va_rf a0, .int x1, .int x2] w (.returned (some (va_rf r9))) w9 1 4 := by
  unfold F_X0_made at hF
  obtain ⟨ht, hF⟩ := bg hF
  refine ⟨ht, mk_ct cX0_made 3 (some (.object "CarryFair$Carrier")) "CarryFair" (plainFor_of_name (by decide)) rfl (lg_le ⟨cr _, rfl, rfl, trivial⟩ (Nat.le_of_ble_eq_true rfl)) (av_ok ⟨cr _, rfl, rfl, trivial⟩) G (fun x B hl hR hin hh => ?_)⟩
  show J g x _ _ 1 4 w 0 0 0 [some (va_rf a0), some (.int x1), some (.int x2)] []
  refine j_iload_n B dX0_made_0 rfl ?_
  by_cases t1_0 : x1 = 1
  · rw [if_pos t1_0] at hF
    refine j_tblIn (tgt := 40) B 1 dX0_made_1 t1_0 (by decide) rfl (by decide) ?_
    obtain ⟨w40, e40, hF⟩ := bo hF
    refine j_new (N := 3) B nw_X0_15 rfl dX0_made_40 hR (by decide) (by decide) ?_
    rw [Option.some.inj e40]
    refine j_dup B dX0_made_43 (cr _) ?_
    refine j_aload_n B dX0_made_44 rfl ?_
    refine j_iload_n B dX0_made_45 rfl ?_
    obtain ⟨w46, e46, hF⟩ := bo hF
    refine j_rI (st2 := [va_rf (some w.2)]) B [va_rf a0, .int x2] [va_rf (some w.2)] ci_X0_17 dX0_made_46 hl hR (ct_X7_init G e46).2 rfl rfl rfl rfl ⟨cr _, trivial⟩ (Nat.le_of_ble_eq_true rfl) ?_
    exact j_lAw B rfl (Or.inl ⟨_, rfl⟩) dX0_made_49 hF (by decide) (by decide)
  rw [if_neg t1_0] at hF
  by_cases t1_1 : x1 = 2
  · rw [if_pos t1_1] at hF
    refine j_tblIn (tgt := 50) B 2 dX0_made_1 t1_1 (by decide) rfl (by decide) ?_
    obtain ⟨w50, e50, hF⟩ := bo hF
    refine j_new (N := 3) B nw_X0_21 rfl dX0_made_50 hR (by decide) (by decide) ?_
    rw [Option.some.inj e50]
    refine j_dup B dX0_made_53 (cr _) ?_
    refine j_aload_n B dX0_made_54 rfl ?_
    refine j_iload_n B dX0_made_55 rfl ?_
    obtain ⟨w56, e56, hF⟩ := bo hF
    refine j_rI (st2 := [va_rf (some w.2)]) B [va_rf a0, .int x2] [va_rf (some w.2)] ci_X0_23 dX0_made_56 hl hR (ct_X8_init G e56).2 rfl rfl rfl rfl ⟨cr _, trivial⟩ (Nat.le_of_ble_eq_true rfl) ?_
    exact j_lAw B rfl (Or.inl ⟨_, rfl⟩) dX0_made_59 hF (by decide) (by decide)
  rw [if_neg t1_1] at hF
  by_cases t1_2 : x1 = 3
  · rw [if_pos t1_2] at hF
    refine j_tblIn (tgt := 60) B 3 dX0_made_1 t1_2 (by decide) rfl (by decide) ?_
    obtain ⟨w60, e60, hF⟩ := bo hF
    refine j_new (N := 4) B nw_X0_24 rfl dX0_made_60 hR (by decide) (by decide) ?_
    rw [Option.some.inj e60]
    refine j_dup B dX0_made_63 (cr _) ?_
    refine j_aload_n B dX0_made_64 rfl ?_
    refine j_iload_n B dX0_made_65 rfl ?_
    obtain ⟨w66, e66, hF⟩ := bo hF
    refine j_rI (st2 := [va_rf (some w.2)]) B [va_rf a0, .int x2] [va_rf (some w.2)] ci_X0_26 dX0_made_66 hl hR (ct_X9_init G e66).2 rfl rfl rfl rfl ⟨cr _, trivial⟩ (Nat.le_of_ble_eq_true rfl) ?_
    exact j_lAw B rfl (Or.inl ⟨_, rfl⟩) dX0_made_69 hF (by decide) (by decide)
  rw [if_neg t1_2] at hF
  by_cases t1_3 : x1 = 4
  · rw [if_pos t1_3] at hF
    refine j_tblIn (tgt := 70) B 4 dX0_made_1 t1_3 (by decide) rfl (by decide) ?_
    obtain ⟨w70, e70, hF⟩ := bo hF
    refine j_new (N := 4) B nw_X0_27 rfl dX0_made_70 hR (by decide) (by decide) ?_
    rw [Option.some.inj e70]
    refine j_dup B dX0_made_73 (cr _) ?_
    refine j_aload_n B dX0_made_74 rfl ?_
    refine j_iload_n B dX0_made_75 rfl ?_
    obtain ⟨w76, e76, hF⟩ := bo hF
    refine j_rI (st2 := [va_rf (some w.2)]) B [va_rf a0, .int x2] [va_rf (some w.2)] ci_X0_29 dX0_made_76 hl hR (ct_X10_init G e76).2 rfl rfl rfl rfl ⟨cr _, trivial⟩ (Nat.le_of_ble_eq_true rfl) ?_
    exact j_lAw B rfl (Or.inl ⟨_, rfl⟩) dX0_made_79 hF (by decide) (by decide)
  rw [if_neg t1_3] at hF
  by_cases t1_4 : x1 = 5
  · rw [if_pos t1_4] at hF
    refine j_tblIn (tgt := 80) B 5 dX0_made_1 t1_4 (by decide) rfl (by decide) ?_
    obtain ⟨w80, e80, hF⟩ := bo hF
    refine j_new (N := 3) B nw_X0_30 rfl dX0_made_80 hR (by decide) (by decide) ?_
    rw [Option.some.inj e80]
    refine j_dup B dX0_made_83 (cr _) ?_
    refine j_aload_n B dX0_made_84 rfl ?_
    refine j_iload_n B dX0_made_85 rfl ?_
    obtain ⟨w86, e86, hF⟩ := bo hF
    refine j_rI (st2 := [va_rf (some w.2)]) B [va_rf a0, .int x2] [va_rf (some w.2)] ci_X0_32 dX0_made_86 hl hR (ct_X11_init G e86).2 rfl rfl rfl rfl ⟨cr _, trivial⟩ (Nat.le_of_ble_eq_true rfl) ?_
    exact j_lAw B rfl (Or.inl ⟨_, rfl⟩) dX0_made_89 hF (by decide) (by decide)
  rw [if_neg t1_4] at hF
  by_cases t1_5 : x1 = 6
  · rw [if_pos t1_5] at hF
    refine j_tblIn (tgt := 90) B 6 dX0_made_1 t1_5 (by decide) rfl (by decide) ?_
    obtain ⟨w90, e90, hF⟩ := bo hF
    refine j_new (N := 4) B nw_X0_33 rfl dX0_made_90 hR (by decide) (by decide) ?_
    rw [Option.some.inj e90]
    refine j_dup B dX0_made_93 (cr _) ?_
    refine j_aload_n B dX0_made_94 rfl ?_
    refine j_iload_n B dX0_made_95 rfl ?_
    obtain ⟨w96, e96, hF⟩ := bo hF
    refine j_rI (st2 := [va_rf (some w.2)]) B [va_rf a0, .int x2] [va_rf (some w.2)] ci_X0_35 dX0_made_96 hl hR (ct_X12_init G e96).2 rfl rfl rfl rfl ⟨cr _, trivial⟩ (Nat.le_of_ble_eq_true rfl) ?_
    exact j_lAw B rfl (Or.inl ⟨_, rfl⟩) dX0_made_99 hF (by decide) (by decide)
  rw [if_neg t1_5] at hF
  refine j_tblOut (tgt := 100) B dX0_made_1 (tbl_out 1 6 (fun z h1 h2 => ?_)) (by decide) ?_
  · rcases (show z = 1 ∨ z = 2 ∨ z = 3 ∨ z = 4 ∨ z = 5 ∨ z = 6 by omega) with h | h | h | h | h | h
    · rw [h]; exact lv_neT t1_0 (by decide)
    · rw [h]; exact lv_neT t1_1 (by decide)
    · rw [h]; exact lv_neT t1_2 (by decide)
    · rw [h]; exact lv_neT t1_3 (by decide)
    · rw [h]; exact lv_neT t1_4 (by decide)
    · rw [h]; exact lv_neT t1_5 (by decide)
  obtain ⟨w100, e100, hF⟩ := bo hF
  refine j_new (N := 2) B nw_X0_36 rfl dX0_made_100 hR (by decide) (by decide) ?_
  rw [Option.some.inj e100]
  refine j_dup B dX0_made_103 (cr _) ?_
  refine j_aload_n B dX0_made_104 rfl ?_
  refine j_iload_n B dX0_made_105 rfl ?_
  obtain ⟨w106, e106, hF⟩ := bo hF
  refine j_rI (st2 := [va_rf (some w.2)]) B [va_rf a0, .int x2] [va_rf (some w.2)] ci_X0_38 dX0_made_106 hl hR (ct_X6_init G e106).2 rfl rfl rfl rfl ⟨cr _, trivial⟩ (Nat.le_of_ble_eq_true rfl) ?_
  exact j_lAw B rfl (Or.inl ⟨_, rfl⟩) dX0_made_109 hF (by decide) (by decide)
def F_X0_in (x0 : Int32) (x1 : Int32) (x2 : Int32) : Int32 :=
  if x0 < x1 then (0) else (if x2 < x0 then (0) else (1))
abbrev rm_X0_in : Room := { frames := 0, cells := 0, slots := 0, locals := 0 }
set_option maxHeartbeats 4000000 in
set_option maxRecDepth 100000 in
theorem ct_X0_in {l : Launch} {g : Gt} (G : Gok g) {x0 : Int32} {x1 : Int32} {x2 : Int32} {w : cH} : Mx l yX0_in (ws_ yX0_in cX0_in 3 (some .boolean)) rm_X0_in g [.int x0, .int x1, .int x2] w (.returned (some (.int (F_X0_in x0 x1 x2)))) w 0 0 := by
  generalize hF : F_X0_in x0 x1 x2 = r9
  unfold F_X0_in at hF
  refine mk_ct cX0_in 3 (some .boolean) "CarryFair" (plainFor_of_name (by decide)) rfl (lg_le ⟨rfl, rfl, rfl, trivial⟩ (Nat.le_of_ble_eq_true rfl)) (av_ok ⟨rfl, rfl, rfl, trivial⟩) G (fun x B hl hR hin hh => ?_)
  show J g x _ _ 0 0 w 0 0 0 [some (.int x0), some (.int x1), some (.int x2)] []
  refine j_iload_n B dX0_in_0 rfl ?_
  refine j_iload_n B dX0_in_1 rfl ?_
  refine j_icmp_lt (tgt := 14) B dX0_in_2 (by decide) hF (fun h2 hF => ?_) (fun h2 hF => ?_)
  · refine j_iconst (v := 0) B dX0_in_14 (by decide) ?_
    exact j_lZp B (by decide) rfl dX0_in_15 hF (by decide) (by decide)
  · refine j_iload_n B dX0_in_5 rfl ?_
    refine j_iload_n B dX0_in_6 rfl ?_
    refine j_icmp_gt (tgt := 14) B dX0_in_7 (by decide) hF (fun h7 hF => ?_) (fun h7 hF => ?_)
    · refine j_iconst (v := 0) B dX0_in_14 (by decide) ?_
      exact j_lZp B (by decide) rfl dX0_in_15 hF (by decide) (by decide)
    · refine j_iconst (v := 1) B dX0_in_10 (by decide) ?_
      refine j_goto (tgt := 15) B dX0_in_11 (by decide) ?_
      exact j_lZp B (by decide) rfl dX0_in_15 hF (by decide) (by decide)
theorem cs_X0_3 : CS "CarryFair" 3 yX0_in cX0_in 3 (some .boolean) 3 := ⟨Or.inl (lw_S q507 q508 q126 q509), by decide +kernel⟩
def F_X0_isKind (x0 : Int32) : Int32 :=
  (F_X0_in x0 0 6) &&& 1
abbrev rm_X0_isKind : Room := { frames := 1, cells := 0, slots := 0, locals := 22 }
set_option maxHeartbeats 4000000 in
set_option maxRecDepth 100000 in
theorem ct_X0_isKind {l : Launch} {g : Gt} (G : Gok g) {x0 : Int32} {w : cH} : Mx l yX0_isKind (ws_ yX0_isKind cX0_isKind 1 (some .boolean)) rm_X0_isKind g [.int x0] w (.returned (some (.int (F_X0_isKind x0)))) w 0 0 := by
  generalize hF : F_X0_isKind x0 = r9
  unfold F_X0_isKind at hF
  refine mk_ct cX0_isKind 1 (some .boolean) "CarryFair" (plainFor_of_name (by decide)) rfl (lg_le ⟨rfl, trivial⟩ (Nat.le_of_ble_eq_true rfl)) (av_ok ⟨rfl, trivial⟩) G (fun x B hl hR hin hh => ?_)
  show J g x _ _ 0 0 w 0 0 0 [some (.int x0)] []
  refine j_iload_n B dX0_isKind_0 rfl ?_
  refine j_iconst (v := 0) B dX0_isKind_1 (by decide) ?_
  refine j_bipush (v := 6) B dX0_isKind_2 (by decide) ?_
  refine j_rS (st2 := [.int (F_X0_in x0 0 6)]) B [.int x0, .int 0, .int 6] [] cs_X0_3 dX0_isKind_4 hl hR (ct_X0_in G) rfl rfl rfl rfl trivial (Nat.le_of_ble_eq_true rfl) ?_
  exact j_lBp B rfl dX0_isKind_7 hF (by decide) (by decide)
theorem fl_X0_83 : FL "CarryFair" 83 0 10 := ⟨RX0, TX0, 20, rfl, by decide, in_X0, Or.inl q449⟩
def F_X0_finding (a0 : Option Nat) (x1 : Int32) (w : cH) : Option (Int32 × cH) :=
  if tg w a0 = some 0 then ((fA w a0 0 10).bind fun a1p => (aI w a1p 100 x1).bind fun i6 => (aS w a1p 100 x1 (.int (i6 + 1))).bind fun w9 => some ((-1000001) - x1, w9)) else none
abbrev rm_X0_finding : Room := { frames := 0, cells := 0, slots := 0, locals := 0 }
set_option maxHeartbeats 4000000 in
set_option maxRecDepth 100000 in
theorem ct_X0_finding {l : Launch} {g : Gt} (G : Gok g) {a0 : Option Nat} {x1 : Int32} {w : cH} {r9 : Int32} {w9 : cH} (hF : F_X0_finding a0 x1 w = some (r9, w9)) : tg w a0 = some 0 ∧ Mx l yX0_finding (ws_ yX0_finding cX0_finding 2 (some .int)) rm_X0_finding g [va_rf a0, .int x1] w (.returned (some (.int r9))) w9 0 0 := by
  unfold F_X0_finding at hF
  obtain ⟨ht, hF⟩ := bg hF
  refine ⟨ht, mk_ct cX0_finding 2 (some .int) "CarryFair" (plainFor_of_name (by decide)) rfl (lg_le ⟨cr _, rfl, trivial⟩ (Nat.le_of_ble_eq_true rfl)) (av_ok ⟨cr _, rfl, trivial⟩) G (fun x B hl hR hin hh => ?_)⟩
  show J g x _ _ 0 0 w 0 0 0 [some (va_rf a0), some (.int x1)] []
  refine j_aload_n B dX0_finding_0 rfl ?_
  refine j_getA B fl_X0_83 dX0_finding_1 hF (fun a1p hF => ?_)
  refine j_iload_n B dX0_finding_4 rfl ?_
  refine j_dup2 B dX0_finding_5 rfl (cr _) ?_
  refine j_iaload B dX0_finding_6 hF (fun i6 hF => ?_)
  refine j_iconst (v := 1) B dX0_finding_7 (by decide) ?_
  refine j_iadd B dX0_finding_8 ?_
  refine j_iastore B dX0_finding_9 hF (fun w9 hF => ?_)
  refine j_ldc (v := (-1000001)) B q514 dX0_finding_10 ?_
  refine j_iload_n B dX0_finding_12 rfl ?_
  refine j_isub B dX0_finding_13 ?_
  exact j_lIw B rfl dX0_finding_14 hF (by decide) (by decide)
theorem fl_X0_61 : FL "CarryFair" 61 0 3 := ⟨RX0, TX0, 20, rfl, by decide, in_X0, Or.inl q442⟩
theorem fl_X0_125 : FL "CarryFair" 125 4 0 := ⟨RX4, TX4, 10, rfl, by decide, in_X4, Or.inr ⟨_, q257⟩⟩
theorem cv_X0_144 : CV "CarryFair" 144 4 yX4_addCarrier cX4_addCarrier 4 none 3 := ⟨_, _, rfl, lw_V q515 q516 q517 q133 q518, by decide +kernel⟩
theorem cv_X0_142 : CV "CarryFair" 142 0 yX0_finding cX0_finding 2 (some .int) 1 := ⟨_, _, rfl, lw_V q510 q512 qs2 q126 q513, by decide +kernel⟩
theorem cs_X0_11 : CS "CarryFair" 11 yX0_isKind cX0_isKind 1 (some .boolean) 1 := ⟨Or.inl (lw_S q504 q505 q126 q506), by decide +kernel⟩
def F_X0_carrier (a0 : Option Nat) (x1 : Int32) (w : cH) : Option (Int32 × cH) :=
  if tg w a0 = some 0 then (if ¬ (F_X0_isKind x1) = 0 then ((fA w a0 0 3).bind fun a14p => (fI w a14p 4 0).bind fun i17 =>if ¬ i17 = 6 then ((fA w a0 0 3).bind fun a32p => (F_X4_addCarrier a32p x1 0 20 w).bind fun w39 => (fA w39 a0 0 3).bind fun a43p => (fI w39 a43p 4 0).bind fun i46 => some (i46 - 1, w39)) else (cb (F_X0_finding a0 1 w) fun i27 w27 => some (i27, w27))) else (cb (F_X0_finding a0 0 w) fun i9 w9 => some (i9, w9))) else none
abbrev rm_X0_carrier : Room := { frames := 2, cells := 0, slots := 0, locals := 42 }
set_option maxHeartbeats 4000000 in
set_option maxRecDepth 100000 in
theorem ct_X0_carrier {l : Launch} {g : Gt} (G : Gok g) {a0 : Option Nat} {x1 : Int32} {w : cH} {r9 : Int32} {w9 : cH} (hF : F_X0_carrier a0 x1 w = some (r9, w9)) : tg w a0 = some 0 ∧ Mx l yX0_carrier (ws_ yX0_carrier cX0_carrier 2 (some .int)) rm_X0_carrier g [va_rf a0, .int x1] w (.returned (some (.int r9))) w9 0 0 := by
  unfold F_X0_carrier at hF
  obtain ⟨ht, hF⟩ := bg hF
  refine ⟨ht, mk_ct cX0_carrier 2 (some .int) "CarryFair" (plainFor_of_name (by decide)) rfl (lg_le ⟨cr _, rfl, trivial⟩ (Nat.le_of_ble_eq_true rfl)) (av_ok ⟨cr _, rfl, trivial⟩) G (fun x B hl hR hin hh => ?_)⟩
  show J g x _ _ 0 0 w 0 0 0 [some (va_rf a0), some (.int x1)] []
  refine j_iload_n B dX0_carrier_0 rfl ?_
  refine j_rS (st2 := [.int (F_X0_isKind x1)]) B [.int x1] [] cs_X0_11 dX0_carrier_1 hl hR (ct_X0_isKind G) rfl rfl rfl rfl trivial (Nat.le_of_ble_eq_true rfl) ?_
  refine j_if_ne (tgt := 13) B dX0_carrier_4 (by decide) hF (fun h4 hF => ?_) (fun h4 hF => ?_)
  · refine j_aload_n B dX0_carrier_13 rfl ?_
    refine j_getA B fl_X0_61 dX0_carrier_14 hF (fun a14p hF => ?_)
    refine j_getI B fl_X0_125 dX0_carrier_17 hF (fun i17 hF => ?_)
    refine j_bipush (v := 6) B dX0_carrier_20 (by decide) ?_
    refine j_icmp_ne (tgt := 31) B dX0_carrier_22 (by decide) hF (fun h22 hF => ?_) (fun h22 hF => ?_)
    · refine j_aload_n B dX0_carrier_31 rfl ?_
      refine j_getA B fl_X0_61 dX0_carrier_32 hF (fun a32p hF => ?_)
      refine j_iload_n B dX0_carrier_35 rfl ?_
      refine j_iconst (v := 0) B dX0_carrier_36 (by decide) ?_
      refine j_bipush (v := 20) B dX0_carrier_37 (by decide) ?_
      obtain ⟨w39, e39, hF⟩ := bo hF
      refine j_rV (st2 := []) B [.int x1, .int 0, .int 20] [] cv_X0_144 dX0_carrier_39 hl hR (ct_X4_addCarrier G e39) rfl rfl rfl rfl trivial (Nat.le_of_ble_eq_true rfl) ?_
      refine j_aload_n B dX0_carrier_42 rfl ?_
      refine j_getA B fl_X0_61 dX0_carrier_43 hF (fun a43p hF => ?_)
      refine j_getI B fl_X0_125 dX0_carrier_46 hF (fun i46 hF => ?_)
      refine j_iconst (v := 1) B dX0_carrier_49 (by decide) ?_
      refine j_isub B dX0_carrier_50 ?_
      exact j_lIw B rfl dX0_carrier_51 hF (by decide) (by decide)
    · refine j_aload_n B dX0_carrier_25 rfl ?_
      refine j_iconst (v := 1) B dX0_carrier_26 (by decide) ?_
      obtain ⟨i27, w27, e27, hF⟩ := bc hF
      refine j_rV (st2 := [.int i27]) B [.int 1] [] cv_X0_142 dX0_carrier_27 hl hR (ct_X0_finding G e27) rfl rfl rfl rfl trivial (Nat.le_of_ble_eq_true rfl) ?_
      exact j_lIw B rfl dX0_carrier_30 hF (by decide) (by decide)
  · refine j_aload_n B dX0_carrier_7 rfl ?_
    refine j_iconst (v := 0) B dX0_carrier_8 (by decide) ?_
    obtain ⟨i9, w9, e9, hF⟩ := bc hF
    refine j_rV (st2 := [.int i9]) B [.int 0] [] cv_X0_142 dX0_carrier_9 hl hR (ct_X0_finding G e9) rfl rfl rfl rfl trivial (Nat.le_of_ble_eq_true rfl) ?_
    exact j_lIw B rfl dX0_carrier_12 hF (by decide) (by decide)
def F_X0_isCarrier (a0 : Option Nat) (x1 : Int32) (w : cH) : Option Int32 :=
  if tg w a0 = some 0 then ((fA w a0 0 3).bind fun a3p => (fI w a3p 4 0).bind fun i6 => some ((F_X0_in x1 0 (i6 - 1)) &&& 1)) else none
abbrev rm_X0_isCarrier : Room := { frames := 1, cells := 0, slots := 0, locals := 22 }
set_option maxHeartbeats 4000000 in
set_option maxRecDepth 100000 in
theorem ct_X0_isCarrier {l : Launch} {g : Gt} (G : Gok g) {a0 : Option Nat} {x1 : Int32} {w : cH} {r9 : Int32} (hF : F_X0_isCarrier a0 x1 w = some r9) : tg w a0 = some 0 ∧ Mx l yX0_isCarrier (ws_ yX0_isCarrier cX0_isCarrier 2 (some .boolean)) rm_X0_isCarrier g [va_rf a0, .int x1] w (.returned (some (.int r9))) w 0 0 := by
  unfold F_X0_isCarrier at hF
  obtain ⟨ht, hF⟩ := bg hF
  refine ⟨ht, mk_ct cX0_isCarrier 2 (some .boolean) "CarryFair" (plainFor_of_name (by decide)) rfl (lg_le ⟨cr _, rfl, trivial⟩ (Nat.le_of_ble_eq_true rfl)) (av_ok ⟨cr _, rfl, trivial⟩) G (fun x B hl hR hin hh => ?_)⟩
  show J g x _ _ 0 0 w 0 0 0 [some (va_rf a0), some (.int x1)] []
  refine j_iload_n B dX0_isCarrier_0 rfl ?_
  refine j_iconst (v := 0) B dX0_isCarrier_1 (by decide) ?_
  refine j_aload_n B dX0_isCarrier_2 rfl ?_
  refine j_getA B fl_X0_61 dX0_isCarrier_3 hF (fun a3p hF => ?_)
  refine j_getI B fl_X0_125 dX0_isCarrier_6 hF (fun i6 hF => ?_)
  refine j_iconst (v := 1) B dX0_isCarrier_9 (by decide) ?_
  refine j_isub B dX0_isCarrier_10 ?_
  refine j_rS (st2 := [.int (F_X0_in x1 0 (i6 - 1))]) B [.int x1, .int 0, .int (i6 - 1)] [] cs_X0_3 dX0_isCarrier_11 hl hR (ct_X0_in G) rfl rfl rfl rfl trivial (Nat.le_of_ble_eq_true rfl) ?_
  exact j_lB B rfl dX0_isCarrier_14 hF (by decide) (by decide)
theorem fl_X0_73 : FL "CarryFair" 73 0 7 := ⟨RX0, TX0, 20, rfl, by decide, in_X0, Or.inl q446⟩
theorem fl_X0_113 : FL "CarryFair" 113 4 1 := ⟨RX4, TX4, 10, rfl, by decide, in_X4, Or.inr ⟨_, q260⟩⟩
theorem fl_X0_109 : FL "CarryFair" 109 5 0 := ⟨RX5, TX5, 1, rfl, by decide, in_X5, Or.inr ⟨_, q341⟩⟩
theorem ck_X0_36 : CK "CarryFair" 36 [6, 7, 8, 9, 10, 11, 12] := by
  refine ⟨_, q432, fun t ht => ?_⟩
  simp only [List.mem_cons, List.not_mem_nil, or_false] at ht
  rcases ht with rfl | rfl | rfl | rfl | rfl | rfl | rfl
  · exact Or.inl (by decide)
  · exact Or.inr q1924
  · exact Or.inr q1925
  · exact Or.inr q1922
  · exact Or.inr q1923
  · exact Or.inr q1926
  · exact Or.inr q1921
def F_X0_carrierAt (a0 : Option Nat) (x1 : Int32) (w : cH) : Option (Option Nat) :=
  if tg w a0 = some 0 then ((fA w a0 0 7).bind fun a1p => (fA w a0 0 3).bind fun a7p => (fA w a7p 4 1).bind fun a10p => (aA w a10p 103 0).bind fun a14p => (aI w a14p 100 x1).bind fun i16 => (aA w a1p 104 ((6 * i16) + x1)).bind fun a20p => (fA w a20p 5 0).bind fun a21p => if ckc w a21p [6, 7, 8, 9, 10, 11, 12] = true then (some (a21p)) else none) else none
abbrev rm_X0_carrierAt : Room := { frames := 0, cells := 0, slots := 0, locals := 0 }
set_option maxHeartbeats 4000000 in
set_option maxRecDepth 100000 in
theorem ct_X0_carrierAt {l : Launch} {g : Gt} (G : Gok g) {a0 : Option Nat} {x1 : Int32} {w : cH} {r9 : Option Nat} (hF : F_X0_carrierAt a0 x1 w = some r9) : tg w a0 = some 0 ∧ Mx l yX0_carrierAt (ws_ yX0_carrierAt cX0_carrierAt 2 (some (.object "CarryFair$Carrier"))) rm_X0_carrierAt g [va_rf a0, .int x1] w (.returned (some (va_rf r9))) w 0 0 := by
  unfold F_X0_carrierAt at hF
  obtain ⟨ht, hF⟩ := bg hF
  refine ⟨ht, mk_ct cX0_carrierAt 2 (some (.object "CarryFair$Carrier")) "CarryFair" (plainFor_of_name (by decide)) rfl (lg_le ⟨cr _, rfl, trivial⟩ (Nat.le_of_ble_eq_true rfl)) (av_ok ⟨cr _, rfl, trivial⟩) G (fun x B hl hR hin hh => ?_)⟩
  show J g x _ _ 0 0 w 0 0 0 [some (va_rf a0), some (.int x1)] []
  refine j_aload_n B dX0_carrierAt_0 rfl ?_
  refine j_getA B fl_X0_73 dX0_carrierAt_1 hF (fun a1p hF => ?_)
  refine j_bipush (v := 6) B dX0_carrierAt_4 (by decide) ?_
  refine j_aload_n B dX0_carrierAt_6 rfl ?_
  refine j_getA B fl_X0_61 dX0_carrierAt_7 hF (fun a7p hF => ?_)
  refine j_getA B fl_X0_113 dX0_carrierAt_10 hF (fun a10p hF => ?_)
  refine j_iconst (v := 0) B dX0_carrierAt_13 (by decide) ?_
  refine j_aaload B 103 rfl rfl dX0_carrierAt_14 hF (fun a14p hF => ?_)
  refine j_iload_n B dX0_carrierAt_15 rfl ?_
  refine j_iaload B dX0_carrierAt_16 hF (fun i16 hF => ?_)
  refine j_imul B dX0_carrierAt_17 ?_
  refine j_iload_n B dX0_carrierAt_18 rfl ?_
  refine j_iadd B dX0_carrierAt_19 ?_
  refine j_aaload B 104 rfl rfl dX0_carrierAt_20 hF (fun a20p hF => ?_)
  refine j_getA B fl_X0_109 dX0_carrierAt_21 hF (fun a21p hF => ?_)
  obtain ⟨hz, hF⟩ := bg hF
  refine j_cast B ck_X0_36 hz dX0_carrierAt_24 ?_
  exact j_lA B rfl (Or.inl ⟨_, rfl⟩) dX0_carrierAt_27 hF (by decide) (by decide)
def F_X6_kind (a0 : Option Nat) (w : cH) : Option Int32 :=
  if tgi w a0 [6, 7, 8, 9, 10, 11, 12] = true then (some (0)) else none
abbrev rm_X6_kind : Room := { frames := 0, cells := 0, slots := 0, locals := 0 }
set_option maxHeartbeats 4000000 in
set_option maxRecDepth 100000 in
theorem ct_X6_kind {l : Launch} {g : Gt} (G : Gok g) {a0 : Option Nat} {w : cH} {r9 : Int32} (hF : F_X6_kind a0 w = some r9) : tgi w a0 [6, 7, 8, 9, 10, 11, 12] = true ∧ Mx l yX6_kind (ws_ yX6_kind cX6_kind 1 (some .int)) rm_X6_kind g [va_rf a0] w (.returned (some (.int r9))) w 0 0 := by
  unfold F_X6_kind at hF
  obtain ⟨ht, hF⟩ := bg hF
  refine ⟨ht, mk_ct cX6_kind 1 (some .int) "CarryFair$Carrier" (plainFor_of_name (by decide)) rfl (lg_le ⟨cr _, trivial⟩ (Nat.le_of_ble_eq_true rfl)) (av_ok ⟨cr _, trivial⟩) G (fun x B hl hR hin hh => ?_)⟩
  show J g x _ _ 0 0 w 0 0 0 [some (va_rf a0)] []
  obtain ⟨t9, ht9, hm9⟩ := tgi_some ht
  have hc9 : clsTag t9 := by
    simp only [List.mem_cons, List.not_mem_nil, or_false] at hm9
    exact clsTag_of (by omega)
  refine j_iconst (v := 0) B dX6_kind_0 (by decide) ?_
  exact j_lI B rfl dX6_kind_1 hF (by decide) (by decide)
theorem csu_X7_15 : CSU "CarryFair$Old" 15 ⟨"CarryFair$Carrier", "kind", "()I"⟩ yX6_kind cX6_kind 1 (some .int) 0 := ⟨q548, q534, q368, Or.inl rfl, q532, q135, q559, rfl, by decide, by decide +kernel⟩
def F_X7_kind (a0 : Option Nat) (w : cH) : Option Int32 :=
  if tgi w a0 [7, 9] = true then ((F_X6_kind a0 w).bind fun i2 => some (1 + i2)) else none
abbrev rm_X7_kind : Room := { frames := 1, cells := 0, slots := 0, locals := 20 }
set_option maxHeartbeats 4000000 in
set_option maxRecDepth 100000 in
theorem ct_X7_kind {l : Launch} {g : Gt} (G : Gok g) {a0 : Option Nat} {w : cH} {r9 : Int32} (hF : F_X7_kind a0 w = some r9) : tgi w a0 [7, 9] = true ∧ Mx l yX7_kind (ws_ yX7_kind cX7_kind 1 (some .int)) rm_X7_kind g [va_rf a0] w (.returned (some (.int r9))) w 0 0 := by
  unfold F_X7_kind at hF
  obtain ⟨ht, hF⟩ := bg hF
  refine ⟨ht, mk_ct cX7_kind 1 (some .int) "CarryFair$Old" (plainFor_of_name (by decide)) rfl (lg_le ⟨cr _, trivial⟩ (Nat.le_of_ble_eq_true rfl)) (av_ok ⟨cr _, trivial⟩) G (fun x B hl hR hin hh => ?_)⟩
  show J g x _ _ 0 0 w 0 0 0 [some (va_rf a0)] []
  obtain ⟨t9, ht9, hm9⟩ := tgi_some ht
  have hc9 : clsTag t9 := by
    simp only [List.mem_cons, List.not_mem_nil, or_false] at hm9
    exact clsTag_of (by omega)
  refine j_iconst (v := 1) B dX7_kind_0 (by decide) ?_
  refine j_aload_n B dX7_kind_1 rfl ?_
  obtain ⟨i2, e2, hF⟩ := bo hF
  refine j_rSU (st2 := [.int i2, .int 1]) B [] [.int 1] csu_X7_15 ht9 hc9 dX7_kind_2 hl hR (ct_X6_kind G e2).2 rfl rfl rfl rfl ⟨rfl, trivial⟩ (Nat.le_of_ble_eq_true rfl) ?_
  refine j_iadd B dX7_kind_5 ?_
  exact j_lI B rfl dX7_kind_6 hF (by decide) (by decide)
theorem csu_X8_15 : CSU "CarryFair$Paired" 15 ⟨"CarryFair$Carrier", "kind", "()I"⟩ yX6_kind cX6_kind 1 (some .int) 0 := ⟨q555, q534, q380, Or.inl rfl, q532, q135, q559, rfl, by decide, by decide +kernel⟩
def F_X8_kind (a0 : Option Nat) (w : cH) : Option Int32 :=
  if tgi w a0 [8, 10] = true then ((F_X6_kind a0 w).bind fun i2 => some (2 + i2)) else none
abbrev rm_X8_kind : Room := { frames := 1, cells := 0, slots := 0, locals := 20 }
set_option maxHeartbeats 4000000 in
set_option maxRecDepth 100000 in
theorem ct_X8_kind {l : Launch} {g : Gt} (G : Gok g) {a0 : Option Nat} {w : cH} {r9 : Int32} (hF : F_X8_kind a0 w = some r9) : tgi w a0 [8, 10] = true ∧ Mx l yX8_kind (ws_ yX8_kind cX8_kind 1 (some .int)) rm_X8_kind g [va_rf a0] w (.returned (some (.int r9))) w 0 0 := by
  unfold F_X8_kind at hF
  obtain ⟨ht, hF⟩ := bg hF
  refine ⟨ht, mk_ct cX8_kind 1 (some .int) "CarryFair$Paired" (plainFor_of_name (by decide)) rfl (lg_le ⟨cr _, trivial⟩ (Nat.le_of_ble_eq_true rfl)) (av_ok ⟨cr _, trivial⟩) G (fun x B hl hR hin hh => ?_)⟩
  show J g x _ _ 0 0 w 0 0 0 [some (va_rf a0)] []
  obtain ⟨t9, ht9, hm9⟩ := tgi_some ht
  have hc9 : clsTag t9 := by
    simp only [List.mem_cons, List.not_mem_nil, or_false] at hm9
    exact clsTag_of (by omega)
  refine j_iconst (v := 2) B dX8_kind_0 (by decide) ?_
  refine j_aload_n B dX8_kind_1 rfl ?_
  obtain ⟨i2, e2, hF⟩ := bo hF
  refine j_rSU (st2 := [.int i2, .int 2]) B [] [.int 2] csu_X8_15 ht9 hc9 dX8_kind_2 hl hR (ct_X6_kind G e2).2 rfl rfl rfl rfl ⟨rfl, trivial⟩ (Nat.le_of_ble_eq_true rfl) ?_
  refine j_iadd B dX8_kind_5 ?_
  exact j_lI B rfl dX8_kind_6 hF (by decide) (by decide)
theorem csu_X9_13 : CSU "CarryFair$Cheating" 13 ⟨"CarryFair$Old", "kind", "()I"⟩ yX7_kind cX7_kind 1 (some .int) 0 := ⟨q545, q1915, q393, Or.inl rfl, q546, q136, q547, rfl, by decide, by decide +kernel⟩
def F_X9_kind (a0 : Option Nat) (w : cH) : Option Int32 :=
  if tgi w a0 [9] = true then ((F_X7_kind a0 w).bind fun i2 => some (2 + i2)) else none
abbrev rm_X9_kind : Room := { frames := 2, cells := 0, slots := 0, locals := 40 }
set_option maxHeartbeats 4000000 in
set_option maxRecDepth 100000 in
theorem ct_X9_kind {l : Launch} {g : Gt} (G : Gok g) {a0 : Option Nat} {w : cH} {r9 : Int32} (hF : F_X9_kind a0 w = some r9) : tgi w a0 [9] = true ∧ Mx l yX9_kind (ws_ yX9_kind cX9_kind 1 (some .int)) rm_X9_kind g [va_rf a0] w (.returned (some (.int r9))) w 0 0 := by
  unfold F_X9_kind at hF
  obtain ⟨ht, hF⟩ := bg hF
  refine ⟨ht, mk_ct cX9_kind 1 (some .int) "CarryFair$Cheating" (plainFor_of_name (by decide)) rfl (lg_le ⟨cr _, trivial⟩ (Nat.le_of_ble_eq_true rfl)) (av_ok ⟨cr _, trivial⟩) G (fun x B hl hR hin hh => ?_)⟩
  show J g x _ _ 0 0 w 0 0 0 [some (va_rf a0)] []
  obtain ⟨t9, ht9, hm9⟩ := tgi_some ht
  have hc9 : clsTag t9 := by
    simp only [List.mem_cons, List.not_mem_nil, or_false] at hm9
    exact clsTag_of (by omega)
  refine j_iconst (v := 2) B dX9_kind_0 (by decide) ?_
  refine j_aload_n B dX9_kind_1 rfl ?_
  obtain ⟨i2, e2, hF⟩ := bo hF
  refine j_rSU (st2 := [.int i2, .int 2]) B [] [.int 2] csu_X9_13 ht9 hc9 dX9_kind_2 hl hR (ct_X7_kind G e2).2 rfl rfl rfl rfl ⟨rfl, trivial⟩ (Nat.le_of_ble_eq_true rfl) ?_
  refine j_iadd B dX9_kind_5 ?_
  exact j_lI B rfl dX9_kind_6 hF (by decide) (by decide)
theorem csu_X10_13 : CSU "CarryFair$Handed" 13 ⟨"CarryFair$Paired", "kind", "()I"⟩ yX8_kind cX8_kind 1 (some .int) 0 := ⟨q552, q1916, q406, Or.inl rfl, q553, q137, q554, rfl, by decide, by decide +kernel⟩
def F_X10_kind (a0 : Option Nat) (w : cH) : Option Int32 :=
  if tgi w a0 [10] = true then ((F_X8_kind a0 w).bind fun i2 => some (2 + i2)) else none
abbrev rm_X10_kind : Room := { frames := 2, cells := 0, slots := 0, locals := 40 }
set_option maxHeartbeats 4000000 in
set_option maxRecDepth 100000 in
theorem ct_X10_kind {l : Launch} {g : Gt} (G : Gok g) {a0 : Option Nat} {w : cH} {r9 : Int32} (hF : F_X10_kind a0 w = some r9) : tgi w a0 [10] = true ∧ Mx l yX10_kind (ws_ yX10_kind cX10_kind 1 (some .int)) rm_X10_kind g [va_rf a0] w (.returned (some (.int r9))) w 0 0 := by
  unfold F_X10_kind at hF
  obtain ⟨ht, hF⟩ := bg hF
  refine ⟨ht, mk_ct cX10_kind 1 (some .int) "CarryFair$Handed" (plainFor_of_name (by decide)) rfl (lg_le ⟨cr _, trivial⟩ (Nat.le_of_ble_eq_true rfl)) (av_ok ⟨cr _, trivial⟩) G (fun x B hl hR hin hh => ?_)⟩
  show J g x _ _ 0 0 w 0 0 0 [some (va_rf a0)] []
  obtain ⟨t9, ht9, hm9⟩ := tgi_some ht
  have hc9 : clsTag t9 := by
    simp only [List.mem_cons, List.not_mem_nil, or_false] at hm9
    exact clsTag_of (by omega)
  refine j_iconst (v := 2) B dX10_kind_0 (by decide) ?_
  refine j_aload_n B dX10_kind_1 rfl ?_
  obtain ⟨i2, e2, hF⟩ := bo hF
  refine j_rSU (st2 := [.int i2, .int 2]) B [] [.int 2] csu_X10_13 ht9 hc9 dX10_kind_2 hl hR (ct_X8_kind G e2).2 rfl rfl rfl rfl ⟨rfl, trivial⟩ (Nat.le_of_ble_eq_true rfl) ?_
  refine j_iadd B dX10_kind_5 ?_
  exact j_lI B rfl dX10_kind_6 hF (by decide) (by decide)
theorem csu_X11_15 : CSU "CarryFair$Watery" 15 ⟨"CarryFair$Carrier", "kind", "()I"⟩ yX6_kind cX6_kind 1 (some .int) 0 := ⟨q541, q534, q418, Or.inl rfl, q532, q135, q559, rfl, by decide, by decide +kernel⟩
def F_X11_kind (a0 : Option Nat) (w : cH) : Option Int32 :=
  if tgi w a0 [11, 12] = true then ((F_X6_kind a0 w).bind fun i2 => some (5 + i2)) else none
abbrev rm_X11_kind : Room := { frames := 1, cells := 0, slots := 0, locals := 20 }
set_option maxHeartbeats 4000000 in
set_option maxRecDepth 100000 in
theorem ct_X11_kind {l : Launch} {g : Gt} (G : Gok g) {a0 : Option Nat} {w : cH} {r9 : Int32} (hF : F_X11_kind a0 w = some r9) : tgi w a0 [11, 12] = true ∧ Mx l yX11_kind (ws_ yX11_kind cX11_kind 1 (some .int)) rm_X11_kind g [va_rf a0] w (.returned (some (.int r9))) w 0 0 := by
  unfold F_X11_kind at hF
  obtain ⟨ht, hF⟩ := bg hF
  refine ⟨ht, mk_ct cX11_kind 1 (some .int) "CarryFair$Watery" (plainFor_of_name (by decide)) rfl (lg_le ⟨cr _, trivial⟩ (Nat.le_of_ble_eq_true rfl)) (av_ok ⟨cr _, trivial⟩) G (fun x B hl hR hin hh => ?_)⟩
  show J g x _ _ 0 0 w 0 0 0 [some (va_rf a0)] []
  obtain ⟨t9, ht9, hm9⟩ := tgi_some ht
  have hc9 : clsTag t9 := by
    simp only [List.mem_cons, List.not_mem_nil, or_false] at hm9
    exact clsTag_of (by omega)
  refine j_iconst (v := 5) B dX11_kind_0 (by decide) ?_
  refine j_aload_n B dX11_kind_1 rfl ?_
  obtain ⟨i2, e2, hF⟩ := bo hF
  refine j_rSU (st2 := [.int i2, .int 5]) B [] [.int 5] csu_X11_15 ht9 hc9 dX11_kind_2 hl hR (ct_X6_kind G e2).2 rfl rfl rfl rfl ⟨rfl, trivial⟩ (Nat.le_of_ble_eq_true rfl) ?_
  refine j_iadd B dX11_kind_5 ?_
  exact j_lI B rfl dX11_kind_6 hF (by decide) (by decide)
theorem csu_X12_13 : CSU "CarryFair$Boated" 13 ⟨"CarryFair$Watery", "kind", "()I"⟩ yX11_kind cX11_kind 1 (some .int) 0 := ⟨q538, q1914, q431, Or.inl rfl, q539, q140, q540, rfl, by decide, by decide +kernel⟩
def F_X12_kind (a0 : Option Nat) (w : cH) : Option Int32 :=
  if tgi w a0 [12] = true then ((F_X11_kind a0 w).bind fun i2 => some (1 + i2)) else none
abbrev rm_X12_kind : Room := { frames := 2, cells := 0, slots := 0, locals := 40 }
set_option maxHeartbeats 4000000 in
set_option maxRecDepth 100000 in
theorem ct_X12_kind {l : Launch} {g : Gt} (G : Gok g) {a0 : Option Nat} {w : cH} {r9 : Int32} (hF : F_X12_kind a0 w = some r9) : tgi w a0 [12] = true ∧ Mx l yX12_kind (ws_ yX12_kind cX12_kind 1 (some .int)) rm_X12_kind g [va_rf a0] w (.returned (some (.int r9))) w 0 0 := by
  unfold F_X12_kind at hF
  obtain ⟨ht, hF⟩ := bg hF
  refine ⟨ht, mk_ct cX12_kind 1 (some .int) "CarryFair$Boated" (plainFor_of_name (by decide)) rfl (lg_le ⟨cr _, trivial⟩ (Nat.le_of_ble_eq_true rfl)) (av_ok ⟨cr _, trivial⟩) G (fun x B hl hR hin hh => ?_)⟩
  show J g x _ _ 0 0 w 0 0 0 [some (va_rf a0)] []
  obtain ⟨t9, ht9, hm9⟩ := tgi_some ht
  have hc9 : clsTag t9 := by
    simp only [List.mem_cons, List.not_mem_nil, or_false] at hm9
    exact clsTag_of (by omega)
  refine j_iconst (v := 1) B dX12_kind_0 (by decide) ?_
  refine j_aload_n B dX12_kind_1 rfl ?_
  obtain ⟨i2, e2, hF⟩ := bo hF
  refine j_rSU (st2 := [.int i2, .int 1]) B [] [.int 1] csu_X12_13 ht9 hc9 dX12_kind_2 hl hR (ct_X11_kind G e2).2 rfl rfl rfl rfl ⟨rfl, trivial⟩ (Nat.le_of_ble_eq_true rfl) ?_
  refine j_iadd B dX12_kind_5 ?_
  exact j_lI B rfl dX12_kind_6 hF (by decide) (by decide)
theorem flc_X6_3 : FLc "CarryFair$Carrier" 3 [6, 7, 8, 9, 10, 11, 12] 1 := by
  intro t ht
  simp only [List.mem_cons, List.not_mem_nil, or_false] at ht
  rcases ht with rfl | rfl | rfl | rfl | rfl | rfl | rfl
  · exact ⟨RX6, TX6, 2, rfl, by decide, in_X6, Or.inl q361⟩
  · exact ⟨RX7, TX7, 3, rfl, by decide, in_X7, Or.inl q361⟩
  · exact ⟨RX8, TX8, 3, rfl, by decide, in_X8, Or.inl q361⟩
  · exact ⟨RX9, TX9, 4, rfl, by decide, in_X9, Or.inl q361⟩
  · exact ⟨RX10, TX10, 4, rfl, by decide, in_X10, Or.inl q361⟩
  · exact ⟨RX11, TX11, 3, rfl, by decide, in_X11, Or.inl q361⟩
  · exact ⟨RX12, TX12, 4, rfl, by decide, in_X12, Or.inl q361⟩
theorem fl_X6_23 : FL "CarryFair$Carrier" 23 0 3 := ⟨RX0, TX0, 20, rfl, by decide, in_X0, Or.inr ⟨_, q441⟩⟩
theorem fl_X6_27 : FL "CarryFair$Carrier" 27 4 1 := ⟨RX4, TX4, 10, rfl, by decide, in_X4, Or.inr ⟨_, q259⟩⟩
theorem flc_X6_15 : FLc "CarryFair$Carrier" 15 [6, 7, 8, 9, 10, 11, 12] 0 := by
  intro t ht
  simp only [List.mem_cons, List.not_mem_nil, or_false] at ht
  rcases ht with rfl | rfl | rfl | rfl | rfl | rfl | rfl
  · exact ⟨RX6, TX6, 2, rfl, by decide, in_X6, Or.inl q359⟩
  · exact ⟨RX7, TX7, 3, rfl, by decide, in_X7, Or.inl q359⟩
  · exact ⟨RX8, TX8, 3, rfl, by decide, in_X8, Or.inl q359⟩
  · exact ⟨RX9, TX9, 4, rfl, by decide, in_X9, Or.inl q359⟩
  · exact ⟨RX10, TX10, 4, rfl, by decide, in_X10, Or.inl q359⟩
  · exact ⟨RX11, TX11, 3, rfl, by decide, in_X11, Or.inl q359⟩
  · exact ⟨RX12, TX12, 4, rfl, by decide, in_X12, Or.inl q359⟩
def F_X6_bears (a0 : Option Nat) (w : cH) : Option Int32 :=
  if tgi w a0 [6, 7, 8, 9, 10, 11, 12] = true then ((fAc w a0 [6, 7, 8, 9, 10, 11, 12] 1).bind fun a1p => (fA w a1p 0 3).bind fun a4p => (fA w a4p 4 1).bind fun a7p => (aA w a7p 103 2).bind fun a11p => (fIc w a0 [6, 7, 8, 9, 10, 11, 12] 0).bind fun i13 => (aI w a11p 100 i13).bind fun i16 => some (i16)) else none
abbrev rm_X6_bears : Room := { frames := 0, cells := 0, slots := 0, locals := 0 }
set_option maxHeartbeats 4000000 in
set_option maxRecDepth 100000 in
theorem ct_X6_bears {l : Launch} {g : Gt} (G : Gok g) {a0 : Option Nat} {w : cH} {r9 : Int32} (hF : F_X6_bears a0 w = some r9) : tgi w a0 [6, 7, 8, 9, 10, 11, 12] = true ∧ Mx l yX6_bears (ws_ yX6_bears cX6_bears 1 (some .int)) rm_X6_bears g [va_rf a0] w (.returned (some (.int r9))) w 0 0 := by
  unfold F_X6_bears at hF
  obtain ⟨ht, hF⟩ := bg hF
  refine ⟨ht, mk_ct cX6_bears 1 (some .int) "CarryFair$Carrier" (plainFor_of_name (by decide)) rfl (lg_le ⟨cr _, trivial⟩ (Nat.le_of_ble_eq_true rfl)) (av_ok ⟨cr _, trivial⟩) G (fun x B hl hR hin hh => ?_)⟩
  show J g x _ _ 0 0 w 0 0 0 [some (va_rf a0)] []
  obtain ⟨t9, ht9, hm9⟩ := tgi_some ht
  have hc9 : clsTag t9 := by
    simp only [List.mem_cons, List.not_mem_nil, or_false] at hm9
    exact clsTag_of (by omega)
  refine j_aload_n B dX6_bears_0 rfl ?_
  refine j_getAc B flc_X6_3 dX6_bears_1 hF (fun a1p hF => ?_)
  refine j_getA B fl_X6_23 dX6_bears_4 hF (fun a4p hF => ?_)
  refine j_getA B fl_X6_27 dX6_bears_7 hF (fun a7p hF => ?_)
  refine j_iconst (v := 2) B dX6_bears_10 (by decide) ?_
  refine j_aaload B 103 rfl rfl dX6_bears_11 hF (fun a11p hF => ?_)
  refine j_aload_n B dX6_bears_12 rfl ?_
  refine j_getIc B flc_X6_15 dX6_bears_13 hF (fun i13 hF => ?_)
  refine j_iaload B dX6_bears_16 hF (fun i16 hF => ?_)
  exact j_lI B rfl dX6_bears_17 hF (by decide) (by decide)
def F_X14_half (a0 : Option Nat) (x1 : Int32) (w : cH) : Option Int32 :=
  if tgi w a0 [6, 7, 8, 9, 10, 11, 12] = true then (some (x1 / 2)) else none
abbrev rm_X14_half : Room := { frames := 0, cells := 0, slots := 0, locals := 0 }
set_option maxHeartbeats 4000000 in
set_option maxRecDepth 100000 in
theorem ct_X14_half {l : Launch} {g : Gt} (G : Gok g) {a0 : Option Nat} {x1 : Int32} {w : cH} {r9 : Int32} (hF : F_X14_half a0 x1 w = some r9) : tgi w a0 [6, 7, 8, 9, 10, 11, 12] = true ∧ Mx l yX14_half (ws_ yX14_half cX14_half 2 (some .int)) rm_X14_half g [va_rf a0, .int x1] w (.returned (some (.int r9))) w 0 0 := by
  unfold F_X14_half at hF
  obtain ⟨ht, hF⟩ := bg hF
  refine ⟨ht, mk_ct cX14_half 2 (some .int) "CarryFair$Carries" (plainFor_of_name (by decide)) rfl (lg_le ⟨cr _, rfl, trivial⟩ (Nat.le_of_ble_eq_true rfl)) (av_ok ⟨cr _, rfl, trivial⟩) G (fun x B hl hR hin hh => ?_)⟩
  show J g x _ _ 0 0 w 0 0 0 [some (va_rf a0), some (.int x1)] []
  obtain ⟨t9, ht9, hm9⟩ := tgi_some ht
  have hc9 : clsTag t9 := by
    simp only [List.mem_cons, List.not_mem_nil, or_false] at hm9
    exact clsTag_of (by omega)
  refine j_iload_n B dX14_half_0 rfl ?_
  refine j_iconst (v := 2) B dX14_half_1 (by decide) ?_
  refine j_idiv B dX14_half_2 (by decide) ?_
  exact j_lI B rfl dX14_half_3 hF (by decide) (by decide)
theorem csu_X7_23 : CSU "CarryFair$Old" 23 ⟨"CarryFair$Carrier", "bears", "()I"⟩ yX6_bears cX6_bears 1 (some .int) 0 := ⟨q583, q1917, q368, Or.inl rfl, q571, q135, q573, rfl, by decide, by decide +kernel⟩
def F_X7_bears (a0 : Option Nat) (w : cH) : Option Int32 :=
  if tgi w a0 [7, 9] = true then ((F_X6_bears a0 w).bind fun i2 => some (i2 / 2)) else none
abbrev rm_X7_bears : Room := { frames := 1, cells := 0, slots := 0, locals := 21 }
set_option maxHeartbeats 4000000 in
set_option maxRecDepth 100000 in
theorem ct_X7_bears {l : Launch} {g : Gt} (G : Gok g) {a0 : Option Nat} {w : cH} {r9 : Int32} (hF : F_X7_bears a0 w = some r9) : tgi w a0 [7, 9] = true ∧ Mx l yX7_bears (ws_ yX7_bears cX7_bears 1 (some .int)) rm_X7_bears g [va_rf a0] w (.returned (some (.int r9))) w 0 0 := by
  unfold F_X7_bears at hF
  obtain ⟨ht, hF⟩ := bg hF
  refine ⟨ht, mk_ct cX7_bears 1 (some .int) "CarryFair$Old" (plainFor_of_name (by decide)) rfl (lg_le ⟨cr _, trivial⟩ (Nat.le_of_ble_eq_true rfl)) (av_ok ⟨cr _, trivial⟩) G (fun x B hl hR hin hh => ?_)⟩
  show J g x _ _ 0 0 w 0 0 0 [some (va_rf a0)] []
  obtain ⟨t9, ht9, hm9⟩ := tgi_some ht
  have hc9 : clsTag t9 := by
    simp only [List.mem_cons, List.not_mem_nil, or_false] at hm9
    exact clsTag_of (by omega)
  refine j_aload_n B dX7_bears_0 rfl ?_
  refine j_aload_n B dX7_bears_1 rfl ?_
  obtain ⟨i2, e2, hF⟩ := bo hF
  refine j_rSU (st2 := [.int i2, va_rf a0]) B [] [va_rf a0] csu_X7_23 ht9 hc9 dX7_bears_2 hl hR (ct_X6_bears G e2).2 rfl rfl rfl rfl ⟨cr _, trivial⟩ (Nat.le_of_ble_eq_true rfl) ?_
  refine j_half_X7 B [] ht9 hm9 dX7_bears_5 hR rfl trivial (Nat.le_of_ble_eq_true rfl) ?_
  exact j_lI B rfl dX7_bears_8 hF (by decide) (by decide)
theorem csu_X8_23 : CSU "CarryFair$Paired" 23 ⟨"CarryFair$Carrier", "bears", "()I"⟩ yX6_bears cX6_bears 1 (some .int) 0 := ⟨q596, q1917, q380, Or.inl rfl, q571, q135, q573, rfl, by decide, by decide +kernel⟩
def F_X8_bears (a0 : Option Nat) (w : cH) : Option Int32 :=
  if tgi w a0 [8, 10] = true then ((F_X6_bears a0 w).bind fun i2 => some (2 * i2)) else none
abbrev rm_X8_bears : Room := { frames := 1, cells := 0, slots := 0, locals := 20 }
set_option maxHeartbeats 4000000 in
set_option maxRecDepth 100000 in
theorem ct_X8_bears {l : Launch} {g : Gt} (G : Gok g) {a0 : Option Nat} {w : cH} {r9 : Int32} (hF : F_X8_bears a0 w = some r9) : tgi w a0 [8, 10] = true ∧ Mx l yX8_bears (ws_ yX8_bears cX8_bears 1 (some .int)) rm_X8_bears g [va_rf a0] w (.returned (some (.int r9))) w 0 0 := by
  unfold F_X8_bears at hF
  obtain ⟨ht, hF⟩ := bg hF
  refine ⟨ht, mk_ct cX8_bears 1 (some .int) "CarryFair$Paired" (plainFor_of_name (by decide)) rfl (lg_le ⟨cr _, trivial⟩ (Nat.le_of_ble_eq_true rfl)) (av_ok ⟨cr _, trivial⟩) G (fun x B hl hR hin hh => ?_)⟩
  show J g x _ _ 0 0 w 0 0 0 [some (va_rf a0)] []
  obtain ⟨t9, ht9, hm9⟩ := tgi_some ht
  have hc9 : clsTag t9 := by
    simp only [List.mem_cons, List.not_mem_nil, or_false] at hm9
    exact clsTag_of (by omega)
  refine j_iconst (v := 2) B dX8_bears_0 (by decide) ?_
  refine j_aload_n B dX8_bears_1 rfl ?_
  obtain ⟨i2, e2, hF⟩ := bo hF
  refine j_rSU (st2 := [.int i2, .int 2]) B [] [.int 2] csu_X8_23 ht9 hc9 dX8_bears_2 hl hR (ct_X6_bears G e2).2 rfl rfl rfl rfl ⟨rfl, trivial⟩ (Nat.le_of_ble_eq_true rfl) ?_
  refine j_imul B dX8_bears_5 ?_
  exact j_lI B rfl dX8_bears_6 hF (by decide) (by decide)
def V_bears (a0 : Option Nat)  (w : cH) : Option Int32 := if tgi w a0 [6] = true then F_X6_bears a0  w else if tgi w a0 [7] = true then F_X7_bears a0  w else if tgi w a0 [8] = true then F_X8_bears a0  w else if tgi w a0 [9] = true then F_X7_bears a0  w else if tgi w a0 [10] = true then F_X8_bears a0  w else if tgi w a0 [11] = true then F_X6_bears a0  w else if tgi w a0 [12] = true then F_X6_bears a0  w else none
theorem cu_X0_152_6 : CUF "CarryFair" 152 6 ⟨"CarryFair$Carries", "bears", "()I"⟩ yX6_bears cX6_bears 1 (some .int) 0 := by
  refine ⟨lw_app ?_ (lw_meth q573), clsTag_of (by decide), q567, q566, q572, q576, q574, by decide +kernel⟩
  intro w hw
  simp only [List.mem_cons, List.not_mem_nil, or_false] at hw
  rcases hw with e | e | e | e
  · rw [e]; exact q565
  · rw [e]; exact q575
  · rw [e]; exact q571
  · rw [e]; exact q135
theorem cu_X0_152_7 : CUF "CarryFair" 152 7 ⟨"CarryFair$Carries", "bears", "()I"⟩ yX7_bears cX7_bears 1 (some .int) 0 := by
  refine ⟨lw_app ?_ (lw_meth q582), clsTag_of (by decide), q567, q566, q581, q599, q597, by decide +kernel⟩
  intro w hw
  simp only [List.mem_cons, List.not_mem_nil, or_false] at hw
  rcases hw with e | e | e | e
  · rw [e]; exact q565
  · rw [e]; exact q598
  · rw [e]; exact q580
  · rw [e]; exact q136
theorem cu_X0_152_8 : CUF "CarryFair" 152 8 ⟨"CarryFair$Carries", "bears", "()I"⟩ yX8_bears cX8_bears 1 (some .int) 0 := by
  refine ⟨lw_app ?_ (lw_meth q595), clsTag_of (by decide), q567, q566, q594, q602, q600, by decide +kernel⟩
  intro w hw
  simp only [List.mem_cons, List.not_mem_nil, or_false] at hw
  rcases hw with e | e | e | e
  · rw [e]; exact q565
  · rw [e]; exact q601
  · rw [e]; exact q593
  · rw [e]; exact q137
theorem cu_X0_152_9 : CUF "CarryFair" 152 9 ⟨"CarryFair$Carries", "bears", "()I"⟩ yX7_bears cX7_bears 1 (some .int) 0 := by
  refine ⟨lw_app ?_ (lw_meth q582), clsTag_of (by decide), q567, q566, q581, q579, q577, by decide +kernel⟩
  intro w hw
  simp only [List.mem_cons, List.not_mem_nil, or_false] at hw
  rcases hw with e | e | e | e
  · rw [e]; exact q565
  · rw [e]; exact q578
  · rw [e]; exact q580
  · rw [e]; exact q136
theorem cu_X0_152_10 : CUF "CarryFair" 152 10 ⟨"CarryFair$Carries", "bears", "()I"⟩ yX8_bears cX8_bears 1 (some .int) 0 := by
  refine ⟨lw_app ?_ (lw_meth q595), clsTag_of (by decide), q567, q566, q594, q592, q590, by decide +kernel⟩
  intro w hw
  simp only [List.mem_cons, List.not_mem_nil, or_false] at hw
  rcases hw with e | e | e | e
  · rw [e]; exact q565
  · rw [e]; exact q591
  · rw [e]; exact q593
  · rw [e]; exact q137
theorem cu_X0_152_11 : CUF "CarryFair" 152 11 ⟨"CarryFair$Carries", "bears", "()I"⟩ yX6_bears cX6_bears 1 (some .int) 0 := by
  refine ⟨lw_app ?_ (lw_meth q573), clsTag_of (by decide), q567, q566, q572, q605, q603, by decide +kernel⟩
  intro w hw
  simp only [List.mem_cons, List.not_mem_nil, or_false] at hw
  rcases hw with e | e | e | e
  · rw [e]; exact q565
  · rw [e]; exact q604
  · rw [e]; exact q571
  · rw [e]; exact q135
theorem cu_X0_152_12 : CUF "CarryFair" 152 12 ⟨"CarryFair$Carries", "bears", "()I"⟩ yX6_bears cX6_bears 1 (some .int) 0 := by
  refine ⟨lw_app ?_ (lw_meth q573), clsTag_of (by decide), q567, q566, q572, q570, q568, by decide +kernel⟩
  intro w hw
  simp only [List.mem_cons, List.not_mem_nil, or_false] at hw
  rcases hw with e | e | e | e
  · rw [e]; exact q565
  · rw [e]; exact q569
  · rw [e]; exact q571
  · rw [e]; exact q135
set_option maxHeartbeats 1000000 in
theorem vd_X0_152 {g : Gt} {x : Xt} {o : Outcome} {w1 : cH} {mc ms : Nat} {w : cH} {k n pc cnt : Nat} {vs : List (Option Value)} {cc : ByteArray} {nL : Nat} {ret : Option FieldType} (B : Bd g x cc nL "CarryFair" ret) (G : Gok g) {a0 : Option Nat}  {i9 : Int32} {l : Launch} {R : Room} (rest : List Value) (e : V_bears a0  w = some i9) (d : decode cc pc = .ok (.invokeinterface 152 cnt, 5)) (hl : x.2.1 = l) (hR : x.2.2.2.1 = R) (hr0 : rmOk rm_X6_bears R 1 k n 0 0 = true) (hr1 : rmOk rm_X7_bears R 1 k n 0 0 = true) (hr2 : rmOk rm_X8_bears R 1 k n 0 0 = true) (hc1 : cat1 rest) (hc8 : rest.length ≤ 8) (kk : J g x o w1 mc ms w k n (pc + 5) vs (.int i9 :: rest)) : J g x o w1 mc ms w k n pc vs (va_rf a0 :: rest) := by
  unfold V_bears at e
  by_cases h : tgi w a0 [6] = true
  · rw [if_pos h] at e
    exact j_rF (st2 := .int i9 :: rest) B [] rest cu_X0_152_6 (tgi_one h) d hl hR (ct_X6_bears G e).2 hr0 rfl rfl rfl hc1 hc8 kk
  rw [if_neg h] at e
  clear h
  by_cases h : tgi w a0 [7] = true
  · rw [if_pos h] at e
    exact j_rF (st2 := .int i9 :: rest) B [] rest cu_X0_152_7 (tgi_one h) d hl hR (ct_X7_bears G e).2 hr1 rfl rfl rfl hc1 hc8 kk
  rw [if_neg h] at e
  clear h
  by_cases h : tgi w a0 [8] = true
  · rw [if_pos h] at e
    exact j_rF (st2 := .int i9 :: rest) B [] rest cu_X0_152_8 (tgi_one h) d hl hR (ct_X8_bears G e).2 hr2 rfl rfl rfl hc1 hc8 kk
  rw [if_neg h] at e
  clear h
  by_cases h : tgi w a0 [9] = true
  · rw [if_pos h] at e
    exact j_rF (st2 := .int i9 :: rest) B [] rest cu_X0_152_9 (tgi_one h) d hl hR (ct_X7_bears G e).2 hr1 rfl rfl rfl hc1 hc8 kk
  rw [if_neg h] at e
  clear h
  by_cases h : tgi w a0 [10] = true
  · rw [if_pos h] at e
    exact j_rF (st2 := .int i9 :: rest) B [] rest cu_X0_152_10 (tgi_one h) d hl hR (ct_X8_bears G e).2 hr2 rfl rfl rfl hc1 hc8 kk
  rw [if_neg h] at e
  clear h
  by_cases h : tgi w a0 [11] = true
  · rw [if_pos h] at e
    exact j_rF (st2 := .int i9 :: rest) B [] rest cu_X0_152_11 (tgi_one h) d hl hR (ct_X6_bears G e).2 hr0 rfl rfl rfl hc1 hc8 kk
  rw [if_neg h] at e
  clear h
  by_cases h : tgi w a0 [12] = true
  · rw [if_pos h] at e
    exact j_rF (st2 := .int i9 :: rest) B [] rest cu_X0_152_12 (tgi_one h) d hl hR (ct_X6_bears G e).2 hr0 rfl rfl rfl hc1 hc8 kk
  rw [if_neg h] at e
  clear h
  cases e
theorem cv_X0_148 : CV "CarryFair" 148 0 yX0_carrierAt cX0_carrierAt 2 (some (.object "CarryFair$Carrier")) 1 := ⟨_, _, rfl, lw_V q527 q529 qs4 q126 q530, by decide +kernel⟩
def F_X0_bearsOf (a0 : Option Nat) (x1 : Int32) (w : cH) : Option Int32 :=
  if tg w a0 = some 0 then ((F_X0_carrierAt a0 x1 w).bind fun a2p => (V_bears a2p  w).bind fun i7 => some (i7)) else none
abbrev rm_X0_bearsOf : Room := { frames := 2, cells := 0, slots := 0, locals := 41 }
set_option maxHeartbeats 4000000 in
set_option maxRecDepth 100000 in
theorem ct_X0_bearsOf {l : Launch} {g : Gt} (G : Gok g) {a0 : Option Nat} {x1 : Int32} {w : cH} {r9 : Int32} (hF : F_X0_bearsOf a0 x1 w = some r9) : tg w a0 = some 0 ∧ Mx l yX0_bearsOf (ws_ yX0_bearsOf cX0_bearsOf 3 (some .int)) rm_X0_bearsOf g [va_rf a0, .int x1] w (.returned (some (.int r9))) w 0 0 := by
  unfold F_X0_bearsOf at hF
  obtain ⟨ht, hF⟩ := bg hF
  refine ⟨ht, mk_ct cX0_bearsOf 3 (some .int) "CarryFair" (plainFor_of_name (by decide)) rfl (lg_le ⟨cr _, rfl, trivial⟩ (Nat.le_of_ble_eq_true rfl)) (av_ok ⟨cr _, rfl, trivial⟩) G (fun x B hl hR hin hh => ?_)⟩
  show J g x _ _ 0 0 w 0 0 0 [some (va_rf a0), some (.int x1), none] []
  refine j_aload_n B dX0_bearsOf_0 rfl ?_
  refine j_iload_n B dX0_bearsOf_1 rfl ?_
  obtain ⟨a2p, e2, hF⟩ := bo hF
  refine j_rV (st2 := [va_rf a2p]) B [.int x1] [] cv_X0_148 dX0_bearsOf_2 hl hR (ct_X0_carrierAt G e2) rfl rfl rfl rfl trivial (Nat.le_of_ble_eq_true rfl) ?_
  refine j_astore_n (vs' := [some (va_rf a0), some (.int x1), some (va_rf a2p)]) B dX0_bearsOf_5 (by decide) rfl ?_
  refine j_aload_n B dX0_bearsOf_6 rfl ?_
  obtain ⟨i7, e7, hF⟩ := bo hF
  refine vd_X0_152 B G [] e7 dX0_bearsOf_7 hl hR rfl rfl rfl trivial (Nat.le_of_ble_eq_true rfl) ?_
  exact j_lI B rfl dX0_bearsOf_12 hF (by decide) (by decide)
def V_kind (a0 : Option Nat)  (w : cH) : Option Int32 := if tgi w a0 [6] = true then F_X6_kind a0  w else if tgi w a0 [7] = true then F_X7_kind a0  w else if tgi w a0 [8] = true then F_X8_kind a0  w else if tgi w a0 [9] = true then F_X9_kind a0  w else if tgi w a0 [10] = true then F_X10_kind a0  w else if tgi w a0 [11] = true then F_X11_kind a0  w else if tgi w a0 [12] = true then F_X12_kind a0  w else none
theorem cu_X0_164_6 : CV "CarryFair" 164 6 yX6_kind cX6_kind 1 (some .int) 0 := ⟨_, _, rfl, lw_V q531 q532 q533 q135 q559, by decide +kernel⟩
theorem cu_X0_164_7 : CUO "CarryFair" 164 7 ⟨"CarryFair$Carrier", "kind", "()I"⟩ yX7_kind cX7_kind 1 (some .int) 0 := by
  refine ⟨lw_app ?_ (lw_meth q547), ⟨_, _, _, q559⟩, clsTag_of (by decide), by decide +kernel⟩
  intro w hw
  simp only [List.mem_cons, List.not_mem_nil, or_false] at hw
  rcases hw with e | e | e | e | e | e
  · rw [e]; exact q531
  · rw [e]; exact q534
  · rw [e]; exact q532
  · rw [e]; exact q556
  · rw [e]; exact q546
  · rw [e]; exact q136
theorem cu_X0_164_8 : CUO "CarryFair" 164 8 ⟨"CarryFair$Carrier", "kind", "()I"⟩ yX8_kind cX8_kind 1 (some .int) 0 := by
  refine ⟨lw_app ?_ (lw_meth q554), ⟨_, _, _, q559⟩, clsTag_of (by decide), by decide +kernel⟩
  intro w hw
  simp only [List.mem_cons, List.not_mem_nil, or_false] at hw
  rcases hw with e | e | e | e | e | e
  · rw [e]; exact q531
  · rw [e]; exact q534
  · rw [e]; exact q532
  · rw [e]; exact q557
  · rw [e]; exact q553
  · rw [e]; exact q137
theorem cu_X0_164_9 : CUO "CarryFair" 164 9 ⟨"CarryFair$Carrier", "kind", "()I"⟩ yX9_kind cX9_kind 1 (some .int) 0 := by
  refine ⟨lw_app ?_ (lw_meth q544), ⟨_, _, _, q559⟩, clsTag_of (by decide), by decide +kernel⟩
  intro w hw
  simp only [List.mem_cons, List.not_mem_nil, or_false] at hw
  rcases hw with e | e | e | e | e | e
  · rw [e]; exact q531
  · rw [e]; exact q534
  · rw [e]; exact q532
  · rw [e]; exact q542
  · rw [e]; exact q543
  · rw [e]; exact q138
theorem cu_X0_164_10 : CUO "CarryFair" 164 10 ⟨"CarryFair$Carrier", "kind", "()I"⟩ yX10_kind cX10_kind 1 (some .int) 0 := by
  refine ⟨lw_app ?_ (lw_meth q551), ⟨_, _, _, q559⟩, clsTag_of (by decide), by decide +kernel⟩
  intro w hw
  simp only [List.mem_cons, List.not_mem_nil, or_false] at hw
  rcases hw with e | e | e | e | e | e
  · rw [e]; exact q531
  · rw [e]; exact q534
  · rw [e]; exact q532
  · rw [e]; exact q549
  · rw [e]; exact q550
  · rw [e]; exact q139
theorem cu_X0_164_11 : CUO "CarryFair" 164 11 ⟨"CarryFair$Carrier", "kind", "()I"⟩ yX11_kind cX11_kind 1 (some .int) 0 := by
  refine ⟨lw_app ?_ (lw_meth q540), ⟨_, _, _, q559⟩, clsTag_of (by decide), by decide +kernel⟩
  intro w hw
  simp only [List.mem_cons, List.not_mem_nil, or_false] at hw
  rcases hw with e | e | e | e | e | e
  · rw [e]; exact q531
  · rw [e]; exact q534
  · rw [e]; exact q532
  · rw [e]; exact q558
  · rw [e]; exact q539
  · rw [e]; exact q140
theorem cu_X0_164_12 : CUO "CarryFair" 164 12 ⟨"CarryFair$Carrier", "kind", "()I"⟩ yX12_kind cX12_kind 1 (some .int) 0 := by
  refine ⟨lw_app ?_ (lw_meth q537), ⟨_, _, _, q559⟩, clsTag_of (by decide), by decide +kernel⟩
  intro w hw
  simp only [List.mem_cons, List.not_mem_nil, or_false] at hw
  rcases hw with e | e | e | e | e | e
  · rw [e]; exact q531
  · rw [e]; exact q534
  · rw [e]; exact q532
  · rw [e]; exact q535
  · rw [e]; exact q536
  · rw [e]; exact q141
set_option maxHeartbeats 1000000 in
theorem vd_X0_164 {g : Gt} {x : Xt} {o : Outcome} {w1 : cH} {mc ms : Nat} {w : cH} {k n pc : Nat} {vs : List (Option Value)} {cc : ByteArray} {nL : Nat} {ret : Option FieldType} (B : Bd g x cc nL "CarryFair" ret) (G : Gok g) {a0 : Option Nat}  {i9 : Int32} {l : Launch} {R : Room} (rest : List Value) (e : V_kind a0  w = some i9) (d : decode cc pc = .ok (.invokevirtual 164, 3)) (hl : x.2.1 = l) (hR : x.2.2.2.1 = R) (hr0 : rmOk rm_X6_kind R 1 k n 0 0 = true) (hr1 : rmOk rm_X7_kind R 1 k n 0 0 = true) (hr2 : rmOk rm_X8_kind R 1 k n 0 0 = true) (hr3 : rmOk rm_X9_kind R 1 k n 0 0 = true) (hr4 : rmOk rm_X10_kind R 1 k n 0 0 = true) (hr5 : rmOk rm_X11_kind R 1 k n 0 0 = true) (hr6 : rmOk rm_X12_kind R 1 k n 0 0 = true) (hc1 : cat1 rest) (hc8 : rest.length ≤ 8) (kk : J g x o w1 mc ms w k n (pc + 3) vs (.int i9 :: rest)) : J g x o w1 mc ms w k n pc vs (va_rf a0 :: rest) := by
  unfold V_kind at e
  by_cases h : tgi w a0 [6] = true
  · rw [if_pos h] at e
    exact j_rV (st2 := .int i9 :: rest) B [] rest cu_X0_164_6 d hl hR ⟨tgi_one h, (ct_X6_kind G e).2⟩ hr0 rfl rfl rfl hc1 hc8 kk
  rw [if_neg h] at e
  clear h
  by_cases h : tgi w a0 [7] = true
  · rw [if_pos h] at e
    exact j_rU (st2 := .int i9 :: rest) B [] rest cu_X0_164_7 (tgi_one h) d hl hR (ct_X7_kind G e).2 hr1 rfl rfl rfl hc1 hc8 kk
  rw [if_neg h] at e
  clear h
  by_cases h : tgi w a0 [8] = true
  · rw [if_pos h] at e
    exact j_rU (st2 := .int i9 :: rest) B [] rest cu_X0_164_8 (tgi_one h) d hl hR (ct_X8_kind G e).2 hr2 rfl rfl rfl hc1 hc8 kk
  rw [if_neg h] at e
  clear h
  by_cases h : tgi w a0 [9] = true
  · rw [if_pos h] at e
    exact j_rU (st2 := .int i9 :: rest) B [] rest cu_X0_164_9 (tgi_one h) d hl hR (ct_X9_kind G e).2 hr3 rfl rfl rfl hc1 hc8 kk
  rw [if_neg h] at e
  clear h
  by_cases h : tgi w a0 [10] = true
  · rw [if_pos h] at e
    exact j_rU (st2 := .int i9 :: rest) B [] rest cu_X0_164_10 (tgi_one h) d hl hR (ct_X10_kind G e).2 hr4 rfl rfl rfl hc1 hc8 kk
  rw [if_neg h] at e
  clear h
  by_cases h : tgi w a0 [11] = true
  · rw [if_pos h] at e
    exact j_rU (st2 := .int i9 :: rest) B [] rest cu_X0_164_11 (tgi_one h) d hl hR (ct_X11_kind G e).2 hr5 rfl rfl rfl hc1 hc8 kk
  rw [if_neg h] at e
  clear h
  by_cases h : tgi w a0 [12] = true
  · rw [if_pos h] at e
    exact j_rU (st2 := .int i9 :: rest) B [] rest cu_X0_164_12 (tgi_one h) d hl hR (ct_X12_kind G e).2 hr6 rfl rfl rfl hc1 hc8 kk
  rw [if_neg h] at e
  clear h
  cases e
theorem cv_X0_161 : CV "CarryFair" 161 0 yX0_isCarrier cX0_isCarrier 2 (some .boolean) 1 := ⟨_, _, rfl, lw_V q523 q525 qs3 q126 q526, by decide +kernel⟩
theorem cv_X0_167 : CV "CarryFair" 167 0 yX0_bearsOf cX0_bearsOf 3 (some .int) 1 := ⟨_, _, rfl, lw_V q560 q562 qs5 q126 q563, by decide +kernel⟩
theorem cv_X0_170 : CV "CarryFair" 170 4 yX4_carriedBy cX4_carriedBy 4 (some .int) 1 := ⟨_, _, rfl, lw_V q606 q607 q608 q133 q609, by decide +kernel⟩
theorem cv_X0_173 : CV "CarryFair" 173 4 yX4_weight cX4_weight 4 (some .int) 1 := ⟨_, _, rfl, lw_V q610 q611 q612 q133 q613, by decide +kernel⟩
def F_X0_of_J18 (a0 : Option Nat) (w : cH) : Option (Int32 × cH) :=
  cb (F_X0_finding a0 0 w) fun i20 w20 => some (i20, w20)
def F_X0_of (a0 : Option Nat) (x1 : Int32) (x2 : Int32) (w : cH) : Option (Int32 × cH) :=
  if tg w a0 = some 0 then ((F_X0_isCarrier a0 x1 w).bind fun i2 =>if i2 = 0 then (F_X0_of_J18  a0 w) else (if ¬ (F_X0_in x2 0 7) = 0 then (if x2 = 0 then ((F_X0_carrierAt a0 x1 w).bind fun a74p => (V_kind a74p  w).bind fun i77 => some (i77, w)) else if x2 = 5 then ((F_X0_bearsOf a0 x1 w).bind fun i83 => some (i83, w)) else if x2 = 6 then ((fA w a0 0 3).bind fun a88p => (F_X4_carriedBy a88p x1 w).bind fun i92 => some (i92, w)) else if x2 = 7 then ((fA w a0 0 3).bind fun a97p => (fA w a0 0 3).bind fun a101p => (F_X4_carriedBy a101p x1 w).bind fun i105 => (F_X4_weight a97p i105 w).bind fun i108 => some (i108, w)) else ((fA w a0 0 3).bind fun a113p => (fA w a113p 4 1).bind fun a116p => (aA w a116p 103 x2).bind fun a120p => (aI w a120p 100 x1).bind fun i122 => some (i122, w))) else (F_X0_of_J18  a0 w))) else none
abbrev rm_X0_of : Room := { frames := 3, cells := 0, slots := 0, locals := 63 }
set_option maxHeartbeats 4000000 in
set_option maxRecDepth 100000 in
theorem ct_X0_of {l : Launch} {g : Gt} (G : Gok g) {a0 : Option Nat} {x1 : Int32} {x2 : Int32} {w : cH} {r9 : Int32} {w9 : cH} (hF : F_X0_of a0 x1 x2 w = some (r9, w9)) : tg w a0 = some 0 ∧ Mx l yX0_of (ws_ yX0_of cX0_of 3 (some .int)) rm_X0_of g [va_rf a0, .int x1, .int x2] w (.returned (some (.int r9))) w9 0 0 := by
  unfold F_X0_of at hF
  obtain ⟨ht, hF⟩ := bg hF
  refine ⟨ht, mk_ct cX0_of 3 (some .int) "CarryFair" (plainFor_of_name (by decide)) rfl (lg_le ⟨cr _, rfl, rfl, trivial⟩ (Nat.le_of_ble_eq_true rfl)) (av_ok ⟨cr _, rfl, rfl, trivial⟩) G (fun x B hl hR hin hh => ?_)⟩
  show J g x _ _ 0 0 w 0 0 0 [some (va_rf a0), some (.int x1), some (.int x2)] []
  have jb18 : ∀ (a0 : Option Nat) (w : cH), F_X0_of_J18  a0 w = some (r9, w9) → J g x (.returned (some (.int r9))) w9 0 0 w 0 0 18 [some (va_rf a0), none, none] [] := by
    intro a0 w hF
    unfold F_X0_of_J18 at hF
    refine j_aload_n B dX0_of_18 rfl ?_
    refine j_iconst (v := 0) B dX0_of_19 (by decide) ?_
    obtain ⟨i20, w20, e20, hF⟩ := bc hF
    refine j_rV (st2 := [.int i20]) B [.int 0] [] cv_X0_142 dX0_of_20 hl hR (ct_X0_finding G e20) rfl rfl rfl rfl trivial (Nat.le_of_ble_eq_true rfl) ?_
    exact j_lIw B rfl dX0_of_23 hF (by decide) (by decide)
  refine j_aload_n B dX0_of_0 rfl ?_
  refine j_iload_n B dX0_of_1 rfl ?_
  obtain ⟨i2, e2, hF⟩ := bo hF
  refine j_rV (st2 := [.int i2]) B [.int x1] [] cv_X0_161 dX0_of_2 hl hR (ct_X0_isCarrier G e2) rfl rfl rfl rfl trivial (Nat.le_of_ble_eq_true rfl) ?_
  refine j_if_eq (tgt := 18) B dX0_of_5 (by decide) hF (fun h5 hF => ?_) (fun h5 hF => ?_)
  · refine j_msk [true, false, false] rfl ?_
    exact jb18 a0 w hF
  · refine j_iload_n B dX0_of_8 rfl ?_
    refine j_iconst (v := 0) B dX0_of_9 (by decide) ?_
    refine j_bipush (v := 7) B dX0_of_10 (by decide) ?_
    refine j_rS (st2 := [.int (F_X0_in x2 0 7)]) B [.int x2, .int 0, .int 7] [] cs_X0_3 dX0_of_12 hl hR (ct_X0_in G) rfl rfl rfl rfl trivial (Nat.le_of_ble_eq_true rfl) ?_
    refine j_if_ne (tgt := 24) B dX0_of_15 (by decide) hF (fun h15 hF => ?_) (fun h15 hF => ?_)
    · refine j_iload_n B dX0_of_24 rfl ?_
      by_cases t25_0 : x2 = 0
      · rw [if_pos t25_0] at hF
        refine j_tblIn (tgt := 72) B 0 dX0_of_25 t25_0 (by decide) rfl (by decide) ?_
        refine j_aload_n B dX0_of_72 rfl ?_
        refine j_iload_n B dX0_of_73 rfl ?_
        obtain ⟨a74p, e74, hF⟩ := bo hF
        refine j_rV (st2 := [va_rf a74p]) B [.int x1] [] cv_X0_148 dX0_of_74 hl hR (ct_X0_carrierAt G e74) rfl rfl rfl rfl trivial (Nat.le_of_ble_eq_true rfl) ?_
        obtain ⟨i77, e77, hF⟩ := bo hF
        refine vd_X0_164 B G [] e77 dX0_of_77 hl hR rfl rfl rfl rfl rfl rfl rfl trivial (Nat.le_of_ble_eq_true rfl) ?_
        exact j_lIw B rfl dX0_of_80 hF (by decide) (by decide)
      rw [if_neg t25_0] at hF
      by_cases t25_5 : x2 = 5
      · rw [if_pos t25_5] at hF
        refine j_tblIn (tgt := 81) B 5 dX0_of_25 t25_5 (by decide) rfl (by decide) ?_
        refine j_aload_n B dX0_of_81 rfl ?_
        refine j_iload_n B dX0_of_82 rfl ?_
        obtain ⟨i83, e83, hF⟩ := bo hF
        refine j_rV (st2 := [.int i83]) B [.int x1] [] cv_X0_167 dX0_of_83 hl hR (ct_X0_bearsOf G e83) rfl rfl rfl rfl trivial (Nat.le_of_ble_eq_true rfl) ?_
        exact j_lIw B rfl dX0_of_86 hF (by decide) (by decide)
      rw [if_neg t25_5] at hF
      by_cases t25_6 : x2 = 6
      · rw [if_pos t25_6] at hF
        refine j_tblIn (tgt := 87) B 6 dX0_of_25 t25_6 (by decide) rfl (by decide) ?_
        refine j_aload_n B dX0_of_87 rfl ?_
        refine j_getA B fl_X0_61 dX0_of_88 hF (fun a88p hF => ?_)
        refine j_iload_n B dX0_of_91 rfl ?_
        obtain ⟨i92, e92, hF⟩ := bo hF
        refine j_rV (st2 := [.int i92]) B [.int x1] [] cv_X0_170 dX0_of_92 hl hR (ct_X4_carriedBy G e92) rfl rfl rfl rfl trivial (Nat.le_of_ble_eq_true rfl) ?_
        exact j_lIw B rfl dX0_of_95 hF (by decide) (by decide)
      rw [if_neg t25_6] at hF
      by_cases t25_7 : x2 = 7
      · rw [if_pos t25_7] at hF
        refine j_tblIn (tgt := 96) B 7 dX0_of_25 t25_7 (by decide) rfl (by decide) ?_
        refine j_aload_n B dX0_of_96 rfl ?_
        refine j_getA B fl_X0_61 dX0_of_97 hF (fun a97p hF => ?_)
        refine j_aload_n B dX0_of_100 rfl ?_
        refine j_getA B fl_X0_61 dX0_of_101 hF (fun a101p hF => ?_)
        refine j_iload_n B dX0_of_104 rfl ?_
        obtain ⟨i105, e105, hF⟩ := bo hF
        refine j_rV (st2 := [.int i105, va_rf a97p]) B [.int x1] [va_rf a97p] cv_X0_170 dX0_of_105 hl hR (ct_X4_carriedBy G e105) rfl rfl rfl rfl ⟨cr _, trivial⟩ (Nat.le_of_ble_eq_true rfl) ?_
        obtain ⟨i108, e108, hF⟩ := bo hF
        refine j_rV (st2 := [.int i108]) B [.int i105] [] cv_X0_173 dX0_of_108 hl hR (ct_X4_weight G e108) rfl rfl rfl rfl trivial (Nat.le_of_ble_eq_true rfl) ?_
        exact j_lIw B rfl dX0_of_111 hF (by decide) (by decide)
      rw [if_neg t25_7] at hF
      by_cases t25_h1 : x2 = 1
      · refine j_tblIn (tgt := 112) B 1 dX0_of_25 t25_h1 (by decide) rfl (by decide) ?_
        refine j_aload_n B dX0_of_112 rfl ?_
        refine j_getA B fl_X0_61 dX0_of_113 hF (fun a113p hF => ?_)
        refine j_getA B fl_X0_113 dX0_of_116 hF (fun a116p hF => ?_)
        refine j_iload_n B dX0_of_119 rfl ?_
        refine j_aaload B 103 rfl rfl dX0_of_120 hF (fun a120p hF => ?_)
        refine j_iload_n B dX0_of_121 rfl ?_
        refine j_iaload B dX0_of_122 hF (fun i122 hF => ?_)
        exact j_lIw B rfl dX0_of_123 hF (by decide) (by decide)
      by_cases t25_h2 : x2 = 2
      · refine j_tblIn (tgt := 112) B 2 dX0_of_25 t25_h2 (by decide) rfl (by decide) ?_
        refine j_aload_n B dX0_of_112 rfl ?_
        refine j_getA B fl_X0_61 dX0_of_113 hF (fun a113p hF => ?_)
        refine j_getA B fl_X0_113 dX0_of_116 hF (fun a116p hF => ?_)
        refine j_iload_n B dX0_of_119 rfl ?_
        refine j_aaload B 103 rfl rfl dX0_of_120 hF (fun a120p hF => ?_)
        refine j_iload_n B dX0_of_121 rfl ?_
        refine j_iaload B dX0_of_122 hF (fun i122 hF => ?_)
        exact j_lIw B rfl dX0_of_123 hF (by decide) (by decide)
      by_cases t25_h3 : x2 = 3
      · refine j_tblIn (tgt := 112) B 3 dX0_of_25 t25_h3 (by decide) rfl (by decide) ?_
        refine j_aload_n B dX0_of_112 rfl ?_
        refine j_getA B fl_X0_61 dX0_of_113 hF (fun a113p hF => ?_)
        refine j_getA B fl_X0_113 dX0_of_116 hF (fun a116p hF => ?_)
        refine j_iload_n B dX0_of_119 rfl ?_
        refine j_aaload B 103 rfl rfl dX0_of_120 hF (fun a120p hF => ?_)
        refine j_iload_n B dX0_of_121 rfl ?_
        refine j_iaload B dX0_of_122 hF (fun i122 hF => ?_)
        exact j_lIw B rfl dX0_of_123 hF (by decide) (by decide)
      by_cases t25_h4 : x2 = 4
      · refine j_tblIn (tgt := 112) B 4 dX0_of_25 t25_h4 (by decide) rfl (by decide) ?_
        refine j_aload_n B dX0_of_112 rfl ?_
        refine j_getA B fl_X0_61 dX0_of_113 hF (fun a113p hF => ?_)
        refine j_getA B fl_X0_113 dX0_of_116 hF (fun a116p hF => ?_)
        refine j_iload_n B dX0_of_119 rfl ?_
        refine j_aaload B 103 rfl rfl dX0_of_120 hF (fun a120p hF => ?_)
        refine j_iload_n B dX0_of_121 rfl ?_
        refine j_iaload B dX0_of_122 hF (fun i122 hF => ?_)
        exact j_lIw B rfl dX0_of_123 hF (by decide) (by decide)
      refine j_tblOut (tgt := 112) B dX0_of_25 (tbl_out 0 7 (fun z h1 h2 => ?_)) (by decide) ?_
      · rcases (show z = 0 ∨ z = 5 ∨ z = 6 ∨ z = 7 ∨ z = 1 ∨ z = 2 ∨ z = 3 ∨ z = 4 by omega) with h | h | h | h | h | h | h | h
        · rw [h]; exact lv_neT t25_0 (by decide)
        · rw [h]; exact lv_neT t25_5 (by decide)
        · rw [h]; exact lv_neT t25_6 (by decide)
        · rw [h]; exact lv_neT t25_7 (by decide)
        · rw [h]; exact lv_neT t25_h1 (by decide)
        · rw [h]; exact lv_neT t25_h2 (by decide)
        · rw [h]; exact lv_neT t25_h3 (by decide)
        · rw [h]; exact lv_neT t25_h4 (by decide)
      refine j_aload_n B dX0_of_112 rfl ?_
      refine j_getA B fl_X0_61 dX0_of_113 hF (fun a113p hF => ?_)
      refine j_getA B fl_X0_113 dX0_of_116 hF (fun a116p hF => ?_)
      refine j_iload_n B dX0_of_119 rfl ?_
      refine j_aaload B 103 rfl rfl dX0_of_120 hF (fun a120p hF => ?_)
      refine j_iload_n B dX0_of_121 rfl ?_
      refine j_iaload B dX0_of_122 hF (fun i122 hF => ?_)
      exact j_lIw B rfl dX0_of_123 hF (by decide) (by decide)
    · refine j_msk [true, false, false] rfl ?_
      exact jb18 a0 w hF
def F_X0_isPlace (x0 : Int32) : Int32 :=
  (F_X0_in x0 0 6) &&& 1
abbrev rm_X0_isPlace : Room := { frames := 1, cells := 0, slots := 0, locals := 22 }
set_option maxHeartbeats 4000000 in
set_option maxRecDepth 100000 in
theorem ct_X0_isPlace {l : Launch} {g : Gt} (G : Gok g) {x0 : Int32} {w : cH} : Mx l yX0_isPlace (ws_ yX0_isPlace cX0_isPlace 1 (some .boolean)) rm_X0_isPlace g [.int x0] w (.returned (some (.int (F_X0_isPlace x0)))) w 0 0 := by
  generalize hF : F_X0_isPlace x0 = r9
  unfold F_X0_isPlace at hF
  refine mk_ct cX0_isPlace 1 (some .boolean) "CarryFair" (plainFor_of_name (by decide)) rfl (lg_le ⟨rfl, trivial⟩ (Nat.le_of_ble_eq_true rfl)) (av_ok ⟨rfl, trivial⟩) G (fun x B hl hR hin hh => ?_)
  show J g x _ _ 0 0 w 0 0 0 [some (.int x0)] []
  refine j_iload_n B dX0_isPlace_0 rfl ?_
  refine j_iconst (v := 0) B dX0_isPlace_1 (by decide) ?_
  refine j_bipush (v := 6) B dX0_isPlace_2 (by decide) ?_
  refine j_rS (st2 := [.int (F_X0_in x0 0 6)]) B [.int x0, .int 0, .int 6] [] cs_X0_3 dX0_isPlace_4 hl hR (ct_X0_in G) rfl rfl rfl rfl trivial (Nat.le_of_ble_eq_true rfl) ?_
  exact j_lBp B rfl dX0_isPlace_7 hF (by decide) (by decide)
theorem cs_X0_7 : CS "CarryFair" 7 yX0_isPlace cX0_isPlace 1 (some .boolean) 1 := ⟨Or.inl (lw_S q624 q625 q126 q626), by decide +kernel⟩
def F_X0_isTold (x0 : Int32) (x1 : Int32) : Int32 :=
  if x0 = 0 then ((F_X0_isKind x1) &&& 1) else if x0 = 1 then ((F_X0_isPlace x1) &&& 1) else if x0 = 2 then ((F_X0_in x1 1 99) &&& 1) else if x0 = 3 then ((F_X0_in x1 0 999999) &&& 1) else (0)
abbrev rm_X0_isTold : Room := { frames := 2, cells := 0, slots := 0, locals := 42 }
set_option maxHeartbeats 4000000 in
set_option maxRecDepth 100000 in
theorem ct_X0_isTold {l : Launch} {g : Gt} (G : Gok g) {x0 : Int32} {x1 : Int32} {w : cH} : Mx l yX0_isTold (ws_ yX0_isTold cX0_isTold 2 (some .boolean)) rm_X0_isTold g [.int x0, .int x1] w (.returned (some (.int (F_X0_isTold x0 x1)))) w 0 0 := by
  generalize hF : F_X0_isTold x0 x1 = r9
  unfold F_X0_isTold at hF
  refine mk_ct cX0_isTold 2 (some .boolean) "CarryFair" (plainFor_of_name (by decide)) rfl (lg_le ⟨rfl, rfl, trivial⟩ (Nat.le_of_ble_eq_true rfl)) (av_ok ⟨rfl, rfl, trivial⟩) G (fun x B hl hR hin hh => ?_)
  show J g x _ _ 0 0 w 0 0 0 [some (.int x0), some (.int x1)] []
  refine j_iload_n B dX0_isTold_0 rfl ?_
  by_cases t1_0 : x0 = 0
  · rw [if_pos t1_0] at hF
    refine j_tblIn (tgt := 32) B 0 dX0_isTold_1 t1_0 (by decide) rfl (by decide) ?_
    refine j_iload_n B dX0_isTold_32 rfl ?_
    refine j_rS (st2 := [.int (F_X0_isKind x1)]) B [.int x1] [] cs_X0_11 dX0_isTold_33 hl hR (ct_X0_isKind G) rfl rfl rfl rfl trivial (Nat.le_of_ble_eq_true rfl) ?_
    exact j_lBp B rfl dX0_isTold_36 hF (by decide) (by decide)
  rw [if_neg t1_0] at hF
  by_cases t1_1 : x0 = 1
  · rw [if_pos t1_1] at hF
    refine j_tblIn (tgt := 37) B 1 dX0_isTold_1 t1_1 (by decide) rfl (by decide) ?_
    refine j_iload_n B dX0_isTold_37 rfl ?_
    refine j_rS (st2 := [.int (F_X0_isPlace x1)]) B [.int x1] [] cs_X0_7 dX0_isTold_38 hl hR (ct_X0_isPlace G) rfl rfl rfl rfl trivial (Nat.le_of_ble_eq_true rfl) ?_
    exact j_lBp B rfl dX0_isTold_41 hF (by decide) (by decide)
  rw [if_neg t1_1] at hF
  by_cases t1_2 : x0 = 2
  · rw [if_pos t1_2] at hF
    refine j_tblIn (tgt := 42) B 2 dX0_isTold_1 t1_2 (by decide) rfl (by decide) ?_
    refine j_iload_n B dX0_isTold_42 rfl ?_
    refine j_iconst (v := 1) B dX0_isTold_43 (by decide) ?_
    refine j_bipush (v := 99) B dX0_isTold_44 (by decide) ?_
    refine j_rS (st2 := [.int (F_X0_in x1 1 99)]) B [.int x1, .int 1, .int 99] [] cs_X0_3 dX0_isTold_46 hl hR (ct_X0_in G) rfl rfl rfl rfl trivial (Nat.le_of_ble_eq_true rfl) ?_
    exact j_lBp B rfl dX0_isTold_49 hF (by decide) (by decide)
  rw [if_neg t1_2] at hF
  by_cases t1_3 : x0 = 3
  · rw [if_pos t1_3] at hF
    refine j_tblIn (tgt := 50) B 3 dX0_isTold_1 t1_3 (by decide) rfl (by decide) ?_
    refine j_iload_n B dX0_isTold_50 rfl ?_
    refine j_iconst (v := 0) B dX0_isTold_51 (by decide) ?_
    refine j_ldc (v := 999999) B q627 dX0_isTold_52 ?_
    refine j_rS (st2 := [.int (F_X0_in x1 0 999999)]) B [.int x1, .int 0, .int 999999] [] cs_X0_3 dX0_isTold_54 hl hR (ct_X0_in G) rfl rfl rfl rfl trivial (Nat.le_of_ble_eq_true rfl) ?_
    exact j_lBp B rfl dX0_isTold_57 hF (by decide) (by decide)
  rw [if_neg t1_3] at hF
  refine j_tblOut (tgt := 58) B dX0_isTold_1 (tbl_out 0 3 (fun z h1 h2 => ?_)) (by decide) ?_
  · rcases (show z = 0 ∨ z = 1 ∨ z = 2 ∨ z = 3 by omega) with h | h | h | h
    · rw [h]; exact lv_neT t1_0 (by decide)
    · rw [h]; exact lv_neT t1_1 (by decide)
    · rw [h]; exact lv_neT t1_2 (by decide)
    · rw [h]; exact lv_neT t1_3 (by decide)
  refine j_iconst (v := 0) B dX0_isTold_58 (by decide) ?_
  exact j_lZp B (by decide) rfl dX0_isTold_59 hF (by decide) (by decide)
theorem cs_X0_176 : CS "CarryFair" 176 yX0_isTold cX0_isTold 2 (some .boolean) 2 := ⟨Or.inl (lw_S q621 q622 q126 q623), by decide +kernel⟩
def F_X0_change_J16 (a0 : Option Nat) (w : cH) : Option (Int32 × cH) :=
  cb (F_X0_finding a0 0 w) fun i18 w18 => some (i18, w18)
def F_X0_change (a0 : Option Nat) (x1 : Int32) (x2 : Int32) (x3 : Int32) (w : cH) : Option (Int32 × cH) :=
  if tg w a0 = some 0 then ((F_X0_isCarrier a0 x1 w).bind fun i2 =>if i2 = 0 then (F_X0_change_J16  a0 w) else (if ¬ (F_X0_isTold x2 x3) = 0 then ((fA w a0 0 3).bind fun a23p => (fA w a23p 4 1).bind fun a26p => (aA w a26p 103 x2).bind fun a30p => (aI w a30p 100 x1).bind fun i32 => (fA w a0 0 3).bind fun a36p => (fA w a36p 4 1).bind fun a39p => (aA w a39p 103 x2).bind fun a43p => (aS w a43p 100 x1 (.int x3)).bind fun w46 => some (i32, w46)) else (F_X0_change_J16  a0 w))) else none
abbrev rm_X0_change : Room := { frames := 3, cells := 0, slots := 0, locals := 63 }
set_option maxHeartbeats 4000000 in
set_option maxRecDepth 100000 in
theorem ct_X0_change {l : Launch} {g : Gt} (G : Gok g) {a0 : Option Nat} {x1 : Int32} {x2 : Int32} {x3 : Int32} {w : cH} {r9 : Int32} {w9 : cH} (hF : F_X0_change a0 x1 x2 x3 w = some (r9, w9)) : tg w a0 = some 0 ∧ Mx l yX0_change (ws_ yX0_change cX0_change 5 (some .int)) rm_X0_change g [va_rf a0, .int x1, .int x2, .int x3] w (.returned (some (.int r9))) w9 0 0 := by
  unfold F_X0_change at hF
  obtain ⟨ht, hF⟩ := bg hF
  refine ⟨ht, mk_ct cX0_change 5 (some .int) "CarryFair" (plainFor_of_name (by decide)) rfl (lg_le ⟨cr _, rfl, rfl, rfl, trivial⟩ (Nat.le_of_ble_eq_true rfl)) (av_ok ⟨cr _, rfl, rfl, rfl, trivial⟩) G (fun x B hl hR hin hh => ?_)⟩
  show J g x _ _ 0 0 w 0 0 0 [some (va_rf a0), some (.int x1), some (.int x2), some (.int x3), none] []
  have jb16 : ∀ (a0 : Option Nat) (w : cH), F_X0_change_J16  a0 w = some (r9, w9) → J g x (.returned (some (.int r9))) w9 0 0 w 0 0 16 [some (va_rf a0), none, none, none, none] [] := by
    intro a0 w hF
    unfold F_X0_change_J16 at hF
    refine j_aload_n B dX0_change_16 rfl ?_
    refine j_iconst (v := 0) B dX0_change_17 (by decide) ?_
    obtain ⟨i18, w18, e18, hF⟩ := bc hF
    refine j_rV (st2 := [.int i18]) B [.int 0] [] cv_X0_142 dX0_change_18 hl hR (ct_X0_finding G e18) rfl rfl rfl rfl trivial (Nat.le_of_ble_eq_true rfl) ?_
    exact j_lIw B rfl dX0_change_21 hF (by decide) (by decide)
  refine j_aload_n B dX0_change_0 rfl ?_
  refine j_iload_n B dX0_change_1 rfl ?_
  obtain ⟨i2, e2, hF⟩ := bo hF
  refine j_rV (st2 := [.int i2]) B [.int x1] [] cv_X0_161 dX0_change_2 hl hR (ct_X0_isCarrier G e2) rfl rfl rfl rfl trivial (Nat.le_of_ble_eq_true rfl) ?_
  refine j_if_eq (tgt := 16) B dX0_change_5 (by decide) hF (fun h5 hF => ?_) (fun h5 hF => ?_)
  · refine j_msk [true, false, false, false, false] rfl ?_
    exact jb16 a0 w hF
  · refine j_iload_n B dX0_change_8 rfl ?_
    refine j_iload_n B dX0_change_9 rfl ?_
    refine j_rS (st2 := [.int (F_X0_isTold x2 x3)]) B [.int x2, .int x3] [] cs_X0_176 dX0_change_10 hl hR (ct_X0_isTold G) rfl rfl rfl rfl trivial (Nat.le_of_ble_eq_true rfl) ?_
    refine j_if_ne (tgt := 22) B dX0_change_13 (by decide) hF (fun h13 hF => ?_) (fun h13 hF => ?_)
    · refine j_aload_n B dX0_change_22 rfl ?_
      refine j_getA B fl_X0_61 dX0_change_23 hF (fun a23p hF => ?_)
      refine j_getA B fl_X0_113 dX0_change_26 hF (fun a26p hF => ?_)
      refine j_iload_n B dX0_change_29 rfl ?_
      refine j_aaload B 103 rfl rfl dX0_change_30 hF (fun a30p hF => ?_)
      refine j_iload_n B dX0_change_31 rfl ?_
      refine j_iaload B dX0_change_32 hF (fun i32 hF => ?_)
      refine j_istore (vs' := [some (va_rf a0), some (.int x1), some (.int x2), some (.int x3), some (.int i32)]) B dX0_change_33 (by decide) rfl ?_
      refine j_aload_n B dX0_change_35 rfl ?_
      refine j_getA B fl_X0_61 dX0_change_36 hF (fun a36p hF => ?_)
      refine j_getA B fl_X0_113 dX0_change_39 hF (fun a39p hF => ?_)
      refine j_iload_n B dX0_change_42 rfl ?_
      refine j_aaload B 103 rfl rfl dX0_change_43 hF (fun a43p hF => ?_)
      refine j_iload_n B dX0_change_44 rfl ?_
      refine j_iload_n B dX0_change_45 rfl ?_
      refine j_iastore B dX0_change_46 hF (fun w46 hF => ?_)
      refine j_iload B dX0_change_47 rfl ?_
      exact j_lIw B rfl dX0_change_49 hF (by decide) (by decide)
    · refine j_msk [true, false, false, false, false] rfl ?_
      exact jb16 a0 w hF
def F_X0_arePlaces (x0 : Int32) (x1 : Int32) : Int32 :=
  if (F_X0_isPlace x0) = 0 then (0) else (if (F_X0_isPlace x1) = 0 then (0) else (if x0 = x1 then (0) else (1)))
abbrev rm_X0_arePlaces : Room := { frames := 2, cells := 0, slots := 0, locals := 42 }
set_option maxHeartbeats 4000000 in
set_option maxRecDepth 100000 in
theorem ct_X0_arePlaces {l : Launch} {g : Gt} (G : Gok g) {x0 : Int32} {x1 : Int32} {w : cH} : Mx l yX0_arePlaces (ws_ yX0_arePlaces cX0_arePlaces 2 (some .boolean)) rm_X0_arePlaces g [.int x0, .int x1] w (.returned (some (.int (F_X0_arePlaces x0 x1)))) w 0 0 := by
  generalize hF : F_X0_arePlaces x0 x1 = r9
  unfold F_X0_arePlaces at hF
  refine mk_ct cX0_arePlaces 2 (some .boolean) "CarryFair" (plainFor_of_name (by decide)) rfl (lg_le ⟨rfl, rfl, trivial⟩ (Nat.le_of_ble_eq_true rfl)) (av_ok ⟨rfl, rfl, trivial⟩) G (fun x B hl hR hin hh => ?_)
  show J g x _ _ 0 0 w 0 0 0 [some (.int x0), some (.int x1)] []
  refine j_iload_n B dX0_arePlaces_0 rfl ?_
  refine j_rS (st2 := [.int (F_X0_isPlace x0)]) B [.int x0] [] cs_X0_7 dX0_arePlaces_1 hl hR (ct_X0_isPlace G) rfl rfl rfl rfl trivial (Nat.le_of_ble_eq_true rfl) ?_
  refine j_if_eq (tgt := 23) B dX0_arePlaces_4 (by decide) hF (fun h4 hF => ?_) (fun h4 hF => ?_)
  · refine j_iconst (v := 0) B dX0_arePlaces_23 (by decide) ?_
    exact j_lZp B (by decide) rfl dX0_arePlaces_24 hF (by decide) (by decide)
  · refine j_iload_n B dX0_arePlaces_7 rfl ?_
    refine j_rS (st2 := [.int (F_X0_isPlace x1)]) B [.int x1] [] cs_X0_7 dX0_arePlaces_8 hl hR (ct_X0_isPlace G) rfl rfl rfl rfl trivial (Nat.le_of_ble_eq_true rfl) ?_
    refine j_if_eq (tgt := 23) B dX0_arePlaces_11 (by decide) hF (fun h11 hF => ?_) (fun h11 hF => ?_)
    · refine j_iconst (v := 0) B dX0_arePlaces_23 (by decide) ?_
      exact j_lZp B (by decide) rfl dX0_arePlaces_24 hF (by decide) (by decide)
    · refine j_iload_n B dX0_arePlaces_14 rfl ?_
      refine j_iload_n B dX0_arePlaces_15 rfl ?_
      refine j_icmp_eq (tgt := 23) B dX0_arePlaces_16 (by decide) hF (fun h16 hF => ?_) (fun h16 hF => ?_)
      · refine j_iconst (v := 0) B dX0_arePlaces_23 (by decide) ?_
        exact j_lZp B (by decide) rfl dX0_arePlaces_24 hF (by decide) (by decide)
      · refine j_iconst (v := 1) B dX0_arePlaces_19 (by decide) ?_
        refine j_goto (tgt := 24) B dX0_arePlaces_20 (by decide) ?_
        exact j_lZp B (by decide) rfl dX0_arePlaces_24 hF (by decide) (by decide)
theorem fl_X0_183 : FL "CarryFair" 183 4 6 := ⟨RX4, TX4, 10, rfl, by decide, in_X4, Or.inr ⟨_, q272⟩⟩
theorem cv_X0_186 : CV "CarryFair" 186 4 yX4_lays cX4_lays 5 none 4 := ⟨_, _, rfl, lw_V q635 q636 q637 q133 q638, by decide +kernel⟩
theorem cs_X0_180 : CS "CarryFair" 180 yX0_arePlaces cX0_arePlaces 2 (some .boolean) 2 := ⟨Or.inl (lw_S q632 q633 q126 q634), by decide +kernel⟩
def F_X0_way_J28 (a0 : Option Nat) (w : cH) : Option (Int32 × cH) :=
  cb (F_X0_finding a0 0 w) fun i30 w30 => some (i30, w30)
def F_X0_way (a0 : Option Nat) (x1 : Int32) (x2 : Int32) (x3 : Int32) (x4 : Int32) (w : cH) : Option (Int32 × cH) :=
  if tg w a0 = some 0 then (if (F_X0_arePlaces x1 x2) = 0 then (F_X0_way_J28  a0 w) else (if (F_X0_in x3 0 99) = 0 then (F_X0_way_J28  a0 w) else (if ¬ (F_X0_in x4 0 1) = 0 then ((fA w a0 0 3).bind fun a35p => (fA w a35p 4 6).bind fun a38p => (aA w a38p 103 x1).bind fun a42p => (aI w a42p 100 x2).bind fun i44 => (fA w a0 0 3).bind fun a48p => (F_X4_lays a48p x1 x2 x3 x4 w).bind fun w56 => some (i44, w56)) else (F_X0_way_J28  a0 w)))) else none
abbrev rm_X0_way : Room := { frames := 3, cells := 0, slots := 0, locals := 63 }
set_option maxHeartbeats 4000000 in
set_option maxRecDepth 100000 in
theorem ct_X0_way {l : Launch} {g : Gt} (G : Gok g) {a0 : Option Nat} {x1 : Int32} {x2 : Int32} {x3 : Int32} {x4 : Int32} {w : cH} {r9 : Int32} {w9 : cH} (hF : F_X0_way a0 x1 x2 x3 x4 w = some (r9, w9)) : tg w a0 = some 0 ∧ Mx l yX0_way (ws_ yX0_way cX0_way 6 (some .int)) rm_X0_way g [va_rf a0, .int x1, .int x2, .int x3, .int x4] w (.returned (some (.int r9))) w9 0 0 := by
  unfold F_X0_way at hF
  obtain ⟨ht, hF⟩ := bg hF
  refine ⟨ht, mk_ct cX0_way 6 (some .int) "CarryFair" (plainFor_of_name (by decide)) rfl (lg_le ⟨cr _, rfl, rfl, rfl, rfl, trivial⟩ (Nat.le_of_ble_eq_true rfl)) (av_ok ⟨cr _, rfl, rfl, rfl, rfl, trivial⟩) G (fun x B hl hR hin hh => ?_)⟩
  show J g x _ _ 0 0 w 0 0 0 [some (va_rf a0), some (.int x1), some (.int x2), some (.int x3), some (.int x4), none] []
  have jb28 : ∀ (a0 : Option Nat) (w : cH), F_X0_way_J28  a0 w = some (r9, w9) → J g x (.returned (some (.int r9))) w9 0 0 w 0 0 28 [some (va_rf a0), none, none, none, none, none] [] := by
    intro a0 w hF
    unfold F_X0_way_J28 at hF
    refine j_aload_n B dX0_way_28 rfl ?_
    refine j_iconst (v := 0) B dX0_way_29 (by decide) ?_
    obtain ⟨i30, w30, e30, hF⟩ := bc hF
    refine j_rV (st2 := [.int i30]) B [.int 0] [] cv_X0_142 dX0_way_30 hl hR (ct_X0_finding G e30) rfl rfl rfl rfl trivial (Nat.le_of_ble_eq_true rfl) ?_
    exact j_lIw B rfl dX0_way_33 hF (by decide) (by decide)
  refine j_iload_n B dX0_way_0 rfl ?_
  refine j_iload_n B dX0_way_1 rfl ?_
  refine j_rS (st2 := [.int (F_X0_arePlaces x1 x2)]) B [.int x1, .int x2] [] cs_X0_180 dX0_way_2 hl hR (ct_X0_arePlaces G) rfl rfl rfl rfl trivial (Nat.le_of_ble_eq_true rfl) ?_
  refine j_if_eq (tgt := 28) B dX0_way_5 (by decide) hF (fun h5 hF => ?_) (fun h5 hF => ?_)
  · refine j_msk [true, false, false, false, false, false] rfl ?_
    exact jb28 a0 w hF
  · refine j_iload_n B dX0_way_8 rfl ?_
    refine j_iconst (v := 0) B dX0_way_9 (by decide) ?_
    refine j_bipush (v := 99) B dX0_way_10 (by decide) ?_
    refine j_rS (st2 := [.int (F_X0_in x3 0 99)]) B [.int x3, .int 0, .int 99] [] cs_X0_3 dX0_way_12 hl hR (ct_X0_in G) rfl rfl rfl rfl trivial (Nat.le_of_ble_eq_true rfl) ?_
    refine j_if_eq (tgt := 28) B dX0_way_15 (by decide) hF (fun h15 hF => ?_) (fun h15 hF => ?_)
    · refine j_msk [true, false, false, false, false, false] rfl ?_
      exact jb28 a0 w hF
    · refine j_iload B dX0_way_18 rfl ?_
      refine j_iconst (v := 0) B dX0_way_20 (by decide) ?_
      refine j_iconst (v := 1) B dX0_way_21 (by decide) ?_
      refine j_rS (st2 := [.int (F_X0_in x4 0 1)]) B [.int x4, .int 0, .int 1] [] cs_X0_3 dX0_way_22 hl hR (ct_X0_in G) rfl rfl rfl rfl trivial (Nat.le_of_ble_eq_true rfl) ?_
      refine j_if_ne (tgt := 34) B dX0_way_25 (by decide) hF (fun h25 hF => ?_) (fun h25 hF => ?_)
      · refine j_aload_n B dX0_way_34 rfl ?_
        refine j_getA B fl_X0_61 dX0_way_35 hF (fun a35p hF => ?_)
        refine j_getA B fl_X0_183 dX0_way_38 hF (fun a38p hF => ?_)
        refine j_iload_n B dX0_way_41 rfl ?_
        refine j_aaload B 103 rfl rfl dX0_way_42 hF (fun a42p hF => ?_)
        refine j_iload_n B dX0_way_43 rfl ?_
        refine j_iaload B dX0_way_44 hF (fun i44 hF => ?_)
        refine j_istore (vs' := [some (va_rf a0), some (.int x1), some (.int x2), some (.int x3), some (.int x4), some (.int i44)]) B dX0_way_45 (by decide) rfl ?_
        refine j_aload_n B dX0_way_47 rfl ?_
        refine j_getA B fl_X0_61 dX0_way_48 hF (fun a48p hF => ?_)
        refine j_iload_n B dX0_way_51 rfl ?_
        refine j_iload_n B dX0_way_52 rfl ?_
        refine j_iload_n B dX0_way_53 rfl ?_
        refine j_iload B dX0_way_54 rfl ?_
        obtain ⟨w56, e56, hF⟩ := bo hF
        refine j_rV (st2 := []) B [.int x1, .int x2, .int x3, .int x4] [] cv_X0_186 dX0_way_56 hl hR (ct_X4_lays G e56) rfl rfl rfl rfl trivial (Nat.le_of_ble_eq_true rfl) ?_
        refine j_iload B dX0_way_59 rfl ?_
        exact j_lIw B rfl dX0_way_61 hF (by decide) (by decide)
      · refine j_msk [true, false, false, false, false, false] rfl ?_
        exact jb28 a0 w hF
theorem fl_X0_190 : FL "CarryFair" 190 4 7 := ⟨RX4, TX4, 10, rfl, by decide, in_X4, Or.inr ⟨_, q274⟩⟩
def F_X0_wayOf_J17 (a0 : Option Nat) (w : cH) : Option (Int32 × cH) :=
  cb (F_X0_finding a0 0 w) fun i19 w19 => some (i19, w19)
def F_X0_wayOf (a0 : Option Nat) (x1 : Int32) (x2 : Int32) (x3 : Int32) (w : cH) : Option (Int32 × cH) :=
  if tg w a0 = some 0 then (if (F_X0_arePlaces x1 x2) = 0 then (F_X0_wayOf_J17  a0 w) else (if ¬ (F_X0_in x3 0 1) = 0 then (if ¬ x3 = 0 then ((fA w a0 0 3).bind fun a42p => (fA w a42p 4 7).bind fun a45p => (aA w a45p 103 x1).bind fun a49p => (aI w a49p 100 x2).bind fun i51 => some (i51, w)) else ((fA w a0 0 3).bind fun a28p => (fA w a28p 4 6).bind fun a31p => (aA w a31p 103 x1).bind fun a35p => (aI w a35p 100 x2).bind fun i37 => some (i37, w))) else (F_X0_wayOf_J17  a0 w))) else none
abbrev rm_X0_wayOf : Room := { frames := 3, cells := 0, slots := 0, locals := 63 }
set_option maxHeartbeats 4000000 in
set_option maxRecDepth 100000 in
theorem ct_X0_wayOf {l : Launch} {g : Gt} (G : Gok g) {a0 : Option Nat} {x1 : Int32} {x2 : Int32} {x3 : Int32} {w : cH} {r9 : Int32} {w9 : cH} (hF : F_X0_wayOf a0 x1 x2 x3 w = some (r9, w9)) : tg w a0 = some 0 ∧ Mx l yX0_wayOf (ws_ yX0_wayOf cX0_wayOf 4 (some .int)) rm_X0_wayOf g [va_rf a0, .int x1, .int x2, .int x3] w (.returned (some (.int r9))) w9 0 0 := by
  unfold F_X0_wayOf at hF
  obtain ⟨ht, hF⟩ := bg hF
  refine ⟨ht, mk_ct cX0_wayOf 4 (some .int) "CarryFair" (plainFor_of_name (by decide)) rfl (lg_le ⟨cr _, rfl, rfl, rfl, trivial⟩ (Nat.le_of_ble_eq_true rfl)) (av_ok ⟨cr _, rfl, rfl, rfl, trivial⟩) G (fun x B hl hR hin hh => ?_)⟩
  show J g x _ _ 0 0 w 0 0 0 [some (va_rf a0), some (.int x1), some (.int x2), some (.int x3)] []
  have jb17 : ∀ (a0 : Option Nat) (w : cH), F_X0_wayOf_J17  a0 w = some (r9, w9) → J g x (.returned (some (.int r9))) w9 0 0 w 0 0 17 [some (va_rf a0), none, none, none] [] := by
    intro a0 w hF
    unfold F_X0_wayOf_J17 at hF
    refine j_aload_n B dX0_wayOf_17 rfl ?_
    refine j_iconst (v := 0) B dX0_wayOf_18 (by decide) ?_
    obtain ⟨i19, w19, e19, hF⟩ := bc hF
    refine j_rV (st2 := [.int i19]) B [.int 0] [] cv_X0_142 dX0_wayOf_19 hl hR (ct_X0_finding G e19) rfl rfl rfl rfl trivial (Nat.le_of_ble_eq_true rfl) ?_
    exact j_lIw B rfl dX0_wayOf_22 hF (by decide) (by decide)
  refine j_iload_n B dX0_wayOf_0 rfl ?_
  refine j_iload_n B dX0_wayOf_1 rfl ?_
  refine j_rS (st2 := [.int (F_X0_arePlaces x1 x2)]) B [.int x1, .int x2] [] cs_X0_180 dX0_wayOf_2 hl hR (ct_X0_arePlaces G) rfl rfl rfl rfl trivial (Nat.le_of_ble_eq_true rfl) ?_
  refine j_if_eq (tgt := 17) B dX0_wayOf_5 (by decide) hF (fun h5 hF => ?_) (fun h5 hF => ?_)
  · refine j_msk [true, false, false, false] rfl ?_
    exact jb17 a0 w hF
  · refine j_iload_n B dX0_wayOf_8 rfl ?_
    refine j_iconst (v := 0) B dX0_wayOf_9 (by decide) ?_
    refine j_iconst (v := 1) B dX0_wayOf_10 (by decide) ?_
    refine j_rS (st2 := [.int (F_X0_in x3 0 1)]) B [.int x3, .int 0, .int 1] [] cs_X0_3 dX0_wayOf_11 hl hR (ct_X0_in G) rfl rfl rfl rfl trivial (Nat.le_of_ble_eq_true rfl) ?_
    refine j_if_ne (tgt := 23) B dX0_wayOf_14 (by decide) hF (fun h14 hF => ?_) (fun h14 hF => ?_)
    · refine j_iload_n B dX0_wayOf_23 rfl ?_
      refine j_if_ne (tgt := 41) B dX0_wayOf_24 (by decide) hF (fun h24 hF => ?_) (fun h24 hF => ?_)
      · refine j_aload_n B dX0_wayOf_41 rfl ?_
        refine j_getA B fl_X0_61 dX0_wayOf_42 hF (fun a42p hF => ?_)
        refine j_getA B fl_X0_190 dX0_wayOf_45 hF (fun a45p hF => ?_)
        refine j_iload_n B dX0_wayOf_48 rfl ?_
        refine j_aaload B 103 rfl rfl dX0_wayOf_49 hF (fun a49p hF => ?_)
        refine j_iload_n B dX0_wayOf_50 rfl ?_
        refine j_iaload B dX0_wayOf_51 hF (fun i51 hF => ?_)
        exact j_lIw B rfl dX0_wayOf_52 hF (by decide) (by decide)
      · refine j_aload_n B dX0_wayOf_27 rfl ?_
        refine j_getA B fl_X0_61 dX0_wayOf_28 hF (fun a28p hF => ?_)
        refine j_getA B fl_X0_183 dX0_wayOf_31 hF (fun a31p hF => ?_)
        refine j_iload_n B dX0_wayOf_34 rfl ?_
        refine j_aaload B 103 rfl rfl dX0_wayOf_35 hF (fun a35p hF => ?_)
        refine j_iload_n B dX0_wayOf_36 rfl ?_
        refine j_iaload B dX0_wayOf_37 hF (fun i37 hF => ?_)
        refine j_goto (tgt := 52) B dX0_wayOf_38 (by decide) ?_
        exact j_lIw B rfl dX0_wayOf_52 hF (by decide) (by decide)
    · refine j_msk [true, false, false, false] rfl ?_
      exact jb17 a0 w hF
theorem fl_X0_127 : FL "CarryFair" 127 4 2 := ⟨RX4, TX4, 10, rfl, by decide, in_X4, Or.inr ⟨_, q262⟩⟩
theorem cv_X0_193 : CV "CarryFair" 193 4 yX4_addErrand cX4_addErrand 4 none 3 := ⟨_, _, rfl, lw_V q647 q648 q649 q133 q650, by decide +kernel⟩
def F_X0_errand_J18 (a0 : Option Nat) (w : cH) : Option (Int32 × cH) :=
  cb (F_X0_finding a0 0 w) fun i20 w20 => some (i20, w20)
def F_X0_errand (a0 : Option Nat) (x1 : Int32) (x2 : Int32) (x3 : Int32) (w : cH) : Option (Int32 × cH) :=
  if tg w a0 = some 0 then (if (F_X0_in x1 1 60) = 0 then (F_X0_errand_J18  a0 w) else (if ¬ (F_X0_arePlaces x2 x3) = 0 then ((fA w a0 0 3).bind fun a25p => (fI w a25p 4 2).bind fun i28 =>if ¬ i28 = 8 then ((fA w a0 0 3).bind fun a43p => (F_X4_addErrand a43p x1 x2 x3 w).bind fun w49 => (fA w49 a0 0 3).bind fun a53p => (fI w49 a53p 4 2).bind fun i56 => some (i56 - 1, w49)) else (cb (F_X0_finding a0 1 w) fun i38 w38 => some (i38, w38))) else (F_X0_errand_J18  a0 w))) else none
abbrev rm_X0_errand : Room := { frames := 3, cells := 0, slots := 0, locals := 63 }
set_option maxHeartbeats 4000000 in
set_option maxRecDepth 100000 in
theorem ct_X0_errand {l : Launch} {g : Gt} (G : Gok g) {a0 : Option Nat} {x1 : Int32} {x2 : Int32} {x3 : Int32} {w : cH} {r9 : Int32} {w9 : cH} (hF : F_X0_errand a0 x1 x2 x3 w = some (r9, w9)) : tg w a0 = some 0 ∧ Mx l yX0_errand (ws_ yX0_errand cX0_errand 4 (some .int)) rm_X0_errand g [va_rf a0, .int x1, .int x2, .int x3] w (.returned (some (.int r9))) w9 0 0 := by
  unfold F_X0_errand at hF
  obtain ⟨ht, hF⟩ := bg hF
  refine ⟨ht, mk_ct cX0_errand 4 (some .int) "CarryFair" (plainFor_of_name (by decide)) rfl (lg_le ⟨cr _, rfl, rfl, rfl, trivial⟩ (Nat.le_of_ble_eq_true rfl)) (av_ok ⟨cr _, rfl, rfl, rfl, trivial⟩) G (fun x B hl hR hin hh => ?_)⟩
  show J g x _ _ 0 0 w 0 0 0 [some (va_rf a0), some (.int x1), some (.int x2), some (.int x3)] []
  have jb18 : ∀ (a0 : Option Nat) (w : cH), F_X0_errand_J18  a0 w = some (r9, w9) → J g x (.returned (some (.int r9))) w9 0 0 w 0 0 18 [some (va_rf a0), none, none, none] [] := by
    intro a0 w hF
    unfold F_X0_errand_J18 at hF
    refine j_aload_n B dX0_errand_18 rfl ?_
    refine j_iconst (v := 0) B dX0_errand_19 (by decide) ?_
    obtain ⟨i20, w20, e20, hF⟩ := bc hF
    refine j_rV (st2 := [.int i20]) B [.int 0] [] cv_X0_142 dX0_errand_20 hl hR (ct_X0_finding G e20) rfl rfl rfl rfl trivial (Nat.le_of_ble_eq_true rfl) ?_
    exact j_lIw B rfl dX0_errand_23 hF (by decide) (by decide)
  refine j_iload_n B dX0_errand_0 rfl ?_
  refine j_iconst (v := 1) B dX0_errand_1 (by decide) ?_
  refine j_bipush (v := 60) B dX0_errand_2 (by decide) ?_
  refine j_rS (st2 := [.int (F_X0_in x1 1 60)]) B [.int x1, .int 1, .int 60] [] cs_X0_3 dX0_errand_4 hl hR (ct_X0_in G) rfl rfl rfl rfl trivial (Nat.le_of_ble_eq_true rfl) ?_
  refine j_if_eq (tgt := 18) B dX0_errand_7 (by decide) hF (fun h7 hF => ?_) (fun h7 hF => ?_)
  · refine j_msk [true, false, false, false] rfl ?_
    exact jb18 a0 w hF
  · refine j_iload_n B dX0_errand_10 rfl ?_
    refine j_iload_n B dX0_errand_11 rfl ?_
    refine j_rS (st2 := [.int (F_X0_arePlaces x2 x3)]) B [.int x2, .int x3] [] cs_X0_180 dX0_errand_12 hl hR (ct_X0_arePlaces G) rfl rfl rfl rfl trivial (Nat.le_of_ble_eq_true rfl) ?_
    refine j_if_ne (tgt := 24) B dX0_errand_15 (by decide) hF (fun h15 hF => ?_) (fun h15 hF => ?_)
    · refine j_aload_n B dX0_errand_24 rfl ?_
      refine j_getA B fl_X0_61 dX0_errand_25 hF (fun a25p hF => ?_)
      refine j_getI B fl_X0_127 dX0_errand_28 hF (fun i28 hF => ?_)
      refine j_bipush (v := 8) B dX0_errand_31 (by decide) ?_
      refine j_icmp_ne (tgt := 42) B dX0_errand_33 (by decide) hF (fun h33 hF => ?_) (fun h33 hF => ?_)
      · refine j_aload_n B dX0_errand_42 rfl ?_
        refine j_getA B fl_X0_61 dX0_errand_43 hF (fun a43p hF => ?_)
        refine j_iload_n B dX0_errand_46 rfl ?_
        refine j_iload_n B dX0_errand_47 rfl ?_
        refine j_iload_n B dX0_errand_48 rfl ?_
        obtain ⟨w49, e49, hF⟩ := bo hF
        refine j_rV (st2 := []) B [.int x1, .int x2, .int x3] [] cv_X0_193 dX0_errand_49 hl hR (ct_X4_addErrand G e49) rfl rfl rfl rfl trivial (Nat.le_of_ble_eq_true rfl) ?_
        refine j_aload_n B dX0_errand_52 rfl ?_
        refine j_getA B fl_X0_61 dX0_errand_53 hF (fun a53p hF => ?_)
        refine j_getI B fl_X0_127 dX0_errand_56 hF (fun i56 hF => ?_)
        refine j_iconst (v := 1) B dX0_errand_59 (by decide) ?_
        refine j_isub B dX0_errand_60 ?_
        exact j_lIw B rfl dX0_errand_61 hF (by decide) (by decide)
      · refine j_aload_n B dX0_errand_36 rfl ?_
        refine j_iconst (v := 1) B dX0_errand_37 (by decide) ?_
        obtain ⟨i38, w38, e38, hF⟩ := bc hF
        refine j_rV (st2 := [.int i38]) B [.int 1] [] cv_X0_142 dX0_errand_38 hl hR (ct_X0_finding G e38) rfl rfl rfl rfl trivial (Nat.le_of_ble_eq_true rfl) ?_
        exact j_lIw B rfl dX0_errand_41 hF (by decide) (by decide)
    · refine j_msk [true, false, false, false] rfl ?_
      exact jb18 a0 w hF
def F_X0_isErrand (a0 : Option Nat) (x1 : Int32) (w : cH) : Option Int32 :=
  if tg w a0 = some 0 then ((fA w a0 0 3).bind fun a3p => (fI w a3p 4 2).bind fun i6 => some ((F_X0_in x1 0 (i6 - 1)) &&& 1)) else none
abbrev rm_X0_isErrand : Room := { frames := 1, cells := 0, slots := 0, locals := 22 }
set_option maxHeartbeats 4000000 in
set_option maxRecDepth 100000 in
theorem ct_X0_isErrand {l : Launch} {g : Gt} (G : Gok g) {a0 : Option Nat} {x1 : Int32} {w : cH} {r9 : Int32} (hF : F_X0_isErrand a0 x1 w = some r9) : tg w a0 = some 0 ∧ Mx l yX0_isErrand (ws_ yX0_isErrand cX0_isErrand 2 (some .boolean)) rm_X0_isErrand g [va_rf a0, .int x1] w (.returned (some (.int r9))) w 0 0 := by
  unfold F_X0_isErrand at hF
  obtain ⟨ht, hF⟩ := bg hF
  refine ⟨ht, mk_ct cX0_isErrand 2 (some .boolean) "CarryFair" (plainFor_of_name (by decide)) rfl (lg_le ⟨cr _, rfl, trivial⟩ (Nat.le_of_ble_eq_true rfl)) (av_ok ⟨cr _, rfl, trivial⟩) G (fun x B hl hR hin hh => ?_)⟩
  show J g x _ _ 0 0 w 0 0 0 [some (va_rf a0), some (.int x1)] []
  refine j_iload_n B dX0_isErrand_0 rfl ?_
  refine j_iconst (v := 0) B dX0_isErrand_1 (by decide) ?_
  refine j_aload_n B dX0_isErrand_2 rfl ?_
  refine j_getA B fl_X0_61 dX0_isErrand_3 hF (fun a3p hF => ?_)
  refine j_getI B fl_X0_127 dX0_isErrand_6 hF (fun i6 hF => ?_)
  refine j_iconst (v := 1) B dX0_isErrand_9 (by decide) ?_
  refine j_isub B dX0_isErrand_10 ?_
  refine j_rS (st2 := [.int (F_X0_in x1 0 (i6 - 1))]) B [.int x1, .int 0, .int (i6 - 1)] [] cs_X0_3 dX0_isErrand_11 hl hR (ct_X0_in G) rfl rfl rfl rfl trivial (Nat.le_of_ble_eq_true rfl) ?_
  exact j_lB B rfl dX0_isErrand_14 hF (by decide) (by decide)
