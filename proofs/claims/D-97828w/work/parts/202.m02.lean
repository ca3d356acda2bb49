def F_X6_counts (a0 : Option Nat) (x1 : Int32) (x2 : Int32) (w : cH) : Option Int32 :=
  if tgi w a0 [6, 7, 8, 9, 10, 11, 12] = true then (if x2 = 0 then (some (x1)) else (some (2 * x1))) else none
abbrev rm_X6_counts : Room := { frames := 0, cells := 0, slots := 0, locals := 0 }
set_option maxHeartbeats 4000000 in
set_option maxRecDepth 100000 in
theorem ct_X6_counts {l : Launch} {g : Gt} (G : Gok g) {a0 : Option Nat} {x1 : Int32} {x2 : Int32} {w : cH} {r9 : Int32} (hF : F_X6_counts a0 x1 x2 w = some r9) : tgi w a0 [6, 7, 8, 9, 10, 11, 12] = true ∧ Mx l yX6_counts (ws_ yX6_counts cX6_counts 3 (some .int)) rm_X6_counts g [va_rf a0, .int x1, .int x2] w (.returned (some (.int r9))) w 0 0 := by
  unfold F_X6_counts at hF
  obtain ⟨ht, hF⟩ := bg hF
  refine ⟨ht, mk_ct cX6_counts 3 (some .int) "CarryFair$Carrier" (plainFor_of_name (by decide)) rfl (lg_le ⟨cr _, rfl, rfl, trivial⟩ (Nat.le_of_ble_eq_true rfl)) (av_ok ⟨cr _, rfl, rfl, trivial⟩) G (fun x B hl hR hin hh => ?_)⟩
  show J g x _ _ 0 0 w 0 0 0 [some (va_rf a0), some (.int x1), some (.int x2)] []
  obtain ⟨t9, ht9, hm9⟩ := tgi_some ht
  have hc9 : clsTag t9 := by
    simp only [List.mem_cons, List.not_mem_nil, or_false] at hm9
    exact clsTag_of (by omega)
  refine j_iload_n B dX6_counts_0 rfl ?_
  refine j_if_eq (tgt := 10) B dX6_counts_1 (by decide) hF (fun h1 hF => ?_) (fun h1 hF => ?_)
  · refine j_iload_n B dX6_counts_10 rfl ?_
    exact j_lI B rfl dX6_counts_11 hF (by decide) (by decide)
  · refine j_iconst (v := 2) B dX6_counts_4 (by decide) ?_
    refine j_iload_n B dX6_counts_5 rfl ?_
    refine j_imul B dX6_counts_6 ?_
    refine j_goto (tgt := 11) B dX6_counts_7 (by decide) ?_
    exact j_lI B rfl dX6_counts_11 hF (by decide) (by decide)
def F_X11_counts (a0 : Option Nat) (x1 : Int32) (x2 : Int32) (w : cH) : Option Int32 :=
  if tgi w a0 [11, 12] = true then (some (x1)) else none
abbrev rm_X11_counts : Room := { frames := 0, cells := 0, slots := 0, locals := 0 }
set_option maxHeartbeats 4000000 in
set_option maxRecDepth 100000 in
theorem ct_X11_counts {l : Launch} {g : Gt} (G : Gok g) {a0 : Option Nat} {x1 : Int32} {x2 : Int32} {w : cH} {r9 : Int32} (hF : F_X11_counts a0 x1 x2 w = some r9) : tgi w a0 [11, 12] = true ∧ Mx l yX11_counts (ws_ yX11_counts cX11_counts 3 (some .int)) rm_X11_counts g [va_rf a0, .int x1, .int x2] w (.returned (some (.int r9))) w 0 0 := by
  unfold F_X11_counts at hF
  obtain ⟨ht, hF⟩ := bg hF
  refine ⟨ht, mk_ct cX11_counts 3 (some .int) "CarryFair$Watery" (plainFor_of_name (by decide)) rfl (lg_le ⟨cr _, rfl, rfl, trivial⟩ (Nat.le_of_ble_eq_true rfl)) (av_ok ⟨cr _, rfl, rfl, trivial⟩) G (fun x B hl hR hin hh => ?_)⟩
  show J g x _ _ 0 0 w 0 0 0 [some (va_rf a0), some (.int x1), some (.int x2)] []
  obtain ⟨t9, ht9, hm9⟩ := tgi_some ht
  have hc9 : clsTag t9 := by
    simp only [List.mem_cons, List.not_mem_nil, or_false] at hm9
    exact clsTag_of (by omega)
  refine j_iload_n B dX11_counts_0 rfl ?_
  exact j_lI B rfl dX11_counts_1 hF (by decide) (by decide)
def F_J3_max (x0 : Int32) (x1 : Int32) : Int32 :=
  if x0 < x1 then (x1) else (x0)
abbrev rm_J3_max : Room := { frames := 0, cells := 0, slots := 0, locals := 0 }
set_option maxHeartbeats 4000000 in
set_option maxRecDepth 100000 in
theorem ct_J3_max {l : Launch} {g : Gt} (G : Gok g) {x0 : Int32} {x1 : Int32} {w : cH} : Mx l yJ3_max (ws_ yJ3_max cJ3_max 2 (some .int)) rm_J3_max g [.int x0, .int x1] w (.returned (some (.int (F_J3_max x0 x1)))) w 0 0 := by
  generalize hF : F_J3_max x0 x1 = r9
  unfold F_J3_max at hF
  refine mk_ct cJ3_max 2 (some .int) "java/lang/Math" (by decide +kernel) rfl (lg_le ⟨rfl, rfl, trivial⟩ (Nat.le_of_ble_eq_true rfl)) (av_ok ⟨rfl, rfl, trivial⟩) G (fun x B hl hR hin hh => ?_)
  show J g x _ _ 0 0 w 0 0 0 [some (.int x0), some (.int x1)] []
  refine j_iload_n B dJ3_max_0 rfl ?_
  refine j_iload_n B dJ3_max_1 rfl ?_
  refine j_icmp_lt (tgt := 9) B dJ3_max_2 (by decide) hF (fun h2 hF => ?_) (fun h2 hF => ?_)
  · refine j_iload_n B dJ3_max_9 rfl ?_
    exact j_lIp B rfl dJ3_max_10 hF (by decide) (by decide)
  · refine j_iload_n B dJ3_max_5 rfl ?_
    refine j_goto (tgt := 10) B dJ3_max_6 (by decide) ?_
    exact j_lIp B rfl dJ3_max_10 hF (by decide) (by decide)
theorem csu_X12_17 : CSU "CarryFair$Boated" 17 ⟨"CarryFair$Watery", "counts", "(IZ)I"⟩ yX11_counts cX11_counts 3 (some .int) 2 := ⟨q681, q1918, q431, Or.inl rfl, q682, q140, q683, rfl, by decide, by decide +kernel⟩
theorem cs_X12_25 : CS "CarryFair$Boated" 25 yJ3_max cJ3_max 2 (some .int) 2 := ⟨Or.inl (lw_S q685 q686 q143 q687), by decide +kernel⟩
def F_X12_counts (a0 : Option Nat) (x1 : Int32) (x2 : Int32) (w : cH) : Option Int32 :=
  if tgi w a0 [12] = true then ((F_X11_counts a0 x1 x2 w).bind fun i3 =>if x2 = 0 then (some (i3)) else (some (F_J3_max 1 (i3 / 2)))) else none
abbrev rm_X12_counts : Room := { frames := 1, cells := 0, slots := 0, locals := 22 }
set_option maxHeartbeats 4000000 in
set_option maxRecDepth 100000 in
theorem ct_X12_counts {l : Launch} {g : Gt} (G : Gok g) {a0 : Option Nat} {x1 : Int32} {x2 : Int32} {w : cH} {r9 : Int32} (hF : F_X12_counts a0 x1 x2 w = some r9) : tgi w a0 [12] = true ∧ Mx l yX12_counts (ws_ yX12_counts cX12_counts 4 (some .int)) rm_X12_counts g [va_rf a0, .int x1, .int x2] w (.returned (some (.int r9))) w 0 0 := by
  unfold F_X12_counts at hF
  obtain ⟨ht, hF⟩ := bg hF
  refine ⟨ht, mk_ct cX12_counts 4 (some .int) "CarryFair$Boated" (plainFor_of_name (by decide)) rfl (lg_le ⟨cr _, rfl, rfl, trivial⟩ (Nat.le_of_ble_eq_true rfl)) (av_ok ⟨cr _, rfl, rfl, trivial⟩) G (fun x B hl hR hin hh => ?_)⟩
  show J g x _ _ 0 0 w 0 0 0 [some (va_rf a0), some (.int x1), some (.int x2), none] []
  obtain ⟨t9, ht9, hm9⟩ := tgi_some ht
  have hc9 : clsTag t9 := by
    simp only [List.mem_cons, List.not_mem_nil, or_false] at hm9
    exact clsTag_of (by omega)
  refine j_aload_n B dX12_counts_0 rfl ?_
  refine j_iload_n B dX12_counts_1 rfl ?_
  refine j_iload_n B dX12_counts_2 rfl ?_
  obtain ⟨i3, e3, hF⟩ := bo hF
  refine j_rSU (st2 := [.int i3]) B [.int x1, .int x2] [] csu_X12_17 ht9 hc9 dX12_counts_3 hl hR (ct_X11_counts G e3).2 rfl rfl rfl rfl trivial (Nat.le_of_ble_eq_true rfl) ?_
  refine j_istore_n (vs' := [some (va_rf a0), some (.int x1), some (.int x2), some (.int i3)]) B dX12_counts_6 (by decide) rfl ?_
  refine j_iload_n B dX12_counts_7 rfl ?_
  refine j_if_eq (tgt := 23) B dX12_counts_8 (by decide) hF (fun h8 hF => ?_) (fun h8 hF => ?_)
  · refine j_iload_n B dX12_counts_23 rfl ?_
    exact j_lI B rfl dX12_counts_24 hF (by decide) (by decide)
  · refine j_iconst (v := 1) B dX12_counts_11 (by decide) ?_
    refine j_aload_n B dX12_counts_12 rfl ?_
    refine j_iload_n B dX12_counts_13 rfl ?_
    refine j_half_X12 B [.int 1] ht9 hm9 dX12_counts_14 hR rfl ⟨rfl, trivial⟩ (Nat.le_of_ble_eq_true rfl) ?_
    refine j_rS (st2 := [.int (F_J3_max 1 (i3 / 2))]) B [.int 1, .int (i3 / 2)] [] cs_X12_25 dX12_counts_17 hl hR (ct_J3_max G) rfl rfl rfl rfl trivial (Nat.le_of_ble_eq_true rfl) ?_
    refine j_goto (tgt := 24) B dX12_counts_20 (by decide) ?_
    exact j_lI B rfl dX12_counts_24 hF (by decide) (by decide)
def V_counts (a0 : Option Nat) (x1 : Int32) (x2 : Int32) (w : cH) : Option Int32 := if tgi w a0 [6] = true then F_X6_counts a0 x1 x2 w else if tgi w a0 [7] = true then F_X6_counts a0 x1 x2 w else if tgi w a0 [8] = true then F_X6_counts a0 x1 x2 w else if tgi w a0 [9] = true then F_X6_counts a0 x1 x2 w else if tgi w a0 [10] = true then F_X6_counts a0 x1 x2 w else if tgi w a0 [11] = true then F_X11_counts a0 x1 x2 w else if tgi w a0 [12] = true then F_X12_counts a0 x1 x2 w else none
theorem cu_X0_197_6 : CUF "CarryFair" 197 6 ⟨"CarryFair$Carries", "counts", "(IZ)I"⟩ yX6_counts cX6_counts 3 (some .int) 2 := by
  refine ⟨lw_app ?_ (lw_meth q692), clsTag_of (by decide), q675, q674, q691, q689, q574, by decide +kernel⟩
  intro w hw
  simp only [List.mem_cons, List.not_mem_nil, or_false] at hw
  rcases hw with e | e | e | e
  · rw [e]; exact q673
  · rw [e]; exact q688
  · rw [e]; exact q690
  · rw [e]; exact q135
theorem cu_X0_197_7 : CUF "CarryFair" 197 7 ⟨"CarryFair$Carries", "counts", "(IZ)I"⟩ yX6_counts cX6_counts 3 (some .int) 2 := by
  refine ⟨lw_app ?_ (lw_meth q692), clsTag_of (by decide), q675, q674, q691, q698, q597, by decide +kernel⟩
  intro w hw
  simp only [List.mem_cons, List.not_mem_nil, or_false] at hw
  rcases hw with e | e | e | e
  · rw [e]; exact q673
  · rw [e]; exact q697
  · rw [e]; exact q690
  · rw [e]; exact q135
theorem cu_X0_197_8 : CUF "CarryFair" 197 8 ⟨"CarryFair$Carries", "counts", "(IZ)I"⟩ yX6_counts cX6_counts 3 (some .int) 2 := by
  refine ⟨lw_app ?_ (lw_meth q692), clsTag_of (by decide), q675, q674, q691, q700, q600, by decide +kernel⟩
  intro w hw
  simp only [List.mem_cons, List.not_mem_nil, or_false] at hw
  rcases hw with e | e | e | e
  · rw [e]; exact q673
  · rw [e]; exact q699
  · rw [e]; exact q690
  · rw [e]; exact q135
theorem cu_X0_197_9 : CUF "CarryFair" 197 9 ⟨"CarryFair$Carries", "counts", "(IZ)I"⟩ yX6_counts cX6_counts 3 (some .int) 2 := by
  refine ⟨lw_app ?_ (lw_meth q692), clsTag_of (by decide), q675, q674, q691, q694, q577, by decide +kernel⟩
  intro w hw
  simp only [List.mem_cons, List.not_mem_nil, or_false] at hw
  rcases hw with e | e | e | e
  · rw [e]; exact q673
  · rw [e]; exact q693
  · rw [e]; exact q690
  · rw [e]; exact q135
theorem cu_X0_197_10 : CUF "CarryFair" 197 10 ⟨"CarryFair$Carries", "counts", "(IZ)I"⟩ yX6_counts cX6_counts 3 (some .int) 2 := by
  refine ⟨lw_app ?_ (lw_meth q692), clsTag_of (by decide), q675, q674, q691, q696, q590, by decide +kernel⟩
  intro w hw
  simp only [List.mem_cons, List.not_mem_nil, or_false] at hw
  rcases hw with e | e | e | e
  · rw [e]; exact q673
  · rw [e]; exact q695
  · rw [e]; exact q690
  · rw [e]; exact q135
theorem cu_X0_197_11 : CUF "CarryFair" 197 11 ⟨"CarryFair$Carries", "counts", "(IZ)I"⟩ yX11_counts cX11_counts 3 (some .int) 2 := by
  refine ⟨lw_app ?_ (lw_meth q683), clsTag_of (by decide), q675, q674, q703, q702, q603, by decide +kernel⟩
  intro w hw
  simp only [List.mem_cons, List.not_mem_nil, or_false] at hw
  rcases hw with e | e | e | e
  · rw [e]; exact q673
  · rw [e]; exact q701
  · rw [e]; exact q682
  · rw [e]; exact q140
theorem cu_X0_197_12 : CUF "CarryFair" 197 12 ⟨"CarryFair$Carries", "counts", "(IZ)I"⟩ yX12_counts cX12_counts 4 (some .int) 2 := by
  refine ⟨lw_app ?_ (lw_meth q680), clsTag_of (by decide), q675, q674, q679, q677, q568, by decide +kernel⟩
  intro w hw
  simp only [List.mem_cons, List.not_mem_nil, or_false] at hw
  rcases hw with e | e | e | e
  · rw [e]; exact q673
  · rw [e]; exact q676
  · rw [e]; exact q678
  · rw [e]; exact q141
set_option maxHeartbeats 1000000 in
theorem vd_X0_197 {g : Gt} {x : Xt} {o : Outcome} {w1 : cH} {mc ms : Nat} {w : cH} {k n pc cnt : Nat} {vs : List (Option Value)} {cc : ByteArray} {nL : Nat} {ret : Option FieldType} (B : Bd g x cc nL "CarryFair" ret) (G : Gok g) {a0 : Option Nat} {x1 x2 : Int32} {i9 : Int32} {l : Launch} {R : Room} (rest : List Value) (e : V_counts a0 x1 x2 w = some i9) (d : decode cc pc = .ok (.invokeinterface 197 cnt, 5)) (hl : x.2.1 = l) (hR : x.2.2.2.1 = R) (hr0 : rmOk rm_X6_counts R 3 k n 0 0 = true) (hr1 : rmOk rm_X11_counts R 3 k n 0 0 = true) (hr2 : rmOk rm_X12_counts R 4 k n 0 0 = true) (hc1 : cat1 rest) (hc8 : rest.length ≤ 8) (kk : J g x o w1 mc ms w k n (pc + 5) vs (.int i9 :: rest)) : J g x o w1 mc ms w k n pc vs (.int x2 :: .int x1 :: va_rf a0 :: rest) := by
  unfold V_counts at e
  by_cases h : tgi w a0 [6] = true
  · rw [if_pos h] at e
    exact j_rF (st2 := .int i9 :: rest) B [.int x1, .int x2] rest cu_X0_197_6 (tgi_one h) d hl hR (ct_X6_counts G e).2 hr0 rfl rfl rfl hc1 hc8 kk
  rw [if_neg h] at e
  clear h
  by_cases h : tgi w a0 [7] = true
  · rw [if_pos h] at e
    exact j_rF (st2 := .int i9 :: rest) B [.int x1, .int x2] rest cu_X0_197_7 (tgi_one h) d hl hR (ct_X6_counts G e).2 hr0 rfl rfl rfl hc1 hc8 kk
  rw [if_neg h] at e
  clear h
  by_cases h : tgi w a0 [8] = true
  · rw [if_pos h] at e
    exact j_rF (st2 := .int i9 :: rest) B [.int x1, .int x2] rest cu_X0_197_8 (tgi_one h) d hl hR (ct_X6_counts G e).2 hr0 rfl rfl rfl hc1 hc8 kk
  rw [if_neg h] at e
  clear h
  by_cases h : tgi w a0 [9] = true
  · rw [if_pos h] at e
    exact j_rF (st2 := .int i9 :: rest) B [.int x1, .int x2] rest cu_X0_197_9 (tgi_one h) d hl hR (ct_X6_counts G e).2 hr0 rfl rfl rfl hc1 hc8 kk
  rw [if_neg h] at e
  clear h
  by_cases h : tgi w a0 [10] = true
  · rw [if_pos h] at e
    exact j_rF (st2 := .int i9 :: rest) B [.int x1, .int x2] rest cu_X0_197_10 (tgi_one h) d hl hR (ct_X6_counts G e).2 hr0 rfl rfl rfl hc1 hc8 kk
  rw [if_neg h] at e
  clear h
  by_cases h : tgi w a0 [11] = true
  · rw [if_pos h] at e
    exact j_rF (st2 := .int i9 :: rest) B [.int x1, .int x2] rest cu_X0_197_11 (tgi_one h) d hl hR (ct_X11_counts G e).2 hr1 rfl rfl rfl hc1 hc8 kk
  rw [if_neg h] at e
  clear h
  by_cases h : tgi w a0 [12] = true
  · rw [if_pos h] at e
    exact j_rF (st2 := .int i9 :: rest) B [.int x1, .int x2] rest cu_X0_197_12 (tgi_one h) d hl hR (ct_X12_counts G e).2 hr2 rfl rfl rfl hc1 hc8 kk
  rw [if_neg h] at e
  clear h
  cases e
def F_X0_begins_J96 (rc2 : (Option Nat) → (Option Nat) → (Option Nat) → Int32 → cH → Option cH) (rc11 : (Option Nat) → (Option Nat) → (Option Nat) → Int32 → Int32 → cH → Option cH) (a0 : Option Nat) (a1 : Option Nat) (a2 : Option Nat) (x3 : Int32) (x4 : Int32) (s0 : Int32) (s1 : Int32) (s2 : Option Nat) (w : cH) : Option cH :=
  (aS w s2 100 s1 (.int s0)).bind fun w96 => rc11 a0 a1 a2 x3 (x4 + 1) w96
def F_X0_begins_J77 (rc2 : (Option Nat) → (Option Nat) → (Option Nat) → Int32 → cH → Option cH) (rc11 : (Option Nat) → (Option Nat) → (Option Nat) → Int32 → Int32 → cH → Option cH) (a0 : Option Nat) (a1 : Option Nat) (a2 : Option Nat) (x3 : Int32) (x4 : Int32) (s0 : Int32) (w : cH) : Option cH :=
  (aA w a2 103 x3).bind fun a81p =>if ¬ x3 = x4 then (F_X0_begins_J96  rc2 rc11 a0 a1 a2 x3 x4 s0 x4 a81p w) else (F_X0_begins_J96  rc2 rc11 a0 a1 a2 x3 x4 0 x4 a81p w)
def F_X0_begins_J72 (rc2 : (Option Nat) → (Option Nat) → (Option Nat) → Int32 → cH → Option cH) (rc11 : (Option Nat) → (Option Nat) → (Option Nat) → Int32 → Int32 → cH → Option cH) (a0 : Option Nat) (a1 : Option Nat) (a2 : Option Nat) (x3 : Int32) (x4 : Int32) (s0 : Int32) (s1 : Int32) (s2 : Option Nat) (w : cH) : Option cH :=
  (V_counts s2 s1 s0 w).bind fun i72 => F_X0_begins_J77  rc2 rc11 a0 a1 a2 x3 x4 i72 w
def F_X0_begins_B11 (rc2 : (Option Nat) → (Option Nat) → (Option Nat) → Int32 → cH → Option cH) (rc11 : Option Nat → Option Nat → Option Nat → Int32 → Int32 → cH → Option cH) (a0 : Option Nat) (a1 : Option Nat) (a2 : Option Nat) (x3 : Int32) (x4 : Int32) (w : cH) : Option cH :=
  if 7 ≤ x4 then (rc2 a0 a1 a2 (x3 + 1) w) else ((fA w a0 0 3).bind fun a19p => (fA w a19p 4 6).bind fun a22p => (aA w a22p 103 x3).bind fun a26p => (aI w a26p 100 x4).bind fun i29 =>if ¬ i29 = 0 then ((fA w a0 0 3).bind fun a40p => (fA w a40p 4 6).bind fun a43p => (aA w a43p 103 x3).bind fun a47p => (aI w a47p 100 x4).bind fun i50 => (fA w a0 0 3).bind fun a52p => (fA w a52p 4 7).bind fun a55p => (aA w a55p 103 x3).bind fun a59p => (aI w a59p 100 x4).bind fun i62 =>if ¬ i62 = 1 then (F_X0_begins_J72  rc2 rc11 a0 a1 a2 x3 x4 0 i50 a1 w) else (F_X0_begins_J72  rc2 rc11 a0 a1 a2 x3 x4 1 i50 a1 w)) else (F_X0_begins_J77  rc2 rc11 a0 a1 a2 x3 x4 1000000 w))
def F_X0_begins_L11 (rc2 : (Option Nat) → (Option Nat) → (Option Nat) → Int32 → cH → Option cH) : Nat → Option Nat → Option Nat → Option Nat → Int32 → Int32 → cH → Option cH
  | 0, _, _, _, _, _, _ => none
  | n9 + 1, a0, a1, a2, x3, x4, w => F_X0_begins_B11  rc2 (F_X0_begins_L11  rc2 n9) a0 a1 a2 x3 x4 w
def F_X0_begins_B2 (rc2 : Option Nat → Option Nat → Option Nat → Int32 → cH → Option cH) (a0 : Option Nat) (a1 : Option Nat) (a2 : Option Nat) (x3 : Int32) (w : cH) : Option cH :=
  if 7 ≤ x3 then (some w) else (F_X0_begins_L11  rc2 fu a0 a1 a2 x3 0 w)
def F_X0_begins_L2 : Nat → Option Nat → Option Nat → Option Nat → Int32 → cH → Option cH
  | 0, _, _, _, _, _ => none
  | n9 + 1, a0, a1, a2, x3, w => F_X0_begins_B2  (F_X0_begins_L2  n9) a0 a1 a2 x3 w
def F_X0_begins (a0 : Option Nat) (a1 : Option Nat) (a2 : Option Nat) (w : cH) : Option cH :=
  if tg w a0 = some 0 then (F_X0_begins_L2  fu a0 a1 a2 0 w) else none
abbrev rm_X0_begins : Room := { frames := 2, cells := 0, slots := 0, locals := 45 }
set_option maxHeartbeats 4000000 in
set_option maxRecDepth 100000 in
theorem ct_X0_begins {l : Launch} {g : Gt} (G : Gok g) {a0 : Option Nat} {a1 : Option Nat} {a2 : Option Nat} {w : cH}  {w9 : cH} (hF : F_X0_begins a0 a1 a2 w = some w9) : tg w a0 = some 0 ∧ Mx l yX0_begins (ws_ yX0_begins cX0_begins 6 none) rm_X0_begins g [va_rf a0, va_rf a1, va_rf a2] w (.returned none) w9 0 0 := by
  unfold F_X0_begins at hF
  obtain ⟨ht, hF⟩ := bg hF
  refine ⟨ht, mk_ct cX0_begins 6 none "CarryFair" (plainFor_of_name (by decide)) rfl (lg_le ⟨cr _, cr _, cr _, trivial⟩ (Nat.le_of_ble_eq_true rfl)) (av_ok ⟨cr _, cr _, cr _, trivial⟩) G (fun x B hl hR hin hh => ?_)⟩
  show J g x _ _ 0 0 w 0 0 0 [some (va_rf a0), some (va_rf a1), some (va_rf a2), none, none, none] []
  have lp2 : ∀ (n9 : Nat) (a0 : Option Nat) (a1 : Option Nat) (a2 : Option Nat) (x3 : Int32) (w : cH), F_X0_begins_L2  n9 a0 a1 a2 x3 w = some w9 → J g x (.returned none) w9 0 0 w 0 0 2 [some (va_rf a0), some (va_rf a1), some (va_rf a2), some (.int x3), none, none] [] := by
    intro n9
    induction n9 with
    | zero => intro a0 a1 a2 x3 w hF; cases hF
    | succ n2 ih2 =>
      intro a0 a1 a2 x3 w hF
      have hF : F_X0_begins_B2  (F_X0_begins_L2  n2) a0 a1 a2 x3 w = some w9 := hF
      unfold F_X0_begins_B2 at hF
      have lp11 : ∀ (n9 : Nat) (a0 : Option Nat) (a1 : Option Nat) (a2 : Option Nat) (x3 : Int32) (x4 : Int32) (w : cH), F_X0_begins_L11  (F_X0_begins_L2  n2) n9 a0 a1 a2 x3 x4 w = some w9 → J g x (.returned none) w9 0 0 w 0 0 11 [some (va_rf a0), some (va_rf a1), some (va_rf a2), some (.int x3), some (.int x4), none] [] := by
        intro n9
        induction n9 with
        | zero => intro a0 a1 a2 x3 x4 w hF; cases hF
        | succ n11 ih11 =>
          intro a0 a1 a2 x3 x4 w hF
          have hF : F_X0_begins_B11  (F_X0_begins_L2  n2) (F_X0_begins_L11  (F_X0_begins_L2  n2) n11) a0 a1 a2 x3 x4 w = some w9 := hF
          unfold F_X0_begins_B11 at hF
          have jb96 : ∀ (a0 : Option Nat) (a1 : Option Nat) (a2 : Option Nat) (x3 : Int32) (x4 : Int32) (s0 : Int32) (s1 : Int32) (s2 : Option Nat) (w : cH), F_X0_begins_J96  (F_X0_begins_L2  n2) (F_X0_begins_L11  (F_X0_begins_L2  n2) n11) a0 a1 a2 x3 x4 s0 s1 s2 w = some w9 → J g x (.returned none) w9 0 0 w 0 0 96 [some (va_rf a0), some (va_rf a1), some (va_rf a2), some (.int x3), some (.int x4), none] [.int s0, .int s1, va_rf s2] := by
            intro a0 a1 a2 x3 x4 s0 s1 s2 w hF
            unfold F_X0_begins_J96 at hF
            refine j_iastore B dX0_begins_96 hF (fun w96 hF => ?_)
            refine j_iinc (v := x4 + 1) (vs' := [some (va_rf a0), some (va_rf a1), some (va_rf a2), some (.int x3), some (.int (x4 + 1)), none]) B dX0_begins_97 (by decide) rfl rfl rfl ?_
            refine j_goto (tgt := 11) B dX0_begins_100 (by decide) ?_
            exact ih11 a0 a1 a2 x3 (x4 + 1) w96 hF
          have jb77 : ∀ (a0 : Option Nat) (a1 : Option Nat) (a2 : Option Nat) (x3 : Int32) (x4 : Int32) (s0 : Int32) (w : cH), F_X0_begins_J77  (F_X0_begins_L2  n2) (F_X0_begins_L11  (F_X0_begins_L2  n2) n11) a0 a1 a2 x3 x4 s0 w = some w9 → J g x (.returned none) w9 0 0 w 0 0 77 [some (va_rf a0), some (va_rf a1), some (va_rf a2), some (.int x3), some (.int x4), none] [.int s0] := by
            intro a0 a1 a2 x3 x4 s0 w hF
            unfold F_X0_begins_J77 at hF
            refine j_istore (vs' := [some (va_rf a0), some (va_rf a1), some (va_rf a2), some (.int x3), some (.int x4), some (.int s0)]) B dX0_begins_77 (by decide) rfl ?_
            refine j_aload_n B dX0_begins_79 rfl ?_
            refine j_iload_n B dX0_begins_80 rfl ?_
            refine j_aaload B 103 rfl rfl dX0_begins_81 hF (fun a81p hF => ?_)
            refine j_iload B dX0_begins_82 rfl ?_
            refine j_iload_n B dX0_begins_84 rfl ?_
            refine j_iload B dX0_begins_85 rfl ?_
            refine j_icmp_ne (tgt := 94) B dX0_begins_87 (by decide) hF (fun h87 hF => ?_) (fun h87 hF => ?_)
            · refine j_iload B dX0_begins_94 rfl ?_
              refine j_msk [true, true, true, true, true, false] rfl ?_
              exact jb96 a0 a1 a2 x3 x4 s0 x4 a81p w hF
            · refine j_iconst (v := 0) B dX0_begins_90 (by decide) ?_
              refine j_goto (tgt := 96) B dX0_begins_91 (by decide) ?_
              refine j_msk [true, true, true, true, true, false] rfl ?_
              exact jb96 a0 a1 a2 x3 x4 0 x4 a81p w hF
          have jb72 : ∀ (a0 : Option Nat) (a1 : Option Nat) (a2 : Option Nat) (x3 : Int32) (x4 : Int32) (s0 : Int32) (s1 : Int32) (s2 : Option Nat) (w : cH), F_X0_begins_J72  (F_X0_begins_L2  n2) (F_X0_begins_L11  (F_X0_begins_L2  n2) n11) a0 a1 a2 x3 x4 s0 s1 s2 w = some w9 → J g x (.returned none) w9 0 0 w 0 0 72 [some (va_rf a0), some (va_rf a1), some (va_rf a2), some (.int x3), some (.int x4), none] [.int s0, .int s1, va_rf s2] := by
            intro a0 a1 a2 x3 x4 s0 s1 s2 w hF
            unfold F_X0_begins_J72 at hF
            obtain ⟨i72, e72, hF⟩ := bo hF
            refine vd_X0_197 B G [] e72 dX0_begins_72 hl hR rfl rfl rfl trivial (Nat.le_of_ble_eq_true rfl) ?_
            exact jb77 a0 a1 a2 x3 x4 i72 w hF
          refine j_iload B dX0_begins_11 rfl ?_
          refine j_bipush (v := 7) B dX0_begins_13 (by decide) ?_
          refine j_icmp_ge (tgt := 103) B dX0_begins_15 (by decide) hF (fun h15 hF => ?_) (fun h15 hF => ?_)
          · refine j_iinc (v := x3 + 1) (vs' := [some (va_rf a0), some (va_rf a1), some (va_rf a2), some (.int (x3 + 1)), some (.int x4), none]) B dX0_begins_103 (by decide) rfl rfl rfl ?_
            refine j_goto (tgt := 2) B dX0_begins_106 (by decide) ?_
            refine j_msk [true, true, true, true, false, false] rfl ?_
            exact ih2 a0 a1 a2 (x3 + 1) w hF
          · refine j_aload_n B dX0_begins_18 rfl ?_
            refine j_getA B fl_X0_61 dX0_begins_19 hF (fun a19p hF => ?_)
            refine j_getA B fl_X0_183 dX0_begins_22 hF (fun a22p hF => ?_)
            refine j_iload_n B dX0_begins_25 rfl ?_
            refine j_aaload B 103 rfl rfl dX0_begins_26 hF (fun a26p hF => ?_)
            refine j_iload B dX0_begins_27 rfl ?_
            refine j_iaload B dX0_begins_29 hF (fun i29 hF => ?_)
            refine j_if_ne (tgt := 38) B dX0_begins_30 (by decide) hF (fun h30 hF => ?_) (fun h30 hF => ?_)
            · refine j_aload_n B dX0_begins_38 rfl ?_
              refine j_aload_n B dX0_begins_39 rfl ?_
              refine j_getA B fl_X0_61 dX0_begins_40 hF (fun a40p hF => ?_)
              refine j_getA B fl_X0_183 dX0_begins_43 hF (fun a43p hF => ?_)
              refine j_iload_n B dX0_begins_46 rfl ?_
              refine j_aaload B 103 rfl rfl dX0_begins_47 hF (fun a47p hF => ?_)
              refine j_iload B dX0_begins_48 rfl ?_
              refine j_iaload B dX0_begins_50 hF (fun i50 hF => ?_)
              refine j_aload_n B dX0_begins_51 rfl ?_
              refine j_getA B fl_X0_61 dX0_begins_52 hF (fun a52p hF => ?_)
              refine j_getA B fl_X0_190 dX0_begins_55 hF (fun a55p hF => ?_)
              refine j_iload_n B dX0_begins_58 rfl ?_
              refine j_aaload B 103 rfl rfl dX0_begins_59 hF (fun a59p hF => ?_)
              refine j_iload B dX0_begins_60 rfl ?_
              refine j_iaload B dX0_begins_62 hF (fun i62 hF => ?_)
              refine j_iconst (v := 1) B dX0_begins_63 (by decide) ?_
              refine j_icmp_ne (tgt := 71) B dX0_begins_64 (by decide) hF (fun h64 hF => ?_) (fun h64 hF => ?_)
              · refine j_iconst (v := 0) B dX0_begins_71 (by decide) ?_
                exact jb72 a0 a1 a2 x3 x4 0 i50 a1 w hF
              · refine j_iconst (v := 1) B dX0_begins_67 (by decide) ?_
                refine j_goto (tgt := 72) B dX0_begins_68 (by decide) ?_
                exact jb72 a0 a1 a2 x3 x4 1 i50 a1 w hF
            · refine j_ldc (v := 1000000) B q671 dX0_begins_33 ?_
              refine j_goto (tgt := 77) B dX0_begins_35 (by decide) ?_
              exact jb77 a0 a1 a2 x3 x4 1000000 w hF
      refine j_iload_n B dX0_begins_2 rfl ?_
      refine j_bipush (v := 7) B dX0_begins_3 (by decide) ?_
      refine j_icmp_ge (tgt := 109) B dX0_begins_5 (by decide) hF (fun h5 hF => ?_) (fun h5 hF => ?_)
      · exact j_lV B rfl dX0_begins_109 hF (by decide) (by decide)
      · refine j_iconst (v := 0) B dX0_begins_8 (by decide) ?_
        refine j_istore (vs' := [some (va_rf a0), some (va_rf a1), some (va_rf a2), some (.int x3), some (.int 0), none]) B dX0_begins_9 (by decide) rfl ?_
        exact lp11 fu a0 a1 a2 x3 0 w hF
  refine j_iconst (v := 0) B dX0_begins_0 (by decide) ?_
  refine j_istore_n (vs' := [some (va_rf a0), some (va_rf a1), some (va_rf a2), some (.int 0), none, none]) B dX0_begins_1 (by decide) rfl ?_
  exact lp2 fu a0 a1 a2 0 w hF
def F_J3_min (x0 : Int32) (x1 : Int32) : Int32 :=
  if x1 < x0 then (x1) else (x0)
abbrev rm_J3_min : Room := { frames := 0, cells := 0, slots := 0, locals := 0 }
set_option maxHeartbeats 4000000 in
set_option maxRecDepth 100000 in
theorem ct_J3_min {l : Launch} {g : Gt} (G : Gok g) {x0 : Int32} {x1 : Int32} {w : cH} : Mx l yJ3_min (ws_ yJ3_min cJ3_min 2 (some .int)) rm_J3_min g [.int x0, .int x1] w (.returned (some (.int (F_J3_min x0 x1)))) w 0 0 := by
  generalize hF : F_J3_min x0 x1 = r9
  unfold F_J3_min at hF
  refine mk_ct cJ3_min 2 (some .int) "java/lang/Math" (by decide +kernel) rfl (lg_le ⟨rfl, rfl, trivial⟩ (Nat.le_of_ble_eq_true rfl)) (av_ok ⟨rfl, rfl, trivial⟩) G (fun x B hl hR hin hh => ?_)
  show J g x _ _ 0 0 w 0 0 0 [some (.int x0), some (.int x1)] []
  refine j_iload_n B dJ3_min_0 rfl ?_
  refine j_iload_n B dJ3_min_1 rfl ?_
  refine j_icmp_gt (tgt := 9) B dJ3_min_2 (by decide) hF (fun h2 hF => ?_) (fun h2 hF => ?_)
  · refine j_iload_n B dJ3_min_9 rfl ?_
    exact j_lIp B rfl dJ3_min_10 hF (by decide) (by decide)
  · refine j_iload_n B dJ3_min_5 rfl ?_
    refine j_goto (tgt := 10) B dJ3_min_6 (by decide) ?_
    exact j_lIp B rfl dJ3_min_10 hF (by decide) (by decide)
theorem cv_X0_201 : CV "CarryFair" 201 0 yX0_begins cX0_begins 6 none 2 := ⟨_, _, rfl, lw_V q667 q669 qs9 q126 q670, by decide +kernel⟩
theorem cs_X0_205 : CS "CarryFair" 205 yJ3_min cJ3_min 2 (some .int) 2 := ⟨Or.inl (lw_S q704 q705 q143 q706), by decide +kernel⟩
def F_X0_tells_B27 (rc8 : (Option Nat) → Int32 → cH → Option cH) (rc17 : (Option Nat) → Int32 → Int32 → cH → Option cH) (rc27 : Option Nat → Int32 → Int32 → Int32 → cH → Option cH) (a2 : Option Nat) (x3 : Int32) (x4 : Int32) (x5 : Int32) (w : cH) : Option cH :=
  if 7 ≤ x5 then (rc17 a2 x3 (x4 + 1) w) else ((aA w a2 103 x4).bind fun a37p => (aA w a2 103 x4).bind fun a43p => (aI w a43p 100 x5).bind fun i46 => (aA w a2 103 x4).bind fun a50p => (aI w a50p 100 x3).bind fun i52 => (aA w a2 103 x3).bind fun a55p => (aI w a55p 100 x5).bind fun i58 => (aS w a37p 100 x5 (.int (F_J3_min i46 (i52 + i58)))).bind fun w63 => rc27 a2 x3 x4 (x5 + 1) w63)
def F_X0_tells_L27 (rc8 : (Option Nat) → Int32 → cH → Option cH) (rc17 : (Option Nat) → Int32 → Int32 → cH → Option cH) : Nat → Option Nat → Int32 → Int32 → Int32 → cH → Option cH
  | 0, _, _, _, _, _ => none
  | n9 + 1, a2, x3, x4, x5, w => F_X0_tells_B27  rc8 rc17 (F_X0_tells_L27  rc8 rc17 n9) a2 x3 x4 x5 w
def F_X0_tells_B17 (rc8 : (Option Nat) → Int32 → cH → Option cH) (rc17 : Option Nat → Int32 → Int32 → cH → Option cH) (a2 : Option Nat) (x3 : Int32) (x4 : Int32) (w : cH) : Option cH :=
  if 7 ≤ x4 then (rc8 a2 (x3 + 1) w) else (F_X0_tells_L27  rc8 rc17 fu a2 x3 x4 0 w)
def F_X0_tells_L17 (rc8 : (Option Nat) → Int32 → cH → Option cH) : Nat → Option Nat → Int32 → Int32 → cH → Option cH
  | 0, _, _, _, _ => none
  | n9 + 1, a2, x3, x4, w => F_X0_tells_B17  rc8 (F_X0_tells_L17  rc8 n9) a2 x3 x4 w
def F_X0_tells_B8 (rc8 : Option Nat → Int32 → cH → Option cH) (a2 : Option Nat) (x3 : Int32) (w : cH) : Option cH :=
  if 7 ≤ x3 then (some w) else (F_X0_tells_L17  rc8 fu a2 x3 0 w)
def F_X0_tells_L8 : Nat → Option Nat → Int32 → cH → Option cH
  | 0, _, _, _ => none
  | n9 + 1, a2, x3, w => F_X0_tells_B8  (F_X0_tells_L8  n9) a2 x3 w
def F_X0_tells (a0 : Option Nat) (a1 : Option Nat) (a2 : Option Nat) (w : cH) : Option cH :=
  if tg w a0 = some 0 then ((F_X0_begins a0 a1 a2 w).bind fun w3 => F_X0_tells_L8  fu a2 0 w3) else none
abbrev rm_X0_tells : Room := { frames := 3, cells := 0, slots := 0, locals := 70 }
set_option maxHeartbeats 4000000 in
set_option maxRecDepth 100000 in
theorem ct_X0_tells {l : Launch} {g : Gt} (G : Gok g) {a0 : Option Nat} {a1 : Option Nat} {a2 : Option Nat} {w : cH}  {w9 : cH} (hF : F_X0_tells a0 a1 a2 w = some w9) : tg w a0 = some 0 ∧ Mx l yX0_tells (ws_ yX0_tells cX0_tells 6 none) rm_X0_tells g [va_rf a0, va_rf a1, va_rf a2] w (.returned none) w9 0 0 := by
  unfold F_X0_tells at hF
  obtain ⟨ht, hF⟩ := bg hF
  refine ⟨ht, mk_ct cX0_tells 6 none "CarryFair" (plainFor_of_name (by decide)) rfl (lg_le ⟨cr _, cr _, cr _, trivial⟩ (Nat.le_of_ble_eq_true rfl)) (av_ok ⟨cr _, cr _, cr _, trivial⟩) G (fun x B hl hR hin hh => ?_)⟩
  show J g x _ _ 0 0 w 0 0 0 [some (va_rf a0), some (va_rf a1), some (va_rf a2), none, none, none] []
  have lp8 : ∀ (n9 : Nat) (a2 : Option Nat) (x3 : Int32) (w : cH), F_X0_tells_L8  n9 a2 x3 w = some w9 → J g x (.returned none) w9 0 0 w 0 0 8 [none, none, some (va_rf a2), some (.int x3), none, none] [] := by
    intro n9
    induction n9 with
    | zero => intro a2 x3 w hF; cases hF
    | succ n8 ih8 =>
      intro a2 x3 w hF
      have hF : F_X0_tells_B8  (F_X0_tells_L8  n8) a2 x3 w = some w9 := hF
      unfold F_X0_tells_B8 at hF
      have lp17 : ∀ (n9 : Nat) (a2 : Option Nat) (x3 : Int32) (x4 : Int32) (w : cH), F_X0_tells_L17  (F_X0_tells_L8  n8) n9 a2 x3 x4 w = some w9 → J g x (.returned none) w9 0 0 w 0 0 17 [none, none, some (va_rf a2), some (.int x3), some (.int x4), none] [] := by
        intro n9
        induction n9 with
        | zero => intro a2 x3 x4 w hF; cases hF
        | succ n17 ih17 =>
          intro a2 x3 x4 w hF
          have hF : F_X0_tells_B17  (F_X0_tells_L8  n8) (F_X0_tells_L17  (F_X0_tells_L8  n8) n17) a2 x3 x4 w = some w9 := hF
          unfold F_X0_tells_B17 at hF
          have lp27 : ∀ (n9 : Nat) (a2 : Option Nat) (x3 : Int32) (x4 : Int32) (x5 : Int32) (w : cH), F_X0_tells_L27  (F_X0_tells_L8  n8) (F_X0_tells_L17  (F_X0_tells_L8  n8) n17) n9 a2 x3 x4 x5 w = some w9 → J g x (.returned none) w9 0 0 w 0 0 27 [none, none, some (va_rf a2), some (.int x3), some (.int x4), some (.int x5)] [] := by
            intro n9
            induction n9 with
            | zero => intro a2 x3 x4 x5 w hF; cases hF
            | succ n27 ih27 =>
              intro a2 x3 x4 x5 w hF
              have hF : F_X0_tells_B27  (F_X0_tells_L8  n8) (F_X0_tells_L17  (F_X0_tells_L8  n8) n17) (F_X0_tells_L27  (F_X0_tells_L8  n8) (F_X0_tells_L17  (F_X0_tells_L8  n8) n17) n27) a2 x3 x4 x5 w = some w9 := hF
              unfold F_X0_tells_B27 at hF
              refine j_iload B dX0_tells_27 rfl ?_
              refine j_bipush (v := 7) B dX0_tells_29 (by decide) ?_
              refine j_icmp_ge (tgt := 70) B dX0_tells_31 (by decide) hF (fun h31 hF => ?_) (fun h31 hF => ?_)
              · refine j_iinc (v := x4 + 1) (vs' := [none, none, some (va_rf a2), some (.int x3), some (.int (x4 + 1)), some (.int x5)]) B dX0_tells_70 (by decide) rfl rfl rfl ?_
                refine j_goto (tgt := 17) B dX0_tells_73 (by decide) ?_
                refine j_msk [false, false, true, true, true, false] rfl ?_
                exact ih17 a2 x3 (x4 + 1) w hF
              · refine j_aload_n B dX0_tells_34 rfl ?_
                refine j_iload B dX0_tells_35 rfl ?_
                refine j_aaload B 103 rfl rfl dX0_tells_37 hF (fun a37p hF => ?_)
                refine j_iload B dX0_tells_38 rfl ?_
                refine j_aload_n B dX0_tells_40 rfl ?_
                refine j_iload B dX0_tells_41 rfl ?_
                refine j_aaload B 103 rfl rfl dX0_tells_43 hF (fun a43p hF => ?_)
                refine j_iload B dX0_tells_44 rfl ?_
                refine j_iaload B dX0_tells_46 hF (fun i46 hF => ?_)
                refine j_aload_n B dX0_tells_47 rfl ?_
                refine j_iload B dX0_tells_48 rfl ?_
                refine j_aaload B 103 rfl rfl dX0_tells_50 hF (fun a50p hF => ?_)
                refine j_iload_n B dX0_tells_51 rfl ?_
                refine j_iaload B dX0_tells_52 hF (fun i52 hF => ?_)
                refine j_aload_n B dX0_tells_53 rfl ?_
                refine j_iload_n B dX0_tells_54 rfl ?_
                refine j_aaload B 103 rfl rfl dX0_tells_55 hF (fun a55p hF => ?_)
                refine j_iload B dX0_tells_56 rfl ?_
                refine j_iaload B dX0_tells_58 hF (fun i58 hF => ?_)
                refine j_iadd B dX0_tells_59 ?_
                refine j_rS (st2 := [.int (F_J3_min i46 (i52 + i58)), .int x5, va_rf a37p]) B [.int i46, .int (i52 + i58)] [.int x5, va_rf a37p] cs_X0_205 dX0_tells_60 hl hR (ct_J3_min G) rfl rfl rfl rfl ⟨rfl, cr _, trivial⟩ (Nat.le_of_ble_eq_true rfl) ?_
                refine j_iastore B dX0_tells_63 hF (fun w63 hF => ?_)
                refine j_iinc (v := x5 + 1) (vs' := [none, none, some (va_rf a2), some (.int x3), some (.int x4), some (.int (x5 + 1))]) B dX0_tells_64 (by decide) rfl rfl rfl ?_
                refine j_goto (tgt := 27) B dX0_tells_67 (by decide) ?_
                exact ih27 a2 x3 x4 (x5 + 1) w63 hF
          refine j_iload B dX0_tells_17 rfl ?_
          refine j_bipush (v := 7) B dX0_tells_19 (by decide) ?_
          refine j_icmp_ge (tgt := 76) B dX0_tells_21 (by decide) hF (fun h21 hF => ?_) (fun h21 hF => ?_)
          · refine j_iinc (v := x3 + 1) (vs' := [none, none, some (va_rf a2), some (.int (x3 + 1)), some (.int x4), none]) B dX0_tells_76 (by decide) rfl rfl rfl ?_
            refine j_goto (tgt := 8) B dX0_tells_79 (by decide) ?_
            refine j_msk [false, false, true, true, false, false] rfl ?_
            exact ih8 a2 (x3 + 1) w hF
          · refine j_iconst (v := 0) B dX0_tells_24 (by decide) ?_
            refine j_istore (vs' := [none, none, some (va_rf a2), some (.int x3), some (.int x4), some (.int 0)]) B dX0_tells_25 (by decide) rfl ?_
            exact lp27 fu a2 x3 x4 0 w hF
      refine j_iload_n B dX0_tells_8 rfl ?_
      refine j_bipush (v := 7) B dX0_tells_9 (by decide) ?_
      refine j_icmp_ge (tgt := 82) B dX0_tells_11 (by decide) hF (fun h11 hF => ?_) (fun h11 hF => ?_)
      · exact j_lV B rfl dX0_tells_82 hF (by decide) (by decide)
      · refine j_iconst (v := 0) B dX0_tells_14 (by decide) ?_
        refine j_istore (vs' := [none, none, some (va_rf a2), some (.int x3), some (.int 0), none]) B dX0_tells_15 (by decide) rfl ?_
        exact lp17 fu a2 x3 0 w hF
  refine j_aload_n B dX0_tells_0 rfl ?_
  refine j_aload_n B dX0_tells_1 rfl ?_
  refine j_aload_n B dX0_tells_2 rfl ?_
  obtain ⟨w3, e3, hF⟩ := bo hF
  refine j_rV (st2 := []) B [va_rf a1, va_rf a2] [] cv_X0_201 dX0_tells_3 hl hR (ct_X0_begins G e3) rfl rfl rfl rfl trivial (Nat.le_of_ble_eq_true rfl) ?_
  refine j_iconst (v := 0) B dX0_tells_6 (by decide) ?_
  refine j_istore_n (vs' := [some (va_rf a0), some (va_rf a1), some (va_rf a2), some (.int 0), none, none]) B dX0_tells_7 (by decide) rfl ?_
  refine j_msk [false, false, true, true, false, false] rfl ?_
  exact lp8 fu a2 0 w3 hF
theorem fl_X0_89 : FL "CarryFair" 89 0 11 := ⟨RX0, TX0, 20, rfl, by decide, in_X0, Or.inl q450⟩
theorem fl_X0_214 : FL "CarryFair" 214 4 3 := ⟨RX4, TX4, 10, rfl, by decide, in_X4, Or.inr ⟨_, q265⟩⟩
theorem cv_X0_211 : CV "CarryFair" 211 0 yX0_tells cX0_tells 6 none 2 := ⟨_, _, rfl, lw_V q663 q665 qs8 q126 q666, by decide +kernel⟩
def F_X0_worthOf (a0 : Option Nat) (x1 : Int32) (w : cH) : Option (Int32 × cH) :=
  if tg w a0 = some 0 then ((fA w a0 0 7).bind fun a2p => (aA w a2p 104 0).bind fun a6p => (fA w a6p 5 0).bind fun a7p => if ckc w a7p [6, 7, 8, 9, 10, 11, 12] = true then ((fA w a0 0 11).bind fun a14p => (F_X0_tells a0 a7p a14p w).bind fun w17 => (fA w17 a0 0 11).bind fun a21p => (fA w17 a0 0 3).bind fun a25p => (fA w17 a25p 4 3).bind fun a28p => (aA w17 a28p 103 1).bind fun a32p => (aI w17 a32p 100 x1).bind fun i34 => (aA w17 a21p 103 i34).bind fun a35p => (fA w17 a0 0 3).bind fun a37p => (fA w17 a37p 4 3).bind fun a40p => (aA w17 a40p 103 2).bind fun a44p => (aI w17 a44p 100 x1).bind fun i46 => (aI w17 a35p 100 i46).bind fun i47 =>if 1000000 ≤ i47 then (some ((-1), w17)) else ((fA w17 a0 0 3).bind fun a56p => (fA w17 a56p 4 3).bind fun a59p => (aA w17 a59p 103 0).bind fun a63p => (aI w17 a63p 100 x1).bind fun i65 => some (i65 * i47, w17))) else none) else none
abbrev rm_X0_worthOf : Room := { frames := 4, cells := 0, slots := 0, locals := 95 }
set_option maxHeartbeats 4000000 in
set_option maxRecDepth 100000 in
theorem ct_X0_worthOf {l : Launch} {g : Gt} (G : Gok g) {a0 : Option Nat} {x1 : Int32} {w : cH} {r9 : Int32} {w9 : cH} (hF : F_X0_worthOf a0 x1 w = some (r9, w9)) : tg w a0 = some 0 ∧ Mx l yX0_worthOf (ws_ yX0_worthOf cX0_worthOf 3 (some .int)) rm_X0_worthOf g [va_rf a0, .int x1] w (.returned (some (.int r9))) w9 0 0 := by
  unfold F_X0_worthOf at hF
  obtain ⟨ht, hF⟩ := bg hF
  refine ⟨ht, mk_ct cX0_worthOf 3 (some .int) "CarryFair" (plainFor_of_name (by decide)) rfl (lg_le ⟨cr _, rfl, trivial⟩ (Nat.le_of_ble_eq_true rfl)) (av_ok ⟨cr _, rfl, trivial⟩) G (fun x B hl hR hin hh => ?_)⟩
  show J g x _ _ 0 0 w 0 0 0 [some (va_rf a0), some (.int x1), none] []
  refine j_aload_n B dX0_worthOf_0 rfl ?_
  refine j_aload_n B dX0_worthOf_1 rfl ?_
  refine j_getA B fl_X0_73 dX0_worthOf_2 hF (fun a2p hF => ?_)
  refine j_iconst (v := 0) B dX0_worthOf_5 (by decide) ?_
  refine j_aaload B 104 rfl rfl dX0_worthOf_6 hF (fun a6p hF => ?_)
  refine j_getA B fl_X0_109 dX0_worthOf_7 hF (fun a7p hF => ?_)
  obtain ⟨hz, hF⟩ := bg hF
  refine j_cast B ck_X0_36 hz dX0_worthOf_10 ?_
  refine j_aload_n B dX0_worthOf_13 rfl ?_
  refine j_getA B fl_X0_89 dX0_worthOf_14 hF (fun a14p hF => ?_)
  obtain ⟨w17, e17, hF⟩ := bo hF
  refine j_rV (st2 := []) B [va_rf a7p, va_rf a14p] [] cv_X0_211 dX0_worthOf_17 hl hR (ct_X0_tells G e17) rfl rfl rfl rfl trivial (Nat.le_of_ble_eq_true rfl) ?_
  refine j_aload_n B dX0_worthOf_20 rfl ?_
  refine j_getA B fl_X0_89 dX0_worthOf_21 hF (fun a21p hF => ?_)
  refine j_aload_n B dX0_worthOf_24 rfl ?_
  refine j_getA B fl_X0_61 dX0_worthOf_25 hF (fun a25p hF => ?_)
  refine j_getA B fl_X0_214 dX0_worthOf_28 hF (fun a28p hF => ?_)
  refine j_iconst (v := 1) B dX0_worthOf_31 (by decide) ?_
  refine j_aaload B 103 rfl rfl dX0_worthOf_32 hF (fun a32p hF => ?_)
  refine j_iload_n B dX0_worthOf_33 rfl ?_
  refine j_iaload B dX0_worthOf_34 hF (fun i34 hF => ?_)
  refine j_aaload B 103 rfl rfl dX0_worthOf_35 hF (fun a35p hF => ?_)
  refine j_aload_n B dX0_worthOf_36 rfl ?_
  refine j_getA B fl_X0_61 dX0_worthOf_37 hF (fun a37p hF => ?_)
  refine j_getA B fl_X0_214 dX0_worthOf_40 hF (fun a40p hF => ?_)
  refine j_iconst (v := 2) B dX0_worthOf_43 (by decide) ?_
  refine j_aaload B 103 rfl rfl dX0_worthOf_44 hF (fun a44p hF => ?_)
  refine j_iload_n B dX0_worthOf_45 rfl ?_
  refine j_iaload B dX0_worthOf_46 hF (fun i46 hF => ?_)
  refine j_iaload B dX0_worthOf_47 hF (fun i47 hF => ?_)
  refine j_istore_n (vs' := [some (va_rf a0), some (.int x1), some (.int i47)]) B dX0_worthOf_48 (by decide) rfl ?_
  refine j_iload_n B dX0_worthOf_49 rfl ?_
  refine j_ldc (v := 1000000) B q671 dX0_worthOf_50 ?_
  refine j_icmp_ge (tgt := 71) B dX0_worthOf_52 (by decide) hF (fun h52 hF => ?_) (fun h52 hF => ?_)
  · refine j_iconst (v := (-1)) B dX0_worthOf_71 (by decide) ?_
    exact j_lIw B rfl dX0_worthOf_72 hF (by decide) (by decide)
  · refine j_aload_n B dX0_worthOf_55 rfl ?_
    refine j_getA B fl_X0_61 dX0_worthOf_56 hF (fun a56p hF => ?_)
    refine j_getA B fl_X0_214 dX0_worthOf_59 hF (fun a59p hF => ?_)
    refine j_iconst (v := 0) B dX0_worthOf_62 (by decide) ?_
    refine j_aaload B 103 rfl rfl dX0_worthOf_63 hF (fun a63p hF => ?_)
    refine j_iload_n B dX0_worthOf_64 rfl ?_
    refine j_iaload B dX0_worthOf_65 hF (fun i65 hF => ?_)
    refine j_iload_n B dX0_worthOf_66 rfl ?_
    refine j_imul B dX0_worthOf_67 ?_
    refine j_goto (tgt := 72) B dX0_worthOf_68 (by decide) ?_
    exact j_lIw B rfl dX0_worthOf_72 hF (by decide) (by decide)
def F_X0_orNone (a0 : Option Nat) (x1 : Int32) (w : cH) : Option (Int32 × cH) :=
  if tg w a0 = some 0 then (if ¬ x1 = (-1) then (some (x1, w)) else (cb (F_X0_finding a0 3 w) fun i7 w7 => some (i7, w7))) else none
abbrev rm_X0_orNone : Room := { frames := 1, cells := 0, slots := 0, locals := 21 }
set_option maxHeartbeats 4000000 in
set_option maxRecDepth 100000 in
theorem ct_X0_orNone {l : Launch} {g : Gt} (G : Gok g) {a0 : Option Nat} {x1 : Int32} {w : cH} {r9 : Int32} {w9 : cH} (hF : F_X0_orNone a0 x1 w = some (r9, w9)) : tg w a0 = some 0 ∧ Mx l yX0_orNone (ws_ yX0_orNone cX0_orNone 2 (some .int)) rm_X0_orNone g [va_rf a0, .int x1] w (.returned (some (.int r9))) w9 0 0 := by
  unfold F_X0_orNone at hF
  obtain ⟨ht, hF⟩ := bg hF
  refine ⟨ht, mk_ct cX0_orNone 2 (some .int) "CarryFair" (plainFor_of_name (by decide)) rfl (lg_le ⟨cr _, rfl, trivial⟩ (Nat.le_of_ble_eq_true rfl)) (av_ok ⟨cr _, rfl, trivial⟩) G (fun x B hl hR hin hh => ?_)⟩
  show J g x _ _ 0 0 w 0 0 0 [some (va_rf a0), some (.int x1)] []
  refine j_iload_n B dX0_orNone_0 rfl ?_
  refine j_iconst (v := (-1)) B dX0_orNone_1 (by decide) ?_
  refine j_icmp_ne (tgt := 13) B dX0_orNone_2 (by decide) hF (fun h2 hF => ?_) (fun h2 hF => ?_)
  · refine j_iload_n B dX0_orNone_13 rfl ?_
    exact j_lIw B rfl dX0_orNone_14 hF (by decide) (by decide)
  · refine j_aload_n B dX0_orNone_5 rfl ?_
    refine j_iconst (v := 3) B dX0_orNone_6 (by decide) ?_
    obtain ⟨i7, w7, e7, hF⟩ := bc hF
    refine j_rV (st2 := [.int i7]) B [.int 3] [] cv_X0_142 dX0_orNone_7 hl hR (ct_X0_finding G e7) rfl rfl rfl rfl trivial (Nat.le_of_ble_eq_true rfl) ?_
    refine j_goto (tgt := 14) B dX0_orNone_10 (by decide) ?_
    exact j_lIw B rfl dX0_orNone_14 hF (by decide) (by decide)
theorem cv_X0_217 : CV "CarryFair" 217 0 yX0_isErrand cX0_isErrand 2 (some .boolean) 1 := ⟨_, _, rfl, lw_V q655 q657 qs6 q126 q658, by decide +kernel⟩
theorem cv_X0_220 : CV "CarryFair" 220 0 yX0_worthOf cX0_worthOf 3 (some .int) 1 := ⟨_, _, rfl, lw_V q659 q661 qs7 q126 q662, by decide +kernel⟩
theorem cv_X0_223 : CV "CarryFair" 223 0 yX0_orNone cX0_orNone 2 (some .int) 1 := ⟨_, _, rfl, lw_V q707 q709 qs10 q126 q710, by decide +kernel⟩
def F_X0_errandOf_J17 (a0 : Option Nat) (w : cH) : Option (Int32 × cH) :=
  cb (F_X0_finding a0 0 w) fun i19 w19 => some (i19, w19)
def F_X0_errandOf (a0 : Option Nat) (x1 : Int32) (x2 : Int32) (w : cH) : Option (Int32 × cH) :=
  if tg w a0 = some 0 then ((F_X0_isErrand a0 x1 w).bind fun i2 =>if i2 = 0 then (F_X0_errandOf_J17  a0 w) else (if ¬ (F_X0_in x2 0 5) = 0 then (if 5 ≤ x2 then (cb (F_X0_worthOf a0 x1 w) fun i45 w45 => cb (F_X0_orNone a0 i45 w45) fun i48 w48 => some (i48, w48)) else ((fA w a0 0 3).bind fun a29p => (fA w a29p 4 3).bind fun a32p => (aA w a32p 103 x2).bind fun a36p => (aI w a36p 100 x1).bind fun i38 => some (i38, w))) else (F_X0_errandOf_J17  a0 w))) else none
abbrev rm_X0_errandOf : Room := { frames := 5, cells := 0, slots := 0, locals := 117 }
set_option maxHeartbeats 4000000 in
set_option maxRecDepth 100000 in
theorem ct_X0_errandOf {l : Launch} {g : Gt} (G : Gok g) {a0 : Option Nat} {x1 : Int32} {x2 : Int32} {w : cH} {r9 : Int32} {w9 : cH} (hF : F_X0_errandOf a0 x1 x2 w = some (r9, w9)) : tg w a0 = some 0 ∧ Mx l yX0_errandOf (ws_ yX0_errandOf cX0_errandOf 3 (some .int)) rm_X0_errandOf g [va_rf a0, .int x1, .int x2] w (.returned (some (.int r9))) w9 0 0 := by
  unfold F_X0_errandOf at hF
  obtain ⟨ht, hF⟩ := bg hF
  refine ⟨ht, mk_ct cX0_errandOf 3 (some .int) "CarryFair" (plainFor_of_name (by decide)) rfl (lg_le ⟨cr _, rfl, rfl, trivial⟩ (Nat.le_of_ble_eq_true rfl)) (av_ok ⟨cr _, rfl, rfl, trivial⟩) G (fun x B hl hR hin hh => ?_)⟩
  show J g x _ _ 0 0 w 0 0 0 [some (va_rf a0), some (.int x1), some (.int x2)] []
  have jb17 : ∀ (a0 : Option Nat) (w : cH), F_X0_errandOf_J17  a0 w = some (r9, w9) → J g x (.returned (some (.int r9))) w9 0 0 w 0 0 17 [some (va_rf a0), none, none] [] := by
    intro a0 w hF
    unfold F_X0_errandOf_J17 at hF
    refine j_aload_n B dX0_errandOf_17 rfl ?_
    refine j_iconst (v := 0) B dX0_errandOf_18 (by decide) ?_
    obtain ⟨i19, w19, e19, hF⟩ := bc hF
    refine j_rV (st2 := [.int i19]) B [.int 0] [] cv_X0_142 dX0_errandOf_19 hl hR (ct_X0_finding G e19) rfl rfl rfl rfl trivial (Nat.le_of_ble_eq_true rfl) ?_
    exact j_lIw B rfl dX0_errandOf_22 hF (by decide) (by decide)
  refine j_aload_n B dX0_errandOf_0 rfl ?_
  refine j_iload_n B dX0_errandOf_1 rfl ?_
  obtain ⟨i2, e2, hF⟩ := bo hF
  refine j_rV (st2 := [.int i2]) B [.int x1] [] cv_X0_217 dX0_errandOf_2 hl hR (ct_X0_isErrand G e2) rfl rfl rfl rfl trivial (Nat.le_of_ble_eq_true rfl) ?_
  refine j_if_eq (tgt := 17) B dX0_errandOf_5 (by decide) hF (fun h5 hF => ?_) (fun h5 hF => ?_)
  · refine j_msk [true, false, false] rfl ?_
    exact jb17 a0 w hF
  · refine j_iload_n B dX0_errandOf_8 rfl ?_
    refine j_iconst (v := 0) B dX0_errandOf_9 (by decide) ?_
    refine j_iconst (v := 5) B dX0_errandOf_10 (by decide) ?_
    refine j_rS (st2 := [.int (F_X0_in x2 0 5)]) B [.int x2, .int 0, .int 5] [] cs_X0_3 dX0_errandOf_11 hl hR (ct_X0_in G) rfl rfl rfl rfl trivial (Nat.le_of_ble_eq_true rfl) ?_
    refine j_if_ne (tgt := 23) B dX0_errandOf_14 (by decide) hF (fun h14 hF => ?_) (fun h14 hF => ?_)
    · refine j_iload_n B dX0_errandOf_23 rfl ?_
      refine j_iconst (v := 5) B dX0_errandOf_24 (by decide) ?_
      refine j_icmp_ge (tgt := 42) B dX0_errandOf_25 (by decide) hF (fun h25 hF => ?_) (fun h25 hF => ?_)
      · refine j_aload_n B dX0_errandOf_42 rfl ?_
        refine j_aload_n B dX0_errandOf_43 rfl ?_
        refine j_iload_n B dX0_errandOf_44 rfl ?_
        obtain ⟨i45, w45, e45, hF⟩ := bc hF
        refine j_rV (st2 := [.int i45, va_rf a0]) B [.int x1] [va_rf a0] cv_X0_220 dX0_errandOf_45 hl hR (ct_X0_worthOf G e45) rfl rfl rfl rfl ⟨cr _, trivial⟩ (Nat.le_of_ble_eq_true rfl) ?_
        obtain ⟨i48, w48, e48, hF⟩ := bc hF
        refine j_rV (st2 := [.int i48]) B [.int i45] [] cv_X0_223 dX0_errandOf_48 hl hR (ct_X0_orNone G e48) rfl rfl rfl rfl trivial (Nat.le_of_ble_eq_true rfl) ?_
        exact j_lIw B rfl dX0_errandOf_51 hF (by decide) (by decide)
      · refine j_aload_n B dX0_errandOf_28 rfl ?_
        refine j_getA B fl_X0_61 dX0_errandOf_29 hF (fun a29p hF => ?_)
        refine j_getA B fl_X0_214 dX0_errandOf_32 hF (fun a32p hF => ?_)
        refine j_iload_n B dX0_errandOf_35 rfl ?_
        refine j_aaload B 103 rfl rfl dX0_errandOf_36 hF (fun a36p hF => ?_)
        refine j_iload_n B dX0_errandOf_37 rfl ?_
        refine j_iaload B dX0_errandOf_38 hF (fun i38 hF => ?_)
        refine j_goto (tgt := 51) B dX0_errandOf_39 (by decide) ?_
        exact j_lIw B rfl dX0_errandOf_51 hF (by decide) (by decide)
    · refine j_msk [true, false, false] rfl ?_
      exact jb17 a0 w hF
def F_X0_isPrice (x0 : Int32) : Int32 :=
  (F_X0_in x0 1 9999) &&& 1
abbrev rm_X0_isPrice : Room := { frames := 1, cells := 0, slots := 0, locals := 22 }
set_option maxHeartbeats 4000000 in
set_option maxRecDepth 100000 in
theorem ct_X0_isPrice {l : Launch} {g : Gt} (G : Gok g) {x0 : Int32} {w : cH} : Mx l yX0_isPrice (ws_ yX0_isPrice cX0_isPrice 1 (some .boolean)) rm_X0_isPrice g [.int x0] w (.returned (some (.int (F_X0_isPrice x0)))) w 0 0 := by
  generalize hF : F_X0_isPrice x0 = r9
  unfold F_X0_isPrice at hF
  refine mk_ct cX0_isPrice 1 (some .boolean) "CarryFair" (plainFor_of_name (by decide)) rfl (lg_le ⟨rfl, trivial⟩ (Nat.le_of_ble_eq_true rfl)) (av_ok ⟨rfl, trivial⟩) G (fun x B hl hR hin hh => ?_)
  show J g x _ _ 0 0 w 0 0 0 [some (.int x0)] []
  refine j_iload_n B dX0_isPrice_0 rfl ?_
  refine j_iconst (v := 1) B dX0_isPrice_1 (by decide) ?_
  refine j_sipush (v := 9999) B dX0_isPrice_2 (by decide) ?_
  refine j_rS (st2 := [.int (F_X0_in x0 1 9999)]) B [.int x0, .int 1, .int 9999] [] cs_X0_3 dX0_isPrice_5 hl hR (ct_X0_in G) rfl rfl rfl rfl trivial (Nat.le_of_ble_eq_true rfl) ?_
  exact j_lBp B rfl dX0_isPrice_8 hF (by decide) (by decide)
theorem fl_X0_130 : FL "CarryFair" 130 4 4 := ⟨RX4, TX4, 10, rfl, by decide, in_X4, Or.inr ⟨_, q267⟩⟩
theorem cv_X0_229 : CV "CarryFair" 229 4 yX4_addWare cX4_addWare 2 none 1 := ⟨_, _, rfl, lw_V q718 q719 q720 q133 q721, by decide +kernel⟩
theorem cs_X0_226 : CS "CarryFair" 226 yX0_isPrice cX0_isPrice 1 (some .boolean) 1 := ⟨Or.inl (lw_S q715 q716 q126 q717), by decide +kernel⟩
def F_X0_ware (a0 : Option Nat) (x1 : Int32) (w : cH) : Option (Int32 × cH) :=
  if tg w a0 = some 0 then (if ¬ (F_X0_isPrice x1) = 0 then ((fA w a0 0 3).bind fun a14p => (fI w a14p 4 4).bind fun i17 =>if ¬ i17 = 6 then ((fA w a0 0 3).bind fun a32p => (F_X4_addWare a32p x1 w).bind fun w36 => (fA w36 a0 0 3).bind fun a40p => (fI w36 a40p 4 4).bind fun i43 => some (i43 - 1, w36)) else (cb (F_X0_finding a0 1 w) fun i27 w27 => some (i27, w27))) else (cb (F_X0_finding a0 0 w) fun i9 w9 => some (i9, w9))) else none
abbrev rm_X0_ware : Room := { frames := 2, cells := 0, slots := 0, locals := 42 }
set_option maxHeartbeats 4000000 in
set_option maxRecDepth 100000 in
theorem ct_X0_ware {l : Launch} {g : Gt} (G : Gok g) {a0 : Option Nat} {x1 : Int32} {w : cH} {r9 : Int32} {w9 : cH} (hF : F_X0_ware a0 x1 w = some (r9, w9)) : tg w a0 = some 0 ∧ Mx l yX0_ware (ws_ yX0_ware cX0_ware 2 (some .int)) rm_X0_ware g [va_rf a0, .int x1] w (.returned (some (.int r9))) w9 0 0 := by
  unfold F_X0_ware at hF
  obtain ⟨ht, hF⟩ := bg hF
  refine ⟨ht, mk_ct cX0_ware 2 (some .int) "CarryFair" (plainFor_of_name (by decide)) rfl (lg_le ⟨cr _, rfl, trivial⟩ (Nat.le_of_ble_eq_true rfl)) (av_ok ⟨cr _, rfl, trivial⟩) G (fun x B hl hR hin hh => ?_)⟩
  show J g x _ _ 0 0 w 0 0 0 [some (va_rf a0), some (.int x1)] []
  refine j_iload_n B dX0_ware_0 rfl ?_
  refine j_rS (st2 := [.int (F_X0_isPrice x1)]) B [.int x1] [] cs_X0_226 dX0_ware_1 hl hR (ct_X0_isPrice G) rfl rfl rfl rfl trivial (Nat.le_of_ble_eq_true rfl) ?_
  refine j_if_ne (tgt := 13) B dX0_ware_4 (by decide) hF (fun h4 hF => ?_) (fun h4 hF => ?_)
  · refine j_aload_n B dX0_ware_13 rfl ?_
    refine j_getA B fl_X0_61 dX0_ware_14 hF (fun a14p hF => ?_)
    refine j_getI B fl_X0_130 dX0_ware_17 hF (fun i17 hF => ?_)
    refine j_bipush (v := 6) B dX0_ware_20 (by decide) ?_
    refine j_icmp_ne (tgt := 31) B dX0_ware_22 (by decide) hF (fun h22 hF => ?_) (fun h22 hF => ?_)
    · refine j_aload_n B dX0_ware_31 rfl ?_
      refine j_getA B fl_X0_61 dX0_ware_32 hF (fun a32p hF => ?_)
      refine j_iload_n B dX0_ware_35 rfl ?_
      obtain ⟨w36, e36, hF⟩ := bo hF
      refine j_rV (st2 := []) B [.int x1] [] cv_X0_229 dX0_ware_36 hl hR (ct_X4_addWare G e36) rfl rfl rfl rfl trivial (Nat.le_of_ble_eq_true rfl) ?_
      refine j_aload_n B dX0_ware_39 rfl ?_
      refine j_getA B fl_X0_61 dX0_ware_40 hF (fun a40p hF => ?_)
      refine j_getI B fl_X0_130 dX0_ware_43 hF (fun i43 hF => ?_)
      refine j_iconst (v := 1) B dX0_ware_46 (by decide) ?_
      refine j_isub B dX0_ware_47 ?_
      exact j_lIw B rfl dX0_ware_48 hF (by decide) (by decide)
    · refine j_aload_n B dX0_ware_25 rfl ?_
      refine j_iconst (v := 1) B dX0_ware_26 (by decide) ?_
      obtain ⟨i27, w27, e27, hF⟩ := bc hF
      refine j_rV (st2 := [.int i27]) B [.int 1] [] cv_X0_142 dX0_ware_27 hl hR (ct_X0_finding G e27) rfl rfl rfl rfl trivial (Nat.le_of_ble_eq_true rfl) ?_
      exact j_lIw B rfl dX0_ware_30 hF (by decide) (by decide)
  · refine j_aload_n B dX0_ware_7 rfl ?_
    refine j_iconst (v := 0) B dX0_ware_8 (by decide) ?_
    obtain ⟨i9, w9, e9, hF⟩ := bc hF
    refine j_rV (st2 := [.int i9]) B [.int 0] [] cv_X0_142 dX0_ware_9 hl hR (ct_X0_finding G e9) rfl rfl rfl rfl trivial (Nat.le_of_ble_eq_true rfl) ?_
    exact j_lIw B rfl dX0_ware_12 hF (by decide) (by decide)
def F_X0_isWare (a0 : Option Nat) (x1 : Int32) (w : cH) : Option Int32 :=
  if tg w a0 = some 0 then ((fA w a0 0 3).bind fun a3p => (fI w a3p 4 4).bind fun i6 => some ((F_X0_in x1 0 (i6 - 1)) &&& 1)) else none
abbrev rm_X0_isWare : Room := { frames := 1, cells := 0, slots := 0, locals := 22 }
set_option maxHeartbeats 4000000 in
set_option maxRecDepth 100000 in
theorem ct_X0_isWare {l : Launch} {g : Gt} (G : Gok g) {a0 : Option Nat} {x1 : Int32} {w : cH} {r9 : Int32} (hF : F_X0_isWare a0 x1 w = some r9) : tg w a0 = some 0 ∧ Mx l yX0_isWare (ws_ yX0_isWare cX0_isWare 2 (some .boolean)) rm_X0_isWare g [va_rf a0, .int x1] w (.returned (some (.int r9))) w 0 0 := by
  unfold F_X0_isWare at hF
  obtain ⟨ht, hF⟩ := bg hF
  refine ⟨ht, mk_ct cX0_isWare 2 (some .boolean) "CarryFair" (plainFor_of_name (by decide)) rfl (lg_le ⟨cr _, rfl, trivial⟩ (Nat.le_of_ble_eq_true rfl)) (av_ok ⟨cr _, rfl, trivial⟩) G (fun x B hl hR hin hh => ?_)⟩
  show J g x _ _ 0 0 w 0 0 0 [some (va_rf a0), some (.int x1)] []
  refine j_iload_n B dX0_isWare_0 rfl ?_
  refine j_iconst (v := 0) B dX0_isWare_1 (by decide) ?_
  refine j_aload_n B dX0_isWare_2 rfl ?_
  refine j_getA B fl_X0_61 dX0_isWare_3 hF (fun a3p hF => ?_)
  refine j_getI B fl_X0_130 dX0_isWare_6 hF (fun i6 hF => ?_)
  refine j_iconst (v := 1) B dX0_isWare_9 (by decide) ?_
  refine j_isub B dX0_isWare_10 ?_
  refine j_rS (st2 := [.int (F_X0_in x1 0 (i6 - 1))]) B [.int x1, .int 0, .int (i6 - 1)] [] cs_X0_3 dX0_isWare_11 hl hR (ct_X0_in G) rfl rfl rfl rfl trivial (Nat.le_of_ble_eq_true rfl) ?_
  exact j_lB B rfl dX0_isWare_14 hF (by decide) (by decide)
theorem fl_X0_236 : FL "CarryFair" 236 4 5 := ⟨RX4, TX4, 10, rfl, by decide, in_X4, Or.inr ⟨_, q270⟩⟩
theorem cv_X0_233 : CV "CarryFair" 233 0 yX0_isWare cX0_isWare 2 (some .boolean) 1 := ⟨_, _, rfl, lw_V q726 q728 qs11 q126 q729, by decide +kernel⟩
def F_X0_wareOf_J31 (a0 : Option Nat) (w : cH) : Option (Int32 × cH) :=
  cb (F_X0_finding a0 0 w) fun i33 w33 => some (i33, w33)
def F_X0_wareOf (a0 : Option Nat) (x1 : Int32) (x2 : Int32) (w : cH) : Option (Int32 × cH) :=
  if tg w a0 = some 0 then ((F_X0_isWare a0 x1 w).bind fun i2 =>if i2 = 0 then (F_X0_wareOf_J31  a0 w) else (if (F_X0_in x2 0 1) = 0 then (F_X0_wareOf_J31  a0 w) else ((fA w a0 0 3).bind fun a18p => (fA w a18p 4 5).bind fun a21p => (aA w a21p 103 x2).bind fun a25p => (aI w a25p 100 x1).bind fun i27 => some (i27, w)))) else none
abbrev rm_X0_wareOf : Room := { frames := 2, cells := 0, slots := 0, locals := 43 }
set_option maxHeartbeats 4000000 in
set_option maxRecDepth 100000 in
theorem ct_X0_wareOf {l : Launch} {g : Gt} (G : Gok g) {a0 : Option Nat} {x1 : Int32} {x2 : Int32} {w : cH} {r9 : Int32} {w9 : cH} (hF : F_X0_wareOf a0 x1 x2 w = some (r9, w9)) : tg w a0 = some 0 ∧ Mx l yX0_wareOf (ws_ yX0_wareOf cX0_wareOf 3 (some .int)) rm_X0_wareOf g [va_rf a0, .int x1, .int x2] w (.returned (some (.int r9))) w9 0 0 := by
  unfold F_X0_wareOf at hF
  obtain ⟨ht, hF⟩ := bg hF
  refine ⟨ht, mk_ct cX0_wareOf 3 (some .int) "CarryFair" (plainFor_of_name (by decide)) rfl (lg_le ⟨cr _, rfl, rfl, trivial⟩ (Nat.le_of_ble_eq_true rfl)) (av_ok ⟨cr _, rfl, rfl, trivial⟩) G (fun x B hl hR hin hh => ?_)⟩
  show J g x _ _ 0 0 w 0 0 0 [some (va_rf a0), some (.int x1), some (.int x2)] []
  have jb31 : ∀ (a0 : Option Nat) (w : cH), F_X0_wareOf_J31  a0 w = some (r9, w9) → J g x (.returned (some (.int r9))) w9 0 0 w 0 0 31 [some (va_rf a0), none, none] [] := by
    intro a0 w hF
    unfold F_X0_wareOf_J31 at hF
    refine j_aload_n B dX0_wareOf_31 rfl ?_
    refine j_iconst (v := 0) B dX0_wareOf_32 (by decide) ?_
    obtain ⟨i33, w33, e33, hF⟩ := bc hF
    refine j_rV (st2 := [.int i33]) B [.int 0] [] cv_X0_142 dX0_wareOf_33 hl hR (ct_X0_finding G e33) rfl rfl rfl rfl trivial (Nat.le_of_ble_eq_true rfl) ?_
    exact j_lIw B rfl dX0_wareOf_36 hF (by decide) (by decide)
  refine j_aload_n B dX0_wareOf_0 rfl ?_
  refine j_iload_n B dX0_wareOf_1 rfl ?_
  obtain ⟨i2, e2, hF⟩ := bo hF
  refine j_rV (st2 := [.int i2]) B [.int x1] [] cv_X0_233 dX0_wareOf_2 hl hR (ct_X0_isWare G e2) rfl rfl rfl rfl trivial (Nat.le_of_ble_eq_true rfl) ?_
  refine j_if_eq (tgt := 31) B dX0_wareOf_5 (by decide) hF (fun h5 hF => ?_) (fun h5 hF => ?_)
  · refine j_msk [true, false, false] rfl ?_
    exact jb31 a0 w hF
  · refine j_iload_n B dX0_wareOf_8 rfl ?_
    refine j_iconst (v := 0) B dX0_wareOf_9 (by decide) ?_
    refine j_iconst (v := 1) B dX0_wareOf_10 (by decide) ?_
    refine j_rS (st2 := [.int (F_X0_in x2 0 1)]) B [.int x2, .int 0, .int 1] [] cs_X0_3 dX0_wareOf_11 hl hR (ct_X0_in G) rfl rfl rfl rfl trivial (Nat.le_of_ble_eq_true rfl) ?_
    refine j_if_eq (tgt := 31) B dX0_wareOf_14 (by decide) hF (fun h14 hF => ?_) (fun h14 hF => ?_)
    · refine j_msk [true, false, false] rfl ?_
      exact jb31 a0 w hF
    · refine j_aload_n B dX0_wareOf_17 rfl ?_
      refine j_getA B fl_X0_61 dX0_wareOf_18 hF (fun a18p hF => ?_)
      refine j_getA B fl_X0_236 dX0_wareOf_21 hF (fun a21p hF => ?_)
      refine j_iload_n B dX0_wareOf_24 rfl ?_
      refine j_aaload B 103 rfl rfl dX0_wareOf_25 hF (fun a25p hF => ?_)
      refine j_iload_n B dX0_wareOf_26 rfl ?_
      refine j_iaload B dX0_wareOf_27 hF (fun i27 hF => ?_)
      refine j_goto (tgt := 36) B dX0_wareOf_28 (by decide) ?_
      exact j_lIw B rfl dX0_wareOf_36 hF (by decide) (by decide)
theorem fl_X0_92 : FL "CarryFair" 92 0 12 := ⟨RX0, TX0, 20, rfl, by decide, in_X0, Or.inl q451⟩
def F_X0_tellsFor (a0 : Option Nat) (x1 : Int32) (w : cH) : Option cH :=
  if tg w a0 = some 0 then ((F_X0_carrierAt a0 x1 w).bind fun a3p => (fA w a0 0 12).bind fun a7p => (F_X0_tells a0 a3p a7p w).bind fun w10 => some w10) else none
abbrev rm_X0_tellsFor : Room := { frames := 4, cells := 0, slots := 0, locals := 95 }
set_option maxHeartbeats 4000000 in
set_option maxRecDepth 100000 in
theorem ct_X0_tellsFor {l : Launch} {g : Gt} (G : Gok g) {a0 : Option Nat} {x1 : Int32} {w : cH}  {w9 : cH} (hF : F_X0_tellsFor a0 x1 w = some w9) : tg w a0 = some 0 ∧ Mx l yX0_tellsFor (ws_ yX0_tellsFor cX0_tellsFor 2 none) rm_X0_tellsFor g [va_rf a0, .int x1] w (.returned none) w9 0 0 := by
  unfold F_X0_tellsFor at hF
  obtain ⟨ht, hF⟩ := bg hF
  refine ⟨ht, mk_ct cX0_tellsFor 2 none "CarryFair" (plainFor_of_name (by decide)) rfl (lg_le ⟨cr _, rfl, trivial⟩ (Nat.le_of_ble_eq_true rfl)) (av_ok ⟨cr _, rfl, trivial⟩) G (fun x B hl hR hin hh => ?_)⟩
  show J g x _ _ 0 0 w 0 0 0 [some (va_rf a0), some (.int x1)] []
  refine j_aload_n B dX0_tellsFor_0 rfl ?_
  refine j_aload_n B dX0_tellsFor_1 rfl ?_
  refine j_iload_n B dX0_tellsFor_2 rfl ?_
  obtain ⟨a3p, e3, hF⟩ := bo hF
  refine j_rV (st2 := [va_rf a3p, va_rf a0]) B [.int x1] [va_rf a0] cv_X0_148 dX0_tellsFor_3 hl hR (ct_X0_carrierAt G e3) rfl rfl rfl rfl ⟨cr _, trivial⟩ (Nat.le_of_ble_eq_true rfl) ?_
  refine j_aload_n B dX0_tellsFor_6 rfl ?_
  refine j_getA B fl_X0_92 dX0_tellsFor_7 hF (fun a7p hF => ?_)
  obtain ⟨w10, e10, hF⟩ := bo hF
  refine j_rV (st2 := []) B [va_rf a3p, va_rf a7p] [] cv_X0_211 dX0_tellsFor_10 hl hR (ct_X0_tells G e10) rfl rfl rfl rfl trivial (Nat.le_of_ble_eq_true rfl) ?_
  exact j_lV B rfl dX0_tellsFor_13 hF (by decide) (by decide)
theorem cv_X0_239 : CV "CarryFair" 239 0 yX0_tellsFor cX0_tellsFor 2 none 1 := ⟨_, _, rfl, lw_V q738 q740 qs13 q126 q741, by decide +kernel⟩
def F_X0_farOf (a0 : Option Nat) (x1 : Int32) (x2 : Int32) (x3 : Int32) (w : cH) : Option (Int32 × cH) :=
  if tg w a0 = some 0 then ((F_X0_tellsFor a0 x1 w).bind fun w2 => (fA w2 a0 0 12).bind fun a6p => (aA w2 a6p 103 x2).bind fun a10p => (aI w2 a10p 100 x3).bind fun i12 =>if 1000000 ≤ i12 then (some ((-1), w2)) else ((fA w2 a0 0 12).bind fun a19p => (aA w2 a19p 103 x2).bind fun a23p => (aI w2 a23p 100 x3).bind fun i25 => some (i25, w2))) else none
abbrev rm_X0_farOf : Room := { frames := 5, cells := 0, slots := 0, locals := 116 }
set_option maxHeartbeats 4000000 in
set_option maxRecDepth 100000 in
theorem ct_X0_farOf {l : Launch} {g : Gt} (G : Gok g) {a0 : Option Nat} {x1 : Int32} {x2 : Int32} {x3 : Int32} {w : cH} {r9 : Int32} {w9 : cH} (hF : F_X0_farOf a0 x1 x2 x3 w = some (r9, w9)) : tg w a0 = some 0 ∧ Mx l yX0_farOf (ws_ yX0_farOf cX0_farOf 4 (some .int)) rm_X0_farOf g [va_rf a0, .int x1, .int x2, .int x3] w (.returned (some (.int r9))) w9 0 0 := by
  unfold F_X0_farOf at hF
  obtain ⟨ht, hF⟩ := bg hF
  refine ⟨ht, mk_ct cX0_farOf 4 (some .int) "CarryFair" (plainFor_of_name (by decide)) rfl (lg_le ⟨cr _, rfl, rfl, rfl, trivial⟩ (Nat.le_of_ble_eq_true rfl)) (av_ok ⟨cr _, rfl, rfl, rfl, trivial⟩) G (fun x B hl hR hin hh => ?_)⟩
  show J g x _ _ 0 0 w 0 0 0 [some (va_rf a0), some (.int x1), some (.int x2), some (.int x3)] []
  refine j_aload_n B dX0_farOf_0 rfl ?_
  refine j_iload_n B dX0_farOf_1 rfl ?_
  obtain ⟨w2, e2, hF⟩ := bo hF
  refine j_rV (st2 := []) B [.int x1] [] cv_X0_239 dX0_farOf_2 hl hR (ct_X0_tellsFor G e2) rfl rfl rfl rfl trivial (Nat.le_of_ble_eq_true rfl) ?_
  refine j_aload_n B dX0_farOf_5 rfl ?_
  refine j_getA B fl_X0_92 dX0_farOf_6 hF (fun a6p hF => ?_)
  refine j_iload_n B dX0_farOf_9 rfl ?_
  refine j_aaload B 103 rfl rfl dX0_farOf_10 hF (fun a10p hF => ?_)
  refine j_iload_n B dX0_farOf_11 rfl ?_
  refine j_iaload B dX0_farOf_12 hF (fun i12 hF => ?_)
  refine j_ldc (v := 1000000) B q671 dX0_farOf_13 ?_
  refine j_icmp_ge (tgt := 29) B dX0_farOf_15 (by decide) hF (fun h15 hF => ?_) (fun h15 hF => ?_)
  · refine j_iconst (v := (-1)) B dX0_farOf_29 (by decide) ?_
    exact j_lIw B rfl dX0_farOf_30 hF (by decide) (by decide)
  · refine j_aload_n B dX0_farOf_18 rfl ?_
    refine j_getA B fl_X0_92 dX0_farOf_19 hF (fun a19p hF => ?_)
    refine j_iload_n B dX0_farOf_22 rfl ?_
    refine j_aaload B 103 rfl rfl dX0_farOf_23 hF (fun a23p hF => ?_)
    refine j_iload_n B dX0_farOf_24 rfl ?_
    refine j_iaload B dX0_farOf_25 hF (fun i25 hF => ?_)
    refine j_goto (tgt := 30) B dX0_farOf_26 (by decide) ?_
    exact j_lIw B rfl dX0_farOf_30 hF (by decide) (by decide)
theorem cv_X0_242 : CV "CarryFair" 242 0 yX0_farOf cX0_farOf 4 (some .int) 3 := ⟨_, _, rfl, lw_V q734 q736 qs12 q126 q737, by decide +kernel⟩
def F_X0_far_J36 (a0 : Option Nat) (w : cH) : Option (Int32 × cH) :=
  cb (F_X0_finding a0 0 w) fun i38 w38 => some (i38, w38)
def F_X0_far (a0 : Option Nat) (x1 : Int32) (x2 : Int32) (x3 : Int32) (w : cH) : Option (Int32 × cH) :=
  if tg w a0 = some 0 then ((F_X0_isCarrier a0 x1 w).bind fun i2 =>if i2 = 0 then (F_X0_far_J36  a0 w) else (if (F_X0_isPlace x2) = 0 then (F_X0_far_J36  a0 w) else (if (F_X0_isPlace x3) = 0 then (F_X0_far_J36  a0 w) else (cb (F_X0_farOf a0 x1 x2 x3 w) fun i27 w27 => cb (F_X0_orNone a0 i27 w27) fun i30 w30 => some (i30, w30))))) else none
abbrev rm_X0_far : Room := { frames := 6, cells := 0, slots := 0, locals := 139 }
set_option maxHeartbeats 4000000 in
set_option maxRecDepth 100000 in
theorem ct_X0_far {l : Launch} {g : Gt} (G : Gok g) {a0 : Option Nat} {x1 : Int32} {x2 : Int32} {x3 : Int32} {w : cH} {r9 : Int32} {w9 : cH} (hF : F_X0_far a0 x1 x2 x3 w = some (r9, w9)) : tg w a0 = some 0 ∧ Mx l yX0_far (ws_ yX0_far cX0_far 4 (some .int)) rm_X0_far g [va_rf a0, .int x1, .int x2, .int x3] w (.returned (some (.int r9))) w9 0 0 := by
  unfold F_X0_far at hF
  obtain ⟨ht, hF⟩ := bg hF
  refine ⟨ht, mk_ct cX0_far 4 (some .int) "CarryFair" (plainFor_of_name (by decide)) rfl (lg_le ⟨cr _, rfl, rfl, rfl, trivial⟩ (Nat.le_of_ble_eq_true rfl)) (av_ok ⟨cr _, rfl, rfl, rfl, trivial⟩) G (fun x B hl hR hin hh => ?_)⟩
  show J g x _ _ 0 0 w 0 0 0 [some (va_rf a0), some (.int x1), some (.int x2), some (.int x3)] []
  have jb36 : ∀ (a0 : Option Nat) (w : cH), F_X0_far_J36  a0 w = some (r9, w9) → J g x (.returned (some (.int r9))) w9 0 0 w 0 0 36 [some (va_rf a0), none, none, none] [] := by
    intro a0 w hF
    unfold F_X0_far_J36 at hF
    refine j_aload_n B dX0_far_36 rfl ?_
    refine j_iconst (v := 0) B dX0_far_37 (by decide) ?_
    obtain ⟨i38, w38, e38, hF⟩ := bc hF
    refine j_rV (st2 := [.int i38]) B [.int 0] [] cv_X0_142 dX0_far_38 hl hR (ct_X0_finding G e38) rfl rfl rfl rfl trivial (Nat.le_of_ble_eq_true rfl) ?_
    exact j_lIw B rfl dX0_far_41 hF (by decide) (by decide)
  refine j_aload_n B dX0_far_0 rfl ?_
  refine j_iload_n B dX0_far_1 rfl ?_
  obtain ⟨i2, e2, hF⟩ := bo hF
  refine j_rV (st2 := [.int i2]) B [.int x1] [] cv_X0_161 dX0_far_2 hl hR (ct_X0_isCarrier G e2) rfl rfl rfl rfl trivial (Nat.le_of_ble_eq_true rfl) ?_
  refine j_if_eq (tgt := 36) B dX0_far_5 (by decide) hF (fun h5 hF => ?_) (fun h5 hF => ?_)
  · refine j_msk [true, false, false, false] rfl ?_
    exact jb36 a0 w hF
  · refine j_iload_n B dX0_far_8 rfl ?_
    refine j_rS (st2 := [.int (F_X0_isPlace x2)]) B [.int x2] [] cs_X0_7 dX0_far_9 hl hR (ct_X0_isPlace G) rfl rfl rfl rfl trivial (Nat.le_of_ble_eq_true rfl) ?_
    refine j_if_eq (tgt := 36) B dX0_far_12 (by decide) hF (fun h12 hF => ?_) (fun h12 hF => ?_)
    · refine j_msk [true, false, false, false] rfl ?_
      exact jb36 a0 w hF
    · refine j_iload_n B dX0_far_15 rfl ?_
      refine j_rS (st2 := [.int (F_X0_isPlace x3)]) B [.int x3] [] cs_X0_7 dX0_far_16 hl hR (ct_X0_isPlace G) rfl rfl rfl rfl trivial (Nat.le_of_ble_eq_true rfl) ?_
      refine j_if_eq (tgt := 36) B dX0_far_19 (by decide) hF (fun h19 hF => ?_) (fun h19 hF => ?_)
      · refine j_msk [true, false, false, false] rfl ?_
        exact jb36 a0 w hF
      · refine j_aload_n B dX0_far_22 rfl ?_
        refine j_aload_n B dX0_far_23 rfl ?_
        refine j_iload_n B dX0_far_24 rfl ?_
        refine j_iload_n B dX0_far_25 rfl ?_
        refine j_iload_n B dX0_far_26 rfl ?_
        obtain ⟨i27, w27, e27, hF⟩ := bc hF
        refine j_rV (st2 := [.int i27, va_rf a0]) B [.int x1, .int x2, .int x3] [va_rf a0] cv_X0_242 dX0_far_27 hl hR (ct_X0_farOf G e27) rfl rfl rfl rfl ⟨cr _, trivial⟩ (Nat.le_of_ble_eq_true rfl) ?_
        obtain ⟨i30, w30, e30, hF⟩ := bc hF
        refine j_rV (st2 := [.int i30]) B [.int i27] [] cv_X0_223 dX0_far_30 hl hR (ct_X0_orNone G e30) rfl rfl rfl rfl trivial (Nat.le_of_ble_eq_true rfl) ?_
        refine j_goto (tgt := 41) B dX0_far_33 (by decide) ?_
        exact j_lIw B rfl dX0_far_41 hF (by decide) (by decide)
def F_X0_firstTo_J86 (rc10 : (Option Nat) → Int32 → Int32 → (Option Nat) → Int32 → cH → Option Int32) (a0 : Option Nat) (x2 : Int32) (x3 : Int32) (a4 : Option Nat) (x5 : Int32) (w : cH) : Option Int32 :=
  rc10 a0 x2 x3 a4 (x5 + 1) w
def F_X0_firstTo_J60 (rc10 : (Option Nat) → Int32 → Int32 → (Option Nat) → Int32 → cH → Option Int32) (a0 : Option Nat) (x2 : Int32) (x3 : Int32) (a4 : Option Nat) (x5 : Int32) (s0 : Int32) (s1 : Int32) (s2 : Option Nat) (w : cH) : Option Int32 :=
  (V_counts s2 s1 s0 w).bind fun i60 => (fA w a0 0 12).bind fun a66p => (aA w a66p 103 x5).bind fun a71p => (aI w a71p 100 x3).bind fun i73 => (fA w a0 0 12).bind fun a76p => (aA w a76p 103 x2).bind fun a80p => (aI w a80p 100 x3).bind fun i82 =>if (i60 + i73) = i82 then (some (x5)) else (F_X0_firstTo_J86  rc10 a0 x2 x3 a4 x5 w)
def F_X0_firstTo_B10 (rc10 : Option Nat → Int32 → Int32 → Option Nat → Int32 → cH → Option Int32) (a0 : Option Nat) (x2 : Int32) (x3 : Int32) (a4 : Option Nat) (x5 : Int32) (w : cH) : Option Int32 :=
  (fA w a0 0 3).bind fun a11p => (fA w a11p 4 6).bind fun a14p => (aA w a14p 103 x2).bind fun a18p => (aI w a18p 100 x5).bind fun i21 =>if i21 = 0 then (F_X0_firstTo_J86  rc10 a0 x2 x3 a4 x5 w) else ((fA w a0 0 3).bind fun a28p => (fA w a28p 4 6).bind fun a31p => (aA w a31p 103 x2).bind fun a35p => (aI w a35p 100 x5).bind fun i38 => (fA w a0 0 3).bind fun a40p => (fA w a40p 4 7).bind fun a43p => (aA w a43p 103 x2).bind fun a47p => (aI w a47p 100 x5).bind fun i50 =>if ¬ i50 = 1 then (F_X0_firstTo_J60  rc10 a0 x2 x3 a4 x5 0 i38 a4 w) else (F_X0_firstTo_J60  rc10 a0 x2 x3 a4 x5 1 i38 a4 w))
def F_X0_firstTo_L10 : Nat → Option Nat → Int32 → Int32 → Option Nat → Int32 → cH → Option Int32
  | 0, _, _, _, _, _, _ => none
  | n9 + 1, a0, x2, x3, a4, x5, w => F_X0_firstTo_B10  (F_X0_firstTo_L10  n9) a0 x2 x3 a4 x5 w
def F_X0_firstTo (a0 : Option Nat) (x1 : Int32) (x2 : Int32) (x3 : Int32) (w : cH) : Option Int32 :=
  if tg w a0 = some 0 then ((F_X0_carrierAt a0 x1 w).bind fun a2p => F_X0_firstTo_L10  fu a0 x2 x3 a2p 0 w) else none
abbrev rm_X0_firstTo : Room := { frames := 2, cells := 0, slots := 0, locals := 45 }
set_option maxHeartbeats 4000000 in
set_option maxRecDepth 100000 in
theorem ct_X0_firstTo {l : Launch} {g : Gt} (G : Gok g) {a0 : Option Nat} {x1 : Int32} {x2 : Int32} {x3 : Int32} {w : cH} {r9 : Int32} (hF : F_X0_firstTo a0 x1 x2 x3 w = some r9) : tg w a0 = some 0 ∧ Mx l yX0_firstTo (ws_ yX0_firstTo cX0_firstTo 6 (some .int)) rm_X0_firstTo g [va_rf a0, .int x1, .int x2, .int x3] w (.returned (some (.int r9))) w 0 0 := by
  unfold F_X0_firstTo at hF
  obtain ⟨ht, hF⟩ := bg hF
  refine ⟨ht, mk_ct cX0_firstTo 6 (some .int) "CarryFair" (plainFor_of_name (by decide)) rfl (lg_le ⟨cr _, rfl, rfl, rfl, trivial⟩ (Nat.le_of_ble_eq_true rfl)) (av_ok ⟨cr _, rfl, rfl, rfl, trivial⟩) G (fun x B hl hR hin hh => ?_)⟩
  show J g x _ _ 0 0 w 0 0 0 [some (va_rf a0), some (.int x1), some (.int x2), some (.int x3), none, none] []
  have lp10 : ∀ (n9 : Nat) (a0 : Option Nat) (x2 : Int32) (x3 : Int32) (a4 : Option Nat) (x5 : Int32), F_X0_firstTo_L10  n9 a0 x2 x3 a4 x5 w = some r9 → J g x (.returned (some (.int r9))) w 0 0 w 0 0 10 [some (va_rf a0), none, some (.int x2), some (.int x3), some (va_rf a4), some (.int x5)] [] := by
    intro n9
    induction n9 with
    | zero => intro a0 x2 x3 a4 x5 hF; cases hF
    | succ n10 ih10 =>
      intro a0 x2 x3 a4 x5 hF
      have hF : F_X0_firstTo_B10  (F_X0_firstTo_L10  n10) a0 x2 x3 a4 x5 w = some r9 := hF
      unfold F_X0_firstTo_B10 at hF
      have jb86 : ∀ (a0 : Option Nat) (x2 : Int32) (x3 : Int32) (a4 : Option Nat) (x5 : Int32), F_X0_firstTo_J86  (F_X0_firstTo_L10  n10) a0 x2 x3 a4 x5 w = some r9 → J g x (.returned (some (.int r9))) w 0 0 w 0 0 86 [some (va_rf a0), none, some (.int x2), some (.int x3), some (va_rf a4), some (.int x5)] [] := by
        intro a0 x2 x3 a4 x5 hF
        unfold F_X0_firstTo_J86 at hF
        refine j_iinc (v := x5 + 1) (vs' := [some (va_rf a0), none, some (.int x2), some (.int x3), some (va_rf a4), some (.int (x5 + 1))]) B dX0_firstTo_86 (by decide) rfl rfl rfl ?_
        refine j_goto (tgt := 10) B dX0_firstTo_89 (by decide) ?_
        exact ih10 a0 x2 x3 a4 (x5 + 1) hF
      have jb60 : ∀ (a0 : Option Nat) (x2 : Int32) (x3 : Int32) (a4 : Option Nat) (x5 : Int32) (s0 : Int32) (s1 : Int32) (s2 : Option Nat), F_X0_firstTo_J60  (F_X0_firstTo_L10  n10) a0 x2 x3 a4 x5 s0 s1 s2 w = some r9 → J g x (.returned (some (.int r9))) w 0 0 w 0 0 60 [some (va_rf a0), none, some (.int x2), some (.int x3), some (va_rf a4), some (.int x5)] [.int s0, .int s1, va_rf s2] := by
        intro a0 x2 x3 a4 x5 s0 s1 s2 hF
        unfold F_X0_firstTo_J60 at hF
        obtain ⟨i60, e60, hF⟩ := bo hF
        refine vd_X0_197 B G [] e60 dX0_firstTo_60 hl hR rfl rfl rfl trivial (Nat.le_of_ble_eq_true rfl) ?_
        refine j_aload_n B dX0_firstTo_65 rfl ?_
        refine j_getA B fl_X0_92 dX0_firstTo_66 hF (fun a66p hF => ?_)
        refine j_iload B dX0_firstTo_69 rfl ?_
        refine j_aaload B 103 rfl rfl dX0_firstTo_71 hF (fun a71p hF => ?_)
        refine j_iload_n B dX0_firstTo_72 rfl ?_
        refine j_iaload B dX0_firstTo_73 hF (fun i73 hF => ?_)
        refine j_iadd B dX0_firstTo_74 ?_
        refine j_aload_n B dX0_firstTo_75 rfl ?_
        refine j_getA B fl_X0_92 dX0_firstTo_76 hF (fun a76p hF => ?_)
        refine j_iload_n B dX0_firstTo_79 rfl ?_
        refine j_aaload B 103 rfl rfl dX0_firstTo_80 hF (fun a80p hF => ?_)
        refine j_iload_n B dX0_firstTo_81 rfl ?_
        refine j_iaload B dX0_firstTo_82 hF (fun i82 hF => ?_)
        refine j_icmp_eq (tgt := 92) B dX0_firstTo_83 (by decide) hF (fun h83 hF => ?_) (fun h83 hF => ?_)
        · refine j_iload B dX0_firstTo_92 rfl ?_
          exact j_lI B rfl dX0_firstTo_94 hF (by decide) (by decide)
        · exact jb86 a0 x2 x3 a4 x5 hF
      refine j_aload_n B dX0_firstTo_10 rfl ?_
      refine j_getA B fl_X0_61 dX0_firstTo_11 hF (fun a11p hF => ?_)
      refine j_getA B fl_X0_183 dX0_firstTo_14 hF (fun a14p hF => ?_)
      refine j_iload_n B dX0_firstTo_17 rfl ?_
      refine j_aaload B 103 rfl rfl dX0_firstTo_18 hF (fun a18p hF => ?_)
      refine j_iload B dX0_firstTo_19 rfl ?_
      refine j_iaload B dX0_firstTo_21 hF (fun i21 hF => ?_)
      refine j_if_eq (tgt := 86) B dX0_firstTo_22 (by decide) hF (fun h22 hF => ?_) (fun h22 hF => ?_)
      · exact jb86 a0 x2 x3 a4 x5 hF
      · refine j_aload B dX0_firstTo_25 rfl ?_
        refine j_aload_n B dX0_firstTo_27 rfl ?_
        refine j_getA B fl_X0_61 dX0_firstTo_28 hF (fun a28p hF => ?_)
        refine j_getA B fl_X0_183 dX0_firstTo_31 hF (fun a31p hF => ?_)
        refine j_iload_n B dX0_firstTo_34 rfl ?_
        refine j_aaload B 103 rfl rfl dX0_firstTo_35 hF (fun a35p hF => ?_)
        refine j_iload B dX0_firstTo_36 rfl ?_
        refine j_iaload B dX0_firstTo_38 hF (fun i38 hF => ?_)
        refine j_aload_n B dX0_firstTo_39 rfl ?_
        refine j_getA B fl_X0_61 dX0_firstTo_40 hF (fun a40p hF => ?_)
        refine j_getA B fl_X0_190 dX0_firstTo_43 hF (fun a43p hF => ?_)
        refine j_iload_n B dX0_firstTo_46 rfl ?_
        refine j_aaload B 103 rfl rfl dX0_firstTo_47 hF (fun a47p hF => ?_)
        refine j_iload B dX0_firstTo_48 rfl ?_
        refine j_iaload B dX0_firstTo_50 hF (fun i50 hF => ?_)
        refine j_iconst (v := 1) B dX0_firstTo_51 (by decide) ?_
        refine j_icmp_ne (tgt := 59) B dX0_firstTo_52 (by decide) hF (fun h52 hF => ?_) (fun h52 hF => ?_)
        · refine j_iconst (v := 0) B dX0_firstTo_59 (by decide) ?_
          exact jb60 a0 x2 x3 a4 x5 0 i38 a4 hF
        · refine j_iconst (v := 1) B dX0_firstTo_55 (by decide) ?_
          refine j_goto (tgt := 60) B dX0_firstTo_56 (by decide) ?_
          exact jb60 a0 x2 x3 a4 x5 1 i38 a4 hF
  refine j_aload_n B dX0_firstTo_0 rfl ?_
  refine j_iload_n B dX0_firstTo_1 rfl ?_
  obtain ⟨a2p, e2, hF⟩ := bo hF
  refine j_rV (st2 := [va_rf a2p]) B [.int x1] [] cv_X0_148 dX0_firstTo_2 hl hR (ct_X0_carrierAt G e2) rfl rfl rfl rfl trivial (Nat.le_of_ble_eq_true rfl) ?_
  refine j_astore (vs' := [some (va_rf a0), some (.int x1), some (.int x2), some (.int x3), some (va_rf a2p), none]) B dX0_firstTo_5 (by decide) rfl ?_
  refine j_iconst (v := 0) B dX0_firstTo_7 (by decide) ?_
  refine j_istore (vs' := [some (va_rf a0), some (.int x1), some (.int x2), some (.int x3), some (va_rf a2p), some (.int 0)]) B dX0_firstTo_8 (by decide) rfl ?_
  refine j_msk [true, false, true, true, true, true] rfl ?_
  exact lp10 fu a0 x2 x3 a2p 0 hF
theorem cv_X0_246 : CV "CarryFair" 246 0 yX0_firstTo cX0_firstTo 6 (some .int) 3 := ⟨_, _, rfl, lw_V q746 q748 qs14 q126 q749, by decide +kernel⟩
def F_X0_first_J15 (a0 : Option Nat) (w : cH) : Option (Int32 × cH) :=
  cb (F_X0_finding a0 0 w) fun i17 w17 => some (i17, w17)
def F_X0_first (a0 : Option Nat) (x1 : Int32) (x2 : Int32) (w : cH) : Option (Int32 × cH) :=
  if tg w a0 = some 0 then ((F_X0_isCarrier a0 x1 w).bind fun i2 =>if i2 = 0 then (F_X0_first_J15  a0 w) else (if ¬ (F_X0_isPlace x2) = 0 then ((fA w a0 0 3).bind fun a22p => (fA w a22p 4 1).bind fun a25p => (aA w a25p 103 1).bind fun a29p => (aI w a29p 100 x1).bind fun i31 => cb (F_X0_farOf a0 x1 i31 x2 w) fun i37 w37 =>if ¬ i37 = (-1) then (if ¬ i31 = x2 then ((F_X0_firstTo a0 x1 i31 x2 w37).bind fun i63 => some (i63, w37)) else (some (x2, w37))) else (cb (F_X0_finding a0 3 w37) fun i46 w46 => some (i46, w46))) else (F_X0_first_J15  a0 w))) else none
abbrev rm_X0_first : Room := { frames := 6, cells := 0, slots := 0, locals := 139 }
set_option maxHeartbeats 4000000 in
set_option maxRecDepth 100000 in
theorem ct_X0_first {l : Launch} {g : Gt} (G : Gok g) {a0 : Option Nat} {x1 : Int32} {x2 : Int32} {w : cH} {r9 : Int32} {w9 : cH} (hF : F_X0_first a0 x1 x2 w = some (r9, w9)) : tg w a0 = some 0 ∧ Mx l yX0_first (ws_ yX0_first cX0_first 4 (some .int)) rm_X0_first g [va_rf a0, .int x1, .int x2] w (.returned (some (.int r9))) w9 0 0 := by
  unfold F_X0_first at hF
  obtain ⟨ht, hF⟩ := bg hF
  refine ⟨ht, mk_ct cX0_first 4 (some .int) "CarryFair" (plainFor_of_name (by decide)) rfl (lg_le ⟨cr _, rfl, rfl, trivial⟩ (Nat.le_of_ble_eq_true rfl)) (av_ok ⟨cr _, rfl, rfl, trivial⟩) G (fun x B hl hR hin hh => ?_)⟩
  show J g x _ _ 0 0 w 0 0 0 [some (va_rf a0), some (.int x1), some (.int x2), none] []
  have jb15 : ∀ (a0 : Option Nat) (w : cH), F_X0_first_J15  a0 w = some (r9, w9) → J g x (.returned (some (.int r9))) w9 0 0 w 0 0 15 [some (va_rf a0), none, none, none] [] := by
    intro a0 w hF
    unfold F_X0_first_J15 at hF
    refine j_aload_n B dX0_first_15 rfl ?_
    refine j_iconst (v := 0) B dX0_first_16 (by decide) ?_
    obtain ⟨i17, w17, e17, hF⟩ := bc hF
    refine j_rV (st2 := [.int i17]) B [.int 0] [] cv_X0_142 dX0_first_17 hl hR (ct_X0_finding G e17) rfl rfl rfl rfl trivial (Nat.le_of_ble_eq_true rfl) ?_
    exact j_lIw B rfl dX0_first_20 hF (by decide) (by decide)
  refine j_aload_n B dX0_first_0 rfl ?_
  refine j_iload_n B dX0_first_1 rfl ?_
  obtain ⟨i2, e2, hF⟩ := bo hF
  refine j_rV (st2 := [.int i2]) B [.int x1] [] cv_X0_161 dX0_first_2 hl hR (ct_X0_isCarrier G e2) rfl rfl rfl rfl trivial (Nat.le_of_ble_eq_true rfl) ?_
  refine j_if_eq (tgt := 15) B dX0_first_5 (by decide) hF (fun h5 hF => ?_) (fun h5 hF => ?_)
  · refine j_msk [true, false, false, false] rfl ?_
    exact jb15 a0 w hF
  · refine j_iload_n B dX0_first_8 rfl ?_
    refine j_rS (st2 := [.int (F_X0_isPlace x2)]) B [.int x2] [] cs_X0_7 dX0_first_9 hl hR (ct_X0_isPlace G) rfl rfl rfl rfl trivial (Nat.le_of_ble_eq_true rfl) ?_
    refine j_if_ne (tgt := 21) B dX0_first_12 (by decide) hF (fun h12 hF => ?_) (fun h12 hF => ?_)
    · refine j_aload_n B dX0_first_21 rfl ?_
      refine j_getA B fl_X0_61 dX0_first_22 hF (fun a22p hF => ?_)
      refine j_getA B fl_X0_113 dX0_first_25 hF (fun a25p hF => ?_)
      refine j_iconst (v := 1) B dX0_first_28 (by decide) ?_
      refine j_aaload B 103 rfl rfl dX0_first_29 hF (fun a29p hF => ?_)
      refine j_iload_n B dX0_first_30 rfl ?_
      refine j_iaload B dX0_first_31 hF (fun i31 hF => ?_)
      refine j_istore_n (vs' := [some (va_rf a0), some (.int x1), some (.int x2), some (.int i31)]) B dX0_first_32 (by decide) rfl ?_
      refine j_aload_n B dX0_first_33 rfl ?_
      refine j_iload_n B dX0_first_34 rfl ?_
      refine j_iload_n B dX0_first_35 rfl ?_
      refine j_iload_n B dX0_first_36 rfl ?_
      obtain ⟨i37, w37, e37, hF⟩ := bc hF
      refine j_rV (st2 := [.int i37]) B [.int x1, .int i31, .int x2] [] cv_X0_242 dX0_first_37 hl hR (ct_X0_farOf G e37) rfl rfl rfl rfl trivial (Nat.le_of_ble_eq_true rfl) ?_
      refine j_iconst (v := (-1)) B dX0_first_40 (by decide) ?_
      refine j_icmp_ne (tgt := 50) B dX0_first_41 (by decide) hF (fun h41 hF => ?_) (fun h41 hF => ?_)
      · refine j_iload_n B dX0_first_50 rfl ?_
        refine j_iload_n B dX0_first_51 rfl ?_
        refine j_icmp_ne (tgt := 59) B dX0_first_52 (by decide) hF (fun h52 hF => ?_) (fun h52 hF => ?_)
        · refine j_aload_n B dX0_first_59 rfl ?_
          refine j_iload_n B dX0_first_60 rfl ?_
          refine j_iload_n B dX0_first_61 rfl ?_
          refine j_iload_n B dX0_first_62 rfl ?_
          obtain ⟨i63, e63, hF⟩ := bo hF
          refine j_rV (st2 := [.int i63]) B [.int x1, .int i31, .int x2] [] cv_X0_246 dX0_first_63 hl hR (ct_X0_firstTo G e63) rfl rfl rfl rfl trivial (Nat.le_of_ble_eq_true rfl) ?_
          exact j_lIw B rfl dX0_first_66 hF (by decide) (by decide)
        · refine j_iload_n B dX0_first_55 rfl ?_
          refine j_goto (tgt := 66) B dX0_first_56 (by decide) ?_
          exact j_lIw B rfl dX0_first_66 hF (by decide) (by decide)
      · refine j_aload_n B dX0_first_44 rfl ?_
        refine j_iconst (v := 3) B dX0_first_45 (by decide) ?_
        obtain ⟨i46, w46, e46, hF⟩ := bc hF
        refine j_rV (st2 := [.int i46]) B [.int 3] [] cv_X0_142 dX0_first_46 hl hR (ct_X0_finding G e46) rfl rfl rfl rfl trivial (Nat.le_of_ble_eq_true rfl) ?_
        exact j_lIw B rfl dX0_first_49 hF (by decide) (by decide)
    · refine j_msk [true, false, false, false] rfl ?_
      exact jb15 a0 w hF
def F_X0_canTake (a0 : Option Nat) (x1 : Int32) (x2 : Int32) (w : cH) : Option Int32 :=
  if tg w a0 = some 0 then ((fA w a0 0 3).bind fun a1p => (fA w a0 0 3).bind fun a5p => (F_X4_carriedBy a5p x1 w).bind fun i9 => (F_X4_weight a1p i9 w).bind fun i12 => (fA w a0 0 3).bind fun a16p => (fA w a16p 4 3).bind fun a19p => (aA w a19p 103 0).bind fun a23p => (aI w a23p 100 x2).bind fun i25 => (F_X0_bearsOf a0 x1 w).bind fun i29 =>if i29 < (i12 + i25) then (some (0)) else (some (1))) else none
abbrev rm_X0_canTake : Room := { frames := 3, cells := 0, slots := 0, locals := 63 }
set_option maxHeartbeats 4000000 in
set_option maxRecDepth 100000 in
theorem ct_X0_canTake {l : Launch} {g : Gt} (G : Gok g) {a0 : Option Nat} {x1 : Int32} {x2 : Int32} {w : cH} {r9 : Int32} (hF : F_X0_canTake a0 x1 x2 w = some r9) : tg w a0 = some 0 ∧ Mx l yX0_canTake (ws_ yX0_canTake cX0_canTake 3 (some .boolean)) rm_X0_canTake g [va_rf a0, .int x1, .int x2] w (.returned (some (.int r9))) w 0 0 := by
  unfold F_X0_canTake at hF
  obtain ⟨ht, hF⟩ := bg hF
  refine ⟨ht, mk_ct cX0_canTake 3 (some .boolean) "CarryFair" (plainFor_of_name (by decide)) rfl (lg_le ⟨cr _, rfl, rfl, trivial⟩ (Nat.le_of_ble_eq_true rfl)) (av_ok ⟨cr _, rfl, rfl, trivial⟩) G (fun x B hl hR hin hh => ?_)⟩
  show J g x _ _ 0 0 w 0 0 0 [some (va_rf a0), some (.int x1), some (.int x2)] []
  refine j_aload_n B dX0_canTake_0 rfl ?_
  refine j_getA B fl_X0_61 dX0_canTake_1 hF (fun a1p hF => ?_)
  refine j_aload_n B dX0_canTake_4 rfl ?_
  refine j_getA B fl_X0_61 dX0_canTake_5 hF (fun a5p hF => ?_)
  refine j_iload_n B dX0_canTake_8 rfl ?_
  obtain ⟨i9, e9, hF⟩ := bo hF
  refine j_rV (st2 := [.int i9, va_rf a1p]) B [.int x1] [va_rf a1p] cv_X0_170 dX0_canTake_9 hl hR (ct_X4_carriedBy G e9) rfl rfl rfl rfl ⟨cr _, trivial⟩ (Nat.le_of_ble_eq_true rfl) ?_
  obtain ⟨i12, e12, hF⟩ := bo hF
  refine j_rV (st2 := [.int i12]) B [.int i9] [] cv_X0_173 dX0_canTake_12 hl hR (ct_X4_weight G e12) rfl rfl rfl rfl trivial (Nat.le_of_ble_eq_true rfl) ?_
  refine j_aload_n B dX0_canTake_15 rfl ?_
  refine j_getA B fl_X0_61 dX0_canTake_16 hF (fun a16p hF => ?_)
  refine j_getA B fl_X0_214 dX0_canTake_19 hF (fun a19p hF => ?_)
  refine j_iconst (v := 0) B dX0_canTake_22 (by decide) ?_
  refine j_aaload B 103 rfl rfl dX0_canTake_23 hF (fun a23p hF => ?_)
  refine j_iload_n B dX0_canTake_24 rfl ?_
  refine j_iaload B dX0_canTake_25 hF (fun i25 hF => ?_)
  refine j_iadd B dX0_canTake_26 ?_
  refine j_aload_n B dX0_canTake_27 rfl ?_
  refine j_iload_n B dX0_canTake_28 rfl ?_
  obtain ⟨i29, e29, hF⟩ := bo hF
  refine j_rV (st2 := [.int i29, .int (i12 + i25)]) B [.int x1] [.int (i12 + i25)] cv_X0_167 dX0_canTake_29 hl hR (ct_X0_bearsOf G e29) rfl rfl rfl rfl ⟨rfl, trivial⟩ (Nat.le_of_ble_eq_true rfl) ?_
  refine j_icmp_gt (tgt := 39) B dX0_canTake_32 (by decide) hF (fun h32 hF => ?_) (fun h32 hF => ?_)
  · refine j_iconst (v := 0) B dX0_canTake_39 (by decide) ?_
    exact j_lZ B (by decide) rfl dX0_canTake_40 hF (by decide) (by decide)
  · refine j_iconst (v := 1) B dX0_canTake_35 (by decide) ?_
    refine j_goto (tgt := 40) B dX0_canTake_36 (by decide) ?_
    exact j_lZ B (by decide) rfl dX0_canTake_40 hF (by decide) (by decide)
theorem cv_X0_249 : CV "CarryFair" 249 4 yX4_liesAt cX4_liesAt 3 (some .boolean) 2 := ⟨_, _, rfl, lw_V q754 q755 q756 q133 q757, by decide +kernel⟩
theorem cv_X0_252 : CV "CarryFair" 252 0 yX0_canTake cX0_canTake 3 (some .boolean) 2 := ⟨_, _, rfl, lw_V q758 q760 qs15 q126 q761, by decide +kernel⟩
theorem cv_X0_255 : CV "CarryFair" 255 4 yX4_puts cX4_puts 4 none 3 := ⟨_, _, rfl, lw_V q762 q763 q764 q133 q765, by decide +kernel⟩
def F_X0_take_J16 (a0 : Option Nat) (w : cH) : Option (Int32 × cH) :=
  cb (F_X0_finding a0 0 w) fun i18 w18 => some (i18, w18)
def F_X0_take (a0 : Option Nat) (x1 : Int32) (x2 : Int32) (w : cH) : Option (Int32 × cH) :=
  if tg w a0 = some 0 then ((F_X0_isCarrier a0 x1 w).bind fun i2 =>if i2 = 0 then (F_X0_take_J16  a0 w) else ((F_X0_isErrand a0 x2 w).bind fun i10 =>if ¬ i10 = 0 then ((fA w a0 0 3).bind fun a23p => (fA w a0 0 3).bind fun a28p => (fA w a28p 4 1).bind fun a31p => (aA w a31p 103 1).bind fun a35p => (aI w a35p 100 x1).bind fun i37 => (F_X4_liesAt a23p x2 i37 w).bind fun i38 =>if ¬ i38 = 0 then ((F_X0_canTake a0 x1 x2 w).bind fun i53 =>if ¬ i53 = 0 then ((fA w a0 0 3).bind fun a66p => (F_X4_puts a66p x2 1 x1 w).bind fun w72 => (fA w72 a0 0 3).bind fun a76p => (fA w72 a0 0 3).bind fun a80p => (F_X4_carriedBy a80p x1 w72).bind fun i84 => (F_X4_weight a76p i84 w72).bind fun i87 => some (i87, w72)) else (cb (F_X0_finding a0 1 w) fun i61 w61 => some (i61, w61))) else (cb (F_X0_finding a0 4 w) fun i46 w46 => some (i46, w46))) else (F_X0_take_J16  a0 w))) else none
abbrev rm_X0_take : Room := { frames := 4, cells := 0, slots := 0, locals := 85 }
set_option maxHeartbeats 4000000 in
set_option maxRecDepth 100000 in
theorem ct_X0_take {l : Launch} {g : Gt} (G : Gok g) {a0 : Option Nat} {x1 : Int32} {x2 : Int32} {w : cH} {r9 : Int32} {w9 : cH} (hF : F_X0_take a0 x1 x2 w = some (r9, w9)) : tg w a0 = some 0 ∧ Mx l yX0_take (ws_ yX0_take cX0_take 3 (some .int)) rm_X0_take g [va_rf a0, .int x1, .int x2] w (.returned (some (.int r9))) w9 0 0 := by
  unfold F_X0_take at hF
  obtain ⟨ht, hF⟩ := bg hF
  refine ⟨ht, mk_ct cX0_take 3 (some .int) "CarryFair" (plainFor_of_name (by decide)) rfl (lg_le ⟨cr _, rfl, rfl, trivial⟩ (Nat.le_of_ble_eq_true rfl)) (av_ok ⟨cr _, rfl, rfl, trivial⟩) G (fun x B hl hR hin hh => ?_)⟩
  show J g x _ _ 0 0 w 0 0 0 [some (va_rf a0), some (.int x1), some (.int x2)] []
  have jb16 : ∀ (a0 : Option Nat) (w : cH), F_X0_take_J16  a0 w = some (r9, w9) → J g x (.returned (some (.int r9))) w9 0 0 w 0 0 16 [some (va_rf a0), none, none] [] := by
    intro a0 w hF
    unfold F_X0_take_J16 at hF
    refine j_aload_n B dX0_take_16 rfl ?_
    refine j_iconst (v := 0) B dX0_take_17 (by decide) ?_
    obtain ⟨i18, w18, e18, hF⟩ := bc hF
    refine j_rV (st2 := [.int i18]) B [.int 0] [] cv_X0_142 dX0_take_18 hl hR (ct_X0_finding G e18) rfl rfl rfl rfl trivial (Nat.le_of_ble_eq_true rfl) ?_
    exact j_lIw B rfl dX0_take_21 hF (by decide) (by decide)
  refine j_aload_n B dX0_take_0 rfl ?_
  refine j_iload_n B dX0_take_1 rfl ?_
  obtain ⟨i2, e2, hF⟩ := bo hF
  refine j_rV (st2 := [.int i2]) B [.int x1] [] cv_X0_161 dX0_take_2 hl hR (ct_X0_isCarrier G e2) rfl rfl rfl rfl trivial (Nat.le_of_ble_eq_true rfl) ?_
  refine j_if_eq (tgt := 16) B dX0_take_5 (by decide) hF (fun h5 hF => ?_) (fun h5 hF => ?_)
  · refine j_msk [true, false, false] rfl ?_
    exact jb16 a0 w hF
  · refine j_aload_n B dX0_take_8 rfl ?_
    refine j_iload_n B dX0_take_9 rfl ?_
    obtain ⟨i10, e10, hF⟩ := bo hF
    refine j_rV (st2 := [.int i10]) B [.int x2] [] cv_X0_217 dX0_take_10 hl hR (ct_X0_isErrand G e10) rfl rfl rfl rfl trivial (Nat.le_of_ble_eq_true rfl) ?_
    refine j_if_ne (tgt := 22) B dX0_take_13 (by decide) hF (fun h13 hF => ?_) (fun h13 hF => ?_)
    · refine j_aload_n B dX0_take_22 rfl ?_
      refine j_getA B fl_X0_61 dX0_take_23 hF (fun a23p hF => ?_)
      refine j_iload_n B dX0_take_26 rfl ?_
      refine j_aload_n B dX0_take_27 rfl ?_
      refine j_getA B fl_X0_61 dX0_take_28 hF (fun a28p hF => ?_)
      refine j_getA B fl_X0_113 dX0_take_31 hF (fun a31p hF => ?_)
      refine j_iconst (v := 1) B dX0_take_34 (by decide) ?_
      refine j_aaload B 103 rfl rfl dX0_take_35 hF (fun a35p hF => ?_)
      refine j_iload_n B dX0_take_36 rfl ?_
      refine j_iaload B dX0_take_37 hF (fun i37 hF => ?_)
      obtain ⟨i38, e38, hF⟩ := bo hF
      refine j_rV (st2 := [.int i38]) B [.int x2, .int i37] [] cv_X0_249 dX0_take_38 hl hR (ct_X4_liesAt G e38) rfl rfl rfl rfl trivial (Nat.le_of_ble_eq_true rfl) ?_
      refine j_if_ne (tgt := 50) B dX0_take_41 (by decide) hF (fun h41 hF => ?_) (fun h41 hF => ?_)
      · refine j_aload_n B dX0_take_50 rfl ?_
        refine j_iload_n B dX0_take_51 rfl ?_
        refine j_iload_n B dX0_take_52 rfl ?_
        obtain ⟨i53, e53, hF⟩ := bo hF
        refine j_rV (st2 := [.int i53]) B [.int x1, .int x2] [] cv_X0_252 dX0_take_53 hl hR (ct_X0_canTake G e53) rfl rfl rfl rfl trivial (Nat.le_of_ble_eq_true rfl) ?_
        refine j_if_ne (tgt := 65) B dX0_take_56 (by decide) hF (fun h56 hF => ?_) (fun h56 hF => ?_)
        · refine j_aload_n B dX0_take_65 rfl ?_
          refine j_getA B fl_X0_61 dX0_take_66 hF (fun a66p hF => ?_)
          refine j_iload_n B dX0_take_69 rfl ?_
          refine j_iconst (v := 1) B dX0_take_70 (by decide) ?_
          refine j_iload_n B dX0_take_71 rfl ?_
          obtain ⟨w72, e72, hF⟩ := bo hF
          refine j_rV (st2 := []) B [.int x2, .int 1, .int x1] [] cv_X0_255 dX0_take_72 hl hR (ct_X4_puts G e72) rfl rfl rfl rfl trivial (Nat.le_of_ble_eq_true rfl) ?_
          refine j_aload_n B dX0_take_75 rfl ?_
          refine j_getA B fl_X0_61 dX0_take_76 hF (fun a76p hF => ?_)
          refine j_aload_n B dX0_take_79 rfl ?_
          refine j_getA B fl_X0_61 dX0_take_80 hF (fun a80p hF => ?_)
          refine j_iload_n B dX0_take_83 rfl ?_
          obtain ⟨i84, e84, hF⟩ := bo hF
          refine j_rV (st2 := [.int i84, va_rf a76p]) B [.int x1] [va_rf a76p] cv_X0_170 dX0_take_84 hl hR (ct_X4_carriedBy G e84) rfl rfl rfl rfl ⟨cr _, trivial⟩ (Nat.le_of_ble_eq_true rfl) ?_
          obtain ⟨i87, e87, hF⟩ := bo hF
          refine j_rV (st2 := [.int i87]) B [.int i84] [] cv_X0_173 dX0_take_87 hl hR (ct_X4_weight G e87) rfl rfl rfl rfl trivial (Nat.le_of_ble_eq_true rfl) ?_
          exact j_lIw B rfl dX0_take_90 hF (by decide) (by decide)
        · refine j_aload_n B dX0_take_59 rfl ?_
          refine j_iconst (v := 1) B dX0_take_60 (by decide) ?_
          obtain ⟨i61, w61, e61, hF⟩ := bc hF
          refine j_rV (st2 := [.int i61]) B [.int 1] [] cv_X0_142 dX0_take_61 hl hR (ct_X0_finding G e61) rfl rfl rfl rfl trivial (Nat.le_of_ble_eq_true rfl) ?_
          exact j_lIw B rfl dX0_take_64 hF (by decide) (by decide)
      · refine j_aload_n B dX0_take_44 rfl ?_
        refine j_iconst (v := 4) B dX0_take_45 (by decide) ?_
        obtain ⟨i46, w46, e46, hF⟩ := bc hF
        refine j_rV (st2 := [.int i46]) B [.int 4] [] cv_X0_142 dX0_take_46 hl hR (ct_X0_finding G e46) rfl rfl rfl rfl trivial (Nat.le_of_ble_eq_true rfl) ?_
        exact j_lIw B rfl dX0_take_49 hF (by decide) (by decide)
    · refine j_msk [true, false, false] rfl ?_
      exact jb16 a0 w hF
theorem cs_X0_258 : CS "CarryFair" 258 yX0_has cX0_has 2 (some .boolean) 2 := ⟨Or.inl (lw_S q770 q615 q126 q616), by decide +kernel⟩
def F_X0_drop_J64 (a0 : Option Nat) (w : cH) : Option (Int32 × cH) :=
  cb (F_X0_finding a0 4 w) fun i66 w66 => some (i66, w66)
def F_X0_drop_J16 (a0 : Option Nat) (w : cH) : Option (Int32 × cH) :=
  cb (F_X0_finding a0 0 w) fun i18 w18 => some (i18, w18)
def F_X0_drop (a0 : Option Nat) (x1 : Int32) (x2 : Int32) (w : cH) : Option (Int32 × cH) :=
  if tg w a0 = some 0 then ((F_X0_isCarrier a0 x1 w).bind fun i2 =>if i2 = 0 then (F_X0_drop_J16  a0 w) else ((F_X0_isErrand a0 x2 w).bind fun i10 =>if ¬ i10 = 0 then ((fA w a0 0 3).bind fun a23p => (fA w a23p 4 1).bind fun a26p => (aA w a26p 103 1).bind fun a30p => (aI w a30p 100 x1).bind fun i32 => (fA w a0 0 3).bind fun a35p => (F_X4_carriedBy a35p x1 w).bind fun i39 =>if (F_X0_has i39 x2) = 0 then (F_X0_drop_J64  a0 w) else ((fA w a0 0 3).bind fun a50p => (fA w a50p 4 3).bind fun a53p => (aA w a53p 103 2).bind fun a57p => (aI w a57p 100 x2).bind fun i59 =>if ¬ i59 = i32 then ((fA w a0 0 3).bind fun a71p => (F_X4_puts a71p x2 0 (-1) w).bind fun w77 => (fA w77 a0 0 3).bind fun a81p => (fA w77 a81p 4 3).bind fun a84p => (aA w77 a84p 103 1).bind fun a88p => (aS w77 a88p 100 x2 (.int i32)).bind fun w91 => (fA w91 a0 0 3).bind fun a93p => (fA w91 a0 0 3).bind fun a97p => (F_X4_carriedBy a97p x1 w91).bind fun i101 => (F_X4_weight a93p i101 w91).bind fun i104 => some (i104, w91)) else (F_X0_drop_J64  a0 w))) else (F_X0_drop_J16  a0 w))) else none
abbrev rm_X0_drop : Room := { frames := 2, cells := 0, slots := 0, locals := 44 }
set_option maxHeartbeats 4000000 in
set_option maxRecDepth 100000 in
theorem ct_X0_drop {l : Launch} {g : Gt} (G : Gok g) {a0 : Option Nat} {x1 : Int32} {x2 : Int32} {w : cH} {r9 : Int32} {w9 : cH} (hF : F_X0_drop a0 x1 x2 w = some (r9, w9)) : tg w a0 = some 0 ∧ Mx l yX0_drop (ws_ yX0_drop cX0_drop 4 (some .int)) rm_X0_drop g [va_rf a0, .int x1, .int x2] w (.returned (some (.int r9))) w9 0 0 := by
  unfold F_X0_drop at hF
  obtain ⟨ht, hF⟩ := bg hF
  refine ⟨ht, mk_ct cX0_drop 4 (some .int) "CarryFair" (plainFor_of_name (by decide)) rfl (lg_le ⟨cr _, rfl, rfl, trivial⟩ (Nat.le_of_ble_eq_true rfl)) (av_ok ⟨cr _, rfl, rfl, trivial⟩) G (fun x B hl hR hin hh => ?_)⟩
  show J g x _ _ 0 0 w 0 0 0 [some (va_rf a0), some (.int x1), some (.int x2), none] []
  have jb64 : ∀ (a0 : Option Nat) (w : cH), F_X0_drop_J64  a0 w = some (r9, w9) → J g x (.returned (some (.int r9))) w9 0 0 w 0 0 64 [some (va_rf a0), none, none, none] [] := by
    intro a0 w hF
    unfold F_X0_drop_J64 at hF
    refine j_aload_n B dX0_drop_64 rfl ?_
    refine j_iconst (v := 4) B dX0_drop_65 (by decide) ?_
    obtain ⟨i66, w66, e66, hF⟩ := bc hF
    refine j_rV (st2 := [.int i66]) B [.int 4] [] cv_X0_142 dX0_drop_66 hl hR (ct_X0_finding G e66) rfl rfl rfl rfl trivial (Nat.le_of_ble_eq_true rfl) ?_
    exact j_lIw B rfl dX0_drop_69 hF (by decide) (by decide)
  have jb16 : ∀ (a0 : Option Nat) (w : cH), F_X0_drop_J16  a0 w = some (r9, w9) → J g x (.returned (some (.int r9))) w9 0 0 w 0 0 16 [some (va_rf a0), none, none, none] [] := by
    intro a0 w hF
    unfold F_X0_drop_J16 at hF
    refine j_aload_n B dX0_drop_16 rfl ?_
    refine j_iconst (v := 0) B dX0_drop_17 (by decide) ?_
    obtain ⟨i18, w18, e18, hF⟩ := bc hF
    refine j_rV (st2 := [.int i18]) B [.int 0] [] cv_X0_142 dX0_drop_18 hl hR (ct_X0_finding G e18) rfl rfl rfl rfl trivial (Nat.le_of_ble_eq_true rfl) ?_
    exact j_lIw B rfl dX0_drop_21 hF (by decide) (by decide)
  refine j_aload_n B dX0_drop_0 rfl ?_
  refine j_iload_n B dX0_drop_1 rfl ?_
  obtain ⟨i2, e2, hF⟩ := bo hF
  refine j_rV (st2 := [.int i2]) B [.int x1] [] cv_X0_161 dX0_drop_2 hl hR (ct_X0_isCarrier G e2) rfl rfl rfl rfl trivial (Nat.le_of_ble_eq_true rfl) ?_
  refine j_if_eq (tgt := 16) B dX0_drop_5 (by decide) hF (fun h5 hF => ?_) (fun h5 hF => ?_)
  · refine j_msk [true, false, false, false] rfl ?_
    exact jb16 a0 w hF
  · refine j_aload_n B dX0_drop_8 rfl ?_
    refine j_iload_n B dX0_drop_9 rfl ?_
    obtain ⟨i10, e10, hF⟩ := bo hF
    refine j_rV (st2 := [.int i10]) B [.int x2] [] cv_X0_217 dX0_drop_10 hl hR (ct_X0_isErrand G e10) rfl rfl rfl rfl trivial (Nat.le_of_ble_eq_true rfl) ?_
    refine j_if_ne (tgt := 22) B dX0_drop_13 (by decide) hF (fun h13 hF => ?_) (fun h13 hF => ?_)
    · refine j_aload_n B dX0_drop_22 rfl ?_
      refine j_getA B fl_X0_61 dX0_drop_23 hF (fun a23p hF => ?_)
      refine j_getA B fl_X0_113 dX0_drop_26 hF (fun a26p hF => ?_)
      refine j_iconst (v := 1) B dX0_drop_29 (by decide) ?_
      refine j_aaload B 103 rfl rfl dX0_drop_30 hF (fun a30p hF => ?_)
      refine j_iload_n B dX0_drop_31 rfl ?_
      refine j_iaload B dX0_drop_32 hF (fun i32 hF => ?_)
      refine j_istore_n (vs' := [some (va_rf a0), some (.int x1), some (.int x2), some (.int i32)]) B dX0_drop_33 (by decide) rfl ?_
      refine j_aload_n B dX0_drop_34 rfl ?_
      refine j_getA B fl_X0_61 dX0_drop_35 hF (fun a35p hF => ?_)
      refine j_iload_n B dX0_drop_38 rfl ?_
      obtain ⟨i39, e39, hF⟩ := bo hF
      refine j_rV (st2 := [.int i39]) B [.int x1] [] cv_X0_170 dX0_drop_39 hl hR (ct_X4_carriedBy G e39) rfl rfl rfl rfl trivial (Nat.le_of_ble_eq_true rfl) ?_
      refine j_iload_n B dX0_drop_42 rfl ?_
      refine j_rS (st2 := [.int (F_X0_has i39 x2)]) B [.int i39, .int x2] [] cs_X0_258 dX0_drop_43 hl hR (ct_X0_has G) rfl rfl rfl rfl trivial (Nat.le_of_ble_eq_true rfl) ?_
      refine j_if_eq (tgt := 64) B dX0_drop_46 (by decide) hF (fun h46 hF => ?_) (fun h46 hF => ?_)
      · refine j_msk [true, false, false, false] rfl ?_
        exact jb64 a0 w hF
      · refine j_aload_n B dX0_drop_49 rfl ?_
        refine j_getA B fl_X0_61 dX0_drop_50 hF (fun a50p hF => ?_)
        refine j_getA B fl_X0_214 dX0_drop_53 hF (fun a53p hF => ?_)
        refine j_iconst (v := 2) B dX0_drop_56 (by decide) ?_
        refine j_aaload B 103 rfl rfl dX0_drop_57 hF (fun a57p hF => ?_)
        refine j_iload_n B dX0_drop_58 rfl ?_
        refine j_iaload B dX0_drop_59 hF (fun i59 hF => ?_)
        refine j_iload_n B dX0_drop_60 rfl ?_
        refine j_icmp_ne (tgt := 70) B dX0_drop_61 (by decide) hF (fun h61 hF => ?_) (fun h61 hF => ?_)
        · refine j_aload_n B dX0_drop_70 rfl ?_
          refine j_getA B fl_X0_61 dX0_drop_71 hF (fun a71p hF => ?_)
          refine j_iload_n B dX0_drop_74 rfl ?_
          refine j_iconst (v := 0) B dX0_drop_75 (by decide) ?_
          refine j_iconst (v := (-1)) B dX0_drop_76 (by decide) ?_
          obtain ⟨w77, e77, hF⟩ := bo hF
          refine j_rV (st2 := []) B [.int x2, .int 0, .int (-1)] [] cv_X0_255 dX0_drop_77 hl hR (ct_X4_puts G e77) rfl rfl rfl rfl trivial (Nat.le_of_ble_eq_true rfl) ?_
          refine j_aload_n B dX0_drop_80 rfl ?_
          refine j_getA B fl_X0_61 dX0_drop_81 hF (fun a81p hF => ?_)
          refine j_getA B fl_X0_214 dX0_drop_84 hF (fun a84p hF => ?_)
          refine j_iconst (v := 1) B dX0_drop_87 (by decide) ?_
          refine j_aaload B 103 rfl rfl dX0_drop_88 hF (fun a88p hF => ?_)
          refine j_iload_n B dX0_drop_89 rfl ?_
          refine j_iload_n B dX0_drop_90 rfl ?_
          refine j_iastore B dX0_drop_91 hF (fun w91 hF => ?_)
          refine j_aload_n B dX0_drop_92 rfl ?_
          refine j_getA B fl_X0_61 dX0_drop_93 hF (fun a93p hF => ?_)
          refine j_aload_n B dX0_drop_96 rfl ?_
          refine j_getA B fl_X0_61 dX0_drop_97 hF (fun a97p hF => ?_)
          refine j_iload_n B dX0_drop_100 rfl ?_
          obtain ⟨i101, e101, hF⟩ := bo hF
          refine j_rV (st2 := [.int i101, va_rf a93p]) B [.int x1] [va_rf a93p] cv_X0_170 dX0_drop_101 hl hR (ct_X4_carriedBy G e101) rfl rfl rfl rfl ⟨cr _, trivial⟩ (Nat.le_of_ble_eq_true rfl) ?_
          obtain ⟨i104, e104, hF⟩ := bo hF
          refine j_rV (st2 := [.int i104]) B [.int i101] [] cv_X0_173 dX0_drop_104 hl hR (ct_X4_weight G e104) rfl rfl rfl rfl trivial (Nat.le_of_ble_eq_true rfl) ?_
          exact j_lIw B rfl dX0_drop_107 hF (by decide) (by decide)
        · refine j_msk [true, false, false, false] rfl ?_
          exact jb64 a0 w hF
    · refine j_msk [true, false, false, false] rfl ?_
      exact jb16 a0 w hF
def F_X6_gets (a0 : Option Nat) (x1 : Int32) (w : cH) : Option Int32 :=
  if tgi w a0 [6, 7, 8, 9, 10, 11, 12] = true then (some (x1)) else none
abbrev rm_X6_gets : Room := { frames := 0, cells := 0, slots := 0, locals := 0 }
set_option maxHeartbeats 4000000 in
set_option maxRecDepth 100000 in
theorem ct_X6_gets {l : Launch} {g : Gt} (G : Gok g) {a0 : Option Nat} {x1 : Int32} {w : cH} {r9 : Int32} (hF : F_X6_gets a0 x1 w = some r9) : tgi w a0 [6, 7, 8, 9, 10, 11, 12] = true ∧ Mx l yX6_gets (ws_ yX6_gets cX6_gets 2 (some .int)) rm_X6_gets g [va_rf a0, .int x1] w (.returned (some (.int r9))) w 0 0 := by
  unfold F_X6_gets at hF
  obtain ⟨ht, hF⟩ := bg hF
  refine ⟨ht, mk_ct cX6_gets 2 (some .int) "CarryFair$Carrier" (plainFor_of_name (by decide)) rfl (lg_le ⟨cr _, rfl, trivial⟩ (Nat.le_of_ble_eq_true rfl)) (av_ok ⟨cr _, rfl, trivial⟩) G (fun x B hl hR hin hh => ?_)⟩
  show J g x _ _ 0 0 w 0 0 0 [some (va_rf a0), some (.int x1)] []
  obtain ⟨t9, ht9, hm9⟩ := tgi_some ht
  have hc9 : clsTag t9 := by
    simp only [List.mem_cons, List.not_mem_nil, or_false] at hm9
    exact clsTag_of (by omega)
  refine j_iload_n B dX6_gets_0 rfl ?_
  exact j_lI B rfl dX6_gets_1 hF (by decide) (by decide)
theorem csu_X8_26 : CSU "CarryFair$Paired" 26 ⟨"CarryFair$Carrier", "gets", "(I)I"⟩ yX6_gets cX6_gets 2 (some .int) 1 := ⟨q814, q1920, q380, Or.inl rfl, q793, q135, q795, rfl, by decide, by decide +kernel⟩
def F_X8_gets (a0 : Option Nat) (x1 : Int32) (w : cH) : Option Int32 :=
  if tgi w a0 [8, 10] = true then ((F_X6_gets a0 x1 w).bind fun i3 => some (i3 / 2)) else none
abbrev rm_X8_gets : Room := { frames := 1, cells := 0, slots := 0, locals := 21 }
set_option maxHeartbeats 4000000 in
set_option maxRecDepth 100000 in
theorem ct_X8_gets {l : Launch} {g : Gt} (G : Gok g) {a0 : Option Nat} {x1 : Int32} {w : cH} {r9 : Int32} (hF : F_X8_gets a0 x1 w = some r9) : tgi w a0 [8, 10] = true ∧ Mx l yX8_gets (ws_ yX8_gets cX8_gets 2 (some .int)) rm_X8_gets g [va_rf a0, .int x1] w (.returned (some (.int r9))) w 0 0 := by
  unfold F_X8_gets at hF
  obtain ⟨ht, hF⟩ := bg hF
  refine ⟨ht, mk_ct cX8_gets 2 (some .int) "CarryFair$Paired" (plainFor_of_name (by decide)) rfl (lg_le ⟨cr _, rfl, trivial⟩ (Nat.le_of_ble_eq_true rfl)) (av_ok ⟨cr _, rfl, trivial⟩) G (fun x B hl hR hin hh => ?_)⟩
  show J g x _ _ 0 0 w 0 0 0 [some (va_rf a0), some (.int x1)] []
  obtain ⟨t9, ht9, hm9⟩ := tgi_some ht
  have hc9 : clsTag t9 := by
    simp only [List.mem_cons, List.not_mem_nil, or_false] at hm9
    exact clsTag_of (by omega)
  refine j_aload_n B dX8_gets_0 rfl ?_
  refine j_aload_n B dX8_gets_1 rfl ?_
  refine j_iload_n B dX8_gets_2 rfl ?_
  obtain ⟨i3, e3, hF⟩ := bo hF
  refine j_rSU (st2 := [.int i3, va_rf a0]) B [.int x1] [va_rf a0] csu_X8_26 ht9 hc9 dX8_gets_3 hl hR (ct_X6_gets G e3).2 rfl rfl rfl rfl ⟨cr _, trivial⟩ (Nat.le_of_ble_eq_true rfl) ?_
  refine j_half_X8 B [] ht9 hm9 dX8_gets_6 hR rfl trivial (Nat.le_of_ble_eq_true rfl) ?_
  exact j_lI B rfl dX8_gets_9 hF (by decide) (by decide)
theorem csu_X9_17 : CSU "CarryFair$Cheating" 17 ⟨"CarryFair$Old", "gets", "(I)I"⟩ yX6_gets cX6_gets 2 (some .int) 1 := ⟨q803, q804, q393, Or.inr q368, q793, q135, q795, rfl, by decide, by decide +kernel⟩
def F_X9_gets (a0 : Option Nat) (x1 : Int32) (w : cH) : Option Int32 :=
  if tgi w a0 [9] = true then ((F_X6_gets a0 x1 w).bind fun i2 => some (i2 + (x1 / 10))) else none
abbrev rm_X9_gets : Room := { frames := 1, cells := 0, slots := 0, locals := 21 }
set_option maxHeartbeats 4000000 in
set_option maxRecDepth 100000 in
theorem ct_X9_gets {l : Launch} {g : Gt} (G : Gok g) {a0 : Option Nat} {x1 : Int32} {w : cH} {r9 : Int32} (hF : F_X9_gets a0 x1 w = some r9) : tgi w a0 [9] = true ∧ Mx l yX9_gets (ws_ yX9_gets cX9_gets 2 (some .int)) rm_X9_gets g [va_rf a0, .int x1] w (.returned (some (.int r9))) w 0 0 := by
  unfold F_X9_gets at hF
  obtain ⟨ht, hF⟩ := bg hF
  refine ⟨ht, mk_ct cX9_gets 2 (some .int) "CarryFair$Cheating" (plainFor_of_name (by decide)) rfl (lg_le ⟨cr _, rfl, trivial⟩ (Nat.le_of_ble_eq_true rfl)) (av_ok ⟨cr _, rfl, trivial⟩) G (fun x B hl hR hin hh => ?_)⟩
  show J g x _ _ 0 0 w 0 0 0 [some (va_rf a0), some (.int x1)] []
  obtain ⟨t9, ht9, hm9⟩ := tgi_some ht
  have hc9 : clsTag t9 := by
    simp only [List.mem_cons, List.not_mem_nil, or_false] at hm9
    exact clsTag_of (by omega)
  refine j_aload_n B dX9_gets_0 rfl ?_
  refine j_iload_n B dX9_gets_1 rfl ?_
  obtain ⟨i2, e2, hF⟩ := bo hF
  refine j_rSU (st2 := [.int i2]) B [.int x1] [] csu_X9_17 ht9 hc9 dX9_gets_2 hl hR (ct_X6_gets G e2).2 rfl rfl rfl rfl trivial (Nat.le_of_ble_eq_true rfl) ?_
  refine j_iload_n B dX9_gets_5 rfl ?_
  refine j_bipush (v := 10) B dX9_gets_6 (by decide) ?_
  refine j_idiv B dX9_gets_8 (by decide) ?_
  refine j_iadd B dX9_gets_9 ?_
  exact j_lI B rfl dX9_gets_10 hF (by decide) (by decide)
theorem csu_X10_17 : CSU "CarryFair$Handed" 17 ⟨"CarryFair$Paired", "gets", "(I)I"⟩ yX8_gets cX8_gets 2 (some .int) 1 := ⟨q811, q1919, q406, Or.inl rfl, q812, q137, q813, rfl, by decide, by decide +kernel⟩
def F_X10_gets (a0 : Option Nat) (x1 : Int32) (w : cH) : Option Int32 :=
  if tgi w a0 [10] = true then ((F_X8_gets a0 x1 w).bind fun i3 => some (1 + i3)) else none
abbrev rm_X10_gets : Room := { frames := 2, cells := 0, slots := 0, locals := 42 }
set_option maxHeartbeats 4000000 in
set_option maxRecDepth 100000 in
theorem ct_X10_gets {l : Launch} {g : Gt} (G : Gok g) {a0 : Option Nat} {x1 : Int32} {w : cH} {r9 : Int32} (hF : F_X10_gets a0 x1 w = some r9) : tgi w a0 [10] = true ∧ Mx l yX10_gets (ws_ yX10_gets cX10_gets 2 (some .int)) rm_X10_gets g [va_rf a0, .int x1] w (.returned (some (.int r9))) w 0 0 := by
  unfold F_X10_gets at hF
  obtain ⟨ht, hF⟩ := bg hF
  refine ⟨ht, mk_ct cX10_gets 2 (some .int) "CarryFair$Handed" (plainFor_of_name (by decide)) rfl (lg_le ⟨cr _, rfl, trivial⟩ (Nat.le_of_ble_eq_true rfl)) (av_ok ⟨cr _, rfl, trivial⟩) G (fun x B hl hR hin hh => ?_)⟩
  show J g x _ _ 0 0 w 0 0 0 [some (va_rf a0), some (.int x1)] []
  obtain ⟨t9, ht9, hm9⟩ := tgi_some ht
  have hc9 : clsTag t9 := by
    simp only [List.mem_cons, List.not_mem_nil, or_false] at hm9
    exact clsTag_of (by omega)
  refine j_iconst (v := 1) B dX10_gets_0 (by decide) ?_
  refine j_aload_n B dX10_gets_1 rfl ?_
  refine j_iload_n B dX10_gets_2 rfl ?_
  obtain ⟨i3, e3, hF⟩ := bo hF
  refine j_rSU (st2 := [.int i3, .int 1]) B [.int x1] [.int 1] csu_X10_17 ht9 hc9 dX10_gets_3 hl hR (ct_X8_gets G e3).2 rfl rfl rfl rfl ⟨rfl, trivial⟩ (Nat.le_of_ble_eq_true rfl) ?_
  refine j_iadd B dX10_gets_6 ?_
  exact j_lI B rfl dX10_gets_7 hF (by decide) (by decide)
def V_gets (a0 : Option Nat) (x1 : Int32) (w : cH) : Option Int32 := if tgi w a0 [6] = true then F_X6_gets a0 x1 w else if tgi w a0 [7] = true then F_X6_gets a0 x1 w else if tgi w a0 [8] = true then F_X8_gets a0 x1 w else if tgi w a0 [9] = true then F_X9_gets a0 x1 w else if tgi w a0 [10] = true then F_X10_gets a0 x1 w else if tgi w a0 [11] = true then F_X6_gets a0 x1 w else if tgi w a0 [12] = true then F_X6_gets a0 x1 w else none
theorem cu_X0_158_6 : CUF "CarryFair" 158 6 ⟨"CarryFair$Carries", "gets", "(I)I"⟩ yX6_gets cX6_gets 2 (some .int) 1 := by
  refine ⟨lw_app ?_ (lw_meth q795), clsTag_of (by decide), q790, q789, q794, q797, q574, by decide +kernel⟩
  intro w hw
  simp only [List.mem_cons, List.not_mem_nil, or_false] at hw
  rcases hw with e | e | e | e
  · rw [e]; exact q788
  · rw [e]; exact q796
  · rw [e]; exact q793
  · rw [e]; exact q135
theorem cu_X0_158_7 : CUF "CarryFair" 158 7 ⟨"CarryFair$Carries", "gets", "(I)I"⟩ yX6_gets cX6_gets 2 (some .int) 1 := by
  refine ⟨lw_app ?_ (lw_meth q795), clsTag_of (by decide), q790, q789, q794, q818, q597, by decide +kernel⟩
  intro w hw
  simp only [List.mem_cons, List.not_mem_nil, or_false] at hw
  rcases hw with e | e | e | e
  · rw [e]; exact q788
  · rw [e]; exact q817
  · rw [e]; exact q793
  · rw [e]; exact q135
theorem cu_X0_158_8 : CUF "CarryFair" 158 8 ⟨"CarryFair$Carries", "gets", "(I)I"⟩ yX8_gets cX8_gets 2 (some .int) 1 := by
  refine ⟨lw_app ?_ (lw_meth q813), clsTag_of (by decide), q790, q789, q821, q820, q600, by decide +kernel⟩
  intro w hw
  simp only [List.mem_cons, List.not_mem_nil, or_false] at hw
  rcases hw with e | e | e | e
  · rw [e]; exact q788
  · rw [e]; exact q819
  · rw [e]; exact q812
  · rw [e]; exact q137
theorem cu_X0_158_9 : CUF "CarryFair" 158 9 ⟨"CarryFair$Carries", "gets", "(I)I"⟩ yX9_gets cX9_gets 2 (some .int) 1 := by
  refine ⟨lw_app ?_ (lw_meth q802), clsTag_of (by decide), q790, q789, q801, q799, q577, by decide +kernel⟩
  intro w hw
  simp only [List.mem_cons, List.not_mem_nil, or_false] at hw
  rcases hw with e | e | e | e
  · rw [e]; exact q788
  · rw [e]; exact q798
  · rw [e]; exact q800
  · rw [e]; exact q138
theorem cu_X0_158_10 : CUF "CarryFair" 158 10 ⟨"CarryFair$Carries", "gets", "(I)I"⟩ yX10_gets cX10_gets 2 (some .int) 1 := by
  refine ⟨lw_app ?_ (lw_meth q810), clsTag_of (by decide), q790, q789, q809, q807, q590, by decide +kernel⟩
  intro w hw
  simp only [List.mem_cons, List.not_mem_nil, or_false] at hw
  rcases hw with e | e | e | e
  · rw [e]; exact q788
  · rw [e]; exact q806
  · rw [e]; exact q808
  · rw [e]; exact q139
theorem cu_X0_158_11 : CUF "CarryFair" 158 11 ⟨"CarryFair$Carries", "gets", "(I)I"⟩ yX6_gets cX6_gets 2 (some .int) 1 := by
  refine ⟨lw_app ?_ (lw_meth q795), clsTag_of (by decide), q790, q789, q794, q823, q603, by decide +kernel⟩
  intro w hw
  simp only [List.mem_cons, List.not_mem_nil, or_false] at hw
  rcases hw with e | e | e | e
  · rw [e]; exact q788
  · rw [e]; exact q822
  · rw [e]; exact q793
  · rw [e]; exact q135
theorem cu_X0_158_12 : CUF "CarryFair" 158 12 ⟨"CarryFair$Carries", "gets", "(I)I"⟩ yX6_gets cX6_gets 2 (some .int) 1 := by
  refine ⟨lw_app ?_ (lw_meth q795), clsTag_of (by decide), q790, q789, q794, q792, q568, by decide +kernel⟩
  intro w hw
  simp only [List.mem_cons, List.not_mem_nil, or_false] at hw
  rcases hw with e | e | e | e
  · rw [e]; exact q788
  · rw [e]; exact q791
  · rw [e]; exact q793
  · rw [e]; exact q135
set_option maxHeartbeats 1000000 in
theorem vd_X0_158 {g : Gt} {x : Xt} {o : Outcome} {w1 : cH} {mc ms : Nat} {w : cH} {k n pc cnt : Nat} {vs : List (Option Value)} {cc : ByteArray} {nL : Nat} {ret : Option FieldType} (B : Bd g x cc nL "CarryFair" ret) (G : Gok g) {a0 : Option Nat} {x1 : Int32} {i9 : Int32} {l : Launch} {R : Room} (rest : List Value) (e : V_gets a0 x1 w = some i9) (d : decode cc pc = .ok (.invokeinterface 158 cnt, 5)) (hl : x.2.1 = l) (hR : x.2.2.2.1 = R) (hr0 : rmOk rm_X6_gets R 2 k n 0 0 = true) (hr1 : rmOk rm_X8_gets R 2 k n 0 0 = true) (hr2 : rmOk rm_X9_gets R 2 k n 0 0 = true) (hr3 : rmOk rm_X10_gets R 2 k n 0 0 = true) (hc1 : cat1 rest) (hc8 : rest.length ≤ 8) (kk : J g x o w1 mc ms w k n (pc + 5) vs (.int i9 :: rest)) : J g x o w1 mc ms w k n pc vs (.int x1 :: va_rf a0 :: rest) := by
  unfold V_gets at e
  by_cases h : tgi w a0 [6] = true
  · rw [if_pos h] at e
    exact j_rF (st2 := .int i9 :: rest) B [.int x1] rest cu_X0_158_6 (tgi_one h) d hl hR (ct_X6_gets G e).2 hr0 rfl rfl rfl hc1 hc8 kk
  rw [if_neg h] at e
  clear h
  by_cases h : tgi w a0 [7] = true
  · rw [if_pos h] at e
    exact j_rF (st2 := .int i9 :: rest) B [.int x1] rest cu_X0_158_7 (tgi_one h) d hl hR (ct_X6_gets G e).2 hr0 rfl rfl rfl hc1 hc8 kk
  rw [if_neg h] at e
  clear h
  by_cases h : tgi w a0 [8] = true
  · rw [if_pos h] at e
    exact j_rF (st2 := .int i9 :: rest) B [.int x1] rest cu_X0_158_8 (tgi_one h) d hl hR (ct_X8_gets G e).2 hr1 rfl rfl rfl hc1 hc8 kk
  rw [if_neg h] at e
  clear h
  by_cases h : tgi w a0 [9] = true
  · rw [if_pos h] at e
    exact j_rF (st2 := .int i9 :: rest) B [.int x1] rest cu_X0_158_9 (tgi_one h) d hl hR (ct_X9_gets G e).2 hr2 rfl rfl rfl hc1 hc8 kk
  rw [if_neg h] at e
  clear h
  by_cases h : tgi w a0 [10] = true
  · rw [if_pos h] at e
    exact j_rF (st2 := .int i9 :: rest) B [.int x1] rest cu_X0_158_10 (tgi_one h) d hl hR (ct_X10_gets G e).2 hr3 rfl rfl rfl hc1 hc8 kk
  rw [if_neg h] at e
  clear h
  by_cases h : tgi w a0 [11] = true
  · rw [if_pos h] at e
    exact j_rF (st2 := .int i9 :: rest) B [.int x1] rest cu_X0_158_11 (tgi_one h) d hl hR (ct_X6_gets G e).2 hr0 rfl rfl rfl hc1 hc8 kk
  rw [if_neg h] at e
  clear h
  by_cases h : tgi w a0 [12] = true
  · rw [if_pos h] at e
    exact j_rF (st2 := .int i9 :: rest) B [.int x1] rest cu_X0_158_12 (tgi_one h) d hl hR (ct_X6_gets G e).2 hr0 rfl rfl rfl hc1 hc8 kk
  rw [if_neg h] at e
  clear h
  cases e
def F_X0_getsOf (a0 : Option Nat) (x1 : Int32) (x2 : Int32) (w : cH) : Option Int32 :=
  if tg w a0 = some 0 then ((F_X0_carrierAt a0 x1 w).bind fun a2p => (V_gets a2p x2 w).bind fun i8 => some (i8)) else none
abbrev rm_X0_getsOf : Room := { frames := 3, cells := 0, slots := 0, locals := 63 }
set_option maxHeartbeats 4000000 in
set_option maxRecDepth 100000 in
theorem ct_X0_getsOf {l : Launch} {g : Gt} (G : Gok g) {a0 : Option Nat} {x1 : Int32} {x2 : Int32} {w : cH} {r9 : Int32} (hF : F_X0_getsOf a0 x1 x2 w = some r9) : tg w a0 = some 0 ∧ Mx l yX0_getsOf (ws_ yX0_getsOf cX0_getsOf 4 (some .int)) rm_X0_getsOf g [va_rf a0, .int x1, .int x2] w (.returned (some (.int r9))) w 0 0 := by
  unfold F_X0_getsOf at hF
  obtain ⟨ht, hF⟩ := bg hF
  refine ⟨ht, mk_ct cX0_getsOf 4 (some .int) "CarryFair" (plainFor_of_name (by decide)) rfl (lg_le ⟨cr _, rfl, rfl, trivial⟩ (Nat.le_of_ble_eq_true rfl)) (av_ok ⟨cr _, rfl, rfl, trivial⟩) G (fun x B hl hR hin hh => ?_)⟩
  show J g x _ _ 0 0 w 0 0 0 [some (va_rf a0), some (.int x1), some (.int x2), none] []
  refine j_aload_n B dX0_getsOf_0 rfl ?_
  refine j_iload_n B dX0_getsOf_1 rfl ?_
  obtain ⟨a2p, e2, hF⟩ := bo hF
  refine j_rV (st2 := [va_rf a2p]) B [.int x1] [] cv_X0_148 dX0_getsOf_2 hl hR (ct_X0_carrierAt G e2) rfl rfl rfl rfl trivial (Nat.le_of_ble_eq_true rfl) ?_
  refine j_astore_n (vs' := [some (va_rf a0), some (.int x1), some (.int x2), some (va_rf a2p)]) B dX0_getsOf_5 (by decide) rfl ?_
  refine j_aload_n B dX0_getsOf_6 rfl ?_
  refine j_iload_n B dX0_getsOf_7 rfl ?_
  obtain ⟨i8, e8, hF⟩ := bo hF
  refine vd_X0_158 B G [] e8 dX0_getsOf_8 hl hR rfl rfl rfl rfl trivial (Nat.le_of_ble_eq_true rfl) ?_
  exact j_lI B rfl dX0_getsOf_13 hF (by decide) (by decide)
theorem cv_X0_261 : CV "CarryFair" 261 0 yX0_getsOf cX0_getsOf 4 (some .int) 2 := ⟨_, _, rfl, lw_V q783 q785 qs18 q126 q786, by decide +kernel⟩
def F_X0_arrives_J93 (rc15 : (Option Nat) → Int32 → Int32 → Int32 → Int32 → Int32 → cH → Option (Int32 × cH)) (a0 : Option Nat) (x1 : Int32) (x2 : Int32) (x3 : Int32) (x4 : Int32) (x5 : Int32) (w : cH) : Option (Int32 × cH) :=
  rc15 a0 x1 x2 x3 x4 (x5 + 1) w
def F_X0_arrives_J79 (rc15 : (Option Nat) → Int32 → Int32 → Int32 → Int32 → Int32 → cH → Option (Int32 × cH)) (a0 : Option Nat) (x1 : Int32) (x2 : Int32) (x3 : Int32) (x5 : Int32) (s0 : Int32) (s1 : Int32) (w : cH) : Option (Int32 × cH) :=
  (fA w a0 0 3).bind fun a83p => (F_X4_puts a83p x5 2 x1 w).bind fun w90 => F_X0_arrives_J93  rc15 a0 x1 x2 x3 (s1 + s0) x5 w90
def F_X0_arrives_B15 (rc15 : Option Nat → Int32 → Int32 → Int32 → Int32 → Int32 → cH → Option (Int32 × cH)) (a0 : Option Nat) (x1 : Int32) (x2 : Int32) (x3 : Int32) (x4 : Int32) (x5 : Int32) (w : cH) : Option (Int32 × cH) :=
  (fA w a0 0 3).bind fun a18p => (fI w a18p 4 2).bind fun i21 =>if i21 ≤ x5 then ((fA w a0 0 3).bind fun a100p => (fA w a100p 4 1).bind fun a103p => (aA w a103p 103 3).bind fun a107p => (aI w a107p 100 x1).bind fun i110 => (aS w a107p 100 x1 (.int (i110 + x4))).bind fun w114 => some (x4, w114)) else (if (F_X0_has x3 x5) = 0 then (F_X0_arrives_J93  rc15 a0 x1 x2 x3 x4 x5 w) else ((fA w a0 0 3).bind fun a37p => (fA w a37p 4 3).bind fun a40p => (aA w a40p 103 2).bind fun a44p => (aI w a44p 100 x5).bind fun i47 =>if ¬ i47 = x2 then (F_X0_arrives_J93  rc15 a0 x1 x2 x3 x4 x5 w) else (cb (F_X0_worthOf a0 x5 w) fun i55 w55 =>if ¬ i55 = (-1) then ((F_X0_getsOf a0 x1 i55 w55).bind fun i76 => F_X0_arrives_J79  rc15 a0 x1 x2 x3 x5 i76 x4 w55) else (F_X0_arrives_J79  rc15 a0 x1 x2 x3 x5 0 x4 w55))))
def F_X0_arrives_L15 : Nat → Option Nat → Int32 → Int32 → Int32 → Int32 → Int32 → cH → Option (Int32 × cH)
  | 0, _, _, _, _, _, _, _ => none
  | n9 + 1, a0, x1, x2, x3, x4, x5, w => F_X0_arrives_B15  (F_X0_arrives_L15  n9) a0 x1 x2 x3 x4 x5 w
def F_X0_arrives (a0 : Option Nat) (x1 : Int32) (x2 : Int32) (w : cH) : Option (Int32 × cH) :=
  if tg w a0 = some 0 then ((fA w a0 0 3).bind fun a1p => (F_X4_carriedBy a1p x1 w).bind fun i5 => F_X0_arrives_L15  fu a0 x1 x2 i5 0 0 w) else none
abbrev rm_X0_arrives : Room := { frames := 5, cells := 0, slots := 0, locals := 117 }
set_option maxHeartbeats 4000000 in
set_option maxRecDepth 100000 in
theorem ct_X0_arrives {l : Launch} {g : Gt} (G : Gok g) {a0 : Option Nat} {x1 : Int32} {x2 : Int32} {w : cH} {r9 : Int32} {w9 : cH} (hF : F_X0_arrives a0 x1 x2 w = some (r9, w9)) : tg w a0 = some 0 ∧ Mx l yX0_arrives (ws_ yX0_arrives cX0_arrives 7 (some .int)) rm_X0_arrives g [va_rf a0, .int x1, .int x2] w (.returned (some (.int r9))) w9 0 0 := by
  unfold F_X0_arrives at hF
  obtain ⟨ht, hF⟩ := bg hF
  refine ⟨ht, mk_ct cX0_arrives 7 (some .int) "CarryFair" (plainFor_of_name (by decide)) rfl (lg_le ⟨cr _, rfl, rfl, trivial⟩ (Nat.le_of_ble_eq_true rfl)) (av_ok ⟨cr _, rfl, rfl, trivial⟩) G (fun x B hl hR hin hh => ?_)⟩
  show J g x _ _ 0 0 w 0 0 0 [some (va_rf a0), some (.int x1), some (.int x2), none, none, none, none] []
  have lp15 : ∀ (n9 : Nat) (a0 : Option Nat) (x1 : Int32) (x2 : Int32) (x3 : Int32) (x4 : Int32) (x5 : Int32) (w : cH), F_X0_arrives_L15  n9 a0 x1 x2 x3 x4 x5 w = some (r9, w9) → J g x (.returned (some (.int r9))) w9 0 0 w 0 0 15 [some (va_rf a0), some (.int x1), some (.int x2), some (.int x3), some (.int x4), some (.int x5), none] [] := by
    intro n9
    induction n9 with
    | zero => intro a0 x1 x2 x3 x4 x5 w hF; cases hF
    | succ n15 ih15 =>
      intro a0 x1 x2 x3 x4 x5 w hF
      have hF : F_X0_arrives_B15  (F_X0_arrives_L15  n15) a0 x1 x2 x3 x4 x5 w = some (r9, w9) := hF
      unfold F_X0_arrives_B15 at hF
      have jb93 : ∀ (a0 : Option Nat) (x1 : Int32) (x2 : Int32) (x3 : Int32) (x4 : Int32) (x5 : Int32) (w : cH), F_X0_arrives_J93  (F_X0_arrives_L15  n15) a0 x1 x2 x3 x4 x5 w = some (r9, w9) → J g x (.returned (some (.int r9))) w9 0 0 w 0 0 93 [some (va_rf a0), some (.int x1), some (.int x2), some (.int x3), some (.int x4), some (.int x5), none] [] := by
        intro a0 x1 x2 x3 x4 x5 w hF
        unfold F_X0_arrives_J93 at hF
        refine j_iinc (v := x5 + 1) (vs' := [some (va_rf a0), some (.int x1), some (.int x2), some (.int x3), some (.int x4), some (.int (x5 + 1)), none]) B dX0_arrives_93 (by decide) rfl rfl rfl ?_
        refine j_goto (tgt := 15) B dX0_arrives_96 (by decide) ?_
        exact ih15 a0 x1 x2 x3 x4 (x5 + 1) w hF
      have jb79 : ∀ (a0 : Option Nat) (x1 : Int32) (x2 : Int32) (x3 : Int32) (x5 : Int32) (s0 : Int32) (s1 : Int32) (w : cH), F_X0_arrives_J79  (F_X0_arrives_L15  n15) a0 x1 x2 x3 x5 s0 s1 w = some (r9, w9) → J g x (.returned (some (.int r9))) w9 0 0 w 0 0 79 [some (va_rf a0), some (.int x1), some (.int x2), some (.int x3), none, some (.int x5), none] [.int s0, .int s1] := by
        intro a0 x1 x2 x3 x5 s0 s1 w hF
        unfold F_X0_arrives_J79 at hF
        refine j_iadd B dX0_arrives_79 ?_
        refine j_istore (vs' := [some (va_rf a0), some (.int x1), some (.int x2), some (.int x3), some (.int (s1 + s0)), some (.int x5), none]) B dX0_arrives_80 (by decide) rfl ?_
        refine j_aload_n B dX0_arrives_82 rfl ?_
        refine j_getA B fl_X0_61 dX0_arrives_83 hF (fun a83p hF => ?_)
        refine j_iload B dX0_arrives_86 rfl ?_
        refine j_iconst (v := 2) B dX0_arrives_88 (by decide) ?_
        refine j_iload_n B dX0_arrives_89 rfl ?_
        obtain ⟨w90, e90, hF⟩ := bo hF
        refine j_rV (st2 := []) B [.int x5, .int 2, .int x1] [] cv_X0_255 dX0_arrives_90 hl hR (ct_X4_puts G e90) rfl rfl rfl rfl trivial (Nat.le_of_ble_eq_true rfl) ?_
        exact jb93 a0 x1 x2 x3 (s1 + s0) x5 w90 hF
      refine j_iload B dX0_arrives_15 rfl ?_
      refine j_aload_n B dX0_arrives_17 rfl ?_
      refine j_getA B fl_X0_61 dX0_arrives_18 hF (fun a18p hF => ?_)
      refine j_getI B fl_X0_127 dX0_arrives_21 hF (fun i21 hF => ?_)
      refine j_icmp_ge (tgt := 99) B dX0_arrives_24 (by decide) hF (fun h24 hF => ?_) (fun h24 hF => ?_)
      · refine j_aload_n B dX0_arrives_99 rfl ?_
        refine j_getA B fl_X0_61 dX0_arrives_100 hF (fun a100p hF => ?_)
        refine j_getA B fl_X0_113 dX0_arrives_103 hF (fun a103p hF => ?_)
        refine j_iconst (v := 3) B dX0_arrives_106 (by decide) ?_
        refine j_aaload B 103 rfl rfl dX0_arrives_107 hF (fun a107p hF => ?_)
        refine j_iload_n B dX0_arrives_108 rfl ?_
        refine j_dup2 B dX0_arrives_109 rfl (cr _) ?_
        refine j_iaload B dX0_arrives_110 hF (fun i110 hF => ?_)
        refine j_iload B dX0_arrives_111 rfl ?_
        refine j_iadd B dX0_arrives_113 ?_
        refine j_iastore B dX0_arrives_114 hF (fun w114 hF => ?_)
        refine j_iload B dX0_arrives_115 rfl ?_
        exact j_lIw B rfl dX0_arrives_117 hF (by decide) (by decide)
      · refine j_iload_n B dX0_arrives_27 rfl ?_
        refine j_iload B dX0_arrives_28 rfl ?_
        refine j_rS (st2 := [.int (F_X0_has x3 x5)]) B [.int x3, .int x5] [] cs_X0_258 dX0_arrives_30 hl hR (ct_X0_has G) rfl rfl rfl rfl trivial (Nat.le_of_ble_eq_true rfl) ?_
        refine j_if_eq (tgt := 93) B dX0_arrives_33 (by decide) hF (fun h33 hF => ?_) (fun h33 hF => ?_)
        · exact jb93 a0 x1 x2 x3 x4 x5 w hF
        · refine j_aload_n B dX0_arrives_36 rfl ?_
          refine j_getA B fl_X0_61 dX0_arrives_37 hF (fun a37p hF => ?_)
          refine j_getA B fl_X0_214 dX0_arrives_40 hF (fun a40p hF => ?_)
          refine j_iconst (v := 2) B dX0_arrives_43 (by decide) ?_
          refine j_aaload B 103 rfl rfl dX0_arrives_44 hF (fun a44p hF => ?_)
          refine j_iload B dX0_arrives_45 rfl ?_
          refine j_iaload B dX0_arrives_47 hF (fun i47 hF => ?_)
          refine j_iload_n B dX0_arrives_48 rfl ?_
          refine j_icmp_ne (tgt := 93) B dX0_arrives_49 (by decide) hF (fun h49 hF => ?_) (fun h49 hF => ?_)
          · exact jb93 a0 x1 x2 x3 x4 x5 w hF
          · refine j_aload_n B dX0_arrives_52 rfl ?_
            refine j_iload B dX0_arrives_53 rfl ?_
            obtain ⟨i55, w55, e55, hF⟩ := bc hF
            refine j_rV (st2 := [.int i55]) B [.int x5] [] cv_X0_220 dX0_arrives_55 hl hR (ct_X0_worthOf G e55) rfl rfl rfl rfl trivial (Nat.le_of_ble_eq_true rfl) ?_
            refine j_istore (vs' := [some (va_rf a0), some (.int x1), some (.int x2), some (.int x3), some (.int x4), some (.int x5), some (.int i55)]) B dX0_arrives_58 (by decide) rfl ?_
            refine j_iload B dX0_arrives_60 rfl ?_
            refine j_iload B dX0_arrives_62 rfl ?_
            refine j_iconst (v := (-1)) B dX0_arrives_64 (by decide) ?_
            refine j_icmp_ne (tgt := 72) B dX0_arrives_65 (by decide) hF (fun h65 hF => ?_) (fun h65 hF => ?_)
            · refine j_aload_n B dX0_arrives_72 rfl ?_
              refine j_iload_n B dX0_arrives_73 rfl ?_
              refine j_iload B dX0_arrives_74 rfl ?_
              obtain ⟨i76, e76, hF⟩ := bo hF
              refine j_rV (st2 := [.int i76, .int x4]) B [.int x1, .int i55] [.int x4] cv_X0_261 dX0_arrives_76 hl hR (ct_X0_getsOf G e76) rfl rfl rfl rfl ⟨rfl, trivial⟩ (Nat.le_of_ble_eq_true rfl) ?_
              refine j_msk [true, true, true, true, false, true, false] rfl ?_
              exact jb79 a0 x1 x2 x3 x5 i76 x4 w55 hF
            · refine j_iconst (v := 0) B dX0_arrives_68 (by decide) ?_
              refine j_goto (tgt := 79) B dX0_arrives_69 (by decide) ?_
              refine j_msk [true, true, true, true, false, true, false] rfl ?_
              exact jb79 a0 x1 x2 x3 x5 0 x4 w55 hF
  refine j_aload_n B dX0_arrives_0 rfl ?_
  refine j_getA B fl_X0_61 dX0_arrives_1 hF (fun a1p hF => ?_)
  refine j_iload_n B dX0_arrives_4 rfl ?_
  obtain ⟨i5, e5, hF⟩ := bo hF
  refine j_rV (st2 := [.int i5]) B [.int x1] [] cv_X0_170 dX0_arrives_5 hl hR (ct_X4_carriedBy G e5) rfl rfl rfl rfl trivial (Nat.le_of_ble_eq_true rfl) ?_
  refine j_istore_n (vs' := [some (va_rf a0), some (.int x1), some (.int x2), some (.int i5), none, none, none]) B dX0_arrives_8 (by decide) rfl ?_
  refine j_iconst (v := 0) B dX0_arrives_9 (by decide) ?_
  refine j_istore (vs' := [some (va_rf a0), some (.int x1), some (.int x2), some (.int i5), some (.int 0), none, none]) B dX0_arrives_10 (by decide) rfl ?_
  refine j_iconst (v := 0) B dX0_arrives_12 (by decide) ?_
  refine j_istore (vs' := [some (va_rf a0), some (.int x1), some (.int x2), some (.int i5), some (.int 0), some (.int 0), none]) B dX0_arrives_13 (by decide) rfl ?_
  exact lp15 fu a0 x1 x2 i5 0 0 w hF
theorem cv_X0_264 : CV "CarryFair" 264 0 yX0_arrives cX0_arrives 7 (some .int) 2 := ⟨_, _, rfl, lw_V q779 q781 qs17 q126 q782, by decide +kernel⟩
def F_X0_walks (a0 : Option Nat) (x1 : Int32) (x2 : Int32) (x3 : Int32) (w : cH) : Option (Int32 × cH) :=
  if tg w a0 = some 0 then ((fA w a0 0 3).bind fun a1p => (fA w a1p 4 1).bind fun a4p => (aA w a4p 103 4).bind fun a8p => (aI w a8p 100 x1).bind fun i11 => (aS w a8p 100 x1 (.int (i11 + x3))).bind fun w14 => (fA w14 a0 0 3).bind fun a16p => (fA w14 a16p 4 1).bind fun a19p => (aA w14 a19p 103 1).bind fun a23p => (aS w14 a23p 100 x1 (.int x2)).bind fun w26 => cb (F_X0_arrives a0 x1 x2 w26) fun i30 w30 => some (i30, w30)) else none
abbrev rm_X0_walks : Room := { frames := 6, cells := 0, slots := 0, locals := 143 }
set_option maxHeartbeats 4000000 in
set_option maxRecDepth 100000 in
theorem ct_X0_walks {l : Launch} {g : Gt} (G : Gok g) {a0 : Option Nat} {x1 : Int32} {x2 : Int32} {x3 : Int32} {w : cH} {r9 : Int32} {w9 : cH} (hF : F_X0_walks a0 x1 x2 x3 w = some (r9, w9)) : tg w a0 = some 0 ∧ Mx l yX0_walks (ws_ yX0_walks cX0_walks 4 (some .int)) rm_X0_walks g [va_rf a0, .int x1, .int x2, .int x3] w (.returned (some (.int r9))) w9 0 0 := by
  unfold F_X0_walks at hF
  obtain ⟨ht, hF⟩ := bg hF
  refine ⟨ht, mk_ct cX0_walks 4 (some .int) "CarryFair" (plainFor_of_name (by decide)) rfl (lg_le ⟨cr _, rfl, rfl, rfl, trivial⟩ (Nat.le_of_ble_eq_true rfl)) (av_ok ⟨cr _, rfl, rfl, rfl, trivial⟩) G (fun x B hl hR hin hh => ?_)⟩
  show J g x _ _ 0 0 w 0 0 0 [some (va_rf a0), some (.int x1), some (.int x2), some (.int x3)] []
  refine j_aload_n B dX0_walks_0 rfl ?_
  refine j_getA B fl_X0_61 dX0_walks_1 hF (fun a1p hF => ?_)
  refine j_getA B fl_X0_113 dX0_walks_4 hF (fun a4p hF => ?_)
  refine j_iconst (v := 4) B dX0_walks_7 (by decide) ?_
  refine j_aaload B 103 rfl rfl dX0_walks_8 hF (fun a8p hF => ?_)
  refine j_iload_n B dX0_walks_9 rfl ?_
  refine j_dup2 B dX0_walks_10 rfl (cr _) ?_
  refine j_iaload B dX0_walks_11 hF (fun i11 hF => ?_)
  refine j_iload_n B dX0_walks_12 rfl ?_
  refine j_iadd B dX0_walks_13 ?_
  refine j_iastore B dX0_walks_14 hF (fun w14 hF => ?_)
  refine j_aload_n B dX0_walks_15 rfl ?_
  refine j_getA B fl_X0_61 dX0_walks_16 hF (fun a16p hF => ?_)
  refine j_getA B fl_X0_113 dX0_walks_19 hF (fun a19p hF => ?_)
  refine j_iconst (v := 1) B dX0_walks_22 (by decide) ?_
  refine j_aaload B 103 rfl rfl dX0_walks_23 hF (fun a23p hF => ?_)
  refine j_iload_n B dX0_walks_24 rfl ?_
  refine j_iload_n B dX0_walks_25 rfl ?_
  refine j_iastore B dX0_walks_26 hF (fun w26 hF => ?_)
  refine j_aload_n B dX0_walks_27 rfl ?_
  refine j_iload_n B dX0_walks_28 rfl ?_
  refine j_iload_n B dX0_walks_29 rfl ?_
  obtain ⟨i30, w30, e30, hF⟩ := bc hF
  refine j_rV (st2 := [.int i30]) B [.int x1, .int x2] [] cv_X0_264 dX0_walks_30 hl hR (ct_X0_arrives G e30) rfl rfl rfl rfl trivial (Nat.le_of_ble_eq_true rfl) ?_
  exact j_lIw B rfl dX0_walks_33 hF (by decide) (by decide)
theorem cv_X0_267 : CV "CarryFair" 267 0 yX0_walks cX0_walks 4 (some .int) 3 := ⟨_, _, rfl, lw_V q775 q777 qs16 q126 q778, by decide +kernel⟩
def F_X0_walk_J15 (a0 : Option Nat) (w : cH) : Option (Int32 × cH) :=
  cb (F_X0_finding a0 0 w) fun i17 w17 => some (i17, w17)
def F_X0_walk (a0 : Option Nat) (x1 : Int32) (x2 : Int32) (w : cH) : Option (Int32 × cH) :=
  if tg w a0 = some 0 then ((F_X0_isCarrier a0 x1 w).bind fun i2 =>if i2 = 0 then (F_X0_walk_J15  a0 w) else (if ¬ (F_X0_isPlace x2) = 0 then ((fA w a0 0 3).bind fun a24p => (fA w a24p 4 1).bind fun a27p => (aA w a27p 103 1).bind fun a31p => (aI w a31p 100 x1).bind fun i33 => cb (F_X0_farOf a0 x1 i33 x2 w) fun i35 w35 =>if ¬ i35 = (-1) then (cb (F_X0_walks a0 x1 x2 i35 w35) fun i56 w56 => some (i56, w56)) else (cb (F_X0_finding a0 3 w35) fun i46 w46 => some (i46, w46))) else (F_X0_walk_J15  a0 w))) else none
abbrev rm_X0_walk : Room := { frames := 7, cells := 0, slots := 0, locals := 166 }
set_option maxHeartbeats 4000000 in
set_option maxRecDepth 100000 in
theorem ct_X0_walk {l : Launch} {g : Gt} (G : Gok g) {a0 : Option Nat} {x1 : Int32} {x2 : Int32} {w : cH} {r9 : Int32} {w9 : cH} (hF : F_X0_walk a0 x1 x2 w = some (r9, w9)) : tg w a0 = some 0 ∧ Mx l yX0_walk (ws_ yX0_walk cX0_walk 4 (some .int)) rm_X0_walk g [va_rf a0, .int x1, .int x2] w (.returned (some (.int r9))) w9 0 0 := by
  unfold F_X0_walk at hF
  obtain ⟨ht, hF⟩ := bg hF
  refine ⟨ht, mk_ct cX0_walk 4 (some .int) "CarryFair" (plainFor_of_name (by decide)) rfl (lg_le ⟨cr _, rfl, rfl, trivial⟩ (Nat.le_of_ble_eq_true rfl)) (av_ok ⟨cr _, rfl, rfl, trivial⟩) G (fun x B hl hR hin hh => ?_)⟩
  show J g x _ _ 0 0 w 0 0 0 [some (va_rf a0), some (.int x1), some (.int x2), none] []
  have jb15 : ∀ (a0 : Option Nat) (w : cH), F_X0_walk_J15  a0 w = some (r9, w9) → J g x (.returned (some (.int r9))) w9 0 0 w 0 0 15 [some (va_rf a0), none, none, none] [] := by
    intro a0 w hF
    unfold F_X0_walk_J15 at hF
    refine j_aload_n B dX0_walk_15 rfl ?_
    refine j_iconst (v := 0) B dX0_walk_16 (by decide) ?_
    obtain ⟨i17, w17, e17, hF⟩ := bc hF
    refine j_rV (st2 := [.int i17]) B [.int 0] [] cv_X0_142 dX0_walk_17 hl hR (ct_X0_finding G e17) rfl rfl rfl rfl trivial (Nat.le_of_ble_eq_true rfl) ?_
    exact j_lIw B rfl dX0_walk_20 hF (by decide) (by decide)
  refine j_aload_n B dX0_walk_0 rfl ?_
  refine j_iload_n B dX0_walk_1 rfl ?_
  obtain ⟨i2, e2, hF⟩ := bo hF
  refine j_rV (st2 := [.int i2]) B [.int x1] [] cv_X0_161 dX0_walk_2 hl hR (ct_X0_isCarrier G e2) rfl rfl rfl rfl trivial (Nat.le_of_ble_eq_true rfl) ?_
  refine j_if_eq (tgt := 15) B dX0_walk_5 (by decide) hF (fun h5 hF => ?_) (fun h5 hF => ?_)
  · refine j_msk [true, false, false, false] rfl ?_
    exact jb15 a0 w hF
  · refine j_iload_n B dX0_walk_8 rfl ?_
    refine j_rS (st2 := [.int (F_X0_isPlace x2)]) B [.int x2] [] cs_X0_7 dX0_walk_9 hl hR (ct_X0_isPlace G) rfl rfl rfl rfl trivial (Nat.le_of_ble_eq_true rfl) ?_
    refine j_if_ne (tgt := 21) B dX0_walk_12 (by decide) hF (fun h12 hF => ?_) (fun h12 hF => ?_)
    · refine j_aload_n B dX0_walk_21 rfl ?_
      refine j_iload_n B dX0_walk_22 rfl ?_
      refine j_aload_n B dX0_walk_23 rfl ?_
      refine j_getA B fl_X0_61 dX0_walk_24 hF (fun a24p hF => ?_)
      refine j_getA B fl_X0_113 dX0_walk_27 hF (fun a27p hF => ?_)
      refine j_iconst (v := 1) B dX0_walk_30 (by decide) ?_
      refine j_aaload B 103 rfl rfl dX0_walk_31 hF (fun a31p hF => ?_)
      refine j_iload_n B dX0_walk_32 rfl ?_
      refine j_iaload B dX0_walk_33 hF (fun i33 hF => ?_)
      refine j_iload_n B dX0_walk_34 rfl ?_
      obtain ⟨i35, w35, e35, hF⟩ := bc hF
      refine j_rV (st2 := [.int i35]) B [.int x1, .int i33, .int x2] [] cv_X0_242 dX0_walk_35 hl hR (ct_X0_farOf G e35) rfl rfl rfl rfl trivial (Nat.le_of_ble_eq_true rfl) ?_
      refine j_istore_n (vs' := [some (va_rf a0), some (.int x1), some (.int x2), some (.int i35)]) B dX0_walk_38 (by decide) rfl ?_
      refine j_iload_n B dX0_walk_39 rfl ?_
      refine j_iconst (v := (-1)) B dX0_walk_40 (by decide) ?_
      refine j_icmp_ne (tgt := 52) B dX0_walk_41 (by decide) hF (fun h41 hF => ?_) (fun h41 hF => ?_)
      · refine j_aload_n B dX0_walk_52 rfl ?_
        refine j_iload_n B dX0_walk_53 rfl ?_
        refine j_iload_n B dX0_walk_54 rfl ?_
        refine j_iload_n B dX0_walk_55 rfl ?_
        obtain ⟨i56, w56, e56, hF⟩ := bc hF
        refine j_rV (st2 := [.int i56]) B [.int x1, .int x2, .int i35] [] cv_X0_267 dX0_walk_56 hl hR (ct_X0_walks G e56) rfl rfl rfl rfl trivial (Nat.le_of_ble_eq_true rfl) ?_
        exact j_lIw B rfl dX0_walk_59 hF (by decide) (by decide)
      · refine j_aload_n B dX0_walk_44 rfl ?_
        refine j_iconst (v := 3) B dX0_walk_45 (by decide) ?_
        obtain ⟨i46, w46, e46, hF⟩ := bc hF
        refine j_rV (st2 := [.int i46]) B [.int 3] [] cv_X0_142 dX0_walk_46 hl hR (ct_X0_finding G e46) rfl rfl rfl rfl trivial (Nat.le_of_ble_eq_true rfl) ?_
        refine j_goto (tgt := 59) B dX0_walk_49 (by decide) ?_
        exact j_lIw B rfl dX0_walk_59 hF (by decide) (by decide)
    · refine j_msk [true, false, false, false] rfl ?_
      exact jb15 a0 w hF
