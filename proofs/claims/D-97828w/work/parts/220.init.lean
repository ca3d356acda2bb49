theorem rmOk_mk {rm R : Room} {maxL k n mc ms : Nat} (h1 : rm.cells = mc) (h2 : rm.slots = ms) (h3 : rm.frames + 1 ≤ R.frames) (h4 : 8 + (maxL + 11) + rm.locals ≤ R.locals) (h5 : k + mc ≤ R.cells) (h6 : n + ms ≤ R.slots) : rmOk rm R maxL k n mc ms = true := by
  simp [rmOk, h1, h2, h3, h4, h5, h6]
theorem ofNs (j : Nat) : Int32.ofNat j + 1 = Int32.ofNat (j + 1) := (Int32.ofNat_add j 1).symm
theorem fp_X0_47 : FP "CarryFair" 47 0 0 (.object "CarryFair$Refusal") true := ⟨RX0, TX0, 20, rfl, by decide, in_X0, Or.inl q438, rfl, (fun _ => rfl), by decide +kernel, ap_X0, tyX0, tyX0_ok⟩
theorem fp_X0_54 : FP "CarryFair" 54 0 1 (.object "CarryFair$Reader") true := ⟨RX0, TX0, 20, rfl, by decide, in_X0, Or.inl q439, rfl, (fun _ => rfl), by decide +kernel, ap_X0, tyX0, tyX0_ok⟩
theorem fp_X0_61 : FP "CarryFair" 61 0 3 (.object "CarryFair$World") true := ⟨RX0, TX0, 20, rfl, by decide, in_X0, Or.inl q442, rfl, (fun _ => rfl), by decide +kernel, ap_X0, tyX0, tyX0_ok⟩
theorem fp_X0_65 : FP "CarryFair" 65 0 4 (.object "CarryFair$World") true := ⟨RX0, TX0, 20, rfl, by decide, in_X0, Or.inl q443, rfl, (fun _ => rfl), by decide +kernel, ap_X0, tyX0, tyX0_ok⟩
theorem fp_X0_68 : FP "CarryFair" 68 0 5 (.object "CarryFair$World") true := ⟨RX0, TX0, 20, rfl, by decide, in_X0, Or.inl q444, rfl, (fun _ => rfl), by decide +kernel, ap_X0, tyX0, tyX0_ok⟩
theorem fp_X0_73 : FP "CarryFair" 73 0 7 (.array (.object "CarryFair$Slot")) true := ⟨RX0, TX0, 20, rfl, by decide, in_X0, Or.inl q446, rfl, (fun _ => rfl), by decide +kernel, ap_X0, tyX0, tyX0_ok⟩
theorem fp_X0_77 : FP "CarryFair" 77 0 8 (.array (.object "CarryFair$Slot")) true := ⟨RX0, TX0, 20, rfl, by decide, in_X0, Or.inl q447, rfl, (fun _ => rfl), by decide +kernel, ap_X0, tyX0, tyX0_ok⟩
theorem fp_X0_80 : FP "CarryFair" 80 0 9 (.array (.object "CarryFair$Slot")) true := ⟨RX0, TX0, 20, rfl, by decide, in_X0, Or.inl q448, rfl, (fun _ => rfl), by decide +kernel, ap_X0, tyX0, tyX0_ok⟩
theorem fp_X0_83 : FP "CarryFair" 83 0 10 (.array .int) true := ⟨RX0, TX0, 20, rfl, by decide, in_X0, Or.inl q449, rfl, (fun _ => rfl), by decide +kernel, ap_X0, tyX0, tyX0_ok⟩
theorem fp_X0_89 : FP "CarryFair" 89 0 11 (.array (.array .int)) true := ⟨RX0, TX0, 20, rfl, by decide, in_X0, Or.inl q450, rfl, (fun _ => rfl), by decide +kernel, ap_X0, tyX0, tyX0_ok⟩
theorem fp_X0_92 : FP "CarryFair" 92 0 12 (.array (.array .int)) true := ⟨RX0, TX0, 20, rfl, by decide, in_X0, Or.inl q451, rfl, (fun _ => rfl), by decide +kernel, ap_X0, tyX0, tyX0_ok⟩
theorem fp_X0_95 : FP "CarryFair" 95 0 13 (.array .int) true := ⟨RX0, TX0, 20, rfl, by decide, in_X0, Or.inl q452, rfl, (fun _ => rfl), by decide +kernel, ap_X0, tyX0, tyX0_ok⟩
theorem fp_X0_98 : FP "CarryFair" 98 0 15 (.array .int) true := ⟨RX0, TX0, 20, rfl, by decide, in_X0, Or.inl q454, rfl, (fun _ => rfl), by decide +kernel, ap_X0, tyX0, tyX0_ok⟩
theorem fp_X0_101 : FP "CarryFair" 101 0 16 (.array (.array .int)) true := ⟨RX0, TX0, 20, rfl, by decide, in_X0, Or.inl q455, rfl, (fun _ => rfl), by decide +kernel, ap_X0, tyX0, tyX0_ok⟩
def dfX1 : Nat → Value := fun k => defaultValue (tyX1 k)
theorem nw_X0_44 : NW "CarryFair" 44 1 7 dfX1 := ⟨RX1, TX1, 7, tyX1, rfl, in_X1, tyX1_ok, q158, q159, q130, fun _ _ => rfl⟩
def dfX2 : Nat → Value := fun k => defaultValue (tyX2 k)
theorem nw_X0_51 : NW "CarryFair" 51 2 8 dfX2 := ⟨RX2, TX2, 8, tyX2, rfl, in_X2, tyX2_ok, q226, q227, q131, fun _ _ => rfl⟩
theorem nw_X0_58 : NW "CarryFair" 58 4 10 dfX4 := ⟨RX4, TX4, 10, tyX4, rfl, in_X4, tyX4_ok, q331, q248, q133, fun _ _ => rfl⟩
def dfX5 : Nat → Value := fun k => defaultValue (tyX5 k)
theorem nw_X0_71 : NW "CarryFair" 71 5 1 dfX5 := ⟨RX5, TX5, 1, tyX5, rfl, in_X5, tyX5_ok, q333, q336, q134, fun _ _ => rfl⟩
theorem cv_X0_105 : CV "CarryFair" 105 0 yX0_made cX0_made 3 (some (.object "CarryFair$Carrier")) 2 := ⟨_, _, rfl, lw_V q345 q347 qs1 q126 q348, by decide +kernel⟩
theorem ci_X0_46 : CI "CarryFair" 46 yX1_init cX1_init 1 0 := ⟨Or.inl q198, q199, q130, q200, rfl, by decide +kernel⟩
theorem ci_X0_53 : CI "CarryFair" 53 yX2_init cX2_init 1 0 := ⟨Or.inr ⟨_, q228⟩, q229, q131, q230, rfl, by decide +kernel⟩
theorem ci_X0_60 : CI "CarryFair" 60 yX4_init cX4_init 2 0 := ⟨Or.inl q332, q250, q133, q251, rfl, by decide +kernel⟩
theorem ci_X0_104 : CI "CarryFair" 104 yX5_init cX5_init 1 0 := ⟨Or.inr ⟨_, q337⟩, q338, q134, q339, rfl, by decide +kernel⟩
def F_X0_init_B251 (g : Gt) (rc251 : Option Nat → Int32 → cH → Option cH) (a0 : Option Nat) (x1 : Int32) (w : cH) : Option cH :=
  if 4 ≤ x1 then (some w) else ((fA w a0 0 9).bind fun a257p => (some (nO w 5 1 dfX5)).bind fun w261 => (F_X5_init w.2 w261).bind fun w265 => if tg w265 (some w.2) = some 5 then ((aS w265 a257p 104 x1 (.ref w.2)).bind fun w268 => rc251 a0 (x1 + 1) w268) else none)
def F_X0_init_L251 (g : Gt) : Nat → Option Nat → Int32 → cH → Option cH
  | 0, _, _, _ => none
  | n9 + 1, a0, x1, w => F_X0_init_B251 g  (F_X0_init_L251 g  n9) a0 x1 w
def F_X0_init_B224 (g : Gt) (rc224 : Option Nat → Int32 → cH → Option cH) (a0 : Option Nat) (x1 : Int32) (w : cH) : Option cH :=
  if 10 ≤ x1 then (F_X0_init_L251 g  fu a0 0 w) else ((fA w a0 0 8).bind fun a231p => (some (nO w 5 1 dfX5)).bind fun w235 => (F_X5_init w.2 w235).bind fun w239 => if tg w239 (some w.2) = some 5 then ((aS w239 a231p 104 x1 (.ref w.2)).bind fun w242 => rc224 a0 (x1 + 1) w242) else none)
def F_X0_init_L224 (g : Gt) : Nat → Option Nat → Int32 → cH → Option cH
  | 0, _, _, _ => none
  | n9 + 1, a0, x1, w => F_X0_init_B224 g  (F_X0_init_L224 g  n9) a0 x1 w
def F_X0_init_B176 (g : Gt) (rc176 : Option Nat → Int32 → cH → Option cH) (a0 : Option Nat) (x1 : Int32) (w : cH) : Option cH :=
  if 42 ≤ x1 then (F_X0_init_L224 g  fu a0 0 w) else ((fA w a0 0 7).bind fun a183p => (some (nO w 5 1 dfX5)).bind fun w187 => (F_X5_init w.2 w187).bind fun w191 => if tg w191 (some w.2) = some 5 then ((aS w191 a183p 104 x1 (.ref w.2)).bind fun w194 => (fA w194 a0 0 7).bind fun a196p => (aA w194 a196p 104 x1).bind fun a200p => cb (F_X0_made a0 (x1 / 6) (x1 - x1 / 6 * 6) w194) fun a210p w210 => (pV w210 a200p 5 0 (va_rf a210p)).bind fun w213 => rc176 a0 (x1 + 1) w213) else none)
def F_X0_init_L176 (g : Gt) : Nat → Option Nat → Int32 → cH → Option cH
  | 0, _, _, _ => none
  | n9 + 1, a0, x1, w => F_X0_init_B176 g  (F_X0_init_L176 g  n9) a0 x1 w
def F_X0_init (g : Gt) (a0 : Nat) (w : cH) : Option cH :=
  if tg w (some a0) = some 0 then ((some (nO w 1 7 dfX1)).bind fun w5 => (F_X1_init g w.2 w5).bind fun w9 => (pV w9 (some a0) 0 0 (va_rf (some w.2))).bind fun w12 => (some (nO w12 2 8 dfX2)).bind fun w16 => (F_X2_init g w12.2 w16).bind fun w20 => (pV w20 (some a0) 0 1 (va_rf (some w12.2))).bind fun w23 => (some (nO w23 4 10 dfX4)).bind fun w27 => (F_X4_init w23.2 w27).bind fun w31 => (pV w31 (some a0) 0 3 (va_rf (some w23.2))).bind fun w34 => (some (nO w34 4 10 dfX4)).bind fun w38 => (F_X4_init w34.2 w38).bind fun w42 => (pV w42 (some a0) 0 4 (va_rf (some w34.2))).bind fun w45 => (some (nO w45 4 10 dfX4)).bind fun w49 => (F_X4_init w45.2 w49).bind fun w53 => (pV w53 (some a0) 0 5 (va_rf (some w45.2))).bind fun w56 => (some (nR w56 104 42)).bind fun w62 => (pV w62 (some a0) 0 7 (va_rf (some w56.2))).bind fun w65 => (some (nR w65 104 10)).bind fun w71 => (pV w71 (some a0) 0 8 (va_rf (some w65.2))).bind fun w74 => (some (nR w74 104 4)).bind fun w79 => (pV w79 (some a0) 0 9 (va_rf (some w74.2))).bind fun w82 => (some (nA w82 100 7)).bind fun w88 => (pV w88 (some a0) 0 10 (va_rf (some w82.2))).bind fun w90 => (some (nM w90 7 7)).bind fun w98 => (pV w98 (some a0) 0 11 (va_rf (some w90.2))).bind fun w102 => (some (nM w102 7 7)).bind fun w110 => (pV w110 (some a0) 0 12 (va_rf (some w102.2))).bind fun w114 => (some (nA w114 100 5)).bind fun w119 => (pV w119 (some a0) 0 13 (va_rf (some w114.2))).bind fun w121 => (some (nA w121 100 6)).bind fun w127 => (aS w127 (some w121.2) 100 0 (.int 1)).bind fun w132 => (aS w132 (some w121.2) 100 1 (.int 3)).bind fun w136 => (aS w136 (some w121.2) 100 2 (.int 9)).bind fun w141 => (aS w141 (some w121.2) 100 3 (.int 27)).bind fun w146 => (aS w146 (some w121.2) 100 4 (.int 81)).bind fun w151 => (aS w151 (some w121.2) 100 5 (.int 243)).bind fun w157 => (pV w157 (some a0) 0 15 (va_rf (some w121.2))).bind fun w158 => (some (nM w158 243 7)).bind fun w167 => (pV w167 (some a0) 0 16 (va_rf (some w158.2))).bind fun w171 => F_X0_init_L176 g  fu (some a0) 0 w171) else none
abbrev rm_X0_init : Room := { frames := 6, cells := 500, slots := 3399, locals := 132 }
set_option maxHeartbeats 4000000 in
set_option maxRecDepth 100000 in
theorem ct_X0_init {l : Launch} {g : Gt} (G : Gok g) {a0 : Nat} {w : cH}  {w9 : cH} (hF : F_X0_init g a0 w = some w9) : tg w (some a0) = some 0 ∧ Mx l yX0_init (ws_ yX0_init cX0_init 2 none) rm_X0_init g [va_rf (some a0)] w (.returned none) w9 500 3399 := by
  unfold F_X0_init at hF
  obtain ⟨ht, hF⟩ := bg hF
  refine ⟨ht, mk_ct cX0_init 2 none "CarryFair" (plainFor_of_name (by decide)) rfl (lg_le ⟨cr _, trivial⟩ (Nat.le_of_ble_eq_true rfl)) (av_ok ⟨cr _, trivial⟩) G (fun x B hl hR hin hh => ?_)⟩
  show J g x _ _ 500 3399 w 0 0 0 [some (va_rf (some a0)), none] []
  have lp251 : ∀ (n9 : Nat) (j : Nat) (a0 : Option Nat) (w : cH), j ≤ 4 → F_X0_init_L251 g  n9 a0 (Int32.ofNat j) w = some w9 → J g x (.returned none) w9 500 3399 w (496 + j) (3395 + j) 251 [some (va_rf a0), some (.int (Int32.ofNat j))] [] := by
    intro n9
    induction n9 with
    | zero => intro j a0 w hj hF; cases hF
    | succ n251 ih251 =>
      intro j a0 w hj hF
      have hF : F_X0_init_B251 g  (F_X0_init_L251 g  n251) a0 (Int32.ofNat j) w = some w9 := hF
      unfold F_X0_init_B251 at hF
      refine j_iload_n B dX0_init_251 rfl ?_
      refine j_iconst (v := 4) B dX0_init_252 (by decide) ?_
      refine j_icmp_ge (tgt := 275) B dX0_init_253 (by decide) hF (fun h253 hF => ?_) (fun h253 hF => ?_)
      · exact j_lV B rfl dX0_init_275 hF (by omega) (by omega)
      · have hj9 : j + 1 ≤ 4 := Nat.lt_of_le_of_ne hj (fun h => h253 (by rw [h]; decide))
        refine j_aload_n B dX0_init_256 rfl ?_
        refine j_getA B fl_X0_80 dX0_init_257 hF (fun a257p hF => ?_)
        refine j_iload_n B dX0_init_260 rfl ?_
        obtain ⟨w261, e261, hF⟩ := bo hF
        refine j_new (N := 1) B nw_X0_71 rfl dX0_init_261 hR (by show _ ≤ 500; omega) (by show _ ≤ 3399; omega) ?_
        rw [Option.some.inj e261]
        refine j_dup B dX0_init_264 (cr _) ?_
        obtain ⟨w265, e265, hF⟩ := bo hF
        refine j_rI (st2 := [va_rf (some w.2), .int (Int32.ofNat j), va_rf a257p]) B [] [va_rf (some w.2), .int (Int32.ofNat j), va_rf a257p] ci_X0_104 dX0_init_265 hl hR (ct_X5_init G e265).2 (rmOk_mk rfl rfl (by decide) (by decide) (by show _ ≤ 500; omega) (by show _ ≤ 3399; omega)) rfl rfl rfl ⟨cr _, rfl, cr _, trivial⟩ (Nat.le_of_ble_eq_true rfl) ?_
        obtain ⟨hz, hF⟩ := bg hF
        refine j_aastore B 104 rfl dX0_init_268 (cls_tg hz rfl) hF (fun w268 hF => ?_)
        refine j_iinc (v := Int32.ofNat j + 1) (vs' := [some (va_rf a0), some (.int (Int32.ofNat j + 1))]) B dX0_init_269 (by decide) rfl rfl rfl ?_
        refine j_goto (tgt := 251) B dX0_init_272 (by decide) ?_
        rw [ofNs j] at hF ⊢
        refine j_widen (k' := 496 + (j + 1)) (n' := 3395 + (j + 1)) (by omega) (by omega) ?_
        exact ih251 (j + 1) a0 w268 hj9 hF
  have lp224 : ∀ (n9 : Nat) (j : Nat) (a0 : Option Nat) (w : cH), j ≤ 10 → F_X0_init_L224 g  n9 a0 (Int32.ofNat j) w = some w9 → J g x (.returned none) w9 500 3399 w (486 + j) (3385 + j) 224 [some (va_rf a0), some (.int (Int32.ofNat j))] [] := by
    intro n9
    induction n9 with
    | zero => intro j a0 w hj hF; cases hF
    | succ n224 ih224 =>
      intro j a0 w hj hF
      have hF : F_X0_init_B224 g  (F_X0_init_L224 g  n224) a0 (Int32.ofNat j) w = some w9 := hF
      unfold F_X0_init_B224 at hF
      refine j_iload_n B dX0_init_224 rfl ?_
      refine j_bipush (v := 10) B dX0_init_225 (by decide) ?_
      refine j_icmp_ge (tgt := 249) B dX0_init_227 (by decide) hF (fun h227 hF => ?_) (fun h227 hF => ?_)
      · refine j_iconst (v := 0) B dX0_init_249 (by decide) ?_
        refine j_istore_n (vs' := [some (va_rf a0), some (.int 0)]) B dX0_init_250 (by decide) rfl ?_
        refine j_widen (k' := 496 + 0) (n' := 3395 + 0) (by omega) (by omega) ?_
        exact lp251 fu 0 a0 w (by omega) hF
      · have hj9 : j + 1 ≤ 10 := Nat.lt_of_le_of_ne hj (fun h => h227 (by rw [h]; decide))
        refine j_aload_n B dX0_init_230 rfl ?_
        refine j_getA B fl_X0_77 dX0_init_231 hF (fun a231p hF => ?_)
        refine j_iload_n B dX0_init_234 rfl ?_
        obtain ⟨w235, e235, hF⟩ := bo hF
        refine j_new (N := 1) B nw_X0_71 rfl dX0_init_235 hR (by show _ ≤ 500; omega) (by show _ ≤ 3399; omega) ?_
        rw [Option.some.inj e235]
        refine j_dup B dX0_init_238 (cr _) ?_
        obtain ⟨w239, e239, hF⟩ := bo hF
        refine j_rI (st2 := [va_rf (some w.2), .int (Int32.ofNat j), va_rf a231p]) B [] [va_rf (some w.2), .int (Int32.ofNat j), va_rf a231p] ci_X0_104 dX0_init_239 hl hR (ct_X5_init G e239).2 (rmOk_mk rfl rfl (by decide) (by decide) (by show _ ≤ 500; omega) (by show _ ≤ 3399; omega)) rfl rfl rfl ⟨cr _, rfl, cr _, trivial⟩ (Nat.le_of_ble_eq_true rfl) ?_
        obtain ⟨hz, hF⟩ := bg hF
        refine j_aastore B 104 rfl dX0_init_242 (cls_tg hz rfl) hF (fun w242 hF => ?_)
        refine j_iinc (v := Int32.ofNat j + 1) (vs' := [some (va_rf a0), some (.int (Int32.ofNat j + 1))]) B dX0_init_243 (by decide) rfl rfl rfl ?_
        refine j_goto (tgt := 224) B dX0_init_246 (by decide) ?_
        rw [ofNs j] at hF ⊢
        refine j_widen (k' := 486 + (j + 1)) (n' := 3385 + (j + 1)) (by omega) (by omega) ?_
        exact ih224 (j + 1) a0 w242 hj9 hF
  have lp176 : ∀ (n9 : Nat) (j : Nat) (a0 : Option Nat) (w : cH), j ≤ 42 → F_X0_init_L176 g  n9 a0 (Int32.ofNat j) w = some w9 → J g x (.returned none) w9 500 3399 w (402 + 2 * j) (3175 + 5 * j) 176 [some (va_rf a0), some (.int (Int32.ofNat j))] [] := by
    intro n9
    induction n9 with
    | zero => intro j a0 w hj hF; cases hF
    | succ n176 ih176 =>
      intro j a0 w hj hF
      have hF : F_X0_init_B176 g  (F_X0_init_L176 g  n176) a0 (Int32.ofNat j) w = some w9 := hF
      unfold F_X0_init_B176 at hF
      refine j_iload_n B dX0_init_176 rfl ?_
      refine j_bipush (v := 42) B dX0_init_177 (by decide) ?_
      refine j_icmp_ge (tgt := 222) B dX0_init_179 (by decide) hF (fun h179 hF => ?_) (fun h179 hF => ?_)
      · refine j_iconst (v := 0) B dX0_init_222 (by decide) ?_
        refine j_istore_n (vs' := [some (va_rf a0), some (.int 0)]) B dX0_init_223 (by decide) rfl ?_
        refine j_widen (k' := 486 + 0) (n' := 3385 + 0) (by omega) (by omega) ?_
        exact lp224 fu 0 a0 w (by omega) hF
      · have hj9 : j + 1 ≤ 42 := Nat.lt_of_le_of_ne hj (fun h => h179 (by rw [h]; decide))
        refine j_aload_n B dX0_init_182 rfl ?_
        refine j_getA B fl_X0_73 dX0_init_183 hF (fun a183p hF => ?_)
        refine j_iload_n B dX0_init_186 rfl ?_
        obtain ⟨w187, e187, hF⟩ := bo hF
        refine j_new (N := 1) B nw_X0_71 rfl dX0_init_187 hR (by show _ ≤ 500; omega) (by show _ ≤ 3399; omega) ?_
        rw [Option.some.inj e187]
        refine j_dup B dX0_init_190 (cr _) ?_
        obtain ⟨w191, e191, hF⟩ := bo hF
        refine j_rI (st2 := [va_rf (some w.2), .int (Int32.ofNat j), va_rf a183p]) B [] [va_rf (some w.2), .int (Int32.ofNat j), va_rf a183p] ci_X0_104 dX0_init_191 hl hR (ct_X5_init G e191).2 (rmOk_mk rfl rfl (by decide) (by decide) (by show _ ≤ 500; omega) (by show _ ≤ 3399; omega)) rfl rfl rfl ⟨cr _, rfl, cr _, trivial⟩ (Nat.le_of_ble_eq_true rfl) ?_
        obtain ⟨hz, hF⟩ := bg hF
        refine j_aastore B 104 rfl dX0_init_194 (cls_tg hz rfl) hF (fun w194 hF => ?_)
        refine j_aload_n B dX0_init_195 rfl ?_
        refine j_getA B fl_X0_73 dX0_init_196 hF (fun a196p hF => ?_)
        refine j_iload_n B dX0_init_199 rfl ?_
        refine j_aaload B 104 rfl rfl dX0_init_200 hF (fun a200p hF => ?_)
        refine j_aload_n B dX0_init_201 rfl ?_
        refine j_iload_n B dX0_init_202 rfl ?_
        refine j_bipush (v := 6) B dX0_init_203 (by decide) ?_
        refine j_idiv B dX0_init_205 (by decide) ?_
        refine j_iload_n B dX0_init_206 rfl ?_
        refine j_bipush (v := 6) B dX0_init_207 (by decide) ?_
        refine j_irem B dX0_init_209 (by decide) ?_
        obtain ⟨a210p, w210, e210, hF⟩ := bc hF
        refine j_rV (st2 := [va_rf a210p, va_rf a200p]) B [.int ((Int32.ofNat j) / 6), .int ((Int32.ofNat j) - (Int32.ofNat j) / 6 * 6)] [va_rf a200p] cv_X0_105 dX0_init_210 hl hR (ct_X0_made G e210) (rmOk_mk rfl rfl (by decide) (by decide) (by show _ ≤ 500; omega) (by show _ ≤ 3399; omega)) rfl rfl rfl ⟨cr _, trivial⟩ (Nat.le_of_ble_eq_true rfl) ?_
        refine j_putV B fp_X0_109 (fun h => by cases h) (nar_rf _ _ (Or.inl ⟨_, rfl⟩)) (fit_rf _ _ (Or.inl ⟨_, rfl⟩)) dX0_init_213 hF (fun w213 hF => ?_)
        refine j_iinc (v := Int32.ofNat j + 1) (vs' := [some (va_rf a0), some (.int (Int32.ofNat j + 1))]) B dX0_init_216 (by decide) rfl rfl rfl ?_
        refine j_goto (tgt := 176) B dX0_init_219 (by decide) ?_
        rw [ofNs j] at hF ⊢
        refine j_widen (k' := 402 + 2 * (j + 1)) (n' := 3175 + 5 * (j + 1)) (by omega) (by omega) ?_
        exact ih176 (j + 1) a0 w213 hj9 hF
  refine j_aload_n B dX0_init_0 rfl ?_
  refine j_objInit (a := a0) B q155 q156 q157 dX0_init_1 hR (by decide) (by decide) trivial ?_
  refine j_aload_n B dX0_init_4 rfl ?_
  obtain ⟨w5, e5, hF⟩ := bo hF
  refine j_new (N := 7) B nw_X0_44 rfl dX0_init_5 hR (by decide) (by decide) ?_
  rw [Option.some.inj e5]
  refine j_dup B dX0_init_8 (cr _) ?_
  obtain ⟨w9, e9, hF⟩ := bo hF
  refine j_rI (st2 := [va_rf (some w.2), va_rf (some a0)]) B [] [va_rf (some w.2), va_rf (some a0)] ci_X0_46 dX0_init_9 hl hR (ct_X1_init G e9).2 rfl rfl rfl rfl ⟨cr _, cr _, trivial⟩ (Nat.le_of_ble_eq_true rfl) ?_
  refine j_putV B fp_X0_47 (fun _ => hin) (nar_rf _ _ (Or.inl ⟨_, rfl⟩)) (fit_rf _ _ (Or.inl ⟨_, rfl⟩)) dX0_init_12 hF (fun w12 hF => ?_)
  refine j_aload_n B dX0_init_15 rfl ?_
  obtain ⟨w16, e16, hF⟩ := bo hF
  refine j_new (N := 8) B nw_X0_51 rfl dX0_init_16 hR (by decide) (by decide) ?_
  rw [Option.some.inj e16]
  refine j_dup B dX0_init_19 (cr _) ?_
  obtain ⟨w20, e20, hF⟩ := bo hF
  refine j_rI (st2 := [va_rf (some w12.2), va_rf (some a0)]) B [] [va_rf (some w12.2), va_rf (some a0)] ci_X0_53 dX0_init_20 hl hR (ct_X2_init G e20).2 rfl rfl rfl rfl ⟨cr _, cr _, trivial⟩ (Nat.le_of_ble_eq_true rfl) ?_
  refine j_putV B fp_X0_54 (fun _ => hin) (nar_rf _ _ (Or.inl ⟨_, rfl⟩)) (fit_rf _ _ (Or.inl ⟨_, rfl⟩)) dX0_init_23 hF (fun w23 hF => ?_)
  refine j_aload_n B dX0_init_26 rfl ?_
  obtain ⟨w27, e27, hF⟩ := bo hF
  refine j_new (N := 10) B nw_X0_58 rfl dX0_init_27 hR (by decide) (by decide) ?_
  rw [Option.some.inj e27]
  refine j_dup B dX0_init_30 (cr _) ?_
  obtain ⟨w31, e31, hF⟩ := bo hF
  refine j_rI (st2 := [va_rf (some w23.2), va_rf (some a0)]) B [] [va_rf (some w23.2), va_rf (some a0)] ci_X0_60 dX0_init_31 hl hR (ct_X4_init G e31).2 rfl rfl rfl rfl ⟨cr _, cr _, trivial⟩ (Nat.le_of_ble_eq_true rfl) ?_
  refine j_putV B fp_X0_61 (fun _ => hin) (nar_rf _ _ (Or.inl ⟨_, rfl⟩)) (fit_rf _ _ (Or.inl ⟨_, rfl⟩)) dX0_init_34 hF (fun w34 hF => ?_)
  refine j_aload_n B dX0_init_37 rfl ?_
  obtain ⟨w38, e38, hF⟩ := bo hF
  refine j_new (N := 10) B nw_X0_58 rfl dX0_init_38 hR (by decide) (by decide) ?_
  rw [Option.some.inj e38]
  refine j_dup B dX0_init_41 (cr _) ?_
  obtain ⟨w42, e42, hF⟩ := bo hF
  refine j_rI (st2 := [va_rf (some w34.2), va_rf (some a0)]) B [] [va_rf (some w34.2), va_rf (some a0)] ci_X0_60 dX0_init_42 hl hR (ct_X4_init G e42).2 rfl rfl rfl rfl ⟨cr _, cr _, trivial⟩ (Nat.le_of_ble_eq_true rfl) ?_
  refine j_putV B fp_X0_65 (fun _ => hin) (nar_rf _ _ (Or.inl ⟨_, rfl⟩)) (fit_rf _ _ (Or.inl ⟨_, rfl⟩)) dX0_init_45 hF (fun w45 hF => ?_)
  refine j_aload_n B dX0_init_48 rfl ?_
  obtain ⟨w49, e49, hF⟩ := bo hF
  refine j_new (N := 10) B nw_X0_58 rfl dX0_init_49 hR (by decide) (by decide) ?_
  rw [Option.some.inj e49]
  refine j_dup B dX0_init_52 (cr _) ?_
  obtain ⟨w53, e53, hF⟩ := bo hF
  refine j_rI (st2 := [va_rf (some w45.2), va_rf (some a0)]) B [] [va_rf (some w45.2), va_rf (some a0)] ci_X0_60 dX0_init_53 hl hR (ct_X4_init G e53).2 rfl rfl rfl rfl ⟨cr _, cr _, trivial⟩ (Nat.le_of_ble_eq_true rfl) ?_
  refine j_putV B fp_X0_68 (fun _ => hin) (nar_rf _ _ (Or.inl ⟨_, rfl⟩)) (fit_rf _ _ (Or.inl ⟨_, rfl⟩)) dX0_init_56 hF (fun w56 hF => ?_)
  refine j_aload_n B dX0_init_59 rfl ?_
  refine j_bipush (v := 42) B dX0_init_60 (by decide) ?_
  obtain ⟨w62, e62, hF⟩ := bo hF
  refine j_anew (N := 42) B 104 rfl q333 q334 dX0_init_62 (by decide) (by decide) (by decide) hR (by decide) (by decide) ?_
  rw [Option.some.inj e62]
  refine j_putV B fp_X0_73 (fun _ => hin) (nar_rf _ _ (Or.inr ⟨_, rfl⟩)) (fit_rf _ _ (Or.inr ⟨_, rfl⟩)) dX0_init_65 hF (fun w65 hF => ?_)
  refine j_aload_n B dX0_init_68 rfl ?_
  refine j_bipush (v := 10) B dX0_init_69 (by decide) ?_
  obtain ⟨w71, e71, hF⟩ := bo hF
  refine j_anew (N := 10) B 104 rfl q333 q334 dX0_init_71 (by decide) (by decide) (by decide) hR (by decide) (by decide) ?_
  rw [Option.some.inj e71]
  refine j_putV B fp_X0_77 (fun _ => hin) (nar_rf _ _ (Or.inr ⟨_, rfl⟩)) (fit_rf _ _ (Or.inr ⟨_, rfl⟩)) dX0_init_74 hF (fun w74 hF => ?_)
  refine j_aload_n B dX0_init_77 rfl ?_
  refine j_iconst (v := 4) B dX0_init_78 (by decide) ?_
  obtain ⟨w79, e79, hF⟩ := bo hF
  refine j_anew (N := 4) B 104 rfl q333 q334 dX0_init_79 (by decide) (by decide) (by decide) hR (by decide) (by decide) ?_
  rw [Option.some.inj e79]
  refine j_putV B fp_X0_80 (fun _ => hin) (nar_rf _ _ (Or.inr ⟨_, rfl⟩)) (fit_rf _ _ (Or.inr ⟨_, rfl⟩)) dX0_init_82 hF (fun w82 hF => ?_)
  refine j_aload_n B dX0_init_85 rfl ?_
  refine j_bipush (v := 7) B dX0_init_86 (by decide) ?_
  obtain ⟨w88, e88, hF⟩ := bo hF
  refine j_newarray (at9 := .int) (ty := .int) (N := 7) B 100 rfl rfl rfl q301 dX0_init_88 (by decide) (by decide) (by decide) hR (by decide) (by decide) ?_
  rw [Option.some.inj e88]
  refine j_putV B fp_X0_83 (fun _ => hin) (nar_rf _ _ (Or.inr ⟨_, rfl⟩)) (fit_rf _ _ (Or.inr ⟨_, rfl⟩)) dX0_init_90 hF (fun w90 hF => ?_)
  refine j_aload_n B dX0_init_93 rfl ?_
  refine j_bipush (v := 7) B dX0_init_94 (by decide) ?_
  refine j_bipush (v := 7) B dX0_init_96 (by decide) ?_
  obtain ⟨w98, e98, hF⟩ := bo hF
  refine j_multi (ra := 7) (rb := 7) B q335 q254 dX0_init_98 (by decide) (by decide) (by decide) (by decide) (by decide) hR (by decide) (by decide) ?_
  rw [Option.some.inj e98]
  refine j_putV B fp_X0_89 (fun _ => hin) (nar_rf _ _ (Or.inr ⟨_, rfl⟩)) (fit_rf _ _ (Or.inr ⟨_, rfl⟩)) dX0_init_102 hF (fun w102 hF => ?_)
  refine j_aload_n B dX0_init_105 rfl ?_
  refine j_bipush (v := 7) B dX0_init_106 (by decide) ?_
  refine j_bipush (v := 7) B dX0_init_108 (by decide) ?_
  obtain ⟨w110, e110, hF⟩ := bo hF
  refine j_multi (ra := 7) (rb := 7) B q335 q254 dX0_init_110 (by decide) (by decide) (by decide) (by decide) (by decide) hR (by decide) (by decide) ?_
  rw [Option.some.inj e110]
  refine j_putV B fp_X0_92 (fun _ => hin) (nar_rf _ _ (Or.inr ⟨_, rfl⟩)) (fit_rf _ _ (Or.inr ⟨_, rfl⟩)) dX0_init_114 hF (fun w114 hF => ?_)
  refine j_aload_n B dX0_init_117 rfl ?_
  refine j_iconst (v := 5) B dX0_init_118 (by decide) ?_
  obtain ⟨w119, e119, hF⟩ := bo hF
  refine j_newarray (at9 := .int) (ty := .int) (N := 5) B 100 rfl rfl rfl q301 dX0_init_119 (by decide) (by decide) (by decide) hR (by decide) (by decide) ?_
  rw [Option.some.inj e119]
  refine j_putV B fp_X0_95 (fun _ => hin) (nar_rf _ _ (Or.inr ⟨_, rfl⟩)) (fit_rf _ _ (Or.inr ⟨_, rfl⟩)) dX0_init_121 hF (fun w121 hF => ?_)
  refine j_aload_n B dX0_init_124 rfl ?_
  refine j_bipush (v := 6) B dX0_init_125 (by decide) ?_
  obtain ⟨w127, e127, hF⟩ := bo hF
  refine j_newarray (at9 := .int) (ty := .int) (N := 6) B 100 rfl rfl rfl q301 dX0_init_127 (by decide) (by decide) (by decide) hR (by decide) (by decide) ?_
  rw [Option.some.inj e127]
  refine j_dup B dX0_init_129 (cr _) ?_
  refine j_iconst (v := 0) B dX0_init_130 (by decide) ?_
  refine j_iconst (v := 1) B dX0_init_131 (by decide) ?_
  refine j_iastore B dX0_init_132 hF (fun w132 hF => ?_)
  refine j_dup B dX0_init_133 (cr _) ?_
  refine j_iconst (v := 1) B dX0_init_134 (by decide) ?_
  refine j_iconst (v := 3) B dX0_init_135 (by decide) ?_
  refine j_iastore B dX0_init_136 hF (fun w136 hF => ?_)
  refine j_dup B dX0_init_137 (cr _) ?_
  refine j_iconst (v := 2) B dX0_init_138 (by decide) ?_
  refine j_bipush (v := 9) B dX0_init_139 (by decide) ?_
  refine j_iastore B dX0_init_141 hF (fun w141 hF => ?_)
  refine j_dup B dX0_init_142 (cr _) ?_
  refine j_iconst (v := 3) B dX0_init_143 (by decide) ?_
  refine j_bipush (v := 27) B dX0_init_144 (by decide) ?_
  refine j_iastore B dX0_init_146 hF (fun w146 hF => ?_)
  refine j_dup B dX0_init_147 (cr _) ?_
  refine j_iconst (v := 4) B dX0_init_148 (by decide) ?_
  refine j_bipush (v := 81) B dX0_init_149 (by decide) ?_
  refine j_iastore B dX0_init_151 hF (fun w151 hF => ?_)
  refine j_dup B dX0_init_152 (cr _) ?_
  refine j_iconst (v := 5) B dX0_init_153 (by decide) ?_
  refine j_sipush (v := 243) B dX0_init_154 (by decide) ?_
  refine j_iastore B dX0_init_157 hF (fun w157 hF => ?_)
  refine j_putV B fp_X0_98 (fun _ => hin) (nar_rf _ _ (Or.inr ⟨_, rfl⟩)) (fit_rf _ _ (Or.inr ⟨_, rfl⟩)) dX0_init_158 hF (fun w158 hF => ?_)
  refine j_aload_n B dX0_init_161 rfl ?_
  refine j_sipush (v := 243) B dX0_init_162 (by decide) ?_
  refine j_bipush (v := 7) B dX0_init_165 (by decide) ?_
  obtain ⟨w167, e167, hF⟩ := bo hF
  refine j_multi (ra := 243) (rb := 7) B q335 q254 dX0_init_167 (by decide) (by decide) (by decide) (by decide) (by decide) hR (by decide) (by decide) ?_
  rw [Option.some.inj e167]
  refine j_putV B fp_X0_101 (fun _ => hin) (nar_rf _ _ (Or.inr ⟨_, rfl⟩)) (fit_rf _ _ (Or.inr ⟨_, rfl⟩)) dX0_init_171 hF (fun w171 hF => ?_)
  refine j_iconst (v := 0) B dX0_init_174 (by decide) ?_
  refine j_istore_n (vs' := [some (va_rf (some a0)), some (.int 0)]) B dX0_init_175 (by decide) rfl ?_
  exact lp176 fu 0 (some a0) w171 (by omega) hF
