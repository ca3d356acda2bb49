/-- the heap at the start: the constant texts alone -/
def w0 (g : Gt) : cH := (fun a => ((List.range 17).find? (fun i => decide (a = g.2.2.2.2 i))).map fun i => (111, stlen.getD i 0, fun j => .int ((stbyt.getD i []).getD j 0)), gb g)
theorem w0_rep (g : Gt) : hrep g (w0 g) g.1.heap := by
  refine ⟨rfl, Nat.le_refl _, fun q _ => rfl, fun a e h => ?_⟩
  unfold w0 at h
  dsimp only at h
  cases hf : (List.range 17).find? (fun i => decide (a = g.2.2.2.2 i)) with
  | none => rw [hf] at h; cases h
  | some i =>
    rw [hf] at h
    cases h
    have h1 := List.find?_some hf
    have h2 := List.mem_of_find?_eq_some hf
    refine Or.inr (Or.inr ⟨rfl, i, List.mem_range.mp h2, of_decide_eq_true h1, rfl, fun j _ => rfl⟩)
set_option maxHeartbeats 1000000 in
/-- the whole out of the law's function -/
theorem whole_of (hok : ∀ (g : Gt) (sc : Nat × (Nat → Int32)), Gok g → sc.1 ≤ 384 → ∃ w9, F_L_law g sc (some g.2.1) (w0 g) = some (1, w9)) {p : Program} {e : Env} {s : State} {m : MethodId} {below : List Frame} {meth : Method} {c : Code} (l : Launch) {b L : Nat} {xs : Nat → Int32} (hL : L ≤ 384)
    (hx : p.tables.exec = Jvm.exec) (hb : c.code = code) (hr : meth.sig.returnType = some .boolean) (hml : c.maxLocals = 4) (hown : s.vm.findClass "CarryFairLaw" = some m.cls) (hts : ∀ w ∈ lw_tbl, w.before #[Value.ref b] s = true) (hX : va_X b L xs s s.heap) (hbl : b < s.heap.size) (hlk : meth.locks = false) (hn : (Jvm.Cond.and given_1 narrow_1).before #[Value.ref b] s = true) :
    W p l e room_1 s m #[Value.ref b] below meth c s.heap [] 0 0 (fun t => ∃ o, t.status = .running ∧ Ended t below o ∧ o = .returned (some (.int 1)) ∧ Framed s o t [] 601024 7293034) (entryFrame m ([Value.ref b] : List Value).toArray 4) := by
  obtain ⟨D, dA, tx, G⟩ := Gok_start hts hn
  obtain ⟨w9, hF⟩ := hok (s, b, D, dA, tx) (L, xs) G hL
  have B : Bd (s, b, D, dA, tx) (p, l, e, room_1, s, m, #[Value.ref b], below, meth, c) cL_law 4 "CarryFairLaw" (some .boolean) := ⟨hx, hb, hml, hown, fun w h => hts w (lw_all_tbl h), hr, hlk, State.WarmedH.refl s, G⟩
  have hJ := J_law G B rfl rfl hX hbl hL hF
  have hl := lk_entry [Value.ref b] (n := 4) (lg_le ⟨cr (some b), trivial⟩ (Nat.le_of_ble_eq_true rfl)) (av_ok ⟨cr (some b), trivial⟩)
  have hl2 := lk_pad (n := 4) hl
  have hW := hJ s.heap [] _ (w0_rep (s, b, D, dA, tx)) (fun q h => by cases h) (by rw [hml]; exact hl2)
  rw [← lg_entry_eq] at hW
  refine W_mono (fun t h => ?_) hW
  obtain ⟨h1, h2, h3, L9, h4, h5, h6⟩ := h
  exact ⟨_, h1, h2, rfl, ⟨_, rfl⟩, h4, h5.weaken (fun q hq hlt => absurd hlt (Nat.not_lt.mpr (h6 q hq))) (Nat.le_refl _) (Nat.le_refl _)⟩
