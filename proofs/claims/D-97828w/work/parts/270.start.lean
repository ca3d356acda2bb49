/-! ### the law's start -/
theorem cl_start {s : State} {b : Nat} (hts : ∀ w ∈ lw_tbl, w.before #[Value.ref b] s = true) : ∀ c : Nat, ∃ q : ClassId × (Nat → Nat), ∀ r : vw_C, gcl[c]? = some r → u_Kn s r.1 r.2.1 r.2.2 q.1 q.2 := by
  have ha : ∀ w ∈ lw_all, w.before #[Value.ref b] s = true := fun w h => hts w (lw_all_tbl h)
  intro c
  match c with
  | 0 =>
    obtain ⟨cC, iS, h⟩ := u_known ha (C := RX0) (T := TX0) (N := 20) in_X0 (ha _ q151)
    exact ⟨(cC, iS), fun r hr => by cases hr; exact h⟩
  | 1 =>
    obtain ⟨cC, iS, h⟩ := u_known ha (C := RX1) (T := TX1) (N := 7) in_X1 (ha _ q159)
    exact ⟨(cC, iS), fun r hr => by cases hr; exact h⟩
  | 2 =>
    obtain ⟨cC, iS, h⟩ := u_known ha (C := RX2) (T := TX2) (N := 8) in_X2 (ha _ q227)
    exact ⟨(cC, iS), fun r hr => by cases hr; exact h⟩
  | 3 =>
    obtain ⟨cC, iS, h⟩ := u_known ha (C := RX3) (T := TX3) (N := 6) in_X3 (ha _ q233)
    exact ⟨(cC, iS), fun r hr => by cases hr; exact h⟩
  | 4 =>
    obtain ⟨cC, iS, h⟩ := u_known ha (C := RX4) (T := TX4) (N := 10) in_X4 (ha _ q248)
    exact ⟨(cC, iS), fun r hr => by cases hr; exact h⟩
  | 5 =>
    obtain ⟨cC, iS, h⟩ := u_known ha (C := RX5) (T := TX5) (N := 1) in_X5 (ha _ q336)
    exact ⟨(cC, iS), fun r hr => by cases hr; exact h⟩
  | 6 =>
    obtain ⟨cC, iS, h⟩ := u_known ha (C := RX6) (T := TX6) (N := 2) in_X6 (ha _ q433)
    exact ⟨(cC, iS), fun r hr => by cases hr; exact h⟩
  | 7 =>
    obtain ⟨cC, iS, h⟩ := u_known ha (C := RX7) (T := TX7) (N := 3) in_X7 (ha _ q350)
    exact ⟨(cC, iS), fun r hr => by cases hr; exact h⟩
  | 8 =>
    obtain ⟨cC, iS, h⟩ := u_known ha (C := RX8) (T := TX8) (N := 3) in_X8 (ha _ q370)
    exact ⟨(cC, iS), fun r hr => by cases hr; exact h⟩
  | 9 =>
    obtain ⟨cC, iS, h⟩ := u_known ha (C := RX9) (T := TX9) (N := 4) in_X9 (ha _ q382)
    exact ⟨(cC, iS), fun r hr => by cases hr; exact h⟩
  | 10 =>
    obtain ⟨cC, iS, h⟩ := u_known ha (C := RX10) (T := TX10) (N := 4) in_X10 (ha _ q395)
    exact ⟨(cC, iS), fun r hr => by cases hr; exact h⟩
  | 11 =>
    obtain ⟨cC, iS, h⟩ := u_known ha (C := RX11) (T := TX11) (N := 3) in_X11 (ha _ q408)
    exact ⟨(cC, iS), fun r hr => by cases hr; exact h⟩
  | 12 =>
    obtain ⟨cC, iS, h⟩ := u_known ha (C := RX12) (T := TX12) (N := 4) in_X12 (ha _ q420)
    exact ⟨(cC, iS), fun r hr => by cases hr; exact h⟩
  | 13 =>
    obtain ⟨cC, iS, h⟩ := u_known ha (C := RX13) (T := TX13) (N := 30) in_X13 (ha _ q1321)
    exact ⟨(cC, iS), fun r hr => by cases hr; exact h⟩
  | (c + 14) => exact ⟨(0, fun _ => 0), fun r hr => by cases hr⟩
theorem arrT_of {s : State} {c : ClassId} {k : Class} {comp : ClassId} {ty : FieldType} (h1 : s.vm.classes[c]? = some k) (h2 : k.kind = .array comp ty) : ArrOfT s c ty := fun n z => ⟨fun q h => (by cases h), k, h1, comp, h2⟩
theorem ar_start {s : State} {b : Nat} (hts : ∀ w ∈ lw_tbl, w.before #[Value.ref b] s = true) : ∀ t : Nat, ∃ q : ClassId, ∀ ty : FieldType, aty t = some ty → ArrOfT s q ty ∧ va_RA s q ty := by
  have ha : ∀ w ∈ lw_all, w.before #[Value.ref b] s = true := fun w h => hts w (lw_all_tbl h)
  intro t
  by_cases h0 : t = 100
  · subst h0
    obtain ⟨c, k, comp, g1, g2, g3⟩ := Cond.arrayClass_spec (ha _ q301)
    exact ⟨c, fun ty h => by cases h; exact ⟨arrT_of g2 g3, g1⟩⟩
  by_cases h1 : t = 101
  · subst h1
    obtain ⟨c, k, comp, g1, g2, g3⟩ := Cond.arrayClass_spec (ha _ q300)
    exact ⟨c, fun ty h => by cases h; exact ⟨arrT_of g2 g3, g1⟩⟩
  by_cases h2 : t = 102
  · subst h2
    obtain ⟨c, k, comp, g1, g2, g3⟩ := Cond.arrayClass_spec (ha _ q1240)
    exact ⟨c, fun ty h => by cases h; exact ⟨arrT_of g2 g3, g1⟩⟩
  by_cases h3 : t = 103
  · subst h3
    obtain ⟨comp, c, k, g0, g1, g2, g3, g4⟩ := arrayOverA_spec (hts _ q254)
    exact ⟨c, fun ty h => by cases h; exact ⟨arrT_of g2 g3, g4⟩⟩
  by_cases h4 : t = 104
  · subst h4
    obtain ⟨comp, c, k, g0, g1, g2, g3, g4⟩ := Cond.arrayOver_spec (hts _ q334)
    exact ⟨c, fun ty h => by cases h; exact ⟨arrT_of g2 g3, k, comp, g2, g3, g0, g4⟩⟩
  by_cases h5 : t = 105
  · subst h5
    obtain ⟨comp, c, k, g0, g1, g2, g3, g4⟩ := Cond.arrayOver_spec (hts _ q1327)
    exact ⟨c, fun ty h => by cases h; exact ⟨arrT_of g2 g3, k, comp, g2, g3, g0, g4⟩⟩
  · exact ⟨0, fun ty h => by unfold aty at h; rw [if_neg h0, if_neg h1, if_neg h2, if_neg h3, if_neg h4, if_neg h5] at h; cases h⟩
def stm (i : Nat) : Term := .string (stown.getD i "") (stidx.getD i 0)
/-- the words of the texts, as they stand in the premise -/
def txB (i : Nat) : List Cond := [Cond.exactly (stm i) "java/lang/String", Cond.eq (.field (stm i) "java/lang/String" "coder" "B") (.int 0), Cond.arrayOf (.field (stm i) "java/lang/String" "value" "[B") .byte, Cond.eq (.length (.field (stm i) "java/lang/String" "value" "[B")) (.int (Int32.ofNat (stlen.getD i 0)))]
def txE (i : Nat) : List Cond := (List.range (stlen.getD i 0)).map fun j => Cond.eq (.elem (.field (stm i) "java/lang/String" "value" "[B") (.int (Int32.ofNat j))) (.int ((stbyt.getD i []).getD j 0))
def txN (i : Nat) : List Cond := (List.range i).map fun q => Cond.not (Cond.eq (stm q) (stm i))
theorem tx_all : ((flatC (Cond.and given_1 narrow_1)).drop 101).take 411 = (List.range 17).flatMap fun i => txB i ++ (txE i ++ txN i) := by decide +kernel
theorem tx_in {i : Nat} (hi : i < 17) {w : Cond} (h : w ∈ txB i ++ (txE i ++ txN i)) : w ∈ flatC (Cond.and given_1 narrow_1) := by
  refine List.mem_of_mem_drop (List.mem_of_mem_take (i := 411) (l := (flatC (Cond.and given_1 narrow_1)).drop 101) ?_)
  rw [tx_all]
  exact List.mem_flatMap.mpr ⟨i, List.mem_range.mpr hi, h⟩
theorem tx_words : ∀ i, i < 17 → (Cond.exactly (stm i) "java/lang/String" ∈ flatC (Cond.and given_1 narrow_1) ∧ Cond.eq (.field (stm i) "java/lang/String" "coder" "B") (.int 0) ∈ flatC (Cond.and given_1 narrow_1) ∧ Cond.arrayOf (.field (stm i) "java/lang/String" "value" "[B") .byte ∈ flatC (Cond.and given_1 narrow_1) ∧ Cond.eq (.length (.field (stm i) "java/lang/String" "value" "[B")) (.int (Int32.ofNat (stlen.getD i 0))) ∈ flatC (Cond.and given_1 narrow_1) ∧ stlen.getD i 0 < 2 ^ 31) := fun i hi =>
  ⟨tx_in hi (List.mem_append_left _ (by simp [txB])), tx_in hi (List.mem_append_left _ (by simp [txB])), tx_in hi (List.mem_append_left _ (by simp [txB])), tx_in hi (List.mem_append_left _ (by simp [txB])), (st_ok i hi).1⟩
theorem tx_elems : ∀ i, i < 17 → ∀ j, j < stlen.getD i 0 → Cond.eq (.elem (.field (stm i) "java/lang/String" "value" "[B") (.int (Int32.ofNat j))) (.int ((stbyt.getD i []).getD j 0)) ∈ flatC (Cond.and given_1 narrow_1) := fun i hi j hj =>
  tx_in hi (List.mem_append_right _ (List.mem_append_left _ (List.mem_map.mpr ⟨j, List.mem_range.mpr hj, rfl⟩)))
theorem tx_ne : ∀ i, i < 17 → ∀ j, j < 17 → i ≠ j → Cond.not (Cond.eq (stm i) (stm j)) ∈ flatC (Cond.and given_1 narrow_1) ∨ Cond.not (Cond.eq (stm j) (stm i)) ∈ flatC (Cond.and given_1 narrow_1) := fun i hi j hj hne => by
  rcases Nat.lt_or_gt_of_ne hne with h | h
  · exact Or.inl (tx_in hj (List.mem_append_right _ (List.mem_append_right _ (List.mem_map.mpr ⟨i, List.mem_range.mpr h, rfl⟩))))
  · exact Or.inr (tx_in hi (List.mem_append_right _ (List.mem_append_right _ (List.mem_map.mpr ⟨j, List.mem_range.mpr h, rfl⟩))))
theorem tx_ref : ∀ i, i < 17 → Cond.stringRef (stown.getD i "") (stidx.getD i 0) (sttx.getD i "") ∈ lw_tbl := by decide +kernel
theorem Gok_start {s : State} {b : Nat} (hts : ∀ w ∈ lw_tbl, w.before #[Value.ref b] s = true) (hn : (Jvm.Cond.and given_1 narrow_1).before #[Value.ref b] s = true) : ∃ (D : va_G) (dA : Nat → ClassId) (tx : Nat → Nat), Gok (s, b, D, dA, tx) := by
  obtain ⟨f, hf⟩ := Classical.axiomOfChoice (cl_start hts)
  obtain ⟨dA, hA⟩ := Classical.axiomOfChoice (ar_start hts)
  have fl := fun (c9 : Cond) (h : c9 ∈ flatC (Cond.and given_1 narrow_1)) => flat_of_before _ hn _ h
  obtain ⟨adK, adV, hS, hE⟩ := vk_Sof (args := #[Value.ref b]) (s := s) (N := 17) (tm := stm) (len := stlen) (byt := stbyt) (A := fun q => s.heap.size ≤ q) (fun i h => (tx_words i h).2.2.2.2) (fun i h => fl _ (tx_words i h).1) (fun i h => fl _ (tx_words i h).2.1) (fun i h => fl _ (tx_words i h).2.2.1) (fun i h => fl _ (tx_words i h).2.2.2.1) (fun i h j hj => fl _ (tx_elems i h j hj)) (fun i j hi hj hne => (tx_ne i hi j hj hne).imp (fl _) (fl _)) (fun a h => Nat.not_le.mpr h)
  exact ⟨(fun c => (f c).1, fun c => (f c).2), dA, adK, hts, hn, fun c q h => hf c q h, fun t ty h => hA t ty h, ⟨adV, hS⟩, fun i hi => vk_R.of (hts _ (tx_ref i hi)) (hE i hi)⟩
