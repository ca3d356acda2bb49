/-! ### a world becomes another -/
section L4d
variable {L : Lt} {σ : St} {ρ : Rw} {b b' : Nat} {S : Sg}
set_option maxRecDepth 8000 in
theorem clN {a : Nat} (h : a < 2147483648) : (Int32.ofNat a).toNatClampNeg = a := by unfold Int32.toNatClampNeg; rw [toI h]; rfl
set_option maxRecDepth 8000 in
theorem hp_cpA {i i' sp dp n t : Nat} (hL : Li L) (h : dm L i) (h' : dm L i') (ht : (L.2.2.1 i).1 = t) (ht' : (L.2.2.1 i').1 = t) (hp0 : ∀ k, L.2.2.2.1 i k = none) (hp1 : ∀ k, L.2.2.2.1 i' k = none) (hs : sp + n ≤ (L.2.2.1 i).2) (hd : dp + n ≤ (L.2.2.1 i').2) (b1 : sp < 2147483648) (b2 : dp < 2147483648) (b3 : n < 2147483648) (hf : ∀ k, k < n → fits ((aty t).getD .int) (.int (σ i (sp + k))) = true) : cpA (hp L σ) (some (L.1 i)) (Int32.ofNat sp) (some (L.1 i')) (Int32.ofNat dp) (Int32.ofNat n) t = some (hp L (cp2 σ i sp i' dp n)) := by
  unfold cpA
  rw [hp_cV h, hp_cV h']
  dsimp only
  rw [clN b1, clN b2, clN b3]
  have hall : (List.range n).all (fun k => fits ((aty t).getD .int) (vv L.1 (L.2.2.2.1 i (sp + k)) (σ i (sp + k)))) = true := by
    rw [List.all_eq_true]
    intro k hk
    rw [hp0]; exact hf k (List.mem_range.mp hk)
  rw [if_pos ⟨ht, ht', ofN_ge0 b1, ofN_ge0 b2, ofN_ge0 b3, hs, hd, hall⟩]
  refine congrArg some (Prod.ext (funext fun a => ?_) rfl)
  show (if a = L.1 i' then _ else (hp L σ).1 a) = _
  by_cases ha : a = L.1 i'
  · subst ha
    rw [if_pos rfl, hp_at h']
    refine congrArg some (congrArg (Prod.mk _) (congrArg (Prod.mk _) (funext fun k' => ?_)))
    unfold va_cpy cp2
    by_cases hk : dp ≤ k' ∧ k' < dp + n
    · rw [if_pos hk, if_pos ⟨rfl, hk⟩]
      show vv L.1 (L.2.2.2.1 i (sp + (k' - dp))) _ = vv L.1 (L.2.2.2.1 i' k') _
      rw [hp0, hp1]
    · rw [if_neg hk, if_neg (fun q => hk q.2)]
  · rw [if_neg ha]
    unfold hp
    dsimp only
    cases hI : L.2.1 a with
    | none => rfl
    | some i2 =>
      have hne : ¬ i2 = i' := fun q => ha (by rw [← q]; exact (hL a i2 hI).symm)
      refine congrArg some (congrArg (Prod.mk _) (congrArg (Prod.mk _) (funext fun k' => ?_)))
      unfold cp2
      rw [if_neg (fun q => hne q.1)]
set_option maxRecDepth 8000 in
theorem fits_int (v : Int32) : fits ((aty 100).getD .int) (.int v) = true := rfl
/-- rows j.. of one world laid over another's -/
def cpR (σ : St) (b' b j m len : Nat) : St := fun i k => if b + j ≤ i ∧ i < b + j + m ∧ k < len then σ (b' + (i - b)) k else σ i k
set_option maxRecDepth 8000 in
theorem isW_or (hb : isW b = true) : b = 200 ∨ b = 300 ∨ b = 400 ∨ b = 500 := by
  simp only [isW, Bool.or_eq_true, beq_iff_eq] at hb; omega
set_option maxRecDepth 8000 in
theorem cpR_step {j m len : Nat} (hb : isW b = true) (hb' : isW b' = true) (hne : b ≠ b') (hj : j + m < 52) : cp2 (cpR σ b' b j m len) (b' + (j + m)) 0 (b + (j + m)) 0 len = cpR σ b' b j (m + 1) len := by
  have h1 := isW_or hb; have h2 := isW_or hb'
  funext i k
  unfold cp2 cpR
  by_cases he : i = b + (j + m) ∧ 0 ≤ k ∧ k < 0 + len
  · rw [if_pos he, if_neg (by omega), if_pos (by omega)]
    congr 1
    · omega
    · omega
  · rw [if_neg he]
    by_cases h3 : b + j ≤ i ∧ i < b + j + m ∧ k < len
    · rw [if_pos h3, if_pos (by omega)]
    · rw [if_neg h3, if_neg (by omega)]
set_option maxRecDepth 8000 in
theorem x_copy (h : Lok L) (hb : isW b = true) (hb' : isW b' = true) {j len : Nat} (hj : wI j = true) (hj2 : j < 52) (hl : wTN j = (100, len)) (hp9 : ∀ k, wP b j k = none) (hp8 : ∀ k, wP b' j k = none) (hl9 : len < 1000) : F_X4_copy (some (L.1 (b' + j))) (some (L.1 (b + j))) (hp L σ) = some (hp L (cp2 σ (b' + j) 0 (b + j) 0 len)) := by
  obtain ⟨s1, s2, s3⟩ := wS hb hj hj2
  obtain ⟨t1, t2, t3⟩ := wS hb' hj hj2
  have q1 := h.2.1 _ (sid_of s1); have q2 := h.2.1 _ (sid_of t1)
  have e := hp_cpA (L := L) (σ := σ) (i := b' + j) (i' := b + j) (sp := 0) (dp := 0) (n := len) (t := 100) h.1 q2.1 q1.1 (by rw [q2.2, t2, hl]) (by rw [q1.2, s2, hl]) (fun k => by rw [h.2.2.1 _ t1, t3]; exact hp8 k) (fun k => by rw [h.2.2.1 _ s1, s3]; exact hp9 k) (by rw [q2.2, t2, hl]; simp) (by rw [q1.2, s2, hl]; simp) (by omega) (by omega) (by omega) (fun k _ => fits_int _)
  have eL : aL (hp L σ) (some (L.1 (b + j))) = some (Int32.ofNat len) := by
    rw [h.aL (sid_of s1) (by rw [s2, hl]; simp), s2, hl]
  unfold F_X4_copy
  rw [bn9 eL]
  exact bn9 e _
set_option maxRecDepth 8000 in
theorem x_copyAll (h : Lok L) (hb : isW b = true) (hb' : isW b' = true) (hne : b ≠ b') {t m len : Nat} (ht : (t = 1 ∧ m = 5 ∧ len = 6) ∨ (t = 11 ∧ m = 5 ∧ len = 8) ∨ (t = 21 ∧ m = 2 ∧ len = 6) ∨ (t = 31 ∧ m = 7 ∧ len = 7) ∨ (t = 41 ∧ m = 7 ∧ len = 7)) : F_X4_copyAll (some (L.1 (b' + t))) (some (L.1 (b + t))) (hp L σ) = some (hp L (cpR σ b' b (t + 1) m len)) := by
  have hlen : aL (hp L (cpR σ b' b (t + 1) 0 len)) (some (L.1 (b + t))) = some (Int32.ofNat m) → True := fun _ => trivial
  have hL9 : ∀ σ0 : St, aL (hp L σ0) (some (L.1 (b + t))) = some (Int32.ofNat m) := by
    intro σ0
    rcases ht with ⟨rfl, rfl, rfl⟩ | ⟨rfl, rfl, rfl⟩ | ⟨rfl, rfl, rfl⟩ | ⟨rfl, rfl, rfl⟩ | ⟨rfl, rfl, rfl⟩
    · exact wl_1 h hb
    · exact wl_11 h hb
    · exact wl_21 h hb
    · exact wl_31 h hb
    · exact wl_41 h hb
  have hA : ∀ (σ0 : St) (b0 : Nat), isW b0 = true → ∀ r, r < m → aA (hp L σ0) (some (L.1 (b0 + t))) 103 (Int32.ofNat r) = some (some (L.1 (b0 + (t + 1 + r)))) := by
    intro σ0 b0 hb0 r hr
    rcases ht with ⟨rfl, rfl, rfl⟩ | ⟨rfl, rfl, rfl⟩ | ⟨rfl, rfl, rfl⟩ | ⟨rfl, rfl, rfl⟩ | ⟨rfl, rfl, rfl⟩
    · exact (wt_1 h hb0 hr).trans (by rw [Nat.add_assoc])
    · exact (wt_11 h hb0 hr).trans (by rw [Nat.add_assoc])
    · exact (wt_21 h hb0 hr).trans (by rw [Nat.add_assoc])
    · exact (wt_31 h hb0 hr).trans (by rw [Nat.add_assoc])
    · exact (wt_41 h hb0 hr).trans (by rw [Nat.add_assoc])
  have hrow : ∀ r, r < m → wI (t + 1 + r) = true ∧ t + 1 + r < 52 ∧ wTN (t + 1 + r) = (100, len) ∧ ∀ b0 k, wP b0 (t + 1 + r) k = none := by
    intro r hr
    have key : ∀ j, j < 52 → ((2 ≤ j ∧ j < 7 ∧ len = 6) ∨ (12 ≤ j ∧ j < 17 ∧ len = 8) ∨ (22 ≤ j ∧ j < 24 ∧ len = 6) ∨ (32 ≤ j ∧ j < 39 ∧ len = 7) ∨ (42 ≤ j ∧ j < 49 ∧ len = 7)) → wI j = true ∧ wTN j = (100, len) ∧ ∀ b0 k, wP b0 j k = none := by
      intro j hj hh
      refine ⟨?_, ?_, fun b0 k => ?_⟩
      · simp only [wI, Bool.or_eq_true, Bool.and_eq_true, decide_eq_true_eq]; omega
      · unfold wTN
        rw [if_neg (by omega), if_neg (by omega), if_neg (by omega), if_neg (by omega)]
        rcases hh with ⟨a, b, rfl⟩ | ⟨a, b, rfl⟩ | ⟨a, b, rfl⟩ | ⟨a, b, rfl⟩ | ⟨a, b, rfl⟩
        · rw [if_pos (by omega)]
        · rw [if_neg (by omega), if_pos (by omega)]
        · rw [if_neg (by omega), if_neg (by omega), if_pos (by omega)]
        · rw [if_neg (by omega), if_neg (by omega), if_neg (by omega), if_pos (by omega)]
        · rw [if_neg (by omega), if_neg (by omega), if_neg (by omega), if_pos (by omega)]
      · unfold wP
        rw [if_neg (by omega), if_neg (by omega), if_neg (by omega), if_neg (by omega), if_neg (by omega), if_neg (by omega)]
    have := key (t + 1 + r) (by omega) (by omega)
    exact ⟨this.1, by omega, this.2⟩
  have e0 : hp L σ = hp L (cpR σ b' b (t + 1) 0 len) := by congr 1; funext i k; unfold cpR; rw [if_neg (by omega)]
  rw [e0]
  unfold F_X4_copyAll
  refine lpF (Lp := fun f r (_ : Unit) => F_X4_copyAll_L2 f (some (L.1 (b' + t))) (some (L.1 (b + t))) (Int32.ofNat r) (hp L (cpR σ b' b (t + 1) r len))) (st := fun _ a => a) (fin := fun _ => some (hp L (cpR σ b' b (t + 1) m len))) (N := m) (fun f _ => ?_) (fun f r _ hr => ?_) (by unfold fu; omega) ()
  · simp (discharger := first | assumption | omega | decide) only [F_X4_copyAll_L2, F_X4_copyAll_B2, ↓bn9 (hL9 _), ofN_le, Nat.le_refl, ↓reduceIte]
  · have hd : ¬ m ≤ r := by omega
    obtain ⟨r1, r2, r3, r4⟩ := hrow r hr
    have ec := x_copy (σ := cpR σ b' b (t + 1) r len) h hb hb' r1 r2 r3 (r4 b) (r4 b') (by omega)
    rw [cpR_step hb hb' hne (by omega)] at ec
    simp (discharger := first | assumption | omega | decide) only [F_X4_copyAll_L2, F_X4_copyAll_B2, ↓bn9 (hL9 _), ofN_le, hd, ↓reduceIte, ↓bn9 (hA _ _ hb' r hr), ↓bn9 (hA _ _ hb r hr), ofNs]
    rw [bn9 ec]
set_option maxRecDepth 8000 in
theorem cpR_in {j m len i k : Nat} (h : b + j ≤ i ∧ i < b + j + m ∧ k < len) : cpR σ b' b j m len i k = σ (b' + (i - b)) k := by unfold cpR; rw [if_pos h]
set_option maxRecDepth 8000 in
theorem cpR_out {j m len i k : Nat} (h : ¬ (b + j ≤ i ∧ i < b + j + m ∧ k < len)) : cpR σ b' b j m len i k = σ i k := by unfold cpR; rw [if_neg h]
set_option maxRecDepth 8000 in
theorem x_become (h : Lok L) (hb : isW b = true) (hb' : isW b' = true) (hne : b ≠ b') (hW : WX σ b' ρ) : ∃ σ', F_X4_become (some (L.1 b)) (some (L.1 b')) (hp L σ) = some (hp L σ') ∧ WX σ' b ρ ∧ wf b σ σ' := by
  have h1 := isW_or hb; have h2 := isW_or hb'
  have hW1 : WX (up2 σ b 0 (ρ 42)) b' ρ := WX_out (by omega) hW
  have hW2 : WX (up2 (up2 σ b 0 (ρ 42)) b 2 (ρ 43)) b' ρ := WX_out (by omega) hW1
  have hW3 : WX (up2 (up2 (up2 σ b 0 (ρ 42)) b 2 (ρ 43)) b 4 (ρ 44)) b' ρ := WX_out (by omega) hW2
  have hW4 : WX (up2 (up2 (up2 (up2 σ b 0 (ρ 42)) b 2 (ρ 43)) b 4 (ρ 44)) b 8 (ρ 45)) b' ρ := WX_out (by omega) hW3
  generalize hσ4 : up2 (up2 (up2 (up2 σ b 0 (ρ 42)) b 2 (ρ 43)) b 4 (ρ 44)) b 8 (ρ 45) = σ4 at hW4
  have f0 : σ4 b 0 = ρ 42 := by rw [← hσ4, up2_ne (by omega), up2_ne (by omega), up2_ne (by omega), up2_same]
  have f2 : σ4 b 2 = ρ 43 := by rw [← hσ4, up2_ne (by omega), up2_ne (by omega), up2_same]
  have f4 : σ4 b 4 = ρ 44 := by rw [← hσ4, up2_ne (by omega), up2_same]
  have f8 : σ4 b 8 = ρ 45 := by rw [← hσ4, up2_same]
  have fo : wf b σ σ4 := by rw [← hσ4]; exact wf_up (by omega) (wf_up (by omega) (wf_up (by omega) (wf_up (by omega) (wf_refl _ _))))
  have c1 := x_copyAll (σ := σ4) h hb hb' hne (.inl ⟨rfl, rfl, rfl⟩)
  have c2 := x_copyAll (σ := cpR σ4 b' b 2 5 6) h hb hb' hne (.inr (.inl ⟨rfl, rfl, rfl⟩))
  have c3 := x_copyAll (σ := cpR (cpR σ4 b' b 2 5 6) b' b 12 5 8) h hb hb' hne (.inr (.inr (.inl ⟨rfl, rfl, rfl⟩)))
  have c4 := x_copyAll (σ := cpR (cpR (cpR σ4 b' b 2 5 6) b' b 12 5 8) b' b 22 2 6) h hb hb' hne (.inr (.inr (.inr (.inl ⟨rfl, rfl, rfl⟩))))
  have c5 := x_copyAll (σ := cpR (cpR (cpR (cpR σ4 b' b 2 5 6) b' b 12 5 8) b' b 22 2 6) b' b 32 7 7) h hb hb' hne (.inr (.inr (.inr (.inr ⟨rfl, rfl, rfl⟩))))
  have c6 := x_copy (σ := cpR (cpR (cpR (cpR (cpR σ4 b' b 2 5 6) b' b 12 5 8) b' b 22 2 6) b' b 32 7 7) b' b 42 7 7) (j := 51) (len := 10) h hb hb' (by decide) (by decide) rfl (fun k => rfl) (fun k => rfl) (by omega)
  refine ⟨cp2 (cpR (cpR (cpR (cpR (cpR σ4 b' b 2 5 6) b' b 12 5 8) b' b 22 2 6) b' b 32 7 7) b' b 42 7 7) (b' + 51) 0 (b + 51) 0 10, ?_, ?_, ?_⟩
  · unfold F_X4_become
    rw [if_pos (w_tg h hb), bn9 (X_f0 h hb' hW), bn9 (wp_0 h hb), bn9 (X_f2 h hb' hW1), bn9 (wp_2 h hb), bn9 (X_f4 h hb' hW2), bn9 (wp_4 h hb), bn9 (X_f8 h hb' hW3), bn9 (wp_8 h hb), hσ4]
    rw [bn9 (wf_1 h hb'), bn9 (wf_1 h hb), bn9 c1, bn9 (wf_3 h hb'), bn9 (wf_3 h hb), bn9 c2, bn9 (wf_5 h hb'), bn9 (wf_5 h hb), bn9 c3, bn9 (wf_6 h hb'), bn9 (wf_6 h hb), bn9 c4, bn9 (wf_7 h hb'), bn9 (wf_7 h hb), bn9 c5, bn9 (wf_9 h hb'), bn9 (wf_9 h hb), bn9 c6]
  · obtain ⟨⟨g1, g2, g3, g4⟩, g5, g6, g7, g8, g9⟩ := hW4
    have c2n : ∀ (σ0 : St) i k, ¬ i = b + 51 → cp2 σ0 (b' + 51) 0 (b + 51) 0 10 i k = σ0 i k := fun σ0 i k hi => by unfold cp2; rw [if_neg (fun q => hi q.1)]
    refine ⟨⟨?_, ?_, ?_, ?_⟩, fun s hs => ?_, fun f c hf hc => ?_, fun f c hf hc => ?_, fun f c hf hc => ?_, fun p q hp9 hq => ?_⟩
    · rw [c2n _ _ _ (by omega), cpR_out (by omega), cpR_out (by omega), cpR_out (by omega), cpR_out (by omega), cpR_out (by omega)]; exact f0
    · rw [c2n _ _ _ (by omega), cpR_out (by omega), cpR_out (by omega), cpR_out (by omega), cpR_out (by omega), cpR_out (by omega)]; exact f2
    · rw [c2n _ _ _ (by omega), cpR_out (by omega), cpR_out (by omega), cpR_out (by omega), cpR_out (by omega), cpR_out (by omega)]; exact f4
    · rw [c2n _ _ _ (by omega), cpR_out (by omega), cpR_out (by omega), cpR_out (by omega), cpR_out (by omega), cpR_out (by omega)]; exact f8
    · unfold cp2
      rw [if_pos ⟨rfl, by omega, by omega⟩, show 0 + (s - 0) = s by omega, cpR_out (by omega), cpR_out (by omega), cpR_out (by omega), cpR_out (by omega), cpR_out (by omega)]; exact g5 s hs
    · rw [c2n _ _ _ (by omega), cpR_out (by omega), cpR_out (by omega), cpR_out (by omega), cpR_out (by omega), cpR_in (by omega), show b' + (b + 2 + f - b) = b' + 2 + f by omega]; exact g6 f c hf hc
    · rw [c2n _ _ _ (by omega), cpR_out (by omega), cpR_out (by omega), cpR_out (by omega), cpR_in (by omega), cpR_out (by omega), show b' + (b + 12 + f - b) = b' + 12 + f by omega]; exact g7 f c hf hc
    · rw [c2n _ _ _ (by omega), cpR_out (by omega), cpR_out (by omega), cpR_in (by omega), cpR_out (by omega), cpR_out (by omega), show b' + (b + 22 + f - b) = b' + 22 + f by omega]; exact g8 f c hf hc
    · constructor
      · rw [c2n _ _ _ (by omega), cpR_out (by omega), cpR_in (by omega), cpR_out (by omega), cpR_out (by omega), cpR_out (by omega), show b' + (b + 32 + p - b) = b' + 32 + p by omega]; exact (g9 p q hp9 hq).1
      · rw [c2n _ _ _ (by omega), cpR_in (by omega), cpR_out (by omega), cpR_out (by omega), cpR_out (by omega), cpR_out (by omega), show b' + (b + 42 + p - b) = b' + 42 + p by omega]; exact (g9 p q hp9 hq).2
  · intro i hi
    rw [← fo i hi]
    funext k
    unfold cp2
    rw [if_neg (by omega), cpR_out (by omega), cpR_out (by omega), cpR_out (by omega), cpR_out (by omega), cpR_out (by omega)]
set_option maxRecDepth 8000 in
/-- the model's row laid over another -/
theorem m_copyRow (h : Lok L) {i i' : Nat} (hi : i = 1001 ∨ i = 1002 ∨ i = 1003) (hi' : i' = 1001 ∨ i' = 1002 ∨ i' = 1003) (hne : i ≠ i') : F_X13_copyRow (some (L.1 i)) (some (L.1 i')) (hp L σ) = some (hp L (cp2 σ i 0 i' 0 138)) := by
  have hg : ∀ (σ0 : St) i0 n, (i0 = 1001 ∨ i0 = 1002 ∨ i0 = 1003) → n < 138 → aI (hp L σ0) (some (L.1 i0)) 100 (Int32.ofNat n) = some (σ0 i0 n) := by
    intro σ0 i0 n h0 hn
    rcases h0 with rfl | rfl | rfl
    · exact mi_1001 h hn
    · exact mi_1002 h hn
    · exact mi_1003 h hn
  have hs : ∀ (σ0 : St) i0 n (v : Int32), (i0 = 1001 ∨ i0 = 1002 ∨ i0 = 1003) → n < 138 → aS (hp L σ0) (some (L.1 i0)) 100 (Int32.ofNat n) (.int v) = some (hp L (up2 σ0 i0 n v)) := by
    intro σ0 i0 n v h0 hn
    rcases h0 with rfl | rfl | rfl
    · exact ms_1001 h hn
    · exact ms_1002 h hn
    · exact ms_1003 h hn
  have e0 : hp L σ = hp L (cp2 σ i 0 i' 0 0) := by congr 1; funext a k; unfold cp2; rw [if_neg (by omega)]
  rw [e0]
  unfold F_X13_copyRow
  refine lpF (Lp := fun f r (_ : Unit) => F_X13_copyRow_L2 f (some (L.1 i)) (some (L.1 i')) (Int32.ofNat r) (hp L (cp2 σ i 0 i' 0 r))) (st := fun _ a => a) (fin := fun _ => some (hp L (cp2 σ i 0 i' 0 138))) (N := 138) (fun f _ => ?_) (fun f r _ hr => ?_) (by unfold fu; omega) ()
  · simp (discharger := first | assumption | omega | decide) only [F_X13_copyRow_L2, F_X13_copyRow_B2, show (138 : Int32) ≤ Int32.ofNat 138 by decide, ↓reduceIte]
  · have hd : ¬ (138 : Int32) ≤ Int32.ofNat r := by rw [li_138, ofN_le (by omega) (by omega)]; omega
    have e1 := hg (cp2 σ i 0 i' 0 r) i r hi hr
    have e2 := hs (cp2 σ i 0 i' 0 r) i' r (cp2 σ i 0 i' 0 r i r) hi' hr
    have e3 : up2 (cp2 σ i 0 i' 0 r) i' r (cp2 σ i 0 i' 0 r i r) = cp2 σ i 0 i' 0 (r + 1) := by
      funext a k
      unfold up2 cp2
      by_cases h1 : a = i' ∧ k = r
      · rw [if_pos h1, if_neg (by omega), if_pos (by omega)]; congr 1; omega
      · rw [if_neg h1]
        by_cases h2 : a = i' ∧ 0 ≤ k ∧ k < 0 + r
        · rw [if_pos h2, if_pos (by omega)]
        · rw [if_neg h2, if_neg (by omega)]
    rw [e3] at e2
    simp (discharger := first | assumption | omega | decide) only [F_X13_copyRow_L2, F_X13_copyRow_B2, hd, ↓reduceIte, ↓bn9 e1, ↓bn9 e2, ofNs]
set_option maxRecDepth 8000 in
theorem op_image (hR : RR L σ S) : STEP L σ (F_X0_image (some (L.1 0))) (F_X13_image (some (L.1 1000))) := by
  have h := hR.1.1
  have hW := hR.1.2.1
  have hC := hR.1.2.2.1
  have hP := hR.1.2.2.2.1
  have hI := hR.2.2.1.1
  have hb : isW 200 = true := rfl
  obtain ⟨σ', g1, g2, g3⟩ := x_become (b := 300) (b' := 200) h rfl rfl (by omega) hW
  obtain ⟨h1, h2, h3, h4, h5, h6, ⟨h7, h8⟩, h9⟩ := hR.1
  have g : ∀ i, i ≠ 0 → (i < 300 ∨ 352 ≤ i) → up2 σ' 0 6 1 i = σ i := fun i hi hi2 => by rw [← g3 i (by omega)]; funext k; rw [up2_ne (by omega)]
  have hX : XR L (up2 σ' 0 6 1) (S.1, some S.1, S.2.2) := by
    refine ⟨h1, WX_congr (fun i a b => g i (by omega) (by omega)) h2, fun k hk => ?_, fun k hk => ?_, ⟨up2_same _ _ _ _, WX_out (by omega) g2⟩, fun k hk => ?_, ⟨?_, fun k hk => ?_⟩, fun s hs => shX_congr (g _ (by omega) (by omega)) (h9 s hs)⟩
    · rw [g _ (by omega) (by omega)]; exact h3 k hk
    · rw [g _ (by omega) (by omega)]; exact h4 k hk
    · rw [g _ (by omega) (by omega)]; exact h6 k hk
    · rw [up2_ne (by omega), g3 0 (by omega)]; exact h7
    · rw [g _ (by omega) (by omega)]; exact h8 k hk
  refine STEP_mk (S' := (S.1, some S.1, S.2.2)) hR (r := 1) (σ1 := up2 σ' 0 6 1) ?_ hX (fun i hi => g i (by omega) (by omega)) ⟨hI, fun κ q => (by injection q with q; rw [← q]; exact hI), hR.2.2.1.2.2⟩ (fun hM _ => ?_)
  · simp (discharger := first | assumption | omega | decide) only [x_tg, w_tg, m_tg, ↓reduceIte, Option.bind_some, ↓x_0b, ↓x_1b, ↓x_2b, ↓x_3b, ↓x_4b, ↓x_5b, ↓x_6b, ↓x_7b, ↓x_8b, ↓x_9b, ↓x_10b, ↓x_11b, ↓x_12b, ↓x_13b, ↓x_14b, ↓x_15b, ↓x_16b, ↓x_17b, ↓x_18b, ↓x_19b, ↓xp_2b, ↓xp_6b, ↓xp_14b, ↓xp_17b, ↓xp_18b, ↓xp_19b, ↓X_f0b, ↓X_f2b, ↓X_f4b, ↓X_f8b, ↓wf_1b, ↓wf_3b, ↓wf_5b, ↓wf_6b, ↓wf_7b, ↓wf_9b, ↓wt_1_0b, ↓wt_1_1b, ↓wt_1_2b, ↓wt_1_3b, ↓wt_1_4b, ↓wt_11_0b, ↓wt_11_1b, ↓wt_11_2b, ↓wt_11_3b, ↓wt_11_4b, ↓wt_21_0b, ↓wt_21_1b, ↓wt_31_0b, ↓wt_31_1b, ↓wt_31_2b, ↓wt_31_3b, ↓wt_31_4b, ↓wt_31_5b, ↓wt_31_6b, ↓wt_41_0b, ↓wt_41_1b, ↓wt_41_2b, ↓wt_41_3b, ↓wt_41_4b, ↓wt_41_5b, ↓wt_41_6b, ↓wt_1b, ↓wt_11b, ↓wt_21b, ↓wt_31b, ↓wt_41b, ↓X_c0b, ↓X_c1b, ↓X_c2b, ↓X_c3b, ↓X_c4b, ↓X_e0b, ↓X_e1b, ↓X_e2b, ↓X_e3b, ↓X_e4b, ↓X_cb, ↓X_eb, ↓X_w0b, ↓X_w1b, ↓X_hb, ↓X_yb, ↓X_rb, ↓wp_0b, ↓wp_2b, ↓wp_4b, ↓wp_8b, ↓ws_2b, ↓ws_3b, ↓ws_4b, ↓ws_5b, ↓ws_6b, ↓ws_12b, ↓ws_13b, ↓ws_14b, ↓ws_15b, ↓ws_16b, ↓ws_22b, ↓ws_23b, ↓ws_51b, ↓wS_yb, ↓wS_rb, ↓wS_cb, ↓wS_eb, ↓x_isCarrierb, ↓x_isErrandb, ↓x_isWareb, ↓x_isSetb, ↓x_isFewb, F_X0_isKind, F_X0_isPlace, F_X0_isPrice, F_X0_isSheet, F_X0_isSpot, F_X13_isKind, F_X13_isPlace, F_X13_isSheet, F_X13_isSpot, within_eq, one_and, zero_and, one_ne, not_true_eq_false, not_false_eq_true, F_X0_image, ↓bn9 g1]
  · obtain ⟨m1, m2, m3, m5, m6, m6b, ⟨m7, m8⟩, m9⟩ := hM
    generalize up2 σ' 0 6 1 = σ1 at *
    have e := m_copyRow (σ := σ1) (i := 1001) (i' := 1002) h (by omega) (by omega) (by omega)
    have gc : ∀ i, i ≠ 1000 → i ≠ 1002 → up2 (cp2 σ1 1001 0 1002 0 138) 1000 3 1 i = σ1 i := fun i a b => by funext k; rw [up2_ne (by omega)]; unfold cp2; rw [if_neg (by omega)]
    refine ⟨up2 (cp2 σ1 1001 0 1002 0 138) 1000 3 1, ?_, ⟨m1, fun i hi => ?_, fun i hi => ?_, ⟨up2_same _ _ _ _, fun i hi => ?_⟩, fun k hk => ?_, ?_, ⟨?_, fun k hk => ?_⟩, fun s hs => ?_⟩, fun i hi => gc i (by omega) (by omega)⟩
    · simp (discharger := first | assumption | omega | decide) only [x_tg, w_tg, m_tg, ↓reduceIte, Option.bind_some, ↓m_0b, ↓m_1b, ↓m_2b, ↓m_3b, ↓m_4b, ↓m_5b, ↓m_6b, ↓m_7b, ↓m_8b, ↓m_9b, ↓m_10b, ↓m_11b, ↓m_12b, ↓m_13b, ↓m_14b, ↓m_15b, ↓m_16b, ↓m_17b, ↓m_18b, ↓m_19b, ↓m_20b, ↓m_21b, ↓m_22b, ↓m_23b, ↓m_24b, ↓m_25b, ↓m_26b, ↓m_27b, ↓m_28b, ↓m_29b, ↓mp_3b, ↓mp_6b, ↓mp_10b, ↓mp_11b, ↓mp_12b, ↓mp_14b, ↓mp_15b, ↓mp_16b, ↓mp_17b, ↓mp_18b, ↓mp_19b, ↓mp_22b, ↓mp_23b, ↓mp_24b, ↓mp_25b, ↓M_42b, ↓M_43b, ↓M_44b, ↓M_45b, ↓cIs_0b, ↓cIs_1b, ↓cIs_2b, ↓cIs_3b, ↓cIs_4b, ↓eIs_0b, ↓eIs_1b, ↓eIs_2b, ↓eIs_3b, ↓eIs_4b, ↓cIs_nb, ↓eIs_nb, ↓M_rb, ↓M_cAt_0b, ↓M_cAt_1b, ↓M_cAt_2b, ↓M_cAt_3b, ↓M_cAt_4b, ↓M_eAt_0b, ↓M_eAt_1b, ↓M_eAt_2b, ↓M_eAt_3b, ↓M_eAt_4b, ↓M_wAt_0b, ↓M_wAt_1b, cAt_0, cAt_1, cAt_2, cAt_3, cAt_4, eAt_0, eAt_1, eAt_2, eAt_3, eAt_4, wAt_0, wAt_1, cAt_n, eAt_n, wAt_n, ↓m_isCarrierb, ↓m_isErrandb, ↓m_isWareb, ↓m_isFewb, F_X0_isKind, F_X0_isPlace, F_X0_isPrice, F_X0_isSheet, F_X0_isSpot, F_X13_isKind, F_X13_isPlace, F_X13_isSheet, F_X13_isSpot, within_eq, one_and, zero_and, one_ne, not_true_eq_false, not_false_eq_true, F_X13_image, ↓bn9 e]
    · rw [gc _ (by omega) (by omega)]; exact m2 i hi
    · rw [gc _ (by omega) (by omega)]; exact m3 i hi
    · rw [up2_ne (by omega)]; unfold cp2; rw [if_pos ⟨rfl, by omega, by omega⟩, show 0 + (i - 0) = i by omega]; exact m2 i hi
    · rw [gc _ (by omega) (by omega)]; exact m6 k hk
    · rw [gc _ (by omega) (by omega)]; exact m6b
    · rw [up2_ne (by omega)]; unfold cp2; rw [if_neg (by omega)]; exact m7
    · rw [gc _ (by omega) (by omega)]; exact m8 k hk
    · rw [gc _ (by omega) (by omega), gc _ (by omega) (by omega), gc _ (by omega) (by omega)]; exact m9 s hs
set_option maxRecDepth 8000 in
theorem op_undo (hR : RR L σ S) : STEP L σ (F_X0_undo (some (L.1 0))) (F_X13_undo (some (L.1 1000))) := by
  have h := hR.1.1
  have hW := hR.1.2.1
  have hC := hR.1.2.2.1
  have hP := hR.1.2.2.2.1
  have hI := hR.2.2.1.1
  have hb : isW 200 = true := rfl
  have hkx := hR.1.2.2.2.2.1
  cases hk : S.2.1 with
  | none =>
    rw [hk] at hkx
    have hkx : σ 0 6 = 0 := hkx
    exact STEP_fnd hR (k := 3) (xv := 3) (mv := -1000004) (by omega) rfl (by decide) ⟨σ, by simp (discharger := first | assumption | omega | decide) only [x_tg, w_tg, m_tg, ↓reduceIte, Option.bind_some, ↓x_0b, ↓x_1b, ↓x_2b, ↓x_3b, ↓x_4b, ↓x_5b, ↓x_6b, ↓x_7b, ↓x_8b, ↓x_9b, ↓x_10b, ↓x_11b, ↓x_12b, ↓x_13b, ↓x_14b, ↓x_15b, ↓x_16b, ↓x_17b, ↓x_18b, ↓x_19b, ↓xp_2b, ↓xp_6b, ↓xp_14b, ↓xp_17b, ↓xp_18b, ↓xp_19b, ↓X_f0b, ↓X_f2b, ↓X_f4b, ↓X_f8b, ↓wf_1b, ↓wf_3b, ↓wf_5b, ↓wf_6b, ↓wf_7b, ↓wf_9b, ↓wt_1_0b, ↓wt_1_1b, ↓wt_1_2b, ↓wt_1_3b, ↓wt_1_4b, ↓wt_11_0b, ↓wt_11_1b, ↓wt_11_2b, ↓wt_11_3b, ↓wt_11_4b, ↓wt_21_0b, ↓wt_21_1b, ↓wt_31_0b, ↓wt_31_1b, ↓wt_31_2b, ↓wt_31_3b, ↓wt_31_4b, ↓wt_31_5b, ↓wt_31_6b, ↓wt_41_0b, ↓wt_41_1b, ↓wt_41_2b, ↓wt_41_3b, ↓wt_41_4b, ↓wt_41_5b, ↓wt_41_6b, ↓wt_1b, ↓wt_11b, ↓wt_21b, ↓wt_31b, ↓wt_41b, ↓X_c0b, ↓X_c1b, ↓X_c2b, ↓X_c3b, ↓X_c4b, ↓X_e0b, ↓X_e1b, ↓X_e2b, ↓X_e3b, ↓X_e4b, ↓X_cb, ↓X_eb, ↓X_w0b, ↓X_w1b, ↓X_hb, ↓X_yb, ↓X_rb, ↓wp_0b, ↓wp_2b, ↓wp_4b, ↓wp_8b, ↓ws_2b, ↓ws_3b, ↓ws_4b, ↓ws_5b, ↓ws_6b, ↓ws_12b, ↓ws_13b, ↓ws_14b, ↓ws_15b, ↓ws_16b, ↓ws_22b, ↓ws_23b, ↓ws_51b, ↓wS_yb, ↓wS_rb, ↓wS_cb, ↓wS_eb, ↓x_isCarrierb, ↓x_isErrandb, ↓x_isWareb, ↓x_isSetb, ↓x_isFewb, F_X0_isKind, F_X0_isPlace, F_X0_isPrice, F_X0_isSheet, F_X0_isSpot, F_X13_isKind, F_X13_isPlace, F_X13_isSheet, F_X13_isSpot, within_eq, one_and, zero_and, one_ne, not_true_eq_false, not_false_eq_true, F_X0_undo, eq_true hkx], ag_refl _, xf_refl _⟩ (fun σ1 hM => by
      have hm := hM.2.2.2.1
      rw [hk] at hm
      have hm : σ1 1000 3 = 0 := hm
      exact ⟨σ1, by simp (discharger := first | assumption | omega | decide) only [x_tg, w_tg, m_tg, ↓reduceIte, Option.bind_some, ↓m_0b, ↓m_1b, ↓m_2b, ↓m_3b, ↓m_4b, ↓m_5b, ↓m_6b, ↓m_7b, ↓m_8b, ↓m_9b, ↓m_10b, ↓m_11b, ↓m_12b, ↓m_13b, ↓m_14b, ↓m_15b, ↓m_16b, ↓m_17b, ↓m_18b, ↓m_19b, ↓m_20b, ↓m_21b, ↓m_22b, ↓m_23b, ↓m_24b, ↓m_25b, ↓m_26b, ↓m_27b, ↓m_28b, ↓m_29b, ↓mp_3b, ↓mp_6b, ↓mp_10b, ↓mp_11b, ↓mp_12b, ↓mp_14b, ↓mp_15b, ↓mp_16b, ↓mp_17b, ↓mp_18b, ↓mp_19b, ↓mp_22b, ↓mp_23b, ↓mp_24b, ↓mp_25b, ↓M_42b, ↓M_43b, ↓M_44b, ↓M_45b, ↓cIs_0b, ↓cIs_1b, ↓cIs_2b, ↓cIs_3b, ↓cIs_4b, ↓eIs_0b, ↓eIs_1b, ↓eIs_2b, ↓eIs_3b, ↓eIs_4b, ↓cIs_nb, ↓eIs_nb, ↓M_rb, ↓M_cAt_0b, ↓M_cAt_1b, ↓M_cAt_2b, ↓M_cAt_3b, ↓M_cAt_4b, ↓M_eAt_0b, ↓M_eAt_1b, ↓M_eAt_2b, ↓M_eAt_3b, ↓M_eAt_4b, ↓M_wAt_0b, ↓M_wAt_1b, cAt_0, cAt_1, cAt_2, cAt_3, cAt_4, eAt_0, eAt_1, eAt_2, eAt_3, eAt_4, wAt_0, wAt_1, cAt_n, eAt_n, wAt_n, ↓m_isCarrierb, ↓m_isErrandb, ↓m_isWareb, ↓m_isFewb, F_X0_isKind, F_X0_isPlace, F_X0_isPrice, F_X0_isSheet, F_X0_isSpot, F_X13_isKind, F_X13_isPlace, F_X13_isSheet, F_X13_isSpot, within_eq, one_and, zero_and, one_ne, not_true_eq_false, not_false_eq_true, F_X13_undo, eq_true hm], ag_refl _, mf_refl _⟩)
  | some κ =>
    rw [hk] at hkx
    have hIk := hR.2.2.1.2.1 κ hk
    obtain ⟨σ', g1, g2, g3⟩ := x_become (b := 200) (b' := 300) h rfl rfl (by omega) hkx.2
    refine STEP_world hR (r := κ 43) (ρ' := κ) hIk ⟨σ, σ', ?_, ag_refl _, xf_refl _, g2, g3⟩ (fun σ1 hM => ?_)
    · have hkx1 : ¬ σ 0 6 = 0 := by rw [hkx.1]; decide
      simp (discharger := first | assumption | omega | decide) only [x_tg, w_tg, m_tg, ↓reduceIte, Option.bind_some, ↓x_0b, ↓x_1b, ↓x_2b, ↓x_3b, ↓x_4b, ↓x_5b, ↓x_6b, ↓x_7b, ↓x_8b, ↓x_9b, ↓x_10b, ↓x_11b, ↓x_12b, ↓x_13b, ↓x_14b, ↓x_15b, ↓x_16b, ↓x_17b, ↓x_18b, ↓x_19b, ↓xp_2b, ↓xp_6b, ↓xp_14b, ↓xp_17b, ↓xp_18b, ↓xp_19b, ↓X_f0b, ↓X_f2b, ↓X_f4b, ↓X_f8b, ↓wf_1b, ↓wf_3b, ↓wf_5b, ↓wf_6b, ↓wf_7b, ↓wf_9b, ↓wt_1_0b, ↓wt_1_1b, ↓wt_1_2b, ↓wt_1_3b, ↓wt_1_4b, ↓wt_11_0b, ↓wt_11_1b, ↓wt_11_2b, ↓wt_11_3b, ↓wt_11_4b, ↓wt_21_0b, ↓wt_21_1b, ↓wt_31_0b, ↓wt_31_1b, ↓wt_31_2b, ↓wt_31_3b, ↓wt_31_4b, ↓wt_31_5b, ↓wt_31_6b, ↓wt_41_0b, ↓wt_41_1b, ↓wt_41_2b, ↓wt_41_3b, ↓wt_41_4b, ↓wt_41_5b, ↓wt_41_6b, ↓wt_1b, ↓wt_11b, ↓wt_21b, ↓wt_31b, ↓wt_41b, ↓X_c0b, ↓X_c1b, ↓X_c2b, ↓X_c3b, ↓X_c4b, ↓X_e0b, ↓X_e1b, ↓X_e2b, ↓X_e3b, ↓X_e4b, ↓X_cb, ↓X_eb, ↓X_w0b, ↓X_w1b, ↓X_hb, ↓X_yb, ↓X_rb, ↓wp_0b, ↓wp_2b, ↓wp_4b, ↓wp_8b, ↓ws_2b, ↓ws_3b, ↓ws_4b, ↓ws_5b, ↓ws_6b, ↓ws_12b, ↓ws_13b, ↓ws_14b, ↓ws_15b, ↓ws_16b, ↓ws_22b, ↓ws_23b, ↓ws_51b, ↓wS_yb, ↓wS_rb, ↓wS_cb, ↓wS_eb, ↓x_isCarrierb, ↓x_isErrandb, ↓x_isWareb, ↓x_isSetb, ↓x_isFewb, F_X0_isKind, F_X0_isPlace, F_X0_isPrice, F_X0_isSheet, F_X0_isSpot, F_X13_isKind, F_X13_isPlace, F_X13_isSheet, F_X13_isSpot, within_eq, one_and, zero_and, one_ne, not_true_eq_false, not_false_eq_true, F_X0_undo, hkx1, ↓bn9 g1]
    · have hm := hM.2.2.2.1
      rw [hk] at hm
      have e := m_copyRow (σ := σ1) (i := 1002) (i' := 1001) h (by omega) (by omega) (by omega)
      have hm1 : ¬ σ1 1000 3 = 0 := by rw [hm.1]; decide
      have hM2 : WM (cp2 σ1 1002 0 1001 0 138) κ := fun i hi => by
        unfold cp2; rw [if_pos ⟨rfl, by omega, by omega⟩, show 0 + (i - 0) = i by omega]; exact hm.2 i hi
      refine ⟨σ1, _, ?_, ag_refl _, mf_refl _, hM2, fun i hi => by funext k; unfold cp2; rw [if_neg (fun q => hi q.1)]⟩
      simp (discharger := first | assumption | omega | decide) only [x_tg, w_tg, m_tg, ↓reduceIte, Option.bind_some, ↓m_0b, ↓m_1b, ↓m_2b, ↓m_3b, ↓m_4b, ↓m_5b, ↓m_6b, ↓m_7b, ↓m_8b, ↓m_9b, ↓m_10b, ↓m_11b, ↓m_12b, ↓m_13b, ↓m_14b, ↓m_15b, ↓m_16b, ↓m_17b, ↓m_18b, ↓m_19b, ↓m_20b, ↓m_21b, ↓m_22b, ↓m_23b, ↓m_24b, ↓m_25b, ↓m_26b, ↓m_27b, ↓m_28b, ↓m_29b, ↓mp_3b, ↓mp_6b, ↓mp_10b, ↓mp_11b, ↓mp_12b, ↓mp_14b, ↓mp_15b, ↓mp_16b, ↓mp_17b, ↓mp_18b, ↓mp_19b, ↓mp_22b, ↓mp_23b, ↓mp_24b, ↓mp_25b, ↓M_42b, ↓M_43b, ↓M_44b, ↓M_45b, ↓cIs_0b, ↓cIs_1b, ↓cIs_2b, ↓cIs_3b, ↓cIs_4b, ↓eIs_0b, ↓eIs_1b, ↓eIs_2b, ↓eIs_3b, ↓eIs_4b, ↓cIs_nb, ↓eIs_nb, ↓M_rb, ↓M_cAt_0b, ↓M_cAt_1b, ↓M_cAt_2b, ↓M_cAt_3b, ↓M_cAt_4b, ↓M_eAt_0b, ↓M_eAt_1b, ↓M_eAt_2b, ↓M_eAt_3b, ↓M_eAt_4b, ↓M_wAt_0b, ↓M_wAt_1b, cAt_0, cAt_1, cAt_2, cAt_3, cAt_4, eAt_0, eAt_1, eAt_2, eAt_3, eAt_4, wAt_0, wAt_1, cAt_n, eAt_n, wAt_n, ↓m_isCarrierb, ↓m_isErrandb, ↓m_isWareb, ↓m_isFewb, F_X0_isKind, F_X0_isPlace, F_X0_isPrice, F_X0_isSheet, F_X0_isSpot, F_X13_isKind, F_X13_isPlace, F_X13_isSheet, F_X13_isSpot, within_eq, one_and, zero_and, one_ne, not_true_eq_false, not_false_eq_true, F_X13_undo, hm1, ↓bn9 e]
end L4d
/-! ### steps with scratch; walking -/
set_option maxRecDepth 8000 in
theorem lpQ {γ β : Type} {Lp : Nat → Nat → γ → Option β} {N : Nat} (Q : Nat → γ → Prop) (Post : β → Prop) (h0 : ∀ f g, Q N g → ∃ r, Lp (f + 1) N g = some r ∧ Post r) (hs : ∀ f j g, j < N → Q j g → ∃ g', Lp (f + 1) j g = Lp f (j + 1) g' ∧ Q (j + 1) g') (hN : N < fu) (g : γ) (hq : Q 0 g) : ∃ r, Lp fu 0 g = some r ∧ Post r := by
  have key : ∀ (k j f : Nat) (g : γ), j + k = N → k < f → Q j g → ∃ r, Lp f j g = some r ∧ Post r := by
    intro k
    induction k with
    | zero =>
      intro j f g hj hf hq
      match f, hf with
      | f + 1, _ =>
        have e : j = N := by omega
        subst e; exact h0 f g hq
    | succ k ih =>
      intro j f g hj hf hq
      match f, hf with
      | f + 1, hf =>
        obtain ⟨g', e, hq'⟩ := hs f j g (by omega) hq
        rw [e]; exact ih (j + 1) f g' (by omega) (by omega) hq'
  exact key N 0 fu g (by omega) hN hq
/-- cells that carry nothing from act to act -/
def s2 (i k : Nat) : Bool := s1 i k || (i == 0 && decide (17 ≤ k)) || (decide (400 ≤ i) && decide (i < 452)) || (decide (500 ≤ i) && decide (i < 552)) || i == 1 || (i == 2 && decide (3 ≤ k)) || i == 1003 || i == 1011 || i == 1015 || (i == 1000 && (k == 6 || k == 10 || k == 11 || k == 12 || (decide (15 ≤ k) && decide (k ≤ 19)) || (decide (22 ≤ k) && decide (k ≤ 25))))
set_option maxRecDepth 8000 in
theorem s2_f {i k : Nat} (h : i ≠ 11 ∧ ¬ (20 ≤ i ∧ i < 27) ∧ ¬ (30 ≤ i ∧ i < 37) ∧ ¬ (600 ≤ i ∧ i < 843) ∧ ¬ (i = 0 ∧ (k = 14 ∨ 17 ≤ k)) ∧ i ≠ 1005 ∧ i ≠ 1006 ∧ i ≠ 1007 ∧ ¬ (400 ≤ i ∧ i < 452) ∧ ¬ (500 ≤ i ∧ i < 552) ∧ i ≠ 1 ∧ ¬ (i = 2 ∧ 3 ≤ k) ∧ i ≠ 1003 ∧ i ≠ 1011 ∧ i ≠ 1015 ∧ ¬ (i = 1000 ∧ (k = 6 ∨ (10 ≤ k ∧ k ≤ 12) ∨ (15 ≤ k ∧ k ≤ 19) ∨ (22 ≤ k ∧ k ≤ 25)))) : s2 i k = false := by
  unfold s2 s1
  simp only [Bool.or_eq_false_iff, Bool.and_eq_false_iff, beq_eq_false_iff_ne, decide_eq_false_iff_not]
  omega
set_option maxRecDepth 8000 in
theorem s2_s1 {i k : Nat} (h : s2 i k = false) : s1 i k = false := by
  unfold s2 at h
  simp only [Bool.or_eq_false_iff] at h
  exact h.1.1.1.1.1.1.1.1.1
set_option maxRecDepth 8000 in
theorem s2_i {i k : Nat} (h : s2 i k = false) : i ≠ 11 ∧ ¬ (20 ≤ i ∧ i < 27) ∧ ¬ (30 ≤ i ∧ i < 37) ∧ ¬ (600 ≤ i ∧ i < 843) ∧ ¬ (i = 0 ∧ (k = 14 ∨ 17 ≤ k)) ∧ i ≠ 1005 ∧ i ≠ 1006 ∧ i ≠ 1007 ∧ ¬ (400 ≤ i ∧ i < 452) ∧ ¬ (500 ≤ i ∧ i < 552) ∧ i ≠ 1 ∧ ¬ (i = 2 ∧ 3 ≤ k) ∧ i ≠ 1003 ∧ i ≠ 1011 ∧ i ≠ 1015 ∧ ¬ (i = 1000 ∧ (k = 6 ∨ (10 ≤ k ∧ k ≤ 12) ∨ (15 ≤ k ∧ k ≤ 19) ∨ (22 ≤ k ∧ k ≤ 25))) := by
  unfold s2 s1 at h
  simp only [Bool.or_eq_false_iff, Bool.and_eq_false_iff, beq_eq_false_iff_ne, decide_eq_false_iff_not] at h
  omega
def ax (σ σ' : St) : Prop := ∀ i k, s2 i k = false → ¬ (200 ≤ i ∧ i < 252) → σ' i k = σ i k
def am (σ σ' : St) : Prop := ∀ i k, s2 i k = false → i ≠ 1001 → σ' i k = σ i k
set_option maxRecDepth 8000 in
theorem ax_refl (σ : St) : ax σ σ := fun _ _ _ _ => rfl
set_option maxRecDepth 8000 in
theorem am_refl (σ : St) : am σ σ := fun _ _ _ _ => rfl
set_option maxRecDepth 8000 in
theorem ax_trans {a b c : St} (h1 : ax a b) (h2 : ax b c) : ax a c := fun i k p q => (h2 i k p q).trans (h1 i k p q)
set_option maxRecDepth 8000 in
theorem am_trans {a b c : St} (h1 : am a b) (h2 : am b c) : am a c := fun i k p q => (h2 i k p q).trans (h1 i k p q)
set_option maxRecDepth 8000 in
theorem ax_ag {σ σ' : St} (h : ag σ σ') : ax σ σ' := fun i k p _ => h i k (s2_s1 p)
set_option maxRecDepth 8000 in
theorem am_ag {σ σ' : St} (h : ag σ σ') : am σ σ' := fun i k p _ => h i k (s2_s1 p)
set_option maxRecDepth 8000 in
theorem ax_wf {σ σ' : St} (h : wf 200 σ σ') : ax σ σ' := fun i k _ q => by rw [h i (by omega)]
set_option maxRecDepth 8000 in
theorem am_m1f {σ σ' : St} (h : m1f σ σ') : am σ σ' := fun i k _ q => by rw [h i q]
/-- finer: rounds' and ways' scratch and the world alone -/
def aw (σ σ' : St) : Prop := ∀ i k, s1 i k = false → ¬ (200 ≤ i ∧ i < 252) → σ' i k = σ i k
def amw (σ σ' : St) : Prop := ∀ i k, s1 i k = false → i ≠ 1001 → ¬ (i = 1000 ∧ k = 6) → σ' i k = σ i k
set_option maxRecDepth 8000 in
theorem aw_refl (σ : St) : aw σ σ := fun _ _ _ _ => rfl
set_option maxRecDepth 8000 in
theorem amw_refl (σ : St) : amw σ σ := fun _ _ _ _ _ => rfl
set_option maxRecDepth 8000 in
theorem aw_trans {a b c : St} (h1 : aw a b) (h2 : aw b c) : aw a c := fun i k p q => (h2 i k p q).trans (h1 i k p q)
set_option maxRecDepth 8000 in
theorem amw_trans {a b c : St} (h1 : amw a b) (h2 : amw b c) : amw a c := fun i k p q r => (h2 i k p q r).trans (h1 i k p q r)
set_option maxRecDepth 8000 in
theorem aw_ag {σ σ' : St} (h : ag σ σ') : aw σ σ' := fun i k p _ => h i k p
set_option maxRecDepth 8000 in
theorem amw_ag {σ σ' : St} (h : ag σ σ') : amw σ σ' := fun i k p _ _ => h i k p
set_option maxRecDepth 8000 in
theorem aw_wf {σ σ' : St} (h : wf 200 σ σ') : aw σ σ' := fun i k _ q => by rw [h i (by omega)]
set_option maxRecDepth 8000 in
theorem amw_m1f {σ σ' : St} (h : m1f σ σ') : amw σ σ' := fun i k _ q _ => by rw [h i q]
set_option maxRecDepth 8000 in
theorem ax_aw {σ σ' : St} (h : aw σ σ') : ax σ σ' := fun i k p q => h i k (s2_s1 p) q
set_option maxRecDepth 8000 in
theorem am_amw {σ σ' : St} (h : amw σ σ') : am σ σ' := fun i k p q => h i k (s2_s1 p) q (by have := s2_i p; omega)
section L4e
variable {L : Lt} {σ σ' : St} {S : Sg} {ρ ρ' : Rw}
set_option maxRecDepth 8000 in
theorem XR_g (hW : WX σ' 200 ρ') (h : ax σ σ') (hX : XR L σ S) : XR L σ' (ρ', S.2) := by
  obtain ⟨h1, h2, h3, h4, h5, h6, ⟨h7, h8⟩, h9⟩ := hX
  have g : ∀ i, (3 ≤ i ∧ i < 11) ∨ i = 12 ∨ (40 ≤ i ∧ i < 200) ∨ (300 ≤ i ∧ i < 352) → σ' i = σ i := fun i hi => by
    funext k; exact h i k (s2_f (by omega)) (by omega)
  refine ⟨h1, hW, fun k hk => ?_, fun k hk => ?_, kpX_congr (h 0 6 (s2_f (by omega)) (by omega)) (fun i a b => g i (by omega)) h5, fun k hk => ?_, ⟨?_, fun k hk => ?_⟩, fun s hs => shX_congr (g _ (by omega)) (h9 s hs)⟩
  · rw [g _ (by omega)]; exact h3 k hk
  · rw [g _ (by omega)]; exact h4 k hk
  · rw [g _ (by omega)]; exact h6 k hk
  · rw [h 0 2 (s2_f (by omega)) (by omega)]; exact h7
  · rw [g _ (by omega)]; exact h8 k hk
set_option maxRecDepth 8000 in
theorem MR_g (hW : WM σ' ρ') (h : am σ σ') (hM : MR L σ S) : MR L σ' (ρ', S.2) := by
  obtain ⟨h1, h2, h3, h5, h6, h6b, ⟨h7, h8⟩, h9⟩ := hM
  have g : ∀ i, i = 1002 ∨ i = 1004 ∨ i = 1008 ∨ i = 1009 ∨ i = 1012 ∨ i = 1013 ∨ i = 1014 → σ' i = σ i := fun i hi => by
    funext k; exact h i k (s2_f (by omega)) (by omega)
  refine ⟨h1, hW, fun i hi => ?_, ?_, fun k hk => ?_, ?_, ⟨?_, fun k hk => ?_⟩, fun s hs => ?_⟩
  · rw [g _ (by omega)]; exact h3 i hi
  · revert h5
    unfold kpM
    show (match S.2.1 with | none => _ | some κ => _) → (match S.2.1 with | none => _ | some κ => _)
    cases S.2.1 with
    | none => intro q; dsimp only at q ⊢; rw [h 1000 3 (s2_f (by omega)) (by omega)]; exact q
    | some κ => intro q; dsimp only at q ⊢; rw [h 1000 3 (s2_f (by omega)) (by omega), g 1002 (by omega)]; exact q
  · rw [g _ (by omega)]; exact h6 k hk
  · rw [g _ (by omega)]; exact h6b
  · rw [h 1000 14 (s2_f (by omega)) (by omega)]; exact h7
  · rw [g _ (by omega)]; exact h8 k hk
  · rw [g 1012 (by omega), g 1013 (by omega), g 1014 (by omega)]; exact h9 s hs
set_option maxRecDepth 8000 in
theorem STEP_g {Fx Fm : cH → Option (Int32 × cH)} (hR : RR L σ S) {r : Int32} (hI : Inv ρ') (hx : ∃ σ1, Fx (hp L σ) = some (r, hp L σ1) ∧ WX σ1 200 ρ' ∧ ax σ σ1 ∧ xf σ σ1) (hm : ∀ σ1, MR L σ1 S → ∃ σ2, Fm (hp L σ1) = some (r, hp L σ2) ∧ WM σ2 ρ' ∧ am σ1 σ2 ∧ mf σ1 σ2) : STEP L σ Fx Fm := by
  obtain ⟨σ1, e1, hW, ha, hf⟩ := hx
  refine STEP_mk (S' := (ρ', S.2)) hR (r := r) e1 (XR_g hW ha hR.1) hf ⟨hI, hR.2.2.1.2⟩ (fun hM _ => ?_)
  obtain ⟨σ2, e2, hW2, ha2, hf2⟩ := hm _ hM
  exact ⟨σ2, e2, MR_g hW2 ha2 hM, hf2⟩
set_option maxRecDepth 8000 in
/-- a finding, after what both did to the world and to scratch -/
theorem STEP_gf {Fx Fm : cH → Option (Int32 × cH)} (hR : RR L σ S) {k : Nat} (hk : k < 7) {mv xv : Int32} (hxv : xv = Int32.ofNat k) (hmv : mv = -1000001 - Int32.ofNat k) (hI : Inv ρ') (hx : ∃ σa, Fx (hp L σ) = F_X0_finding (some (L.1 0)) xv (hp L σa) ∧ WX σa 200 ρ' ∧ ax σ σa ∧ xf σ σa) (hm : ∀ σ1, MR L σ1 S → ∃ σb, Fm (hp L σ1) = F_X13_finding (some (L.1 1000)) mv (hp L σb) ∧ WM σb ρ' ∧ am σ1 σb ∧ mf σ1 σb) : STEP L σ Fx Fm := by
  subst hxv hmv
  obtain ⟨σa, e1, hW, ga, fa⟩ := hx
  obtain ⟨f1, f2, f3⟩ := x_finding (XR_g hW ga hR.1) hk
  refine STEP_mk (S' := fS (ρ', S.2) k) hR (r := -1000001 - Int32.ofNat k) (e1.trans f1) f2 (xf_trans fa f3) ⟨hI, hR.2.2.1.2.1, hR.2.2.1.2.2.1, hR.2.2.1.2.2.2.1, hR.2.2.1.2.2.2.2⟩ (fun hM _ => ?_)
  obtain ⟨σb, e2, hW2, gb, fb⟩ := hm _ hM
  obtain ⟨σ2, g1, g2, g3⟩ := m_finding (MR_g hW2 gb hM) hk
  exact ⟨σ2, e2.trans g1, g2, mf_trans fb g3⟩
set_option maxRecDepth 8000 in
theorem itF_rel {α β : Type} {f : Nat → α → α} {g : Nat → β → β} (R : α → β → Prop) : ∀ (k j : Nat) (a : α) (b : β), R a b → (∀ e a b, j ≤ e → e < j + k → R a b → R (f e a) (g e b)) → R (itF f j k a) (itF g j k b)
  | 0, _, _, _, h, _ => h
  | k + 1, j, a, b, h, hs => itF_rel R k (j + 1) (f j a) (g j b) (hs j a b (Nat.le_refl _) (by omega) h) (fun e a b h1 h2 => hs e a b (by omega) (by omega))
set_option maxRecDepth 8000 in
theorem fw_congr {A B : Tb} (h : ∀ p q, p < 7 → q < 7 → A p q = B p q) : ∀ p q, p < 7 → q < 7 → fw A p q = fw B p q := by
  unfold fw
  refine itF_rel (fun a b => ∀ p q, p < 7 → q < 7 → a p q = b p q) 7 0 A B h (fun m a b _ hm h => ?_)
  unfold fwm
  refine itF_rel (fun a b => ∀ p q, p < 7 → q < 7 → a p q = b p q) 7 0 a b h (fun p a b _ hp9 h => ?_)
  unfold fwp
  refine itF_rel (fun a b => ∀ p q, p < 7 → q < 7 → a p q = b p q) 7 0 a b h (fun q a b _ hq h => ?_)
  intro p' q' hp' hq'
  unfold fwq tset
  rw [h p' q' hp' hq', h p q (by omega) (by omega), h p m (by omega) (by omega), h m q (by omega) (by omega)]
set_option maxRecDepth 8000 in
theorem FT_congr (h : ∀ i, i < 42 → ρ' i = ρ i) {kd p q : Nat} (hp9 : p < 7) (hq : q < 7) : FT ρ' kd p q = FT ρ kd p q := by
  unfold FT
  refine fw_congr (fun p q hp9 hq => ?_) p q hp9 hq
  unfold T0
  by_cases he : p = q
  · rw [if_pos he, if_pos he]
  · have := wy_lt p q hp9 hq he
    rw [if_neg he, if_neg he, h _ (by omega), h _ (by omega)]
set_option maxRecDepth 8000 in
theorem wth_congr (h : ∀ i, i < 42 → ρ' i = ρ i) {e : Nat} (hE : ERR ρ e) (h0 : ∀ f, f < 3 → ρ' (86 + 5 * e + f) = ρ (86 + 5 * e + f)) : wth ρ' e = wth ρ e := by
  obtain ⟨lb, fr, to, e0, e1, e2, _, hfr, hto, _⟩ := hE
  unfold wth
  rw [h0 0 (by omega), h0 1 (by omega), h0 2 (by omega), e0, e1, e2, nv_of (show fr < 2147483648 by omega), nv_of (show to < 2147483648 by omega), FT_congr h hfr hto]
/-- on arriving -/
def gv (kd : Nat) (o : Option Nat) : Nat := match o with
  | none => 0
  | some w => gts kd w
def arS (c kd to e : Nat) (s : Rw × Nat) : Rw × Nat := if Pcar s.1 (Int32.ofNat c) e = true ∧ s.1 (86 + 5 * e + 2) = Int32.ofNat to then (up1 s.1 (86 + 5 * e + 3) 2, s.2 + gv kd (wth s.1 e)) else s
def arr (ρ : Rw) (c kd to n : Nat) : Rw × Nat := itF (arS c kd to) 0 n (ρ, 0)
set_option maxRecDepth 8000 in
theorem gv_le {kd : Nat} {o : Option Nat} (h : ∀ w, o = some w → w < 60000000) : gv kd o ≤ 66000000 := by
  unfold gv
  cases o with
  | none => exact Nat.zero_le _
  | some w =>
    have := h w rfl
    dsimp only
    unfold gts
    split
    · omega
    · split
      · omega
      · split <;> omega
set_option maxRecDepth 8000 in
theorem nDone_up {ρ : Rw} {e : Nat} (h8 : NE ρ ≤ 8) (he : e < NE ρ) (h1 : ρ (86 + 5 * e + 3) = 1) : nDone (up1 ρ (86 + 5 * e + 3) 2) = nDone ρ + 1 := by
  have n2 : NE (up1 ρ (86 + 5 * e + 3) 2) = NE ρ := by unfold NE; rw [up1_ne (by omega)]
  unfold nDone
  rw [n2]
  have b1 := bset_spec (Phow (up1 ρ (86 + 5 * e + 3) 2) 2) (NE ρ)
  have b0 := bset_spec (Phow ρ 2) (NE ρ)
  generalize bset (Phow (up1 ρ (86 + 5 * e + 3) 2) 2) (NE ρ) = A at *
  generalize bset (Phow ρ 2) (NE ρ) = B at *
  have hA : ∀ e', A.testBit e' = if e' = e then true else B.testBit e' := by
    intro e'
    rw [b1.2, b0.2]
    by_cases hee : e' = e
    · rw [if_pos hee, hee]; unfold Phow; rw [up1_same]; simp [he]
    · rw [if_neg hee]; unfold Phow; rw [up1_ne (by omega)]
  have hB : B.testBit e = false := by rw [b0.2]; unfold Phow; rw [h1]; simp
  have : ∀ n, cbn A n = cbn B n + if e < n then 1 else 0 := by
    intro n
    induction n with
    | zero => rfl
    | succ n ih =>
      rw [cbn_succ, cbn_succ, ih, hA n]
      by_cases hne : n = e
      · subst hne; rw [if_pos rfl, hB]; simp
      · rw [if_neg hne]
        by_cases hlt : e < n
        · rw [if_pos hlt, if_pos (show e < n + 1 by omega)]; omega
        · rw [if_neg hlt, if_neg (show ¬ e < n + 1 by omega)]; omega
  rw [this 8, if_pos (by omega)]
set_option maxRecDepth 8000 in
/-- what holds of the row while arriving -/
theorem arr_inv (hI : Inv ρ) {c kd to : Nat} (hc : c < NC ρ) : ∀ n, n ≤ NE ρ → Inv (arr ρ c kd to n).1 ∧ (∀ i, (i < 86 ∨ 126 ≤ i) → (arr ρ c kd to n).1 i = ρ i) ∧ (∀ e f, e < 8 → (n ≤ e ∨ f < 3 ∨ f = 4) → f < 5 → (arr ρ c kd to n).1 (86 + 5 * e + f) = ρ (86 + 5 * e + f)) ∧ (arr ρ c kd to n).2 + 66000000 * nDone ρ ≤ 66000000 * nDone (arr ρ c kd to n).1 ∧ (arr ρ c kd to n).2 ≤ 66000000 * n := by
  intro n
  induction n with
  | zero => intro _; exact ⟨hI, fun _ _ => rfl, fun _ _ _ _ _ => rfl, Nat.le_of_eq (Nat.zero_add _), Nat.zero_le _⟩
  | succ n ih =>
    intro hn
    obtain ⟨i1, i2, i3, i4, i5⟩ := ih (by omega)
    have h8 := hI.2.1.2
    have nE : NE (arr ρ c kd to n).1 = NE ρ := by unfold NE; rw [i2 43 (by omega)]
    have nC : NC (arr ρ c kd to n).1 = NC ρ := by unfold NC; rw [i2 42 (by omega)]
    have hs : arr ρ c kd to (n + 1) = arS c kd to n (arr ρ c kd to n) := itF_snoc0 _ _ _
    rw [hs]
    generalize arr ρ c kd to n = s at *
    unfold arS
    by_cases hx : Pcar s.1 (Int32.ofNat c) n = true ∧ s.1 (86 + 5 * n + 2) = Int32.ofNat to
    · rw [if_pos hx]
      dsimp only
      have hp := hx.1
      unfold Pcar at hp
      have hp2 := of_decide_eq_true hp
      have nd := nDone_up (ρ := s.1) (e := n) (by omega) (by omega) hp2.1
      have hw : gv kd (wth s.1 n) ≤ 66000000 := gv_le (fun w hw => wth_lt i1 (by omega) hw)
      obtain ⟨q1, q2, q3⟩ := i1.2.2.2.2.1 n (by omega)
      refine ⟨Inv_err i1 (e := n) (by omega) (fun i hi => up1_ne (by omega)) ?_ (by omega), fun i hi => ?_, fun e f he hef hf => ?_, by omega, by omega⟩
      · refine ⟨?_, ?_, ?_⟩
        · unfold ERR at q1 ⊢
          rw [up1_ne (by omega), up1_ne (by omega), up1_ne (by omega)]; exact q1
        · rw [up1_same]; exact .inr (.inr rfl)
        · rw [up1_ne (by omega)]
          rw [show NC (up1 s.1 (86 + 5 * n + 3) 2) = NC s.1 from by unfold NC; rw [up1_ne (by omega)]]
          exact q3
      · rw [up1_ne (by omega)]; exact i2 i hi
      · rw [up1_ne (by omega)]; exact i3 e f he (by omega) hf
    · rw [if_neg hx]
      exact ⟨i1, i2, fun e f he hef hf => i3 e f he (by omega) hf, i4, by omega⟩
end L4e
/-! ### the acts: walking -/
section L4f
variable {L : Lt} {σ σ' : St} {S : Sg} {ρ ρ' : Rw}
set_option maxRecDepth 8000 in
theorem CN_ax (h : ax σ σ') (hC : CN σ) : CN σ' := fun k hk => by rw [h (110 + k) 0 (s2_f (by omega)) (by omega)]; exact hC k hk
set_option maxRecDepth 8000 in
theorem PX_ax (h : ax σ σ') (hC : PX σ) : PX σ' := fun k hk => by rw [h 12 k (s2_f (by omega)) (by omega)]; exact hC k hk
set_option maxRecDepth 8000 in
theorem PM_am (h : am σ σ') (hC : PM σ) : PM σ' := fun k hk => by rw [h 1008 k (s2_f (by omega)) (by omega)]; exact hC k hk
set_option maxRecDepth 8000 in
theorem puts_same {e : Nat} {v : Int32} (h : ρ (86 + 5 * e + 4) = v) : putsR ρ e 2 v = up1 ρ (86 + 5 * e + 3) 2 := by
  funext i
  unfold putsR
  by_cases hi : i = 86 + 5 * e + 4
  · subst hi; rw [up1_same, up1_ne (by omega)]; exact h.symm
  · rw [up1_ne hi]
def earn (ρ : Rw) (c g : Nat) : Rw := up1 ρ (56 + 5 * c + 3) (ρ (56 + 5 * c + 3) + Int32.ofNat g)
set_option maxRecDepth 8000 in
theorem kd_arr (hI : Inv ρ) {c kd to n : Nat} (hc : c < NC ρ) (hn : n ≤ NE ρ) : kdO (arr ρ c kd to n).1 c = kdO ρ c ∧ NC (arr ρ c kd to n).1 = NC ρ ∧ NE (arr ρ c kd to n).1 = NE ρ := by
  have h6 := hI.1.2
  have := (arr_inv hI (kd := kd) (to := to) hc n hn).2.1
  refine ⟨?_, ?_, ?_⟩
  · unfold kdO; rw [this _ (by omega)]
  · unfold NC; rw [this 42 (by omega)]
  · unfold NE; rw [this 43 (by omega)]
set_option maxRecDepth 8000 in
theorem x_arrives (h : Lok L) (hW : WX σ 200 ρ) (hI : Inv ρ) {c to : Nat} (hc : c < NC ρ) (hto : to < 7) : ∃ σ', F_X0_arrives (some (L.1 0)) (Int32.ofNat c) (Int32.ofNat to) (hp L σ) = some (Int32.ofNat (arr ρ c (kdO ρ c) to (NE ρ)).2, hp L σ') ∧ WX σ' 200 (earn (arr ρ c (kdO ρ c) to (NE ρ)).1 c (arr ρ c (kdO ρ c) to (NE ρ)).2) ∧ aw σ σ' ∧ xf σ σ' := by
  have h6 := hI.1.2
  have h8 := hI.2.1.2
  have hc6 : c < 6 := by omega
  have hb : isW 200 = true := rfl
  have hb8 := bset_lt8 (P := Pcar ρ (Int32.ofNat c)) h8
  have hbs := bset_spec (Pcar ρ (Int32.ofNat c)) (NE ρ)
  unfold F_X0_arrives
  rw [if_pos (x_tg h), bn9 (x_3 h), bn9 (x_carriedBy9 h hb hW hI.2.1.1 h8 (Int32.ofNat c))]
  generalize bset (Pcar ρ (Int32.ofNat c)) (NE ρ) = s0 at hb8 hbs
  have key := lpQ (Lp := fun f j (g : St × Int32) => F_X0_arrives_L15 f (some (L.1 0)) (Int32.ofNat c) (Int32.ofNat to) (Int32.ofNat s0) g.2 (Int32.ofNat j) (hp L g.1)) (N := NE ρ) (fun j g => WX g.1 200 (arr ρ c (kdO ρ c) to j).1 ∧ g.2 = Int32.ofNat (arr ρ c (kdO ρ c) to j).2 ∧ aw σ g.1 ∧ xf σ g.1) (fun r => ∃ σ', r = (Int32.ofNat (arr ρ c (kdO ρ c) to (NE ρ)).2, hp L σ') ∧ WX σ' 200 (earn (arr ρ c (kdO ρ c) to (NE ρ)).1 c (arr ρ c (kdO ρ c) to (NE ρ)).2) ∧ aw σ σ' ∧ xf σ σ') ?_ ?_ (by unfold fu; omega) (σ, 0) ⟨hW, rfl, aw_refl _, xf_refl _⟩
  · obtain ⟨r, e, σ', rfl, h1, h2, h3⟩ := key
    exact ⟨σ', e, h1, h2, h3⟩
  · intro f g ⟨q1, q2, q3, q4⟩
    obtain ⟨i1, i2, i3, i4, i5⟩ := arr_inv hI (kd := kdO ρ c) (to := to) hc (NE ρ) (Nat.le_refl _)
    have hN : (arr ρ c (kdO ρ c) to (NE ρ)).1 43 = Int32.ofNat (NE ρ) := by rw [i2 43 (by omega)]; exact hI.2.1.1
    refine ⟨_, ?_, up2 g.1 (200 + 5) c ((arr ρ c (kdO ρ c) to (NE ρ)).1 (56 + 5 * c + 3) + Int32.ofNat (arr ρ c (kdO ρ c) to (NE ρ)).2), rfl, WX_c3 hc6 q1, aw_trans q3 (aw_wf (wf_up (by omega) (wf_refl _ _))), fun i hi => by rw [← q4 i hi]; funext k; rw [up2_ne (by omega)]⟩
    rw [q2]
    simp (discharger := first | assumption | omega | decide) only [x_tg, w_tg, m_tg, ↓reduceIte, Option.bind_some, ↓x_0b, ↓x_1b, ↓x_2b, ↓x_3b, ↓x_4b, ↓x_5b, ↓x_6b, ↓x_7b, ↓x_8b, ↓x_9b, ↓x_10b, ↓x_11b, ↓x_12b, ↓x_13b, ↓x_14b, ↓x_15b, ↓x_16b, ↓x_17b, ↓x_18b, ↓x_19b, ↓xp_2b, ↓xp_6b, ↓xp_14b, ↓xp_17b, ↓xp_18b, ↓xp_19b, ↓X_f0b, ↓X_f2b, ↓X_f4b, ↓X_f8b, ↓wf_1b, ↓wf_3b, ↓wf_5b, ↓wf_6b, ↓wf_7b, ↓wf_9b, ↓wt_1_0b, ↓wt_1_1b, ↓wt_1_2b, ↓wt_1_3b, ↓wt_1_4b, ↓wt_11_0b, ↓wt_11_1b, ↓wt_11_2b, ↓wt_11_3b, ↓wt_11_4b, ↓wt_21_0b, ↓wt_21_1b, ↓wt_31_0b, ↓wt_31_1b, ↓wt_31_2b, ↓wt_31_3b, ↓wt_31_4b, ↓wt_31_5b, ↓wt_31_6b, ↓wt_41_0b, ↓wt_41_1b, ↓wt_41_2b, ↓wt_41_3b, ↓wt_41_4b, ↓wt_41_5b, ↓wt_41_6b, ↓wt_1b, ↓wt_11b, ↓wt_21b, ↓wt_31b, ↓wt_41b, ↓X_c0b, ↓X_c1b, ↓X_c2b, ↓X_c3b, ↓X_c4b, ↓X_e0b, ↓X_e1b, ↓X_e2b, ↓X_e3b, ↓X_e4b, ↓X_cb, ↓X_eb, ↓X_w0b, ↓X_w1b, ↓X_hb, ↓X_yb, ↓X_rb, ↓wp_0b, ↓wp_2b, ↓wp_4b, ↓wp_8b, ↓ws_2b, ↓ws_3b, ↓ws_4b, ↓ws_5b, ↓ws_6b, ↓ws_12b, ↓ws_13b, ↓ws_14b, ↓ws_15b, ↓ws_16b, ↓ws_22b, ↓ws_23b, ↓ws_51b, ↓wS_yb, ↓wS_rb, ↓wS_cb, ↓wS_eb, F_X0_arrives_L15, F_X0_arrives_B15, hN, ofN_le, Nat.le_refl]
  · intro f j g hj ⟨q1, q2, q3, q4⟩
    obtain ⟨i1, i2, i3, i4, i5⟩ := arr_inv hI (kd := kdO ρ c) (to := to) hc j (by omega)
    obtain ⟨a1, a2, a3⟩ := kd_arr hI (kd := kdO ρ c) (to := to) (n := j) hc (by omega)
    have hs : arr ρ c (kdO ρ c) to (j + 1) = arS c (kdO ρ c) to j (arr ρ c (kdO ρ c) to j) := itF_snoc0 _ _ _
    have hr3 := i3 j 3 (by omega) (by omega) (by omega)
    have hr4 := i3 j 4 (by omega) (by omega) (by omega)
    have hPc : Pcar (arr ρ c (kdO ρ c) to j).1 (Int32.ofNat c) j = Pcar ρ (Int32.ofNat c) j := by unfold Pcar; rw [hr3, hr4]
    rw [hs]
    generalize arr ρ c (kdO ρ c) to j = s at *
    have hN : s.1 43 = Int32.ofNat (NE ρ) := by rw [i2 43 (by omega)]; exact hI.2.1.1
    have hd : ¬ NE ρ ≤ j := by omega
    have hh := has_n s0 hb8 j (by omega)
    rw [hbs.2 j] at hh
    have hjd : decide (j < NE ρ) = true := decide_eq_true hj
    obtain ⟨g1, g2⟩ := g
    dsimp only at q1 q2 q3 q4 ⊢
    subst q2
    unfold arS
    by_cases hP : Pcar s.1 (Int32.ofNat c) j = true
    · rw [hjd, ← hPc, hP] at hh
      by_cases ht : s.1 (86 + 5 * j + 2) = Int32.ofNat to
      · rw [if_pos ⟨hP, ht⟩]
        have hE := (i1.2.2.2.2.1 j (by omega)).1
        have hp2 := of_decide_eq_true (by unfold Pcar at hP; exact hP)
        have gw := x_worthOf h q1 i1.2.2.2.2.2.2.2.1 (show j < 8 by omega) hE
        have hW2 := WX_tX (V := nT (FT s.1 0)) (tz := 9) (z := 20) (Or.inl ⟨rfl, rfl⟩) (Nat.le_refl 200) q1
        obtain ⟨σ3, p1, p2, p3⟩ := x_puts h hb hW2 (show j < 8 by omega) 2 (Int32.ofNat c)
        rw [puts_same hp2.2] at p2
        have fr : aw σ σ3 ∧ xf σ σ3 := ⟨aw_trans q3 (aw_trans (aw_ag (ag_tX (tz := 9) (Or.inl ⟨rfl, rfl⟩) _)) (aw_wf p3)), fun i hi => by rw [p3 i (by omega), tX_ge (by omega)]; exact q4 i hi⟩
        obtain ⟨k1, k2, k3, k4, k5, k6, k7⟩ := i1.2.2.2.1 c (by omega)
        cases hwt : wth s.1 j with
        | none =>
          rw [hwt] at gw
          refine ⟨(σ3, Int32.ofNat s.2), ?_, p2, rfl, fr⟩
          simp (discharger := first | assumption | omega | decide) only [x_tg, w_tg, m_tg, ↓reduceIte, Option.bind_some, ↓x_0b, ↓x_1b, ↓x_2b, ↓x_3b, ↓x_4b, ↓x_5b, ↓x_6b, ↓x_7b, ↓x_8b, ↓x_9b, ↓x_10b, ↓x_11b, ↓x_12b, ↓x_13b, ↓x_14b, ↓x_15b, ↓x_16b, ↓x_17b, ↓x_18b, ↓x_19b, ↓xp_2b, ↓xp_6b, ↓xp_14b, ↓xp_17b, ↓xp_18b, ↓xp_19b, ↓X_f0b, ↓X_f2b, ↓X_f4b, ↓X_f8b, ↓wf_1b, ↓wf_3b, ↓wf_5b, ↓wf_6b, ↓wf_7b, ↓wf_9b, ↓wt_1_0b, ↓wt_1_1b, ↓wt_1_2b, ↓wt_1_3b, ↓wt_1_4b, ↓wt_11_0b, ↓wt_11_1b, ↓wt_11_2b, ↓wt_11_3b, ↓wt_11_4b, ↓wt_21_0b, ↓wt_21_1b, ↓wt_31_0b, ↓wt_31_1b, ↓wt_31_2b, ↓wt_31_3b, ↓wt_31_4b, ↓wt_31_5b, ↓wt_31_6b, ↓wt_41_0b, ↓wt_41_1b, ↓wt_41_2b, ↓wt_41_3b, ↓wt_41_4b, ↓wt_41_5b, ↓wt_41_6b, ↓wt_1b, ↓wt_11b, ↓wt_21b, ↓wt_31b, ↓wt_41b, ↓X_c0b, ↓X_c1b, ↓X_c2b, ↓X_c3b, ↓X_c4b, ↓X_e0b, ↓X_e1b, ↓X_e2b, ↓X_e3b, ↓X_e4b, ↓X_cb, ↓X_eb, ↓X_w0b, ↓X_w1b, ↓X_hb, ↓X_yb, ↓X_rb, ↓wp_0b, ↓wp_2b, ↓wp_4b, ↓wp_8b, ↓ws_2b, ↓ws_3b, ↓ws_4b, ↓ws_5b, ↓ws_6b, ↓ws_12b, ↓ws_13b, ↓ws_14b, ↓ws_15b, ↓ws_16b, ↓ws_22b, ↓ws_23b, ↓ws_51b, ↓wS_yb, ↓wS_rb, ↓wS_cb, ↓wS_eb, F_X0_arrives_L15, F_X0_arrives_B15, F_X0_arrives_J79, F_X0_arrives_J93, hN, ofN_le, hd, hh, Bool.and_self, one_ne, eq_true ht, not_true_eq_false, ↓cb9 gw, oN, ↓bn9 p1, ofNs, Int32.add_zero]
        | some v =>
          have hv := wth_lt i1 (show j < NE s.1 by omega) hwt
          have n1 := ofN_nm1 (a := v) (by omega)
          rw [hwt] at gw
          have gg := x_getsOf (p := v) h hW2 hc6 k4 k1 (by omega)
          rw [a1] at gg
          refine ⟨(σ3, Int32.ofNat (s.2 + gv (kdO ρ c) (some v))), ?_, p2, rfl, fr⟩
          simp (discharger := first | assumption | omega | decide) only [x_tg, w_tg, m_tg, ↓reduceIte, Option.bind_some, ↓x_0b, ↓x_1b, ↓x_2b, ↓x_3b, ↓x_4b, ↓x_5b, ↓x_6b, ↓x_7b, ↓x_8b, ↓x_9b, ↓x_10b, ↓x_11b, ↓x_12b, ↓x_13b, ↓x_14b, ↓x_15b, ↓x_16b, ↓x_17b, ↓x_18b, ↓x_19b, ↓xp_2b, ↓xp_6b, ↓xp_14b, ↓xp_17b, ↓xp_18b, ↓xp_19b, ↓X_f0b, ↓X_f2b, ↓X_f4b, ↓X_f8b, ↓wf_1b, ↓wf_3b, ↓wf_5b, ↓wf_6b, ↓wf_7b, ↓wf_9b, ↓wt_1_0b, ↓wt_1_1b, ↓wt_1_2b, ↓wt_1_3b, ↓wt_1_4b, ↓wt_11_0b, ↓wt_11_1b, ↓wt_11_2b, ↓wt_11_3b, ↓wt_11_4b, ↓wt_21_0b, ↓wt_21_1b, ↓wt_31_0b, ↓wt_31_1b, ↓wt_31_2b, ↓wt_31_3b, ↓wt_31_4b, ↓wt_31_5b, ↓wt_31_6b, ↓wt_41_0b, ↓wt_41_1b, ↓wt_41_2b, ↓wt_41_3b, ↓wt_41_4b, ↓wt_41_5b, ↓wt_41_6b, ↓wt_1b, ↓wt_11b, ↓wt_21b, ↓wt_31b, ↓wt_41b, ↓X_c0b, ↓X_c1b, ↓X_c2b, ↓X_c3b, ↓X_c4b, ↓X_e0b, ↓X_e1b, ↓X_e2b, ↓X_e3b, ↓X_e4b, ↓X_cb, ↓X_eb, ↓X_w0b, ↓X_w1b, ↓X_hb, ↓X_yb, ↓X_rb, ↓wp_0b, ↓wp_2b, ↓wp_4b, ↓wp_8b, ↓ws_2b, ↓ws_3b, ↓ws_4b, ↓ws_5b, ↓ws_6b, ↓ws_12b, ↓ws_13b, ↓ws_14b, ↓ws_15b, ↓ws_16b, ↓ws_22b, ↓ws_23b, ↓ws_51b, ↓wS_yb, ↓wS_rb, ↓wS_cb, ↓wS_eb, F_X0_arrives_L15, F_X0_arrives_B15, F_X0_arrives_J79, F_X0_arrives_J93, hN, ofN_le, hd, hh, Bool.and_self, one_ne, eq_true ht, not_true_eq_false, not_false_eq_true, ↓cb9 gw, oN, n1, ↓bn9 gg, ↓bn9 p1, ofNs, ofN_add, gv]
      · rw [if_neg (fun q => ht q.2)]
        refine ⟨(g1, Int32.ofNat s.2), ?_, q1, rfl, q3, q4⟩
        simp (discharger := first | assumption | omega | decide) only [x_tg, w_tg, m_tg, ↓reduceIte, Option.bind_some, ↓x_0b, ↓x_1b, ↓x_2b, ↓x_3b, ↓x_4b, ↓x_5b, ↓x_6b, ↓x_7b, ↓x_8b, ↓x_9b, ↓x_10b, ↓x_11b, ↓x_12b, ↓x_13b, ↓x_14b, ↓x_15b, ↓x_16b, ↓x_17b, ↓x_18b, ↓x_19b, ↓xp_2b, ↓xp_6b, ↓xp_14b, ↓xp_17b, ↓xp_18b, ↓xp_19b, ↓X_f0b, ↓X_f2b, ↓X_f4b, ↓X_f8b, ↓wf_1b, ↓wf_3b, ↓wf_5b, ↓wf_6b, ↓wf_7b, ↓wf_9b, ↓wt_1_0b, ↓wt_1_1b, ↓wt_1_2b, ↓wt_1_3b, ↓wt_1_4b, ↓wt_11_0b, ↓wt_11_1b, ↓wt_11_2b, ↓wt_11_3b, ↓wt_11_4b, ↓wt_21_0b, ↓wt_21_1b, ↓wt_31_0b, ↓wt_31_1b, ↓wt_31_2b, ↓wt_31_3b, ↓wt_31_4b, ↓wt_31_5b, ↓wt_31_6b, ↓wt_41_0b, ↓wt_41_1b, ↓wt_41_2b, ↓wt_41_3b, ↓wt_41_4b, ↓wt_41_5b, ↓wt_41_6b, ↓wt_1b, ↓wt_11b, ↓wt_21b, ↓wt_31b, ↓wt_41b, ↓X_c0b, ↓X_c1b, ↓X_c2b, ↓X_c3b, ↓X_c4b, ↓X_e0b, ↓X_e1b, ↓X_e2b, ↓X_e3b, ↓X_e4b, ↓X_cb, ↓X_eb, ↓X_w0b, ↓X_w1b, ↓X_hb, ↓X_yb, ↓X_rb, ↓wp_0b, ↓wp_2b, ↓wp_4b, ↓wp_8b, ↓ws_2b, ↓ws_3b, ↓ws_4b, ↓ws_5b, ↓ws_6b, ↓ws_12b, ↓ws_13b, ↓ws_14b, ↓ws_15b, ↓ws_16b, ↓ws_22b, ↓ws_23b, ↓ws_51b, ↓wS_yb, ↓wS_rb, ↓wS_cb, ↓wS_eb, F_X0_arrives_L15, F_X0_arrives_B15, F_X0_arrives_J93, hN, ofN_le, hd, hh, Bool.and_self, one_ne, ht, not_false_eq_true, ofNs]
    · rw [if_neg (fun q => hP q.1)]
      have hPf : Pcar s.1 (Int32.ofNat c) j = false := by simpa using hP
      rw [hjd, ← hPc, hPf] at hh
      refine ⟨(g1, Int32.ofNat s.2), ?_, q1, rfl, q3, q4⟩
      simp (discharger := first | assumption | omega | decide) only [x_tg, w_tg, m_tg, ↓reduceIte, Option.bind_some, ↓x_0b, ↓x_1b, ↓x_2b, ↓x_3b, ↓x_4b, ↓x_5b, ↓x_6b, ↓x_7b, ↓x_8b, ↓x_9b, ↓x_10b, ↓x_11b, ↓x_12b, ↓x_13b, ↓x_14b, ↓x_15b, ↓x_16b, ↓x_17b, ↓x_18b, ↓x_19b, ↓xp_2b, ↓xp_6b, ↓xp_14b, ↓xp_17b, ↓xp_18b, ↓xp_19b, ↓X_f0b, ↓X_f2b, ↓X_f4b, ↓X_f8b, ↓wf_1b, ↓wf_3b, ↓wf_5b, ↓wf_6b, ↓wf_7b, ↓wf_9b, ↓wt_1_0b, ↓wt_1_1b, ↓wt_1_2b, ↓wt_1_3b, ↓wt_1_4b, ↓wt_11_0b, ↓wt_11_1b, ↓wt_11_2b, ↓wt_11_3b, ↓wt_11_4b, ↓wt_21_0b, ↓wt_21_1b, ↓wt_31_0b, ↓wt_31_1b, ↓wt_31_2b, ↓wt_31_3b, ↓wt_31_4b, ↓wt_31_5b, ↓wt_31_6b, ↓wt_41_0b, ↓wt_41_1b, ↓wt_41_2b, ↓wt_41_3b, ↓wt_41_4b, ↓wt_41_5b, ↓wt_41_6b, ↓wt_1b, ↓wt_11b, ↓wt_21b, ↓wt_31b, ↓wt_41b, ↓X_c0b, ↓X_c1b, ↓X_c2b, ↓X_c3b, ↓X_c4b, ↓X_e0b, ↓X_e1b, ↓X_e2b, ↓X_e3b, ↓X_e4b, ↓X_cb, ↓X_eb, ↓X_w0b, ↓X_w1b, ↓X_hb, ↓X_yb, ↓X_rb, ↓wp_0b, ↓wp_2b, ↓wp_4b, ↓wp_8b, ↓ws_2b, ↓ws_3b, ↓ws_4b, ↓ws_5b, ↓ws_6b, ↓ws_12b, ↓ws_13b, ↓ws_14b, ↓ws_15b, ↓ws_16b, ↓ws_22b, ↓ws_23b, ↓ws_51b, ↓wS_yb, ↓wS_rb, ↓wS_cb, ↓wS_eb, F_X0_arrives_L15, F_X0_arrives_B15, F_X0_arrives_J93, hN, ofN_le, hd, hh, Bool.and_false, Bool.false_eq_true, ofNs]
/-- the row after a walk, before what is got there -/
def stp (ρ : Rw) (c to far : Nat) : Rw := up1 (up1 ρ (56 + 5 * c + 4) (ρ (56 + 5 * c + 4) + Int32.ofNat far)) (56 + 5 * c + 1) (Int32.ofNat to)
set_option maxRecDepth 8000 in
theorem Inv_stp (hI : Inv ρ) {c to far : Nat} (hc : c < NC ρ) (hto : to < 7) : Inv (stp ρ c to far) := by
  have h6 := hI.1.2
  obtain ⟨k1, k2, k3, k4, k5, k6, k7⟩ := hI.2.2.2.1 c hc
  refine Inv_car (c := c) hI (fun i hi => by unfold stp; rw [up1_ne (by omega), up1_ne (by omega)]) ?_ ?_ (by omega)
  · unfold CARf kdO plO stO stp
    rw [up1_same, up1_ne (by omega), up1_ne (by omega), up1_ne (by omega), up1_ne (by omega), nv_of (by omega)]
    exact ⟨k1, rfl, k3, k4, hto, k6, k7⟩
  · have := hI.2.2.2.2.2.2.2.2 c hc
    unfold eaO stp at *
    rw [up1_ne (by omega), up1_ne (by omega)]; exact this
/-- all of a walk -/
def wlk (ρ : Rw) (c to : Nat) : Rw := earn (arr (stp ρ c to (FT ρ (kdO ρ c) (plO ρ c) to)) c (kdO ρ c) to (NE ρ)).1 c (arr (stp ρ c to (FT ρ (kdO ρ c) (plO ρ c) to)) c (kdO ρ c) to (NE ρ)).2
def wlkG (ρ : Rw) (c to : Nat) : Nat := (arr (stp ρ c to (FT ρ (kdO ρ c) (plO ρ c) to)) c (kdO ρ c) to (NE ρ)).2
set_option maxRecDepth 8000 in
theorem stp_n (hI : Inv ρ) {c to far : Nat} (hc : c < NC ρ) : NC (stp ρ c to far) = NC ρ ∧ NE (stp ρ c to far) = NE ρ ∧ kdO (stp ρ c to far) c = kdO ρ c ∧ nDone (stp ρ c to far) = nDone ρ := by
  have h6 := hI.1.2
  have h8 := hI.2.1.2
  have n2 : NE (stp ρ c to far) = NE ρ := by unfold NE stp; rw [up1_ne (by omega), up1_ne (by omega)]
  refine ⟨?_, n2, ?_, nDone_congr n2 (fun e he => ?_)⟩
  · unfold NC stp; rw [up1_ne (by omega), up1_ne (by omega)]
  · unfold kdO stp; rw [up1_ne (by omega), up1_ne (by omega)]
  · unfold stp; rw [up1_ne (by omega), up1_ne (by omega)]
set_option maxRecDepth 8000 in
theorem Inv_wlk (hI : Inv ρ) {c to : Nat} (hc : c < NC ρ) (hto : to < 7) : Inv (wlk ρ c to) ∧ NC (wlk ρ c to) = NC ρ ∧ NE (wlk ρ c to) = NE ρ ∧ wlkG ρ c to ≤ 528000000 ∧ (wlk ρ c to) 45 = ρ 45 ∧ nDone ρ ≤ nDone (wlk ρ c to) := by
  have h6 := hI.1.2
  have h8 := hI.2.1.2
  have hI1 := Inv_stp (far := FT ρ (kdO ρ c) (plO ρ c) to) hI hc hto
  obtain ⟨n1, n2, n3, n4⟩ := stp_n (to := to) (far := FT ρ (kdO ρ c) (plO ρ c) to) hI hc
  obtain ⟨i1, i2, i3, i4, i5⟩ := arr_inv hI1 (c := c) (kd := kdO ρ c) (to := to) (by omega) (NE ρ) (by omega)
  have e45 : stp ρ c to (FT ρ (kdO ρ c) (plO ρ c) to) 45 = ρ 45 := by unfold stp; rw [up1_ne (by omega), up1_ne (by omega)]
  have ea := hI1.2.2.2.2.2.2.2.2 c (by omega)
  unfold wlk wlkG
  have i2' := i2
  generalize arr (stp ρ c to (FT ρ (kdO ρ c) (plO ρ c) to)) c (kdO ρ c) to (NE ρ) = s at *
  generalize stp ρ c to (FT ρ (kdO ρ c) (plO ρ c) to) = ρ1 at *
  have m1 : NC (earn s.1 c s.2) = NC ρ := by rw [← n1]; unfold NC earn; rw [up1_ne (by omega), i2 42 (by omega)]
  have m2 : NE (earn s.1 c s.2) = NE ρ := by rw [← n2]; unfold NE earn; rw [up1_ne (by omega), i2 43 (by omega)]
  have nd : nDone (earn s.1 c s.2) = nDone s.1 := nDone_congr (by unfold NE earn; rw [up1_ne (by omega)]) (fun e he => by unfold earn; rw [up1_ne (by omega)])
  refine ⟨Inv_car (c := c) i1 (fun i hi => by unfold earn; rw [up1_ne (by omega)]) ?_ ?_ (by omega), m1, m2, by omega, ?_, by omega⟩
  · exact CARf_congr (fun f hf => by unfold earn; rw [up1_ne (by omega)]) (i1.2.2.2.1 c (by rw [show NC s.1 = NC ρ1 from by unfold NC; rw [i2 42 (by omega)]]; omega))
  · have e3 : s.1 (56 + 5 * c + 3) = Int32.ofNat (eaO ρ1 c) := by rw [i2 _ (by omega)]; exact ea.1
    have hnd8 : nDone s.1 ≤ 8 := cbn_le _ _
    unfold eaO earn
    rw [up1_same, e3, ofN_add, nv_of (by omega)]
    exact ⟨rfl, by omega⟩
  · unfold earn; rw [up1_ne (by omega), i2 45 (by omega)]; exact e45
set_option maxRecDepth 8000 in
theorem x_walks (h : Lok L) (hW : WX σ 200 ρ) (hI : Inv ρ) {c to : Nat} (hc : c < NC ρ) (hto : to < 7) : ∃ σ', F_X0_walks (some (L.1 0)) (Int32.ofNat c) (Int32.ofNat to) (Int32.ofNat (FT ρ (kdO ρ c) (plO ρ c) to)) (hp L σ) = some (Int32.ofNat (wlkG ρ c to), hp L σ') ∧ WX σ' 200 (wlk ρ c to) ∧ aw σ σ' ∧ xf σ σ' := by
  have h6 := hI.1.2
  have hc6 : c < 6 := by omega
  have hb : isW 200 = true := rfl
  have hW1 := WX_c4 (v := ρ (56 + 5 * c + 4) + Int32.ofNat (FT ρ (kdO ρ c) (plO ρ c) to)) hc6 hW
  have hW2 := WX_c1 (v := Int32.ofNat to) hc6 hW1
  have hI1 := Inv_stp (far := FT ρ (kdO ρ c) (plO ρ c) to) hI hc hto
  obtain ⟨n1, n2, n3, n4⟩ := stp_n (to := to) (far := FT ρ (kdO ρ c) (plO ρ c) to) hI hc
  obtain ⟨σ3, p1, p2, p3, p4⟩ := x_arrives (ρ := stp ρ c to (FT ρ (kdO ρ c) (plO ρ c) to)) (c := c) h hW2 hI1 (by omega) hto
  rw [n2, n3] at p1 p2
  refine ⟨σ3, ?_, p2, aw_trans (aw_wf (wf_up (by omega) (wf_up (by omega) (wf_refl _ _)))) p3, fun i hi => by rw [p4 i hi]; funext k; rw [up2_ne (by omega), up2_ne (by omega)]⟩
  unfold F_X0_walks
  simp (discharger := first | assumption | omega | decide) only [x_tg, w_tg, m_tg, ↓reduceIte, Option.bind_some, ↓x_0b, ↓x_1b, ↓x_2b, ↓x_3b, ↓x_4b, ↓x_5b, ↓x_6b, ↓x_7b, ↓x_8b, ↓x_9b, ↓x_10b, ↓x_11b, ↓x_12b, ↓x_13b, ↓x_14b, ↓x_15b, ↓x_16b, ↓x_17b, ↓x_18b, ↓x_19b, ↓xp_2b, ↓xp_6b, ↓xp_14b, ↓xp_17b, ↓xp_18b, ↓xp_19b, ↓X_f0b, ↓X_f2b, ↓X_f4b, ↓X_f8b, ↓wf_1b, ↓wf_3b, ↓wf_5b, ↓wf_6b, ↓wf_7b, ↓wf_9b, ↓wt_1_0b, ↓wt_1_1b, ↓wt_1_2b, ↓wt_1_3b, ↓wt_1_4b, ↓wt_11_0b, ↓wt_11_1b, ↓wt_11_2b, ↓wt_11_3b, ↓wt_11_4b, ↓wt_21_0b, ↓wt_21_1b, ↓wt_31_0b, ↓wt_31_1b, ↓wt_31_2b, ↓wt_31_3b, ↓wt_31_4b, ↓wt_31_5b, ↓wt_31_6b, ↓wt_41_0b, ↓wt_41_1b, ↓wt_41_2b, ↓wt_41_3b, ↓wt_41_4b, ↓wt_41_5b, ↓wt_41_6b, ↓wt_1b, ↓wt_11b, ↓wt_21b, ↓wt_31b, ↓wt_41b, ↓X_c0b, ↓X_c1b, ↓X_c2b, ↓X_c3b, ↓X_c4b, ↓X_e0b, ↓X_e1b, ↓X_e2b, ↓X_e3b, ↓X_e4b, ↓X_cb, ↓X_eb, ↓X_w0b, ↓X_w1b, ↓X_hb, ↓X_yb, ↓X_rb, ↓wp_0b, ↓wp_2b, ↓wp_4b, ↓wp_8b, ↓ws_2b, ↓ws_3b, ↓ws_4b, ↓ws_5b, ↓ws_6b, ↓ws_12b, ↓ws_13b, ↓ws_14b, ↓ws_15b, ↓ws_16b, ↓ws_22b, ↓ws_23b, ↓ws_51b, ↓wS_yb, ↓wS_rb, ↓wS_cb, ↓wS_eb, ↓cb9 p1]
  rfl
set_option maxRecDepth 8000 in
theorem m_walked (h : Lok L) (hM : WM σ ρ) (hI : Inv ρ) {c to : Nat} (hc : c < NC ρ) (hto : to < 7) : ∃ σ', F_X13_walked (some (L.1 1000)) (Int32.ofNat c) (Int32.ofNat to) (hp L σ) = some (if FT ρ (kdO ρ c) (plO ρ c) to < 1000000 then Int32.ofNat (wlkG ρ c to) else -1, hp L σ') ∧ WM σ' (if FT ρ (kdO ρ c) (plO ρ c) to < 1000000 then wlk ρ c to else ρ) ∧ amw σ σ' ∧ mf σ σ' ∧ σ' 1000 6 + Int32.ofNat (nDone ρ) = σ 1000 6 + Int32.ofNat (nDone (if FT ρ (kdO ρ c) (plO ρ c) to < 1000000 then wlk ρ c to else ρ)) := by
  have h6 := hI.1.2
  have h8 := hI.2.1.2
  have hc6 : c < 6 := by omega
  have hw9 := hI.2.2.2.2.2.2.2.1
  obtain ⟨k1, k2, k3, k4, k5, k6, k7⟩ := hI.2.2.2.1 c hc
  have hle := FT_le (kd := kdO ρ c) hw9 k5 hto
  have gm := m_farFor h hM hw9 k4 k5 hto
  rw [← k1, ← k2] at gm
  by_cases hf : FT ρ (kdO ρ c) (plO ρ c) to < 1000000
  · rw [if_pos hf, if_pos hf]
    have n2 : Int32.ofNat (FT ρ (kdO ρ c) (plO ρ c) to) < 1000000 := by rw [li_1000000, ofN_lt (by omega) (by omega)]; exact hf
    have hM0 := WM_tM (V := nT (FT ρ (kdO ρ c))) hM
    have hM1 := WM_up (i := 56 + 5 * c + 4) (v := ρ (56 + 5 * c + 4) + Int32.ofNat (FT ρ (kdO ρ c) (plO ρ c) to)) hM0
    have hM2 := WM_up (i := 56 + 5 * c + 1) (v := Int32.ofNat to) hM1
    have hI1 := Inv_stp (far := FT ρ (kdO ρ c) (plO ρ c) to) hI hc hto
    obtain ⟨n1, n2', n3, n4⟩ := stp_n (to := to) (far := FT ρ (kdO ρ c) (plO ρ c) to) hI hc
    have eF : F_X13_walked (some (L.1 1000)) (Int32.ofNat c) (Int32.ofNat to) (hp L σ) = F_X13_walked_L57 fu (some (L.1 1000)) (Int32.ofNat c) (Int32.ofNat to) 0 0 (hp L (up2 (up2 (tM σ (nT (FT ρ (kdO ρ c)))) 1001 (56 + 5 * c + 4) (ρ (56 + 5 * c + 4) + Int32.ofNat (FT ρ (kdO ρ c) (plO ρ c) to))) 1001 (56 + 5 * c + 1) (Int32.ofNat to))) := by
      unfold F_X13_walked
      simp (discharger := first | assumption | omega | decide) only [x_tg, w_tg, m_tg, ↓reduceIte, Option.bind_some, ↓m_0b, ↓m_1b, ↓m_2b, ↓m_3b, ↓m_4b, ↓m_5b, ↓m_6b, ↓m_7b, ↓m_8b, ↓m_9b, ↓m_10b, ↓m_11b, ↓m_12b, ↓m_13b, ↓m_14b, ↓m_15b, ↓m_16b, ↓m_17b, ↓m_18b, ↓m_19b, ↓m_20b, ↓m_21b, ↓m_22b, ↓m_23b, ↓m_24b, ↓m_25b, ↓m_26b, ↓m_27b, ↓m_28b, ↓m_29b, ↓mp_3b, ↓mp_6b, ↓mp_10b, ↓mp_11b, ↓mp_12b, ↓mp_14b, ↓mp_15b, ↓mp_16b, ↓mp_17b, ↓mp_18b, ↓mp_19b, ↓mp_22b, ↓mp_23b, ↓mp_24b, ↓mp_25b, ↓M_42b, ↓M_43b, ↓M_44b, ↓M_45b, ↓cIs_0b, ↓cIs_1b, ↓cIs_2b, ↓cIs_3b, ↓cIs_4b, ↓eIs_0b, ↓eIs_1b, ↓eIs_2b, ↓eIs_3b, ↓eIs_4b, ↓cIs_nb, ↓eIs_nb, ↓M_rb, ↓M_cAt_0b, ↓M_cAt_1b, ↓M_cAt_2b, ↓M_cAt_3b, ↓M_cAt_4b, ↓M_eAt_0b, ↓M_eAt_1b, ↓M_eAt_2b, ↓M_eAt_3b, ↓M_eAt_4b, ↓M_wAt_0b, ↓M_wAt_1b, cAt_0, cAt_1, cAt_2, cAt_3, cAt_4, eAt_0, eAt_1, eAt_2, eAt_3, eAt_4, wAt_0, wAt_1, cAt_n, eAt_n, wAt_n, ↓M_cS_0b, ↓M_cS_1b, ↓M_cS_2b, ↓M_cS_3b, ↓M_cS_4b, ↓M_eS_0b, ↓M_eS_1b, ↓M_eS_2b, ↓M_eS_3b, ↓M_eS_4b, ↓M_wS_0b, ↓M_wS_1b, ↓M_s42b, ↓M_s43b, ↓M_s44b, ↓M_s45b, ↓ms_1001b, ms_1001b, ↓cb9 gm, eq_true n2]
    rw [eF]
    have am0 : amw σ (up2 (up2 (tM σ (nT (FT ρ (kdO ρ c)))) 1001 (56 + 5 * c + 4) (ρ (56 + 5 * c + 4) + Int32.ofNat (FT ρ (kdO ρ c) (plO ρ c) to))) 1001 (56 + 5 * c + 1) (Int32.ofNat to)) := amw_trans (amw_ag (ag_tM _ _)) (amw_m1f (m1f_up (m1f_up (m1f_refl _))))
    have mf0 : mf σ (up2 (up2 (tM σ (nT (FT ρ (kdO ρ c)))) 1001 (56 + 5 * c + 4) (ρ (56 + 5 * c + 4) + Int32.ofNat (FT ρ (kdO ρ c) (plO ρ c) to))) 1001 (56 + 5 * c + 1) (Int32.ofNat to)) := fun i hi => by funext k; rw [up2_ne (by omega), up2_ne (by omega), tM_ne (by omega)]
    have dn0 : up2 (up2 (tM σ (nT (FT ρ (kdO ρ c)))) 1001 (56 + 5 * c + 4) (ρ (56 + 5 * c + 4) + Int32.ofNat (FT ρ (kdO ρ c) (plO ρ c) to))) 1001 (56 + 5 * c + 1) (Int32.ofNat to) 1000 6 = σ 1000 6 := by rw [up2_ne (by omega), up2_ne (by omega), tM_ne (by omega)]
    have hM2 : WM (up2 (up2 (tM σ (nT (FT ρ (kdO ρ c)))) 1001 (56 + 5 * c + 4) (ρ (56 + 5 * c + 4) + Int32.ofNat (FT ρ (kdO ρ c) (plO ρ c) to))) 1001 (56 + 5 * c + 1) (Int32.ofNat to)) (stp ρ c to (FT ρ (kdO ρ c) (plO ρ c) to)) := hM2
    generalize up2 (up2 (tM σ (nT (FT ρ (kdO ρ c)))) 1001 (56 + 5 * c + 4) (ρ (56 + 5 * c + 4) + Int32.ofNat (FT ρ (kdO ρ c) (plO ρ c) to))) 1001 (56 + 5 * c + 1) (Int32.ofNat to) = σ0 at *
    unfold wlk wlkG
    rw [← n4]
    generalize stp ρ c to (FT ρ (kdO ρ c) (plO ρ c) to) = ρ1 at *
    have key := lpQ (Lp := fun f j (g : St × Int32) => F_X13_walked_L57 f (some (L.1 1000)) (Int32.ofNat c) (Int32.ofNat to) g.2 (Int32.ofNat j) (hp L g.1)) (N := NE ρ) (fun j g => WM g.1 (arr ρ1 c (kdO ρ c) to j).1 ∧ g.2 = Int32.ofNat (arr ρ1 c (kdO ρ c) to j).2 ∧ amw σ g.1 ∧ mf σ g.1 ∧ g.1 1000 6 + Int32.ofNat (nDone ρ1) = σ 1000 6 + Int32.ofNat (nDone (arr ρ1 c (kdO ρ c) to j).1)) (fun r => ∃ σ', r = (Int32.ofNat (arr ρ1 c (kdO ρ c) to (NE ρ)).2, hp L σ') ∧ WM σ' (earn (arr ρ1 c (kdO ρ c) to (NE ρ)).1 c (arr ρ1 c (kdO ρ c) to (NE ρ)).2) ∧ amw σ σ' ∧ mf σ σ' ∧ σ' 1000 6 + Int32.ofNat (nDone ρ1) = σ 1000 6 + Int32.ofNat (nDone (earn (arr ρ1 c (kdO ρ c) to (NE ρ)).1 c (arr ρ1 c (kdO ρ c) to (NE ρ)).2))) ?_ ?_ (by unfold fu; omega) (σ0, 0) ⟨hM2, rfl, am0, mf0, by show σ0 1000 6 + _ = _; rw [dn0]; rfl⟩
    · obtain ⟨r, e, σ', rfl, a1, a2, a3, a4⟩ := key
      exact ⟨σ', e, a1, a2, a3, a4⟩
    · intro f g ⟨q1, q2, q3, q4, q5⟩
      obtain ⟨i1, i2, i3, i4, i5⟩ := arr_inv hI1 (c := c) (kd := kdO ρ c) (to := to) (by omega) (NE ρ) (by omega)
      have hN : (arr ρ1 c (kdO ρ c) to (NE ρ)).1 43 = Int32.ofNat (NE ρ) := by rw [i2 43 (by omega), ← n2']; exact hI1.2.1.1
      generalize arr ρ1 c (kdO ρ c) to (NE ρ) = s at *
      have nd : nDone (earn s.1 c s.2) = nDone s.1 := nDone_congr (by unfold NE earn; rw [up1_ne (by omega)]) (fun e he => by unfold earn; rw [up1_ne (by omega)])
      refine ⟨_, ?_, up2 g.1 1001 (56 + 5 * c + 3) (s.1 (56 + 5 * c + 3) + Int32.ofNat s.2), rfl, WM_up q1, amw_trans q3 (amw_m1f (m1f_up (m1f_refl _))), fun i hi => by rw [← q4 i hi]; funext k; rw [up2_ne (by omega)], ?_⟩
      · rw [q2]
        simp (discharger := first | assumption | omega | decide) only [x_tg, w_tg, m_tg, ↓reduceIte, Option.bind_some, ↓m_0b, ↓m_1b, ↓m_2b, ↓m_3b, ↓m_4b, ↓m_5b, ↓m_6b, ↓m_7b, ↓m_8b, ↓m_9b, ↓m_10b, ↓m_11b, ↓m_12b, ↓m_13b, ↓m_14b, ↓m_15b, ↓m_16b, ↓m_17b, ↓m_18b, ↓m_19b, ↓m_20b, ↓m_21b, ↓m_22b, ↓m_23b, ↓m_24b, ↓m_25b, ↓m_26b, ↓m_27b, ↓m_28b, ↓m_29b, ↓mp_3b, ↓mp_6b, ↓mp_10b, ↓mp_11b, ↓mp_12b, ↓mp_14b, ↓mp_15b, ↓mp_16b, ↓mp_17b, ↓mp_18b, ↓mp_19b, ↓mp_22b, ↓mp_23b, ↓mp_24b, ↓mp_25b, ↓M_42b, ↓M_43b, ↓M_44b, ↓M_45b, ↓cIs_0b, ↓cIs_1b, ↓cIs_2b, ↓cIs_3b, ↓cIs_4b, ↓eIs_0b, ↓eIs_1b, ↓eIs_2b, ↓eIs_3b, ↓eIs_4b, ↓cIs_nb, ↓eIs_nb, ↓M_rb, ↓M_cAt_0b, ↓M_cAt_1b, ↓M_cAt_2b, ↓M_cAt_3b, ↓M_cAt_4b, ↓M_eAt_0b, ↓M_eAt_1b, ↓M_eAt_2b, ↓M_eAt_3b, ↓M_eAt_4b, ↓M_wAt_0b, ↓M_wAt_1b, cAt_0, cAt_1, cAt_2, cAt_3, cAt_4, eAt_0, eAt_1, eAt_2, eAt_3, eAt_4, wAt_0, wAt_1, cAt_n, eAt_n, wAt_n, ↓M_cS_0b, ↓M_cS_1b, ↓M_cS_2b, ↓M_cS_3b, ↓M_cS_4b, ↓M_eS_0b, ↓M_eS_1b, ↓M_eS_2b, ↓M_eS_3b, ↓M_eS_4b, ↓M_wS_0b, ↓M_wS_1b, ↓M_s42b, ↓M_s43b, ↓M_s44b, ↓M_s45b, ↓ms_1001b, ms_1001b, F_X13_walked_L57, F_X13_walked_B57, hN, ofN_le, Nat.le_refl]
      · rw [nd, up2_ne (by omega)]; exact q5
    · intro f j g hj ⟨q1, q2, q3, q4, q5⟩
      obtain ⟨i1, i2, i3, i4, i5⟩ := arr_inv hI1 (c := c) (kd := kdO ρ c) (to := to) (by omega) j (by omega)
      obtain ⟨a1, a2, a3⟩ := kd_arr hI1 (kd := kdO ρ c) (to := to) (n := j) (c := c) (by omega) (by omega)
      have hs : arr ρ1 c (kdO ρ c) to (j + 1) = arS c (kdO ρ c) to j (arr ρ1 c (kdO ρ c) to j) := itF_snoc0 _ _ _
      rw [hs]
      generalize arr ρ1 c (kdO ρ c) to j = s at *
      have hN : s.1 43 = Int32.ofNat (NE ρ) := by rw [i2 43 (by omega), ← n2']; exact hI1.2.1.1
      have hd : ¬ NE ρ ≤ j := by omega
      obtain ⟨g1, g2⟩ := g
      dsimp only at q1 q2 q3 q4 q5 ⊢
      subst q2
      unfold arS Pcar
      by_cases hp3 : s.1 (86 + 5 * j + 3) = 1
      · by_cases hp4 : s.1 (86 + 5 * j + 4) = Int32.ofNat c
        · by_cases ht : s.1 (86 + 5 * j + 2) = Int32.ofNat to
          · rw [if_pos ⟨decide_eq_true ⟨hp3, hp4⟩, ht⟩]
            have hE := (i1.2.2.2.2.1 j (by omega)).1
            have w1 := WM_up (i := 86 + 5 * j + 3) (v := 2) q1
            have w2 := WM_out (i := 1000) (k := 6) (v := g1 1000 6 + 1) (by omega) w1
            have hd6 : up2 g1 1001 (86 + 5 * j + 3) 2 1000 6 = g1 1000 6 := by rw [up2_ne (by omega)]
            have hE2 : ERR (up1 s.1 (86 + 5 * j + 3) 2) j := by
              unfold ERR at hE ⊢; rw [up1_ne (by omega), up1_ne (by omega), up1_ne (by omega)]; exact hE
            have wy2 : WAY (up1 s.1 (86 + 5 * j + 3) 2) := WAY_congr (fun i hi => up1_ne (by omega)) i1.2.2.2.2.2.2.2.1
            have gw := m_worthOf h w2 wy2 (show j < 8 by omega) hE2
            rw [wth_congr (ρ := s.1) (fun i hi => up1_ne (by omega)) hE (fun f hf => up1_ne (by omega))] at gw
            have w3 := WM_tM (V := nT (FT (up1 s.1 (86 + 5 * j + 3) 2) 0)) w2
            obtain ⟨k1, k2, k3, k4, k5, k6, k7⟩ := i1.2.2.2.1 c (by omega)
            have nd := nDone_up (ρ := s.1) (e := j) (by omega) (by omega) hp3
            have fr : amw σ (tM (up2 (up2 g1 1001 (86 + 5 * j + 3) 2) 1000 6 (g1 1000 6 + 1)) (nT (FT (up1 s.1 (86 + 5 * j + 3) 2) 0))) ∧ mf σ (tM (up2 (up2 g1 1001 (86 + 5 * j + 3) 2) 1000 6 (g1 1000 6 + 1)) (nT (FT (up1 s.1 (86 + 5 * j + 3) 2) 0))) ∧ tM (up2 (up2 g1 1001 (86 + 5 * j + 3) 2) 1000 6 (g1 1000 6 + 1)) (nT (FT (up1 s.1 (86 + 5 * j + 3) 2) 0)) 1000 6 + Int32.ofNat (nDone ρ1) = σ 1000 6 + Int32.ofNat (nDone (up1 s.1 (86 + 5 * j + 3) 2)) := by
              refine ⟨amw_trans q3 (amw_trans (amw_m1f (m1f_up (m1f_refl _))) (amw_trans (fun i k hs _ h6 => by rw [up2_ne h6]) (amw_ag (ag_tM _ _)))), fun i hi => by rw [← q4 i hi]; funext k; rw [tM_ne (by omega), up2_ne (by omega), up2_ne (by omega)], ?_⟩
              rw [tM_ne (by omega), up2_same, nd, ← ofNs, ← Int32.add_assoc, ← q5]
              rw [Int32.add_assoc, Int32.add_comm 1, ← Int32.add_assoc]
            cases hwt : wth s.1 j with
            | none =>
              rw [hwt] at gw
              refine ⟨(tM (up2 (up2 g1 1001 (86 + 5 * j + 3) 2) 1000 6 (g1 1000 6 + 1)) (nT (FT (up1 s.1 (86 + 5 * j + 3) 2) 0)), Int32.ofNat s.2), ?_, w3, rfl, fr⟩
              simp (discharger := first | assumption | omega | decide) only [x_tg, w_tg, m_tg, ↓reduceIte, Option.bind_some, ↓m_0b, ↓m_1b, ↓m_2b, ↓m_3b, ↓m_4b, ↓m_5b, ↓m_6b, ↓m_7b, ↓m_8b, ↓m_9b, ↓m_10b, ↓m_11b, ↓m_12b, ↓m_13b, ↓m_14b, ↓m_15b, ↓m_16b, ↓m_17b, ↓m_18b, ↓m_19b, ↓m_20b, ↓m_21b, ↓m_22b, ↓m_23b, ↓m_24b, ↓m_25b, ↓m_26b, ↓m_27b, ↓m_28b, ↓m_29b, ↓mp_3b, ↓mp_6b, ↓mp_10b, ↓mp_11b, ↓mp_12b, ↓mp_14b, ↓mp_15b, ↓mp_16b, ↓mp_17b, ↓mp_18b, ↓mp_19b, ↓mp_22b, ↓mp_23b, ↓mp_24b, ↓mp_25b, ↓M_42b, ↓M_43b, ↓M_44b, ↓M_45b, ↓cIs_0b, ↓cIs_1b, ↓cIs_2b, ↓cIs_3b, ↓cIs_4b, ↓eIs_0b, ↓eIs_1b, ↓eIs_2b, ↓eIs_3b, ↓eIs_4b, ↓cIs_nb, ↓eIs_nb, ↓M_rb, ↓M_cAt_0b, ↓M_cAt_1b, ↓M_cAt_2b, ↓M_cAt_3b, ↓M_cAt_4b, ↓M_eAt_0b, ↓M_eAt_1b, ↓M_eAt_2b, ↓M_eAt_3b, ↓M_eAt_4b, ↓M_wAt_0b, ↓M_wAt_1b, cAt_0, cAt_1, cAt_2, cAt_3, cAt_4, eAt_0, eAt_1, eAt_2, eAt_3, eAt_4, wAt_0, wAt_1, cAt_n, eAt_n, wAt_n, ↓M_cS_0b, ↓M_cS_1b, ↓M_cS_2b, ↓M_cS_3b, ↓M_cS_4b, ↓M_eS_0b, ↓M_eS_1b, ↓M_eS_2b, ↓M_eS_3b, ↓M_eS_4b, ↓M_wS_0b, ↓M_wS_1b, ↓M_s42b, ↓M_s43b, ↓M_s44b, ↓M_s45b, ↓ms_1001b, ms_1001b, F_X13_walked_L57, F_X13_walked_B57, F_X13_walked_J150, F_X13_walked_J153, hN, ofN_le, hd, eq_true hp3, eq_true hp4, eq_true ht, not_true_eq_false, hd6, ↓cb9 gw, oN, show ¬ (0 : Int32) ≤ -1 by decide, ofNs, Int32.add_zero]
            | some v =>
              have hv := wth_lt i1 (show j < NE s.1 by omega) hwt
              have n5 : (0 : Int32) ≤ Int32.ofNat v := by rw [li_0, ofN_le (by omega) (by omega)]; omega
              rw [hwt] at gw
              have kk1 : up1 s.1 (86 + 5 * j + 3) 2 (56 + 5 * c + 0) = Int32.ofNat (kdO s.1 c) := by rw [up1_ne (by omega)]; exact k1
              have gg := m_getsFor (p := v) h w3 hc6 k4 kk1 (by omega)
              rw [a1, n3] at gg
              refine ⟨(tM (up2 (up2 g1 1001 (86 + 5 * j + 3) 2) 1000 6 (g1 1000 6 + 1)) (nT (FT (up1 s.1 (86 + 5 * j + 3) 2) 0)), Int32.ofNat (s.2 + gv (kdO ρ c) (some v))), ?_, w3, rfl, fr⟩
              simp (discharger := first | assumption | omega | decide) only [x_tg, w_tg, m_tg, ↓reduceIte, Option.bind_some, ↓m_0b, ↓m_1b, ↓m_2b, ↓m_3b, ↓m_4b, ↓m_5b, ↓m_6b, ↓m_7b, ↓m_8b, ↓m_9b, ↓m_10b, ↓m_11b, ↓m_12b, ↓m_13b, ↓m_14b, ↓m_15b, ↓m_16b, ↓m_17b, ↓m_18b, ↓m_19b, ↓m_20b, ↓m_21b, ↓m_22b, ↓m_23b, ↓m_24b, ↓m_25b, ↓m_26b, ↓m_27b, ↓m_28b, ↓m_29b, ↓mp_3b, ↓mp_6b, ↓mp_10b, ↓mp_11b, ↓mp_12b, ↓mp_14b, ↓mp_15b, ↓mp_16b, ↓mp_17b, ↓mp_18b, ↓mp_19b, ↓mp_22b, ↓mp_23b, ↓mp_24b, ↓mp_25b, ↓M_42b, ↓M_43b, ↓M_44b, ↓M_45b, ↓cIs_0b, ↓cIs_1b, ↓cIs_2b, ↓cIs_3b, ↓cIs_4b, ↓eIs_0b, ↓eIs_1b, ↓eIs_2b, ↓eIs_3b, ↓eIs_4b, ↓cIs_nb, ↓eIs_nb, ↓M_rb, ↓M_cAt_0b, ↓M_cAt_1b, ↓M_cAt_2b, ↓M_cAt_3b, ↓M_cAt_4b, ↓M_eAt_0b, ↓M_eAt_1b, ↓M_eAt_2b, ↓M_eAt_3b, ↓M_eAt_4b, ↓M_wAt_0b, ↓M_wAt_1b, cAt_0, cAt_1, cAt_2, cAt_3, cAt_4, eAt_0, eAt_1, eAt_2, eAt_3, eAt_4, wAt_0, wAt_1, cAt_n, eAt_n, wAt_n, ↓M_cS_0b, ↓M_cS_1b, ↓M_cS_2b, ↓M_cS_3b, ↓M_cS_4b, ↓M_eS_0b, ↓M_eS_1b, ↓M_eS_2b, ↓M_eS_3b, ↓M_eS_4b, ↓M_wS_0b, ↓M_wS_1b, ↓M_s42b, ↓M_s43b, ↓M_s44b, ↓M_s45b, ↓ms_1001b, ms_1001b, F_X13_walked_L57, F_X13_walked_B57, F_X13_walked_J150, F_X13_walked_J153, hN, ofN_le, hd, eq_true hp3, eq_true hp4, eq_true ht, not_true_eq_false, hd6, ↓cb9 gw, oN, eq_true n5, ↓bn9 gg, ofNs, ofN_add, gv]
          · rw [if_neg (fun q => ht q.2)]
            refine ⟨(g1, Int32.ofNat s.2), ?_, q1, rfl, q3, q4, q5⟩
            simp (discharger := first | assumption | omega | decide) only [x_tg, w_tg, m_tg, ↓reduceIte, Option.bind_some, ↓m_0b, ↓m_1b, ↓m_2b, ↓m_3b, ↓m_4b, ↓m_5b, ↓m_6b, ↓m_7b, ↓m_8b, ↓m_9b, ↓m_10b, ↓m_11b, ↓m_12b, ↓m_13b, ↓m_14b, ↓m_15b, ↓m_16b, ↓m_17b, ↓m_18b, ↓m_19b, ↓m_20b, ↓m_21b, ↓m_22b, ↓m_23b, ↓m_24b, ↓m_25b, ↓m_26b, ↓m_27b, ↓m_28b, ↓m_29b, ↓mp_3b, ↓mp_6b, ↓mp_10b, ↓mp_11b, ↓mp_12b, ↓mp_14b, ↓mp_15b, ↓mp_16b, ↓mp_17b, ↓mp_18b, ↓mp_19b, ↓mp_22b, ↓mp_23b, ↓mp_24b, ↓mp_25b, ↓M_42b, ↓M_43b, ↓M_44b, ↓M_45b, ↓cIs_0b, ↓cIs_1b, ↓cIs_2b, ↓cIs_3b, ↓cIs_4b, ↓eIs_0b, ↓eIs_1b, ↓eIs_2b, ↓eIs_3b, ↓eIs_4b, ↓cIs_nb, ↓eIs_nb, ↓M_rb, ↓M_cAt_0b, ↓M_cAt_1b, ↓M_cAt_2b, ↓M_cAt_3b, ↓M_cAt_4b, ↓M_eAt_0b, ↓M_eAt_1b, ↓M_eAt_2b, ↓M_eAt_3b, ↓M_eAt_4b, ↓M_wAt_0b, ↓M_wAt_1b, cAt_0, cAt_1, cAt_2, cAt_3, cAt_4, eAt_0, eAt_1, eAt_2, eAt_3, eAt_4, wAt_0, wAt_1, cAt_n, eAt_n, wAt_n, F_X13_walked_L57, F_X13_walked_B57, F_X13_walked_J153, hN, ofN_le, hd, eq_true hp3, eq_true hp4, ht, not_true_eq_false, not_false_eq_true, ofNs]
        · rw [if_neg (fun q => hp4 (of_decide_eq_true q.1).2)]
          refine ⟨(g1, Int32.ofNat s.2), ?_, q1, rfl, q3, q4, q5⟩
          simp (discharger := first | assumption | omega | decide) only [x_tg, w_tg, m_tg, ↓reduceIte, Option.bind_some, ↓m_0b, ↓m_1b, ↓m_2b, ↓m_3b, ↓m_4b, ↓m_5b, ↓m_6b, ↓m_7b, ↓m_8b, ↓m_9b, ↓m_10b, ↓m_11b, ↓m_12b, ↓m_13b, ↓m_14b, ↓m_15b, ↓m_16b, ↓m_17b, ↓m_18b, ↓m_19b, ↓m_20b, ↓m_21b, ↓m_22b, ↓m_23b, ↓m_24b, ↓m_25b, ↓m_26b, ↓m_27b, ↓m_28b, ↓m_29b, ↓mp_3b, ↓mp_6b, ↓mp_10b, ↓mp_11b, ↓mp_12b, ↓mp_14b, ↓mp_15b, ↓mp_16b, ↓mp_17b, ↓mp_18b, ↓mp_19b, ↓mp_22b, ↓mp_23b, ↓mp_24b, ↓mp_25b, ↓M_42b, ↓M_43b, ↓M_44b, ↓M_45b, ↓cIs_0b, ↓cIs_1b, ↓cIs_2b, ↓cIs_3b, ↓cIs_4b, ↓eIs_0b, ↓eIs_1b, ↓eIs_2b, ↓eIs_3b, ↓eIs_4b, ↓cIs_nb, ↓eIs_nb, ↓M_rb, ↓M_cAt_0b, ↓M_cAt_1b, ↓M_cAt_2b, ↓M_cAt_3b, ↓M_cAt_4b, ↓M_eAt_0b, ↓M_eAt_1b, ↓M_eAt_2b, ↓M_eAt_3b, ↓M_eAt_4b, ↓M_wAt_0b, ↓M_wAt_1b, cAt_0, cAt_1, cAt_2, cAt_3, cAt_4, eAt_0, eAt_1, eAt_2, eAt_3, eAt_4, wAt_0, wAt_1, cAt_n, eAt_n, wAt_n, F_X13_walked_L57, F_X13_walked_B57, F_X13_walked_J153, hN, ofN_le, hd, eq_true hp3, hp4, not_true_eq_false, not_false_eq_true, ofNs]
      · rw [if_neg (fun q => hp3 (of_decide_eq_true q.1).1)]
        refine ⟨(g1, Int32.ofNat s.2), ?_, q1, rfl, q3, q4, q5⟩
        simp (discharger := first | assumption | omega | decide) only [x_tg, w_tg, m_tg, ↓reduceIte, Option.bind_some, ↓m_0b, ↓m_1b, ↓m_2b, ↓m_3b, ↓m_4b, ↓m_5b, ↓m_6b, ↓m_7b, ↓m_8b, ↓m_9b, ↓m_10b, ↓m_11b, ↓m_12b, ↓m_13b, ↓m_14b, ↓m_15b, ↓m_16b, ↓m_17b, ↓m_18b, ↓m_19b, ↓m_20b, ↓m_21b, ↓m_22b, ↓m_23b, ↓m_24b, ↓m_25b, ↓m_26b, ↓m_27b, ↓m_28b, ↓m_29b, ↓mp_3b, ↓mp_6b, ↓mp_10b, ↓mp_11b, ↓mp_12b, ↓mp_14b, ↓mp_15b, ↓mp_16b, ↓mp_17b, ↓mp_18b, ↓mp_19b, ↓mp_22b, ↓mp_23b, ↓mp_24b, ↓mp_25b, ↓M_42b, ↓M_43b, ↓M_44b, ↓M_45b, ↓cIs_0b, ↓cIs_1b, ↓cIs_2b, ↓cIs_3b, ↓cIs_4b, ↓eIs_0b, ↓eIs_1b, ↓eIs_2b, ↓eIs_3b, ↓eIs_4b, ↓cIs_nb, ↓eIs_nb, ↓M_rb, ↓M_cAt_0b, ↓M_cAt_1b, ↓M_cAt_2b, ↓M_cAt_3b, ↓M_cAt_4b, ↓M_eAt_0b, ↓M_eAt_1b, ↓M_eAt_2b, ↓M_eAt_3b, ↓M_eAt_4b, ↓M_wAt_0b, ↓M_wAt_1b, cAt_0, cAt_1, cAt_2, cAt_3, cAt_4, eAt_0, eAt_1, eAt_2, eAt_3, eAt_4, wAt_0, wAt_1, cAt_n, eAt_n, wAt_n, F_X13_walked_L57, F_X13_walked_B57, F_X13_walked_J153, hN, ofN_le, hd, hp3, not_false_eq_true, ofNs]
  · rw [if_neg hf, if_neg hf]
    have n2 : ¬ Int32.ofNat (FT ρ (kdO ρ c) (plO ρ c) to) < 1000000 := by rw [li_1000000, ofN_lt (by omega) (by omega)]; exact hf
    refine ⟨tM σ (nT (FT ρ (kdO ρ c))), ?_, WM_tM hM, amw_ag (ag_tM _ _), fun i hi => tM_ne (by omega), by rw [tM_ne (by omega)]⟩
    unfold F_X13_walked
    simp (discharger := first | assumption | omega | decide) only [x_tg, w_tg, m_tg, ↓reduceIte, Option.bind_some, ↓m_0b, ↓m_1b, ↓m_2b, ↓m_3b, ↓m_4b, ↓m_5b, ↓m_6b, ↓m_7b, ↓m_8b, ↓m_9b, ↓m_10b, ↓m_11b, ↓m_12b, ↓m_13b, ↓m_14b, ↓m_15b, ↓m_16b, ↓m_17b, ↓m_18b, ↓m_19b, ↓m_20b, ↓m_21b, ↓m_22b, ↓m_23b, ↓m_24b, ↓m_25b, ↓m_26b, ↓m_27b, ↓m_28b, ↓m_29b, ↓mp_3b, ↓mp_6b, ↓mp_10b, ↓mp_11b, ↓mp_12b, ↓mp_14b, ↓mp_15b, ↓mp_16b, ↓mp_17b, ↓mp_18b, ↓mp_19b, ↓mp_22b, ↓mp_23b, ↓mp_24b, ↓mp_25b, ↓M_42b, ↓M_43b, ↓M_44b, ↓M_45b, ↓cIs_0b, ↓cIs_1b, ↓cIs_2b, ↓cIs_3b, ↓cIs_4b, ↓eIs_0b, ↓eIs_1b, ↓eIs_2b, ↓eIs_3b, ↓eIs_4b, ↓cIs_nb, ↓eIs_nb, ↓M_rb, ↓M_cAt_0b, ↓M_cAt_1b, ↓M_cAt_2b, ↓M_cAt_3b, ↓M_cAt_4b, ↓M_eAt_0b, ↓M_eAt_1b, ↓M_eAt_2b, ↓M_eAt_3b, ↓M_eAt_4b, ↓M_wAt_0b, ↓M_wAt_1b, cAt_0, cAt_1, cAt_2, cAt_3, cAt_4, eAt_0, eAt_1, eAt_2, eAt_3, eAt_4, wAt_0, wAt_1, cAt_n, eAt_n, wAt_n, ↓M_cS_0b, ↓M_cS_1b, ↓M_cS_2b, ↓M_cS_3b, ↓M_cS_4b, ↓M_eS_0b, ↓M_eS_1b, ↓M_eS_2b, ↓M_eS_3b, ↓M_eS_4b, ↓M_wS_0b, ↓M_wS_1b, ↓M_s42b, ↓M_s43b, ↓M_s44b, ↓M_s45b, ↓ms_1001b, ms_1001b, ↓cb9 gm, n2]
end L4f
