/-! ### a world's reads and writes -/
section L2w
variable {L : Lt} {σ : St} {b n : Nat} {v : Int32}
theorem wf_0 (h : Lok L) (hb : isW b = true) : fI (hp L σ) (some (L.1 b)) 4 0 = some (σ b 0) := w_fI h hb rfl
theorem wp_0 (h : Lok L) (hb : isW b = true) : pV (hp L σ) (some (L.1 b)) 4 0 (.int v) = some (hp L (up2 σ b 0 v)) := w_pV h hb rfl
theorem wf_1 (h : Lok L) (hb : isW b = true) : fA (hp L σ) (some (L.1 b)) 4 1 = some (some (L.1 (b + 1))) := w_fA h hb rfl
theorem wf_2 (h : Lok L) (hb : isW b = true) : fI (hp L σ) (some (L.1 b)) 4 2 = some (σ b 2) := w_fI h hb rfl
theorem wp_2 (h : Lok L) (hb : isW b = true) : pV (hp L σ) (some (L.1 b)) 4 2 (.int v) = some (hp L (up2 σ b 2 v)) := w_pV h hb rfl
theorem wf_3 (h : Lok L) (hb : isW b = true) : fA (hp L σ) (some (L.1 b)) 4 3 = some (some (L.1 (b + 11))) := w_fA h hb rfl
theorem wf_4 (h : Lok L) (hb : isW b = true) : fI (hp L σ) (some (L.1 b)) 4 4 = some (σ b 4) := w_fI h hb rfl
theorem wp_4 (h : Lok L) (hb : isW b = true) : pV (hp L σ) (some (L.1 b)) 4 4 (.int v) = some (hp L (up2 σ b 4 v)) := w_pV h hb rfl
theorem wf_5 (h : Lok L) (hb : isW b = true) : fA (hp L σ) (some (L.1 b)) 4 5 = some (some (L.1 (b + 21))) := w_fA h hb rfl
theorem wf_6 (h : Lok L) (hb : isW b = true) : fA (hp L σ) (some (L.1 b)) 4 6 = some (some (L.1 (b + 31))) := w_fA h hb rfl
theorem wf_7 (h : Lok L) (hb : isW b = true) : fA (hp L σ) (some (L.1 b)) 4 7 = some (some (L.1 (b + 41))) := w_fA h hb rfl
theorem wf_8 (h : Lok L) (hb : isW b = true) : fI (hp L σ) (some (L.1 b)) 4 8 = some (σ b 8) := w_fI h hb rfl
theorem wp_8 (h : Lok L) (hb : isW b = true) : pV (hp L σ) (some (L.1 b)) 4 8 (.int v) = some (hp L (up2 σ b 8 v)) := w_pV h hb rfl
theorem wf_9 (h : Lok L) (hb : isW b = true) : fA (hp L σ) (some (L.1 b)) 4 9 = some (some (L.1 (b + 51))) := w_fA h hb rfl
theorem wt_1_0 (h : Lok L) (hb : isW b = true) : aA (hp L σ) (some (L.1 (b + 1))) 103 0 = some (some (L.1 (b + 2))) := w_aA (n := 0) h hb (by decide) (by decide) rfl (by decide) (by decide) rfl
theorem wt_1_1 (h : Lok L) (hb : isW b = true) : aA (hp L σ) (some (L.1 (b + 1))) 103 1 = some (some (L.1 (b + 3))) := w_aA (n := 1) h hb (by decide) (by decide) rfl (by decide) (by decide) rfl
theorem wt_1_2 (h : Lok L) (hb : isW b = true) : aA (hp L σ) (some (L.1 (b + 1))) 103 2 = some (some (L.1 (b + 4))) := w_aA (n := 2) h hb (by decide) (by decide) rfl (by decide) (by decide) rfl
theorem wt_1_3 (h : Lok L) (hb : isW b = true) : aA (hp L σ) (some (L.1 (b + 1))) 103 3 = some (some (L.1 (b + 5))) := w_aA (n := 3) h hb (by decide) (by decide) rfl (by decide) (by decide) rfl
theorem wt_1_4 (h : Lok L) (hb : isW b = true) : aA (hp L σ) (some (L.1 (b + 1))) 103 4 = some (some (L.1 (b + 6))) := w_aA (n := 4) h hb (by decide) (by decide) rfl (by decide) (by decide) rfl
theorem wt_1 (h : Lok L) (hb : isW b = true) (hn : n < 5) : aA (hp L σ) (some (L.1 (b + 1))) 103 (Int32.ofNat n) = some (some (L.1 (b + 2 + n))) := w_aA h hb (by decide) (by decide) rfl hn (by omega) (by simp [wP, hn])
theorem wl_1 (h : Lok L) (hb : isW b = true) : aL (hp L σ) (some (L.1 (b + 1))) = some 5 := by
  have q := wS (b := b) (j := 1) hb (by decide) (by decide)
  rw [h.aL (sid_of q.1) (by rw [q.2.1]; decide), q.2.1]; rfl
theorem wt_11_0 (h : Lok L) (hb : isW b = true) : aA (hp L σ) (some (L.1 (b + 11))) 103 0 = some (some (L.1 (b + 12))) := w_aA (n := 0) h hb (by decide) (by decide) rfl (by decide) (by decide) rfl
theorem wt_11_1 (h : Lok L) (hb : isW b = true) : aA (hp L σ) (some (L.1 (b + 11))) 103 1 = some (some (L.1 (b + 13))) := w_aA (n := 1) h hb (by decide) (by decide) rfl (by decide) (by decide) rfl
theorem wt_11_2 (h : Lok L) (hb : isW b = true) : aA (hp L σ) (some (L.1 (b + 11))) 103 2 = some (some (L.1 (b + 14))) := w_aA (n := 2) h hb (by decide) (by decide) rfl (by decide) (by decide) rfl
theorem wt_11_3 (h : Lok L) (hb : isW b = true) : aA (hp L σ) (some (L.1 (b + 11))) 103 3 = some (some (L.1 (b + 15))) := w_aA (n := 3) h hb (by decide) (by decide) rfl (by decide) (by decide) rfl
theorem wt_11_4 (h : Lok L) (hb : isW b = true) : aA (hp L σ) (some (L.1 (b + 11))) 103 4 = some (some (L.1 (b + 16))) := w_aA (n := 4) h hb (by decide) (by decide) rfl (by decide) (by decide) rfl
theorem wt_11 (h : Lok L) (hb : isW b = true) (hn : n < 5) : aA (hp L σ) (some (L.1 (b + 11))) 103 (Int32.ofNat n) = some (some (L.1 (b + 12 + n))) := w_aA h hb (by decide) (by decide) rfl hn (by omega) (by simp [wP, hn])
theorem wl_11 (h : Lok L) (hb : isW b = true) : aL (hp L σ) (some (L.1 (b + 11))) = some 5 := by
  have q := wS (b := b) (j := 11) hb (by decide) (by decide)
  rw [h.aL (sid_of q.1) (by rw [q.2.1]; decide), q.2.1]; rfl
theorem wt_21_0 (h : Lok L) (hb : isW b = true) : aA (hp L σ) (some (L.1 (b + 21))) 103 0 = some (some (L.1 (b + 22))) := w_aA (n := 0) h hb (by decide) (by decide) rfl (by decide) (by decide) rfl
theorem wt_21_1 (h : Lok L) (hb : isW b = true) : aA (hp L σ) (some (L.1 (b + 21))) 103 1 = some (some (L.1 (b + 23))) := w_aA (n := 1) h hb (by decide) (by decide) rfl (by decide) (by decide) rfl
theorem wt_21 (h : Lok L) (hb : isW b = true) (hn : n < 2) : aA (hp L σ) (some (L.1 (b + 21))) 103 (Int32.ofNat n) = some (some (L.1 (b + 22 + n))) := w_aA h hb (by decide) (by decide) rfl hn (by omega) (by simp [wP, hn])
theorem wl_21 (h : Lok L) (hb : isW b = true) : aL (hp L σ) (some (L.1 (b + 21))) = some 2 := by
  have q := wS (b := b) (j := 21) hb (by decide) (by decide)
  rw [h.aL (sid_of q.1) (by rw [q.2.1]; decide), q.2.1]; rfl
theorem wt_31_0 (h : Lok L) (hb : isW b = true) : aA (hp L σ) (some (L.1 (b + 31))) 103 0 = some (some (L.1 (b + 32))) := w_aA (n := 0) h hb (by decide) (by decide) rfl (by decide) (by decide) rfl
theorem wt_31_1 (h : Lok L) (hb : isW b = true) : aA (hp L σ) (some (L.1 (b + 31))) 103 1 = some (some (L.1 (b + 33))) := w_aA (n := 1) h hb (by decide) (by decide) rfl (by decide) (by decide) rfl
theorem wt_31_2 (h : Lok L) (hb : isW b = true) : aA (hp L σ) (some (L.1 (b + 31))) 103 2 = some (some (L.1 (b + 34))) := w_aA (n := 2) h hb (by decide) (by decide) rfl (by decide) (by decide) rfl
theorem wt_31_3 (h : Lok L) (hb : isW b = true) : aA (hp L σ) (some (L.1 (b + 31))) 103 3 = some (some (L.1 (b + 35))) := w_aA (n := 3) h hb (by decide) (by decide) rfl (by decide) (by decide) rfl
theorem wt_31_4 (h : Lok L) (hb : isW b = true) : aA (hp L σ) (some (L.1 (b + 31))) 103 4 = some (some (L.1 (b + 36))) := w_aA (n := 4) h hb (by decide) (by decide) rfl (by decide) (by decide) rfl
theorem wt_31_5 (h : Lok L) (hb : isW b = true) : aA (hp L σ) (some (L.1 (b + 31))) 103 5 = some (some (L.1 (b + 37))) := w_aA (n := 5) h hb (by decide) (by decide) rfl (by decide) (by decide) rfl
theorem wt_31_6 (h : Lok L) (hb : isW b = true) : aA (hp L σ) (some (L.1 (b + 31))) 103 6 = some (some (L.1 (b + 38))) := w_aA (n := 6) h hb (by decide) (by decide) rfl (by decide) (by decide) rfl
theorem wt_31 (h : Lok L) (hb : isW b = true) (hn : n < 7) : aA (hp L σ) (some (L.1 (b + 31))) 103 (Int32.ofNat n) = some (some (L.1 (b + 32 + n))) := w_aA h hb (by decide) (by decide) rfl hn (by omega) (by simp [wP, hn])
theorem wl_31 (h : Lok L) (hb : isW b = true) : aL (hp L σ) (some (L.1 (b + 31))) = some 7 := by
  have q := wS (b := b) (j := 31) hb (by decide) (by decide)
  rw [h.aL (sid_of q.1) (by rw [q.2.1]; decide), q.2.1]; rfl
theorem wt_41_0 (h : Lok L) (hb : isW b = true) : aA (hp L σ) (some (L.1 (b + 41))) 103 0 = some (some (L.1 (b + 42))) := w_aA (n := 0) h hb (by decide) (by decide) rfl (by decide) (by decide) rfl
theorem wt_41_1 (h : Lok L) (hb : isW b = true) : aA (hp L σ) (some (L.1 (b + 41))) 103 1 = some (some (L.1 (b + 43))) := w_aA (n := 1) h hb (by decide) (by decide) rfl (by decide) (by decide) rfl
theorem wt_41_2 (h : Lok L) (hb : isW b = true) : aA (hp L σ) (some (L.1 (b + 41))) 103 2 = some (some (L.1 (b + 44))) := w_aA (n := 2) h hb (by decide) (by decide) rfl (by decide) (by decide) rfl
theorem wt_41_3 (h : Lok L) (hb : isW b = true) : aA (hp L σ) (some (L.1 (b + 41))) 103 3 = some (some (L.1 (b + 45))) := w_aA (n := 3) h hb (by decide) (by decide) rfl (by decide) (by decide) rfl
theorem wt_41_4 (h : Lok L) (hb : isW b = true) : aA (hp L σ) (some (L.1 (b + 41))) 103 4 = some (some (L.1 (b + 46))) := w_aA (n := 4) h hb (by decide) (by decide) rfl (by decide) (by decide) rfl
theorem wt_41_5 (h : Lok L) (hb : isW b = true) : aA (hp L σ) (some (L.1 (b + 41))) 103 5 = some (some (L.1 (b + 47))) := w_aA (n := 5) h hb (by decide) (by decide) rfl (by decide) (by decide) rfl
theorem wt_41_6 (h : Lok L) (hb : isW b = true) : aA (hp L σ) (some (L.1 (b + 41))) 103 6 = some (some (L.1 (b + 48))) := w_aA (n := 6) h hb (by decide) (by decide) rfl (by decide) (by decide) rfl
theorem wt_41 (h : Lok L) (hb : isW b = true) (hn : n < 7) : aA (hp L σ) (some (L.1 (b + 41))) 103 (Int32.ofNat n) = some (some (L.1 (b + 42 + n))) := w_aA h hb (by decide) (by decide) rfl hn (by omega) (by simp [wP, hn])
theorem wl_41 (h : Lok L) (hb : isW b = true) : aL (hp L σ) (some (L.1 (b + 41))) = some 7 := by
  have q := wS (b := b) (j := 41) hb (by decide) (by decide)
  rw [h.aL (sid_of q.1) (by rw [q.2.1]; decide), q.2.1]; rfl
theorem wi_2 (h : Lok L) (hb : isW b = true) (hn : n < 6) : aI (hp L σ) (some (L.1 (b + 2))) 100 (Int32.ofNat n) = some (σ (b + 2) n) := w_aI h hb (by decide) (by decide) rfl hn (by omega) rfl
theorem ws_2 (h : Lok L) (hb : isW b = true) (hn : n < 6) : aS (hp L σ) (some (L.1 (b + 2))) 100 (Int32.ofNat n) (.int v) = some (hp L (up2 σ (b + 2) n v)) := w_aS h hb (by decide) (by decide) rfl hn (by omega) rfl
theorem wn_2 (h : Lok L) (hb : isW b = true) : aL (hp L σ) (some (L.1 (b + 2))) = some 6 := by
  have q := wS (b := b) (j := 2) hb (by decide) (by decide)
  rw [h.aL (sid_of q.1) (by rw [q.2.1]; decide), q.2.1]; rfl
theorem wi_3 (h : Lok L) (hb : isW b = true) (hn : n < 6) : aI (hp L σ) (some (L.1 (b + 3))) 100 (Int32.ofNat n) = some (σ (b + 3) n) := w_aI h hb (by decide) (by decide) rfl hn (by omega) rfl
theorem ws_3 (h : Lok L) (hb : isW b = true) (hn : n < 6) : aS (hp L σ) (some (L.1 (b + 3))) 100 (Int32.ofNat n) (.int v) = some (hp L (up2 σ (b + 3) n v)) := w_aS h hb (by decide) (by decide) rfl hn (by omega) rfl
theorem wn_3 (h : Lok L) (hb : isW b = true) : aL (hp L σ) (some (L.1 (b + 3))) = some 6 := by
  have q := wS (b := b) (j := 3) hb (by decide) (by decide)
  rw [h.aL (sid_of q.1) (by rw [q.2.1]; decide), q.2.1]; rfl
theorem wi_4 (h : Lok L) (hb : isW b = true) (hn : n < 6) : aI (hp L σ) (some (L.1 (b + 4))) 100 (Int32.ofNat n) = some (σ (b + 4) n) := w_aI h hb (by decide) (by decide) rfl hn (by omega) rfl
theorem ws_4 (h : Lok L) (hb : isW b = true) (hn : n < 6) : aS (hp L σ) (some (L.1 (b + 4))) 100 (Int32.ofNat n) (.int v) = some (hp L (up2 σ (b + 4) n v)) := w_aS h hb (by decide) (by decide) rfl hn (by omega) rfl
theorem wn_4 (h : Lok L) (hb : isW b = true) : aL (hp L σ) (some (L.1 (b + 4))) = some 6 := by
  have q := wS (b := b) (j := 4) hb (by decide) (by decide)
  rw [h.aL (sid_of q.1) (by rw [q.2.1]; decide), q.2.1]; rfl
theorem wi_5 (h : Lok L) (hb : isW b = true) (hn : n < 6) : aI (hp L σ) (some (L.1 (b + 5))) 100 (Int32.ofNat n) = some (σ (b + 5) n) := w_aI h hb (by decide) (by decide) rfl hn (by omega) rfl
theorem ws_5 (h : Lok L) (hb : isW b = true) (hn : n < 6) : aS (hp L σ) (some (L.1 (b + 5))) 100 (Int32.ofNat n) (.int v) = some (hp L (up2 σ (b + 5) n v)) := w_aS h hb (by decide) (by decide) rfl hn (by omega) rfl
theorem wn_5 (h : Lok L) (hb : isW b = true) : aL (hp L σ) (some (L.1 (b + 5))) = some 6 := by
  have q := wS (b := b) (j := 5) hb (by decide) (by decide)
  rw [h.aL (sid_of q.1) (by rw [q.2.1]; decide), q.2.1]; rfl
theorem wi_6 (h : Lok L) (hb : isW b = true) (hn : n < 6) : aI (hp L σ) (some (L.1 (b + 6))) 100 (Int32.ofNat n) = some (σ (b + 6) n) := w_aI h hb (by decide) (by decide) rfl hn (by omega) rfl
theorem ws_6 (h : Lok L) (hb : isW b = true) (hn : n < 6) : aS (hp L σ) (some (L.1 (b + 6))) 100 (Int32.ofNat n) (.int v) = some (hp L (up2 σ (b + 6) n v)) := w_aS h hb (by decide) (by decide) rfl hn (by omega) rfl
theorem wn_6 (h : Lok L) (hb : isW b = true) : aL (hp L σ) (some (L.1 (b + 6))) = some 6 := by
  have q := wS (b := b) (j := 6) hb (by decide) (by decide)
  rw [h.aL (sid_of q.1) (by rw [q.2.1]; decide), q.2.1]; rfl
theorem wi_12 (h : Lok L) (hb : isW b = true) (hn : n < 8) : aI (hp L σ) (some (L.1 (b + 12))) 100 (Int32.ofNat n) = some (σ (b + 12) n) := w_aI h hb (by decide) (by decide) rfl hn (by omega) rfl
theorem ws_12 (h : Lok L) (hb : isW b = true) (hn : n < 8) : aS (hp L σ) (some (L.1 (b + 12))) 100 (Int32.ofNat n) (.int v) = some (hp L (up2 σ (b + 12) n v)) := w_aS h hb (by decide) (by decide) rfl hn (by omega) rfl
theorem wn_12 (h : Lok L) (hb : isW b = true) : aL (hp L σ) (some (L.1 (b + 12))) = some 8 := by
  have q := wS (b := b) (j := 12) hb (by decide) (by decide)
  rw [h.aL (sid_of q.1) (by rw [q.2.1]; decide), q.2.1]; rfl
theorem wi_13 (h : Lok L) (hb : isW b = true) (hn : n < 8) : aI (hp L σ) (some (L.1 (b + 13))) 100 (Int32.ofNat n) = some (σ (b + 13) n) := w_aI h hb (by decide) (by decide) rfl hn (by omega) rfl
theorem ws_13 (h : Lok L) (hb : isW b = true) (hn : n < 8) : aS (hp L σ) (some (L.1 (b + 13))) 100 (Int32.ofNat n) (.int v) = some (hp L (up2 σ (b + 13) n v)) := w_aS h hb (by decide) (by decide) rfl hn (by omega) rfl
theorem wn_13 (h : Lok L) (hb : isW b = true) : aL (hp L σ) (some (L.1 (b + 13))) = some 8 := by
  have q := wS (b := b) (j := 13) hb (by decide) (by decide)
  rw [h.aL (sid_of q.1) (by rw [q.2.1]; decide), q.2.1]; rfl
theorem wi_14 (h : Lok L) (hb : isW b = true) (hn : n < 8) : aI (hp L σ) (some (L.1 (b + 14))) 100 (Int32.ofNat n) = some (σ (b + 14) n) := w_aI h hb (by decide) (by decide) rfl hn (by omega) rfl
theorem ws_14 (h : Lok L) (hb : isW b = true) (hn : n < 8) : aS (hp L σ) (some (L.1 (b + 14))) 100 (Int32.ofNat n) (.int v) = some (hp L (up2 σ (b + 14) n v)) := w_aS h hb (by decide) (by decide) rfl hn (by omega) rfl
theorem wn_14 (h : Lok L) (hb : isW b = true) : aL (hp L σ) (some (L.1 (b + 14))) = some 8 := by
  have q := wS (b := b) (j := 14) hb (by decide) (by decide)
  rw [h.aL (sid_of q.1) (by rw [q.2.1]; decide), q.2.1]; rfl
theorem wi_15 (h : Lok L) (hb : isW b = true) (hn : n < 8) : aI (hp L σ) (some (L.1 (b + 15))) 100 (Int32.ofNat n) = some (σ (b + 15) n) := w_aI h hb (by decide) (by decide) rfl hn (by omega) rfl
theorem ws_15 (h : Lok L) (hb : isW b = true) (hn : n < 8) : aS (hp L σ) (some (L.1 (b + 15))) 100 (Int32.ofNat n) (.int v) = some (hp L (up2 σ (b + 15) n v)) := w_aS h hb (by decide) (by decide) rfl hn (by omega) rfl
theorem wn_15 (h : Lok L) (hb : isW b = true) : aL (hp L σ) (some (L.1 (b + 15))) = some 8 := by
  have q := wS (b := b) (j := 15) hb (by decide) (by decide)
  rw [h.aL (sid_of q.1) (by rw [q.2.1]; decide), q.2.1]; rfl
theorem wi_16 (h : Lok L) (hb : isW b = true) (hn : n < 8) : aI (hp L σ) (some (L.1 (b + 16))) 100 (Int32.ofNat n) = some (σ (b + 16) n) := w_aI h hb (by decide) (by decide) rfl hn (by omega) rfl
theorem ws_16 (h : Lok L) (hb : isW b = true) (hn : n < 8) : aS (hp L σ) (some (L.1 (b + 16))) 100 (Int32.ofNat n) (.int v) = some (hp L (up2 σ (b + 16) n v)) := w_aS h hb (by decide) (by decide) rfl hn (by omega) rfl
theorem wn_16 (h : Lok L) (hb : isW b = true) : aL (hp L σ) (some (L.1 (b + 16))) = some 8 := by
  have q := wS (b := b) (j := 16) hb (by decide) (by decide)
  rw [h.aL (sid_of q.1) (by rw [q.2.1]; decide), q.2.1]; rfl
theorem wi_22 (h : Lok L) (hb : isW b = true) (hn : n < 6) : aI (hp L σ) (some (L.1 (b + 22))) 100 (Int32.ofNat n) = some (σ (b + 22) n) := w_aI h hb (by decide) (by decide) rfl hn (by omega) rfl
theorem ws_22 (h : Lok L) (hb : isW b = true) (hn : n < 6) : aS (hp L σ) (some (L.1 (b + 22))) 100 (Int32.ofNat n) (.int v) = some (hp L (up2 σ (b + 22) n v)) := w_aS h hb (by decide) (by decide) rfl hn (by omega) rfl
theorem wn_22 (h : Lok L) (hb : isW b = true) : aL (hp L σ) (some (L.1 (b + 22))) = some 6 := by
  have q := wS (b := b) (j := 22) hb (by decide) (by decide)
  rw [h.aL (sid_of q.1) (by rw [q.2.1]; decide), q.2.1]; rfl
theorem wi_23 (h : Lok L) (hb : isW b = true) (hn : n < 6) : aI (hp L σ) (some (L.1 (b + 23))) 100 (Int32.ofNat n) = some (σ (b + 23) n) := w_aI h hb (by decide) (by decide) rfl hn (by omega) rfl
theorem ws_23 (h : Lok L) (hb : isW b = true) (hn : n < 6) : aS (hp L σ) (some (L.1 (b + 23))) 100 (Int32.ofNat n) (.int v) = some (hp L (up2 σ (b + 23) n v)) := w_aS h hb (by decide) (by decide) rfl hn (by omega) rfl
theorem wn_23 (h : Lok L) (hb : isW b = true) : aL (hp L σ) (some (L.1 (b + 23))) = some 6 := by
  have q := wS (b := b) (j := 23) hb (by decide) (by decide)
  rw [h.aL (sid_of q.1) (by rw [q.2.1]; decide), q.2.1]; rfl
theorem wi_32 (h : Lok L) (hb : isW b = true) (hn : n < 7) : aI (hp L σ) (some (L.1 (b + 32))) 100 (Int32.ofNat n) = some (σ (b + 32) n) := w_aI h hb (by decide) (by decide) rfl hn (by omega) rfl
theorem ws_32 (h : Lok L) (hb : isW b = true) (hn : n < 7) : aS (hp L σ) (some (L.1 (b + 32))) 100 (Int32.ofNat n) (.int v) = some (hp L (up2 σ (b + 32) n v)) := w_aS h hb (by decide) (by decide) rfl hn (by omega) rfl
theorem wn_32 (h : Lok L) (hb : isW b = true) : aL (hp L σ) (some (L.1 (b + 32))) = some 7 := by
  have q := wS (b := b) (j := 32) hb (by decide) (by decide)
  rw [h.aL (sid_of q.1) (by rw [q.2.1]; decide), q.2.1]; rfl
theorem wi_33 (h : Lok L) (hb : isW b = true) (hn : n < 7) : aI (hp L σ) (some (L.1 (b + 33))) 100 (Int32.ofNat n) = some (σ (b + 33) n) := w_aI h hb (by decide) (by decide) rfl hn (by omega) rfl
theorem ws_33 (h : Lok L) (hb : isW b = true) (hn : n < 7) : aS (hp L σ) (some (L.1 (b + 33))) 100 (Int32.ofNat n) (.int v) = some (hp L (up2 σ (b + 33) n v)) := w_aS h hb (by decide) (by decide) rfl hn (by omega) rfl
theorem wn_33 (h : Lok L) (hb : isW b = true) : aL (hp L σ) (some (L.1 (b + 33))) = some 7 := by
  have q := wS (b := b) (j := 33) hb (by decide) (by decide)
  rw [h.aL (sid_of q.1) (by rw [q.2.1]; decide), q.2.1]; rfl
theorem wi_34 (h : Lok L) (hb : isW b = true) (hn : n < 7) : aI (hp L σ) (some (L.1 (b + 34))) 100 (Int32.ofNat n) = some (σ (b + 34) n) := w_aI h hb (by decide) (by decide) rfl hn (by omega) rfl
theorem ws_34 (h : Lok L) (hb : isW b = true) (hn : n < 7) : aS (hp L σ) (some (L.1 (b + 34))) 100 (Int32.ofNat n) (.int v) = some (hp L (up2 σ (b + 34) n v)) := w_aS h hb (by decide) (by decide) rfl hn (by omega) rfl
theorem wn_34 (h : Lok L) (hb : isW b = true) : aL (hp L σ) (some (L.1 (b + 34))) = some 7 := by
  have q := wS (b := b) (j := 34) hb (by decide) (by decide)
  rw [h.aL (sid_of q.1) (by rw [q.2.1]; decide), q.2.1]; rfl
theorem wi_35 (h : Lok L) (hb : isW b = true) (hn : n < 7) : aI (hp L σ) (some (L.1 (b + 35))) 100 (Int32.ofNat n) = some (σ (b + 35) n) := w_aI h hb (by decide) (by decide) rfl hn (by omega) rfl
theorem ws_35 (h : Lok L) (hb : isW b = true) (hn : n < 7) : aS (hp L σ) (some (L.1 (b + 35))) 100 (Int32.ofNat n) (.int v) = some (hp L (up2 σ (b + 35) n v)) := w_aS h hb (by decide) (by decide) rfl hn (by omega) rfl
theorem wn_35 (h : Lok L) (hb : isW b = true) : aL (hp L σ) (some (L.1 (b + 35))) = some 7 := by
  have q := wS (b := b) (j := 35) hb (by decide) (by decide)
  rw [h.aL (sid_of q.1) (by rw [q.2.1]; decide), q.2.1]; rfl
theorem wi_36 (h : Lok L) (hb : isW b = true) (hn : n < 7) : aI (hp L σ) (some (L.1 (b + 36))) 100 (Int32.ofNat n) = some (σ (b + 36) n) := w_aI h hb (by decide) (by decide) rfl hn (by omega) rfl
theorem ws_36 (h : Lok L) (hb : isW b = true) (hn : n < 7) : aS (hp L σ) (some (L.1 (b + 36))) 100 (Int32.ofNat n) (.int v) = some (hp L (up2 σ (b + 36) n v)) := w_aS h hb (by decide) (by decide) rfl hn (by omega) rfl
theorem wn_36 (h : Lok L) (hb : isW b = true) : aL (hp L σ) (some (L.1 (b + 36))) = some 7 := by
  have q := wS (b := b) (j := 36) hb (by decide) (by decide)
  rw [h.aL (sid_of q.1) (by rw [q.2.1]; decide), q.2.1]; rfl
theorem wi_37 (h : Lok L) (hb : isW b = true) (hn : n < 7) : aI (hp L σ) (some (L.1 (b + 37))) 100 (Int32.ofNat n) = some (σ (b + 37) n) := w_aI h hb (by decide) (by decide) rfl hn (by omega) rfl
theorem ws_37 (h : Lok L) (hb : isW b = true) (hn : n < 7) : aS (hp L σ) (some (L.1 (b + 37))) 100 (Int32.ofNat n) (.int v) = some (hp L (up2 σ (b + 37) n v)) := w_aS h hb (by decide) (by decide) rfl hn (by omega) rfl
theorem wn_37 (h : Lok L) (hb : isW b = true) : aL (hp L σ) (some (L.1 (b + 37))) = some 7 := by
  have q := wS (b := b) (j := 37) hb (by decide) (by decide)
  rw [h.aL (sid_of q.1) (by rw [q.2.1]; decide), q.2.1]; rfl
theorem wi_38 (h : Lok L) (hb : isW b = true) (hn : n < 7) : aI (hp L σ) (some (L.1 (b + 38))) 100 (Int32.ofNat n) = some (σ (b + 38) n) := w_aI h hb (by decide) (by decide) rfl hn (by omega) rfl
theorem ws_38 (h : Lok L) (hb : isW b = true) (hn : n < 7) : aS (hp L σ) (some (L.1 (b + 38))) 100 (Int32.ofNat n) (.int v) = some (hp L (up2 σ (b + 38) n v)) := w_aS h hb (by decide) (by decide) rfl hn (by omega) rfl
theorem wn_38 (h : Lok L) (hb : isW b = true) : aL (hp L σ) (some (L.1 (b + 38))) = some 7 := by
  have q := wS (b := b) (j := 38) hb (by decide) (by decide)
  rw [h.aL (sid_of q.1) (by rw [q.2.1]; decide), q.2.1]; rfl
theorem wi_42 (h : Lok L) (hb : isW b = true) (hn : n < 7) : aI (hp L σ) (some (L.1 (b + 42))) 100 (Int32.ofNat n) = some (σ (b + 42) n) := w_aI h hb (by decide) (by decide) rfl hn (by omega) rfl
theorem ws_42 (h : Lok L) (hb : isW b = true) (hn : n < 7) : aS (hp L σ) (some (L.1 (b + 42))) 100 (Int32.ofNat n) (.int v) = some (hp L (up2 σ (b + 42) n v)) := w_aS h hb (by decide) (by decide) rfl hn (by omega) rfl
theorem wn_42 (h : Lok L) (hb : isW b = true) : aL (hp L σ) (some (L.1 (b + 42))) = some 7 := by
  have q := wS (b := b) (j := 42) hb (by decide) (by decide)
  rw [h.aL (sid_of q.1) (by rw [q.2.1]; decide), q.2.1]; rfl
theorem wi_43 (h : Lok L) (hb : isW b = true) (hn : n < 7) : aI (hp L σ) (some (L.1 (b + 43))) 100 (Int32.ofNat n) = some (σ (b + 43) n) := w_aI h hb (by decide) (by decide) rfl hn (by omega) rfl
theorem ws_43 (h : Lok L) (hb : isW b = true) (hn : n < 7) : aS (hp L σ) (some (L.1 (b + 43))) 100 (Int32.ofNat n) (.int v) = some (hp L (up2 σ (b + 43) n v)) := w_aS h hb (by decide) (by decide) rfl hn (by omega) rfl
theorem wn_43 (h : Lok L) (hb : isW b = true) : aL (hp L σ) (some (L.1 (b + 43))) = some 7 := by
  have q := wS (b := b) (j := 43) hb (by decide) (by decide)
  rw [h.aL (sid_of q.1) (by rw [q.2.1]; decide), q.2.1]; rfl
theorem wi_44 (h : Lok L) (hb : isW b = true) (hn : n < 7) : aI (hp L σ) (some (L.1 (b + 44))) 100 (Int32.ofNat n) = some (σ (b + 44) n) := w_aI h hb (by decide) (by decide) rfl hn (by omega) rfl
theorem ws_44 (h : Lok L) (hb : isW b = true) (hn : n < 7) : aS (hp L σ) (some (L.1 (b + 44))) 100 (Int32.ofNat n) (.int v) = some (hp L (up2 σ (b + 44) n v)) := w_aS h hb (by decide) (by decide) rfl hn (by omega) rfl
theorem wn_44 (h : Lok L) (hb : isW b = true) : aL (hp L σ) (some (L.1 (b + 44))) = some 7 := by
  have q := wS (b := b) (j := 44) hb (by decide) (by decide)
  rw [h.aL (sid_of q.1) (by rw [q.2.1]; decide), q.2.1]; rfl
theorem wi_45 (h : Lok L) (hb : isW b = true) (hn : n < 7) : aI (hp L σ) (some (L.1 (b + 45))) 100 (Int32.ofNat n) = some (σ (b + 45) n) := w_aI h hb (by decide) (by decide) rfl hn (by omega) rfl
theorem ws_45 (h : Lok L) (hb : isW b = true) (hn : n < 7) : aS (hp L σ) (some (L.1 (b + 45))) 100 (Int32.ofNat n) (.int v) = some (hp L (up2 σ (b + 45) n v)) := w_aS h hb (by decide) (by decide) rfl hn (by omega) rfl
theorem wn_45 (h : Lok L) (hb : isW b = true) : aL (hp L σ) (some (L.1 (b + 45))) = some 7 := by
  have q := wS (b := b) (j := 45) hb (by decide) (by decide)
  rw [h.aL (sid_of q.1) (by rw [q.2.1]; decide), q.2.1]; rfl
theorem wi_46 (h : Lok L) (hb : isW b = true) (hn : n < 7) : aI (hp L σ) (some (L.1 (b + 46))) 100 (Int32.ofNat n) = some (σ (b + 46) n) := w_aI h hb (by decide) (by decide) rfl hn (by omega) rfl
theorem ws_46 (h : Lok L) (hb : isW b = true) (hn : n < 7) : aS (hp L σ) (some (L.1 (b + 46))) 100 (Int32.ofNat n) (.int v) = some (hp L (up2 σ (b + 46) n v)) := w_aS h hb (by decide) (by decide) rfl hn (by omega) rfl
theorem wn_46 (h : Lok L) (hb : isW b = true) : aL (hp L σ) (some (L.1 (b + 46))) = some 7 := by
  have q := wS (b := b) (j := 46) hb (by decide) (by decide)
  rw [h.aL (sid_of q.1) (by rw [q.2.1]; decide), q.2.1]; rfl
theorem wi_47 (h : Lok L) (hb : isW b = true) (hn : n < 7) : aI (hp L σ) (some (L.1 (b + 47))) 100 (Int32.ofNat n) = some (σ (b + 47) n) := w_aI h hb (by decide) (by decide) rfl hn (by omega) rfl
theorem ws_47 (h : Lok L) (hb : isW b = true) (hn : n < 7) : aS (hp L σ) (some (L.1 (b + 47))) 100 (Int32.ofNat n) (.int v) = some (hp L (up2 σ (b + 47) n v)) := w_aS h hb (by decide) (by decide) rfl hn (by omega) rfl
theorem wn_47 (h : Lok L) (hb : isW b = true) : aL (hp L σ) (some (L.1 (b + 47))) = some 7 := by
  have q := wS (b := b) (j := 47) hb (by decide) (by decide)
  rw [h.aL (sid_of q.1) (by rw [q.2.1]; decide), q.2.1]; rfl
theorem wi_48 (h : Lok L) (hb : isW b = true) (hn : n < 7) : aI (hp L σ) (some (L.1 (b + 48))) 100 (Int32.ofNat n) = some (σ (b + 48) n) := w_aI h hb (by decide) (by decide) rfl hn (by omega) rfl
theorem ws_48 (h : Lok L) (hb : isW b = true) (hn : n < 7) : aS (hp L σ) (some (L.1 (b + 48))) 100 (Int32.ofNat n) (.int v) = some (hp L (up2 σ (b + 48) n v)) := w_aS h hb (by decide) (by decide) rfl hn (by omega) rfl
theorem wn_48 (h : Lok L) (hb : isW b = true) : aL (hp L σ) (some (L.1 (b + 48))) = some 7 := by
  have q := wS (b := b) (j := 48) hb (by decide) (by decide)
  rw [h.aL (sid_of q.1) (by rw [q.2.1]; decide), q.2.1]; rfl
theorem wi_51 (h : Lok L) (hb : isW b = true) (hn : n < 10) : aI (hp L σ) (some (L.1 (b + 51))) 100 (Int32.ofNat n) = some (σ (b + 51) n) := w_aI h hb (by decide) (by decide) rfl hn (by omega) rfl
theorem ws_51 (h : Lok L) (hb : isW b = true) (hn : n < 10) : aS (hp L σ) (some (L.1 (b + 51))) 100 (Int32.ofNat n) (.int v) = some (hp L (up2 σ (b + 51) n v)) := w_aS h hb (by decide) (by decide) rfl hn (by omega) rfl
theorem wn_51 (h : Lok L) (hb : isW b = true) : aL (hp L σ) (some (L.1 (b + 51))) = some 10 := by
  have q := wS (b := b) (j := 51) hb (by decide) (by decide)
  rw [h.aL (sid_of q.1) (by rw [q.2.1]; decide), q.2.1]; rfl
theorem wI_c (h : Lok L) (hb : isW b = true) {f : Nat} (hf : f < 5) (hn : n < 6) : aI (hp L σ) (some (L.1 (b + 2 + f))) 100 (Int32.ofNat n) = some (σ (b + 2 + f) n) := by
  match f, hf with
  | 0, _ => exact wi_2 h hb hn
  | 1, _ => exact wi_3 h hb hn
  | 2, _ => exact wi_4 h hb hn
  | 3, _ => exact wi_5 h hb hn
  | 4, _ => exact wi_6 h hb hn
theorem wS_c (h : Lok L) (hb : isW b = true) {f : Nat} (hf : f < 5) (hn : n < 6) : aS (hp L σ) (some (L.1 (b + 2 + f))) 100 (Int32.ofNat n) (.int v) = some (hp L (up2 σ (b + 2 + f) n v)) := by
  match f, hf with
  | 0, _ => exact ws_2 h hb hn
  | 1, _ => exact ws_3 h hb hn
  | 2, _ => exact ws_4 h hb hn
  | 3, _ => exact ws_5 h hb hn
  | 4, _ => exact ws_6 h hb hn
theorem wI_e (h : Lok L) (hb : isW b = true) {f : Nat} (hf : f < 5) (hn : n < 8) : aI (hp L σ) (some (L.1 (b + 12 + f))) 100 (Int32.ofNat n) = some (σ (b + 12 + f) n) := by
  match f, hf with
  | 0, _ => exact wi_12 h hb hn
  | 1, _ => exact wi_13 h hb hn
  | 2, _ => exact wi_14 h hb hn
  | 3, _ => exact wi_15 h hb hn
  | 4, _ => exact wi_16 h hb hn
theorem wS_e (h : Lok L) (hb : isW b = true) {f : Nat} (hf : f < 5) (hn : n < 8) : aS (hp L σ) (some (L.1 (b + 12 + f))) 100 (Int32.ofNat n) (.int v) = some (hp L (up2 σ (b + 12 + f) n v)) := by
  match f, hf with
  | 0, _ => exact ws_12 h hb hn
  | 1, _ => exact ws_13 h hb hn
  | 2, _ => exact ws_14 h hb hn
  | 3, _ => exact ws_15 h hb hn
  | 4, _ => exact ws_16 h hb hn
theorem wI_y (h : Lok L) (hb : isW b = true) {f : Nat} (hf : f < 7) (hn : n < 7) : aI (hp L σ) (some (L.1 (b + 32 + f))) 100 (Int32.ofNat n) = some (σ (b + 32 + f) n) := by
  match f, hf with
  | 0, _ => exact wi_32 h hb hn
  | 1, _ => exact wi_33 h hb hn
  | 2, _ => exact wi_34 h hb hn
  | 3, _ => exact wi_35 h hb hn
  | 4, _ => exact wi_36 h hb hn
  | 5, _ => exact wi_37 h hb hn
  | 6, _ => exact wi_38 h hb hn
theorem wS_y (h : Lok L) (hb : isW b = true) {f : Nat} (hf : f < 7) (hn : n < 7) : aS (hp L σ) (some (L.1 (b + 32 + f))) 100 (Int32.ofNat n) (.int v) = some (hp L (up2 σ (b + 32 + f) n v)) := by
  match f, hf with
  | 0, _ => exact ws_32 h hb hn
  | 1, _ => exact ws_33 h hb hn
  | 2, _ => exact ws_34 h hb hn
  | 3, _ => exact ws_35 h hb hn
  | 4, _ => exact ws_36 h hb hn
  | 5, _ => exact ws_37 h hb hn
  | 6, _ => exact ws_38 h hb hn
theorem wI_r (h : Lok L) (hb : isW b = true) {f : Nat} (hf : f < 7) (hn : n < 7) : aI (hp L σ) (some (L.1 (b + 42 + f))) 100 (Int32.ofNat n) = some (σ (b + 42 + f) n) := by
  match f, hf with
  | 0, _ => exact wi_42 h hb hn
  | 1, _ => exact wi_43 h hb hn
  | 2, _ => exact wi_44 h hb hn
  | 3, _ => exact wi_45 h hb hn
  | 4, _ => exact wi_46 h hb hn
  | 5, _ => exact wi_47 h hb hn
  | 6, _ => exact wi_48 h hb hn
theorem wS_r (h : Lok L) (hb : isW b = true) {f : Nat} (hf : f < 7) (hn : n < 7) : aS (hp L σ) (some (L.1 (b + 42 + f))) 100 (Int32.ofNat n) (.int v) = some (hp L (up2 σ (b + 42 + f) n v)) := by
  match f, hf with
  | 0, _ => exact ws_42 h hb hn
  | 1, _ => exact ws_43 h hb hn
  | 2, _ => exact ws_44 h hb hn
  | 3, _ => exact ws_45 h hb hn
  | 4, _ => exact ws_46 h hb hn
  | 5, _ => exact ws_47 h hb hn
  | 6, _ => exact ws_48 h hb hn
theorem mi_1001 (h : Lok L) (hn : n < 138) : aI (hp L σ) (some (L.1 1001)) 100 (Int32.ofNat n) = some (σ 1001 n) := h.aI (by decide) (by decide) hn (by omega) (by rfl)
theorem ms_1001 (h : Lok L) (hn : n < 138) : aS (hp L σ) (some (L.1 1001)) 100 (Int32.ofNat n) (.int v) = some (hp L (up2 σ 1001 n v)) := h.aS (by decide) (by decide) hn (by omega) (by rfl)
theorem mi_1002 (h : Lok L) (hn : n < 138) : aI (hp L σ) (some (L.1 1002)) 100 (Int32.ofNat n) = some (σ 1002 n) := h.aI (by decide) (by decide) hn (by omega) (by rfl)
theorem ms_1002 (h : Lok L) (hn : n < 138) : aS (hp L σ) (some (L.1 1002)) 100 (Int32.ofNat n) (.int v) = some (hp L (up2 σ 1002 n v)) := h.aS (by decide) (by decide) hn (by omega) (by rfl)
theorem mi_1003 (h : Lok L) (hn : n < 138) : aI (hp L σ) (some (L.1 1003)) 100 (Int32.ofNat n) = some (σ 1003 n) := h.aI (by decide) (by decide) hn (by omega) (by rfl)
theorem ms_1003 (h : Lok L) (hn : n < 138) : aS (hp L σ) (some (L.1 1003)) 100 (Int32.ofNat n) (.int v) = some (hp L (up2 σ 1003 n v)) := h.aS (by decide) (by decide) hn (by omega) (by rfl)
theorem mi_1004 (h : Lok L) (hn : n < 8) : aI (hp L σ) (some (L.1 1004)) 100 (Int32.ofNat n) = some (σ 1004 n) := h.aI (by decide) (by decide) hn (by omega) (by rfl)
theorem ms_1004 (h : Lok L) (hn : n < 8) : aS (hp L σ) (some (L.1 1004)) 100 (Int32.ofNat n) (.int v) = some (hp L (up2 σ 1004 n v)) := h.aS (by decide) (by decide) hn (by omega) (by rfl)
theorem mi_1005 (h : Lok L) (hn : n < 49) : aI (hp L σ) (some (L.1 1005)) 100 (Int32.ofNat n) = some (σ 1005 n) := h.aI (by decide) (by decide) hn (by omega) (by rfl)
theorem ms_1005 (h : Lok L) (hn : n < 49) : aS (hp L σ) (some (L.1 1005)) 100 (Int32.ofNat n) (.int v) = some (hp L (up2 σ 1005 n v)) := h.aS (by decide) (by decide) hn (by omega) (by rfl)
theorem mi_1006 (h : Lok L) (hn : n < 1701) : aI (hp L σ) (some (L.1 1006)) 100 (Int32.ofNat n) = some (σ 1006 n) := h.aI (by decide) (by decide) hn (by omega) (by rfl)
theorem ms_1006 (h : Lok L) (hn : n < 1701) : aS (hp L σ) (some (L.1 1006)) 100 (Int32.ofNat n) (.int v) = some (hp L (up2 σ 1006 n v)) := h.aS (by decide) (by decide) hn (by omega) (by rfl)
theorem mi_1007 (h : Lok L) (hn : n < 5) : aI (hp L σ) (some (L.1 1007)) 100 (Int32.ofNat n) = some (σ 1007 n) := h.aI (by decide) (by decide) hn (by omega) (by rfl)
theorem ms_1007 (h : Lok L) (hn : n < 5) : aS (hp L σ) (some (L.1 1007)) 100 (Int32.ofNat n) (.int v) = some (hp L (up2 σ 1007 n v)) := h.aS (by decide) (by decide) hn (by omega) (by rfl)
theorem mi_1008 (h : Lok L) (hn : n < 6) : aI (hp L σ) (some (L.1 1008)) 100 (Int32.ofNat n) = some (σ 1008 n) := h.aI (by decide) (by decide) hn (by omega) (by rfl)
theorem ms_1008 (h : Lok L) (hn : n < 6) : aS (hp L σ) (some (L.1 1008)) 100 (Int32.ofNat n) (.int v) = some (hp L (up2 σ 1008 n v)) := h.aS (by decide) (by decide) hn (by omega) (by rfl)
theorem mi_1009 (h : Lok L) (hn : n < 120) : aI (hp L σ) (some (L.1 1009)) 100 (Int32.ofNat n) = some (σ 1009 n) := h.aI (by decide) (by decide) hn (by omega) (by rfl)
theorem ms_1009 (h : Lok L) (hn : n < 120) : aS (hp L σ) (some (L.1 1009)) 100 (Int32.ofNat n) (.int v) = some (hp L (up2 σ 1009 n v)) := h.aS (by decide) (by decide) hn (by omega) (by rfl)
theorem mi_1011 (h : Lok L) (hn : n < 600) : aI (hp L σ) (some (L.1 1011)) 100 (Int32.ofNat n) = some (σ 1011 n) := h.aI (by decide) (by decide) hn (by omega) (by rfl)
theorem ms_1011 (h : Lok L) (hn : n < 600) : aS (hp L σ) (some (L.1 1011)) 100 (Int32.ofNat n) (.int v) = some (hp L (up2 σ 1011 n v)) := h.aS (by decide) (by decide) hn (by omega) (by rfl)
theorem mi_1012 (h : Lok L) (hn : n < 4) : aI (hp L σ) (some (L.1 1012)) 100 (Int32.ofNat n) = some (σ 1012 n) := h.aI (by decide) (by decide) hn (by omega) (by rfl)
theorem ms_1012 (h : Lok L) (hn : n < 4) : aS (hp L σ) (some (L.1 1012)) 100 (Int32.ofNat n) (.int v) = some (hp L (up2 σ 1012 n v)) := h.aS (by decide) (by decide) hn (by omega) (by rfl)
theorem mi_1013 (h : Lok L) (hn : n < 4) : aI (hp L σ) (some (L.1 1013)) 100 (Int32.ofNat n) = some (σ 1013 n) := h.aI (by decide) (by decide) hn (by omega) (by rfl)
theorem ms_1013 (h : Lok L) (hn : n < 4) : aS (hp L σ) (some (L.1 1013)) 100 (Int32.ofNat n) (.int v) = some (hp L (up2 σ 1013 n v)) := h.aS (by decide) (by decide) hn (by omega) (by rfl)
theorem mi_1014 (h : Lok L) (hn : n < 160) : aI (hp L σ) (some (L.1 1014)) 100 (Int32.ofNat n) = some (σ 1014 n) := h.aI (by decide) (by decide) hn (by omega) (by rfl)
theorem ms_1014 (h : Lok L) (hn : n < 160) : aS (hp L σ) (some (L.1 1014)) 100 (Int32.ofNat n) (.int v) = some (hp L (up2 σ 1014 n v)) := h.aS (by decide) (by decide) hn (by omega) (by rfl)
theorem mi_1015 (h : Lok L) (hn : n < 40) : aI (hp L σ) (some (L.1 1015)) 100 (Int32.ofNat n) = some (σ 1015 n) := h.aI (by decide) (by decide) hn (by omega) (by rfl)
theorem ms_1015 (h : Lok L) (hn : n < 40) : aS (hp L σ) (some (L.1 1015)) 100 (Int32.ofNat n) (.int v) = some (hp L (up2 σ 1015 n v)) := h.aS (by decide) (by decide) hn (by omega) (by rfl)
theorem mi_8 (h : Lok L) (hn : n < 7) : aI (hp L σ) (some (L.1 8)) 100 (Int32.ofNat n) = some (σ 8 n) := h.aI (by decide) (by decide) hn (by omega) (by rfl)
theorem ms_8 (h : Lok L) (hn : n < 7) : aS (hp L σ) (some (L.1 8)) 100 (Int32.ofNat n) (.int v) = some (hp L (up2 σ 8 n v)) := h.aS (by decide) (by decide) hn (by omega) (by rfl)
theorem mi_11 (h : Lok L) (hn : n < 5) : aI (hp L σ) (some (L.1 11)) 100 (Int32.ofNat n) = some (σ 11 n) := h.aI (by decide) (by decide) hn (by omega) (by rfl)
theorem ms_11 (h : Lok L) (hn : n < 5) : aS (hp L σ) (some (L.1 11)) 100 (Int32.ofNat n) (.int v) = some (hp L (up2 σ 11 n v)) := h.aS (by decide) (by decide) hn (by omega) (by rfl)
theorem mi_12 (h : Lok L) (hn : n < 6) : aI (hp L σ) (some (L.1 12)) 100 (Int32.ofNat n) = some (σ 12 n) := h.aI (by decide) (by decide) hn (by omega) (by rfl)
theorem ms_12 (h : Lok L) (hn : n < 6) : aS (hp L σ) (some (L.1 12)) 100 (Int32.ofNat n) (.int v) = some (hp L (up2 σ 12 n v)) := h.aS (by decide) (by decide) hn (by omega) (by rfl)
end L2w
