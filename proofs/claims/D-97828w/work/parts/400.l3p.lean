/-! ### writes to a world, as a row -/
section L3p
variable {L : Lt} {σ : St} {b n : Nat} {v : Int32} {ρ : Rw}
set_option maxRecDepth 8000 in
theorem WX_f0 (hW : WX σ b ρ) : WX (up2 σ b 0 v) b (up1 ρ 42 v) := by
  obtain ⟨⟨h1, h2, h3, h4⟩, h5, h6, h7, h8, h9⟩ := hW
  refine ⟨⟨?_, ?_, ?_, ?_⟩, fun s hs => ?_, fun f c hf hc => ?_, fun f c hf hc => ?_, fun f c hf hc => ?_, fun p q hp9 hq => ?_⟩
  · rw [up2_same, up1_same]
  · rw [up2_ne (by omega), up1_ne (by omega)]; exact h2
  · rw [up2_ne (by omega), up1_ne (by omega)]; exact h3
  · rw [up2_ne (by omega), up1_ne (by omega)]; exact h4
  · rw [up2_ne (by omega), up1_ne (by omega)]; exact h5 s hs
  · rw [up2_ne (by omega), up1_ne (by omega)]; exact h6 f c hf hc
  · rw [up2_ne (by omega), up1_ne (by omega)]; exact h7 f c hf hc
  · rw [up2_ne (by omega), up1_ne (by omega)]; exact h8 f c hf hc
  · rw [up2_ne (by omega), up2_ne (by omega)]
    by_cases he : p = q
    · rw [(h9 p q hp9 hq).1, (h9 p q hp9 hq).2, if_pos he, if_pos he, if_pos he, if_pos he]; exact ⟨rfl, rfl⟩
    · have hy := wy_lt p q hp9 hq he
      rw [up1_ne (by omega), up1_ne (by omega)]; exact h9 p q hp9 hq
set_option maxRecDepth 8000 in
theorem WX_f2 (hW : WX σ b ρ) : WX (up2 σ b 2 v) b (up1 ρ 43 v) := by
  obtain ⟨⟨h1, h2, h3, h4⟩, h5, h6, h7, h8, h9⟩ := hW
  refine ⟨⟨?_, ?_, ?_, ?_⟩, fun s hs => ?_, fun f c hf hc => ?_, fun f c hf hc => ?_, fun f c hf hc => ?_, fun p q hp9 hq => ?_⟩
  · rw [up2_ne (by omega), up1_ne (by omega)]; exact h1
  · rw [up2_same, up1_same]
  · rw [up2_ne (by omega), up1_ne (by omega)]; exact h3
  · rw [up2_ne (by omega), up1_ne (by omega)]; exact h4
  · rw [up2_ne (by omega), up1_ne (by omega)]; exact h5 s hs
  · rw [up2_ne (by omega), up1_ne (by omega)]; exact h6 f c hf hc
  · rw [up2_ne (by omega), up1_ne (by omega)]; exact h7 f c hf hc
  · rw [up2_ne (by omega), up1_ne (by omega)]; exact h8 f c hf hc
  · rw [up2_ne (by omega), up2_ne (by omega)]
    by_cases he : p = q
    · rw [(h9 p q hp9 hq).1, (h9 p q hp9 hq).2, if_pos he, if_pos he, if_pos he, if_pos he]; exact ⟨rfl, rfl⟩
    · have hy := wy_lt p q hp9 hq he
      rw [up1_ne (by omega), up1_ne (by omega)]; exact h9 p q hp9 hq
set_option maxRecDepth 8000 in
theorem WX_f4 (hW : WX σ b ρ) : WX (up2 σ b 4 v) b (up1 ρ 44 v) := by
  obtain ⟨⟨h1, h2, h3, h4⟩, h5, h6, h7, h8, h9⟩ := hW
  refine ⟨⟨?_, ?_, ?_, ?_⟩, fun s hs => ?_, fun f c hf hc => ?_, fun f c hf hc => ?_, fun f c hf hc => ?_, fun p q hp9 hq => ?_⟩
  · rw [up2_ne (by omega), up1_ne (by omega)]; exact h1
  · rw [up2_ne (by omega), up1_ne (by omega)]; exact h2
  · rw [up2_same, up1_same]
  · rw [up2_ne (by omega), up1_ne (by omega)]; exact h4
  · rw [up2_ne (by omega), up1_ne (by omega)]; exact h5 s hs
  · rw [up2_ne (by omega), up1_ne (by omega)]; exact h6 f c hf hc
  · rw [up2_ne (by omega), up1_ne (by omega)]; exact h7 f c hf hc
  · rw [up2_ne (by omega), up1_ne (by omega)]; exact h8 f c hf hc
  · rw [up2_ne (by omega), up2_ne (by omega)]
    by_cases he : p = q
    · rw [(h9 p q hp9 hq).1, (h9 p q hp9 hq).2, if_pos he, if_pos he, if_pos he, if_pos he]; exact ⟨rfl, rfl⟩
    · have hy := wy_lt p q hp9 hq he
      rw [up1_ne (by omega), up1_ne (by omega)]; exact h9 p q hp9 hq
set_option maxRecDepth 8000 in
theorem WX_f8 (hW : WX σ b ρ) : WX (up2 σ b 8 v) b (up1 ρ 45 v) := by
  obtain ⟨⟨h1, h2, h3, h4⟩, h5, h6, h7, h8, h9⟩ := hW
  refine ⟨⟨?_, ?_, ?_, ?_⟩, fun s hs => ?_, fun f c hf hc => ?_, fun f c hf hc => ?_, fun f c hf hc => ?_, fun p q hp9 hq => ?_⟩
  · rw [up2_ne (by omega), up1_ne (by omega)]; exact h1
  · rw [up2_ne (by omega), up1_ne (by omega)]; exact h2
  · rw [up2_ne (by omega), up1_ne (by omega)]; exact h3
  · rw [up2_same, up1_same]
  · rw [up2_ne (by omega), up1_ne (by omega)]; exact h5 s hs
  · rw [up2_ne (by omega), up1_ne (by omega)]; exact h6 f c hf hc
  · rw [up2_ne (by omega), up1_ne (by omega)]; exact h7 f c hf hc
  · rw [up2_ne (by omega), up1_ne (by omega)]; exact h8 f c hf hc
  · rw [up2_ne (by omega), up2_ne (by omega)]
    by_cases he : p = q
    · rw [(h9 p q hp9 hq).1, (h9 p q hp9 hq).2, if_pos he, if_pos he, if_pos he, if_pos he]; exact ⟨rfl, rfl⟩
    · have hy := wy_lt p q hp9 hq he
      rw [up1_ne (by omega), up1_ne (by omega)]; exact h9 p q hp9 hq
set_option maxRecDepth 8000 in
theorem WX_c0 (hn : n < 6) (hW : WX σ b ρ) : WX (up2 σ (b + 2) n v) b (up1 ρ (56 + 5 * n + 0) v) := by
  obtain ⟨⟨h1, h2, h3, h4⟩, h5, h6, h7, h8, h9⟩ := hW
  refine ⟨⟨?_, ?_, ?_, ?_⟩, fun s hs => ?_, fun f c hf hc => ?_, fun f c hf hc => ?_, fun f c hf hc => ?_, fun p q hp9 hq => ?_⟩
  · rw [up2_ne (by omega), up1_ne (by omega)]; exact h1
  · rw [up2_ne (by omega), up1_ne (by omega)]; exact h2
  · rw [up2_ne (by omega), up1_ne (by omega)]; exact h3
  · rw [up2_ne (by omega), up1_ne (by omega)]; exact h4
  · rw [up2_ne (by omega), up1_ne (by omega)]; exact h5 s hs
  · by_cases he : f = 0 ∧ c = n
    · obtain ⟨rfl, rfl⟩ := he; rw [up2_same, up1_same]
    · rw [up2_ne (by omega), up1_ne (by omega)]; exact h6 f c hf hc
  · rw [up2_ne (by omega), up1_ne (by omega)]; exact h7 f c hf hc
  · rw [up2_ne (by omega), up1_ne (by omega)]; exact h8 f c hf hc
  · rw [up2_ne (by omega), up2_ne (by omega)]
    by_cases he : p = q
    · rw [(h9 p q hp9 hq).1, (h9 p q hp9 hq).2, if_pos he, if_pos he, if_pos he, if_pos he]; exact ⟨rfl, rfl⟩
    · have hy := wy_lt p q hp9 hq he
      rw [up1_ne (by omega), up1_ne (by omega)]; exact h9 p q hp9 hq
set_option maxRecDepth 8000 in
theorem WX_c1 (hn : n < 6) (hW : WX σ b ρ) : WX (up2 σ (b + 3) n v) b (up1 ρ (56 + 5 * n + 1) v) := by
  obtain ⟨⟨h1, h2, h3, h4⟩, h5, h6, h7, h8, h9⟩ := hW
  refine ⟨⟨?_, ?_, ?_, ?_⟩, fun s hs => ?_, fun f c hf hc => ?_, fun f c hf hc => ?_, fun f c hf hc => ?_, fun p q hp9 hq => ?_⟩
  · rw [up2_ne (by omega), up1_ne (by omega)]; exact h1
  · rw [up2_ne (by omega), up1_ne (by omega)]; exact h2
  · rw [up2_ne (by omega), up1_ne (by omega)]; exact h3
  · rw [up2_ne (by omega), up1_ne (by omega)]; exact h4
  · rw [up2_ne (by omega), up1_ne (by omega)]; exact h5 s hs
  · by_cases he : f = 1 ∧ c = n
    · obtain ⟨rfl, rfl⟩ := he; rw [up2_same, up1_same]
    · rw [up2_ne (by omega), up1_ne (by omega)]; exact h6 f c hf hc
  · rw [up2_ne (by omega), up1_ne (by omega)]; exact h7 f c hf hc
  · rw [up2_ne (by omega), up1_ne (by omega)]; exact h8 f c hf hc
  · rw [up2_ne (by omega), up2_ne (by omega)]
    by_cases he : p = q
    · rw [(h9 p q hp9 hq).1, (h9 p q hp9 hq).2, if_pos he, if_pos he, if_pos he, if_pos he]; exact ⟨rfl, rfl⟩
    · have hy := wy_lt p q hp9 hq he
      rw [up1_ne (by omega), up1_ne (by omega)]; exact h9 p q hp9 hq
set_option maxRecDepth 8000 in
theorem WX_c2 (hn : n < 6) (hW : WX σ b ρ) : WX (up2 σ (b + 4) n v) b (up1 ρ (56 + 5 * n + 2) v) := by
  obtain ⟨⟨h1, h2, h3, h4⟩, h5, h6, h7, h8, h9⟩ := hW
  refine ⟨⟨?_, ?_, ?_, ?_⟩, fun s hs => ?_, fun f c hf hc => ?_, fun f c hf hc => ?_, fun f c hf hc => ?_, fun p q hp9 hq => ?_⟩
  · rw [up2_ne (by omega), up1_ne (by omega)]; exact h1
  · rw [up2_ne (by omega), up1_ne (by omega)]; exact h2
  · rw [up2_ne (by omega), up1_ne (by omega)]; exact h3
  · rw [up2_ne (by omega), up1_ne (by omega)]; exact h4
  · rw [up2_ne (by omega), up1_ne (by omega)]; exact h5 s hs
  · by_cases he : f = 2 ∧ c = n
    · obtain ⟨rfl, rfl⟩ := he; rw [up2_same, up1_same]
    · rw [up2_ne (by omega), up1_ne (by omega)]; exact h6 f c hf hc
  · rw [up2_ne (by omega), up1_ne (by omega)]; exact h7 f c hf hc
  · rw [up2_ne (by omega), up1_ne (by omega)]; exact h8 f c hf hc
  · rw [up2_ne (by omega), up2_ne (by omega)]
    by_cases he : p = q
    · rw [(h9 p q hp9 hq).1, (h9 p q hp9 hq).2, if_pos he, if_pos he, if_pos he, if_pos he]; exact ⟨rfl, rfl⟩
    · have hy := wy_lt p q hp9 hq he
      rw [up1_ne (by omega), up1_ne (by omega)]; exact h9 p q hp9 hq
set_option maxRecDepth 8000 in
theorem WX_c3 (hn : n < 6) (hW : WX σ b ρ) : WX (up2 σ (b + 5) n v) b (up1 ρ (56 + 5 * n + 3) v) := by
  obtain ⟨⟨h1, h2, h3, h4⟩, h5, h6, h7, h8, h9⟩ := hW
  refine ⟨⟨?_, ?_, ?_, ?_⟩, fun s hs => ?_, fun f c hf hc => ?_, fun f c hf hc => ?_, fun f c hf hc => ?_, fun p q hp9 hq => ?_⟩
  · rw [up2_ne (by omega), up1_ne (by omega)]; exact h1
  · rw [up2_ne (by omega), up1_ne (by omega)]; exact h2
  · rw [up2_ne (by omega), up1_ne (by omega)]; exact h3
  · rw [up2_ne (by omega), up1_ne (by omega)]; exact h4
  · rw [up2_ne (by omega), up1_ne (by omega)]; exact h5 s hs
  · by_cases he : f = 3 ∧ c = n
    · obtain ⟨rfl, rfl⟩ := he; rw [up2_same, up1_same]
    · rw [up2_ne (by omega), up1_ne (by omega)]; exact h6 f c hf hc
  · rw [up2_ne (by omega), up1_ne (by omega)]; exact h7 f c hf hc
  · rw [up2_ne (by omega), up1_ne (by omega)]; exact h8 f c hf hc
  · rw [up2_ne (by omega), up2_ne (by omega)]
    by_cases he : p = q
    · rw [(h9 p q hp9 hq).1, (h9 p q hp9 hq).2, if_pos he, if_pos he, if_pos he, if_pos he]; exact ⟨rfl, rfl⟩
    · have hy := wy_lt p q hp9 hq he
      rw [up1_ne (by omega), up1_ne (by omega)]; exact h9 p q hp9 hq
set_option maxRecDepth 8000 in
theorem WX_c4 (hn : n < 6) (hW : WX σ b ρ) : WX (up2 σ (b + 6) n v) b (up1 ρ (56 + 5 * n + 4) v) := by
  obtain ⟨⟨h1, h2, h3, h4⟩, h5, h6, h7, h8, h9⟩ := hW
  refine ⟨⟨?_, ?_, ?_, ?_⟩, fun s hs => ?_, fun f c hf hc => ?_, fun f c hf hc => ?_, fun f c hf hc => ?_, fun p q hp9 hq => ?_⟩
  · rw [up2_ne (by omega), up1_ne (by omega)]; exact h1
  · rw [up2_ne (by omega), up1_ne (by omega)]; exact h2
  · rw [up2_ne (by omega), up1_ne (by omega)]; exact h3
  · rw [up2_ne (by omega), up1_ne (by omega)]; exact h4
  · rw [up2_ne (by omega), up1_ne (by omega)]; exact h5 s hs
  · by_cases he : f = 4 ∧ c = n
    · obtain ⟨rfl, rfl⟩ := he; rw [up2_same, up1_same]
    · rw [up2_ne (by omega), up1_ne (by omega)]; exact h6 f c hf hc
  · rw [up2_ne (by omega), up1_ne (by omega)]; exact h7 f c hf hc
  · rw [up2_ne (by omega), up1_ne (by omega)]; exact h8 f c hf hc
  · rw [up2_ne (by omega), up2_ne (by omega)]
    by_cases he : p = q
    · rw [(h9 p q hp9 hq).1, (h9 p q hp9 hq).2, if_pos he, if_pos he, if_pos he, if_pos he]; exact ⟨rfl, rfl⟩
    · have hy := wy_lt p q hp9 hq he
      rw [up1_ne (by omega), up1_ne (by omega)]; exact h9 p q hp9 hq
set_option maxRecDepth 8000 in
theorem WX_e0 (hn : n < 8) (hW : WX σ b ρ) : WX (up2 σ (b + 12) n v) b (up1 ρ (86 + 5 * n + 0) v) := by
  obtain ⟨⟨h1, h2, h3, h4⟩, h5, h6, h7, h8, h9⟩ := hW
  refine ⟨⟨?_, ?_, ?_, ?_⟩, fun s hs => ?_, fun f c hf hc => ?_, fun f c hf hc => ?_, fun f c hf hc => ?_, fun p q hp9 hq => ?_⟩
  · rw [up2_ne (by omega), up1_ne (by omega)]; exact h1
  · rw [up2_ne (by omega), up1_ne (by omega)]; exact h2
  · rw [up2_ne (by omega), up1_ne (by omega)]; exact h3
  · rw [up2_ne (by omega), up1_ne (by omega)]; exact h4
  · rw [up2_ne (by omega), up1_ne (by omega)]; exact h5 s hs
  · rw [up2_ne (by omega), up1_ne (by omega)]; exact h6 f c hf hc
  · by_cases he : f = 0 ∧ c = n
    · obtain ⟨rfl, rfl⟩ := he; rw [up2_same, up1_same]
    · rw [up2_ne (by omega), up1_ne (by omega)]; exact h7 f c hf hc
  · rw [up2_ne (by omega), up1_ne (by omega)]; exact h8 f c hf hc
  · rw [up2_ne (by omega), up2_ne (by omega)]
    by_cases he : p = q
    · rw [(h9 p q hp9 hq).1, (h9 p q hp9 hq).2, if_pos he, if_pos he, if_pos he, if_pos he]; exact ⟨rfl, rfl⟩
    · have hy := wy_lt p q hp9 hq he
      rw [up1_ne (by omega), up1_ne (by omega)]; exact h9 p q hp9 hq
set_option maxRecDepth 8000 in
theorem WX_e1 (hn : n < 8) (hW : WX σ b ρ) : WX (up2 σ (b + 13) n v) b (up1 ρ (86 + 5 * n + 1) v) := by
  obtain ⟨⟨h1, h2, h3, h4⟩, h5, h6, h7, h8, h9⟩ := hW
  refine ⟨⟨?_, ?_, ?_, ?_⟩, fun s hs => ?_, fun f c hf hc => ?_, fun f c hf hc => ?_, fun f c hf hc => ?_, fun p q hp9 hq => ?_⟩
  · rw [up2_ne (by omega), up1_ne (by omega)]; exact h1
  · rw [up2_ne (by omega), up1_ne (by omega)]; exact h2
  · rw [up2_ne (by omega), up1_ne (by omega)]; exact h3
  · rw [up2_ne (by omega), up1_ne (by omega)]; exact h4
  · rw [up2_ne (by omega), up1_ne (by omega)]; exact h5 s hs
  · rw [up2_ne (by omega), up1_ne (by omega)]; exact h6 f c hf hc
  · by_cases he : f = 1 ∧ c = n
    · obtain ⟨rfl, rfl⟩ := he; rw [up2_same, up1_same]
    · rw [up2_ne (by omega), up1_ne (by omega)]; exact h7 f c hf hc
  · rw [up2_ne (by omega), up1_ne (by omega)]; exact h8 f c hf hc
  · rw [up2_ne (by omega), up2_ne (by omega)]
    by_cases he : p = q
    · rw [(h9 p q hp9 hq).1, (h9 p q hp9 hq).2, if_pos he, if_pos he, if_pos he, if_pos he]; exact ⟨rfl, rfl⟩
    · have hy := wy_lt p q hp9 hq he
      rw [up1_ne (by omega), up1_ne (by omega)]; exact h9 p q hp9 hq
set_option maxRecDepth 8000 in
theorem WX_e2 (hn : n < 8) (hW : WX σ b ρ) : WX (up2 σ (b + 14) n v) b (up1 ρ (86 + 5 * n + 2) v) := by
  obtain ⟨⟨h1, h2, h3, h4⟩, h5, h6, h7, h8, h9⟩ := hW
  refine ⟨⟨?_, ?_, ?_, ?_⟩, fun s hs => ?_, fun f c hf hc => ?_, fun f c hf hc => ?_, fun f c hf hc => ?_, fun p q hp9 hq => ?_⟩
  · rw [up2_ne (by omega), up1_ne (by omega)]; exact h1
  · rw [up2_ne (by omega), up1_ne (by omega)]; exact h2
  · rw [up2_ne (by omega), up1_ne (by omega)]; exact h3
  · rw [up2_ne (by omega), up1_ne (by omega)]; exact h4
  · rw [up2_ne (by omega), up1_ne (by omega)]; exact h5 s hs
  · rw [up2_ne (by omega), up1_ne (by omega)]; exact h6 f c hf hc
  · by_cases he : f = 2 ∧ c = n
    · obtain ⟨rfl, rfl⟩ := he; rw [up2_same, up1_same]
    · rw [up2_ne (by omega), up1_ne (by omega)]; exact h7 f c hf hc
  · rw [up2_ne (by omega), up1_ne (by omega)]; exact h8 f c hf hc
  · rw [up2_ne (by omega), up2_ne (by omega)]
    by_cases he : p = q
    · rw [(h9 p q hp9 hq).1, (h9 p q hp9 hq).2, if_pos he, if_pos he, if_pos he, if_pos he]; exact ⟨rfl, rfl⟩
    · have hy := wy_lt p q hp9 hq he
      rw [up1_ne (by omega), up1_ne (by omega)]; exact h9 p q hp9 hq
set_option maxRecDepth 8000 in
theorem WX_e3 (hn : n < 8) (hW : WX σ b ρ) : WX (up2 σ (b + 15) n v) b (up1 ρ (86 + 5 * n + 3) v) := by
  obtain ⟨⟨h1, h2, h3, h4⟩, h5, h6, h7, h8, h9⟩ := hW
  refine ⟨⟨?_, ?_, ?_, ?_⟩, fun s hs => ?_, fun f c hf hc => ?_, fun f c hf hc => ?_, fun f c hf hc => ?_, fun p q hp9 hq => ?_⟩
  · rw [up2_ne (by omega), up1_ne (by omega)]; exact h1
  · rw [up2_ne (by omega), up1_ne (by omega)]; exact h2
  · rw [up2_ne (by omega), up1_ne (by omega)]; exact h3
  · rw [up2_ne (by omega), up1_ne (by omega)]; exact h4
  · rw [up2_ne (by omega), up1_ne (by omega)]; exact h5 s hs
  · rw [up2_ne (by omega), up1_ne (by omega)]; exact h6 f c hf hc
  · by_cases he : f = 3 ∧ c = n
    · obtain ⟨rfl, rfl⟩ := he; rw [up2_same, up1_same]
    · rw [up2_ne (by omega), up1_ne (by omega)]; exact h7 f c hf hc
  · rw [up2_ne (by omega), up1_ne (by omega)]; exact h8 f c hf hc
  · rw [up2_ne (by omega), up2_ne (by omega)]
    by_cases he : p = q
    · rw [(h9 p q hp9 hq).1, (h9 p q hp9 hq).2, if_pos he, if_pos he, if_pos he, if_pos he]; exact ⟨rfl, rfl⟩
    · have hy := wy_lt p q hp9 hq he
      rw [up1_ne (by omega), up1_ne (by omega)]; exact h9 p q hp9 hq
set_option maxRecDepth 8000 in
theorem WX_e4 (hn : n < 8) (hW : WX σ b ρ) : WX (up2 σ (b + 16) n v) b (up1 ρ (86 + 5 * n + 4) v) := by
  obtain ⟨⟨h1, h2, h3, h4⟩, h5, h6, h7, h8, h9⟩ := hW
  refine ⟨⟨?_, ?_, ?_, ?_⟩, fun s hs => ?_, fun f c hf hc => ?_, fun f c hf hc => ?_, fun f c hf hc => ?_, fun p q hp9 hq => ?_⟩
  · rw [up2_ne (by omega), up1_ne (by omega)]; exact h1
  · rw [up2_ne (by omega), up1_ne (by omega)]; exact h2
  · rw [up2_ne (by omega), up1_ne (by omega)]; exact h3
  · rw [up2_ne (by omega), up1_ne (by omega)]; exact h4
  · rw [up2_ne (by omega), up1_ne (by omega)]; exact h5 s hs
  · rw [up2_ne (by omega), up1_ne (by omega)]; exact h6 f c hf hc
  · by_cases he : f = 4 ∧ c = n
    · obtain ⟨rfl, rfl⟩ := he; rw [up2_same, up1_same]
    · rw [up2_ne (by omega), up1_ne (by omega)]; exact h7 f c hf hc
  · rw [up2_ne (by omega), up1_ne (by omega)]; exact h8 f c hf hc
  · rw [up2_ne (by omega), up2_ne (by omega)]
    by_cases he : p = q
    · rw [(h9 p q hp9 hq).1, (h9 p q hp9 hq).2, if_pos he, if_pos he, if_pos he, if_pos he]; exact ⟨rfl, rfl⟩
    · have hy := wy_lt p q hp9 hq he
      rw [up1_ne (by omega), up1_ne (by omega)]; exact h9 p q hp9 hq
set_option maxRecDepth 8000 in
theorem WX_w0 (hn : n < 6) (hW : WX σ b ρ) : WX (up2 σ (b + 22) n v) b (up1 ρ (126 + 2 * n + 0) v) := by
  obtain ⟨⟨h1, h2, h3, h4⟩, h5, h6, h7, h8, h9⟩ := hW
  refine ⟨⟨?_, ?_, ?_, ?_⟩, fun s hs => ?_, fun f c hf hc => ?_, fun f c hf hc => ?_, fun f c hf hc => ?_, fun p q hp9 hq => ?_⟩
  · rw [up2_ne (by omega), up1_ne (by omega)]; exact h1
  · rw [up2_ne (by omega), up1_ne (by omega)]; exact h2
  · rw [up2_ne (by omega), up1_ne (by omega)]; exact h3
  · rw [up2_ne (by omega), up1_ne (by omega)]; exact h4
  · rw [up2_ne (by omega), up1_ne (by omega)]; exact h5 s hs
  · rw [up2_ne (by omega), up1_ne (by omega)]; exact h6 f c hf hc
  · rw [up2_ne (by omega), up1_ne (by omega)]; exact h7 f c hf hc
  · by_cases he : f = 0 ∧ c = n
    · obtain ⟨rfl, rfl⟩ := he; rw [up2_same, up1_same]
    · rw [up2_ne (by omega), up1_ne (by omega)]; exact h8 f c hf hc
  · rw [up2_ne (by omega), up2_ne (by omega)]
    by_cases he : p = q
    · rw [(h9 p q hp9 hq).1, (h9 p q hp9 hq).2, if_pos he, if_pos he, if_pos he, if_pos he]; exact ⟨rfl, rfl⟩
    · have hy := wy_lt p q hp9 hq he
      rw [up1_ne (by omega), up1_ne (by omega)]; exact h9 p q hp9 hq
set_option maxRecDepth 8000 in
theorem WX_w1 (hn : n < 6) (hW : WX σ b ρ) : WX (up2 σ (b + 23) n v) b (up1 ρ (126 + 2 * n + 1) v) := by
  obtain ⟨⟨h1, h2, h3, h4⟩, h5, h6, h7, h8, h9⟩ := hW
  refine ⟨⟨?_, ?_, ?_, ?_⟩, fun s hs => ?_, fun f c hf hc => ?_, fun f c hf hc => ?_, fun f c hf hc => ?_, fun p q hp9 hq => ?_⟩
  · rw [up2_ne (by omega), up1_ne (by omega)]; exact h1
  · rw [up2_ne (by omega), up1_ne (by omega)]; exact h2
  · rw [up2_ne (by omega), up1_ne (by omega)]; exact h3
  · rw [up2_ne (by omega), up1_ne (by omega)]; exact h4
  · rw [up2_ne (by omega), up1_ne (by omega)]; exact h5 s hs
  · rw [up2_ne (by omega), up1_ne (by omega)]; exact h6 f c hf hc
  · rw [up2_ne (by omega), up1_ne (by omega)]; exact h7 f c hf hc
  · by_cases he : f = 1 ∧ c = n
    · obtain ⟨rfl, rfl⟩ := he; rw [up2_same, up1_same]
    · rw [up2_ne (by omega), up1_ne (by omega)]; exact h8 f c hf hc
  · rw [up2_ne (by omega), up2_ne (by omega)]
    by_cases he : p = q
    · rw [(h9 p q hp9 hq).1, (h9 p q hp9 hq).2, if_pos he, if_pos he, if_pos he, if_pos he]; exact ⟨rfl, rfl⟩
    · have hy := wy_lt p q hp9 hq he
      rw [up1_ne (by omega), up1_ne (by omega)]; exact h9 p q hp9 hq
set_option maxRecDepth 8000 in
theorem WX_h (hn : n < 10) (hW : WX σ b ρ) : WX (up2 σ (b + 51) n v) b (up1 ρ (46 + n) v) := by
  obtain ⟨⟨h1, h2, h3, h4⟩, h5, h6, h7, h8, h9⟩ := hW
  refine ⟨⟨?_, ?_, ?_, ?_⟩, fun s hs => ?_, fun f c hf hc => ?_, fun f c hf hc => ?_, fun f c hf hc => ?_, fun p q hp9 hq => ?_⟩
  · rw [up2_ne (by omega), up1_ne (by omega)]; exact h1
  · rw [up2_ne (by omega), up1_ne (by omega)]; exact h2
  · rw [up2_ne (by omega), up1_ne (by omega)]; exact h3
  · rw [up2_ne (by omega), up1_ne (by omega)]; exact h4
  · by_cases he : s = n
    · subst he; rw [up2_same, up1_same]
    · rw [up2_ne (by omega), up1_ne (by omega)]; exact h5 s hs
  · rw [up2_ne (by omega), up1_ne (by omega)]; exact h6 f c hf hc
  · rw [up2_ne (by omega), up1_ne (by omega)]; exact h7 f c hf hc
  · rw [up2_ne (by omega), up1_ne (by omega)]; exact h8 f c hf hc
  · rw [up2_ne (by omega), up2_ne (by omega)]
    by_cases he : p = q
    · rw [(h9 p q hp9 hq).1, (h9 p q hp9 hq).2, if_pos he, if_pos he, if_pos he, if_pos he]; exact ⟨rfl, rfl⟩
    · have hy := wy_lt p q hp9 hq he
      rw [up1_ne (by omega), up1_ne (by omega)]; exact h9 p q hp9 hq
set_option maxRecDepth 8000 in
theorem WX_out {i k : Nat} (hi : i < b ∨ b + 52 ≤ i) (hW : WX σ b ρ) : WX (up2 σ i k v) b ρ := WX_congr (fun j h1 h2 => by funext k'; rw [up2_ne (by omega)]) hW
set_option maxRecDepth 8000 in
theorem WM_up {i : Nat} (hM : WM σ ρ) : WM (up2 σ 1001 i v) (up1 ρ i v) := by
  intro j hj
  by_cases he : j = i
  · subst he; rw [up2_same, up1_same]
  · rw [up2_ne (by omega), up1_ne he]; exact hM j hj
set_option maxRecDepth 8000 in
theorem WM_out {i k : Nat} (hi : i ≠ 1001) (hM : WM σ ρ) : WM (up2 σ i k v) ρ := fun j hj => by rw [up2_ne (by omega)]; exact hM j hj
def layR (ρ : Rw) (p q : Nat) (y r : Int32) : Rw := up1 (up1 ρ (wy p q + 1) r) (wy p q) y
set_option maxRecDepth 8000 in
theorem WX_lay {p q : Nat} {y r : Int32} (hp9 : p < 7) (hq : q < 7) (hne : p ≠ q) (hW : WX σ b ρ) : WX (up2 (up2 (up2 (up2 σ (b + 32 + p) q y) (b + 32 + q) p y) (b + 42 + p) q r) (b + 42 + q) p r) b (layR ρ p q y r) := by
  obtain ⟨⟨h1, h2, h3, h4⟩, h5, h6, h7, h8, h9⟩ := hW
  have hy := wy_lt p q hp9 hq hne
  unfold layR
  refine ⟨⟨?_, ?_, ?_, ?_⟩, fun s hs => ?_, fun f c hf hc => ?_, fun f c hf hc => ?_, fun f c hf hc => ?_, fun a d ha hd => ?_⟩
  · rw [up2_ne (by omega), up2_ne (by omega), up2_ne (by omega), up2_ne (by omega), up1_ne (by omega), up1_ne (by omega)]; exact h1
  · rw [up2_ne (by omega), up2_ne (by omega), up2_ne (by omega), up2_ne (by omega), up1_ne (by omega), up1_ne (by omega)]; exact h2
  · rw [up2_ne (by omega), up2_ne (by omega), up2_ne (by omega), up2_ne (by omega), up1_ne (by omega), up1_ne (by omega)]; exact h3
  · rw [up2_ne (by omega), up2_ne (by omega), up2_ne (by omega), up2_ne (by omega), up1_ne (by omega), up1_ne (by omega)]; exact h4
  · rw [up2_ne (by omega), up2_ne (by omega), up2_ne (by omega), up2_ne (by omega), up1_ne (by omega), up1_ne (by omega)]; exact h5 s hs
  · rw [up2_ne (by omega), up2_ne (by omega), up2_ne (by omega), up2_ne (by omega), up1_ne (by omega), up1_ne (by omega)]; exact h6 f c hf hc
  · rw [up2_ne (by omega), up2_ne (by omega), up2_ne (by omega), up2_ne (by omega), up1_ne (by omega), up1_ne (by omega)]; exact h7 f c hf hc
  · rw [up2_ne (by omega), up2_ne (by omega), up2_ne (by omega), up2_ne (by omega), up1_ne (by omega), up1_ne (by omega)]; exact h8 f c hf hc
  · by_cases hs : (a = p ∧ d = q) ∨ (a = q ∧ d = p)
    · have had : ¬ a = d := by omega
      have hw : wy a d = wy p q := by
        rcases hs with ⟨rfl, rfl⟩ | ⟨rfl, rfl⟩
        · rfl
        · exact wy_sym _ _
      rw [if_neg had, if_neg had, hw, up1_same, up1_ne (show wy p q + 1 ≠ wy p q by omega), up1_same]
      rcases hs with ⟨rfl, rfl⟩ | ⟨rfl, rfl⟩
      · constructor
        · rw [up2_ne (by omega), up2_ne (by omega), up2_ne (by omega), up2_same]
        · rw [up2_ne (by omega), up2_same]
      · constructor
        · rw [up2_ne (by omega), up2_ne (by omega), up2_same]
        · rw [up2_same]
    · have e1 : up2 (up2 (up2 (up2 σ (b + 32 + p) q y) (b + 32 + q) p y) (b + 42 + p) q r) (b + 42 + q) p r (b + 32 + a) d = σ (b + 32 + a) d := by
        rw [up2_ne (by omega), up2_ne (by omega), up2_ne (by omega), up2_ne (by omega)]
      have e2 : up2 (up2 (up2 (up2 σ (b + 32 + p) q y) (b + 32 + q) p y) (b + 42 + p) q r) (b + 42 + q) p r (b + 42 + a) d = σ (b + 42 + a) d := by
        rw [up2_ne (by omega), up2_ne (by omega), up2_ne (by omega), up2_ne (by omega)]
      rw [e1, e2, (h9 a d ha hd).1, (h9 a d ha hd).2]
      by_cases had : a = d
      · simp only [had, if_true]; exact ⟨trivial, trivial⟩
      · have n1 : wy a d ≠ wy p q := fun q9 => by
          have := wy_inj a d p q ha hd hp9 hq had hne q9; omega
        have n2 := wy_par a d p q
        have n3 := wy_par p q a d
        simp only [had, if_false]
        rw [up1_ne n1, up1_ne n2, up1_ne (fun q9 => n3 q9.symm), up1_ne (by omega)]
        exact ⟨rfl, rfl⟩
set_option maxRecDepth 8000 in
theorem M_cS_0b (h : Lok L) (hn : n < 6) {β9 : Type} (f9 : cH → Option β9) : (aS (hp L σ) (some (L.1 1001)) 100 (F_X13_cAt (Int32.ofNat n) 0) (.int v)).bind f9 = f9 (hp L (up2 σ 1001 (56 + 5 * n + 0) v)) := by rw [cAt_0]; exact bn9 (ms_1001 h (by omega)) f9
set_option maxRecDepth 8000 in
theorem M_cS_1b (h : Lok L) (hn : n < 6) {β9 : Type} (f9 : cH → Option β9) : (aS (hp L σ) (some (L.1 1001)) 100 (F_X13_cAt (Int32.ofNat n) 1) (.int v)).bind f9 = f9 (hp L (up2 σ 1001 (56 + 5 * n + 1) v)) := by rw [cAt_1]; exact bn9 (ms_1001 h (by omega)) f9
set_option maxRecDepth 8000 in
theorem M_cS_2b (h : Lok L) (hn : n < 6) {β9 : Type} (f9 : cH → Option β9) : (aS (hp L σ) (some (L.1 1001)) 100 (F_X13_cAt (Int32.ofNat n) 2) (.int v)).bind f9 = f9 (hp L (up2 σ 1001 (56 + 5 * n + 2) v)) := by rw [cAt_2]; exact bn9 (ms_1001 h (by omega)) f9
set_option maxRecDepth 8000 in
theorem M_cS_3b (h : Lok L) (hn : n < 6) {β9 : Type} (f9 : cH → Option β9) : (aS (hp L σ) (some (L.1 1001)) 100 (F_X13_cAt (Int32.ofNat n) 3) (.int v)).bind f9 = f9 (hp L (up2 σ 1001 (56 + 5 * n + 3) v)) := by rw [cAt_3]; exact bn9 (ms_1001 h (by omega)) f9
set_option maxRecDepth 8000 in
theorem M_cS_4b (h : Lok L) (hn : n < 6) {β9 : Type} (f9 : cH → Option β9) : (aS (hp L σ) (some (L.1 1001)) 100 (F_X13_cAt (Int32.ofNat n) 4) (.int v)).bind f9 = f9 (hp L (up2 σ 1001 (56 + 5 * n + 4) v)) := by rw [cAt_4]; exact bn9 (ms_1001 h (by omega)) f9
set_option maxRecDepth 8000 in
theorem M_eS_0b (h : Lok L) (hn : n < 8) {β9 : Type} (f9 : cH → Option β9) : (aS (hp L σ) (some (L.1 1001)) 100 (F_X13_eAt (Int32.ofNat n) 0) (.int v)).bind f9 = f9 (hp L (up2 σ 1001 (86 + 5 * n + 0) v)) := by rw [eAt_0]; exact bn9 (ms_1001 h (by omega)) f9
set_option maxRecDepth 8000 in
theorem M_eS_1b (h : Lok L) (hn : n < 8) {β9 : Type} (f9 : cH → Option β9) : (aS (hp L σ) (some (L.1 1001)) 100 (F_X13_eAt (Int32.ofNat n) 1) (.int v)).bind f9 = f9 (hp L (up2 σ 1001 (86 + 5 * n + 1) v)) := by rw [eAt_1]; exact bn9 (ms_1001 h (by omega)) f9
set_option maxRecDepth 8000 in
theorem M_eS_2b (h : Lok L) (hn : n < 8) {β9 : Type} (f9 : cH → Option β9) : (aS (hp L σ) (some (L.1 1001)) 100 (F_X13_eAt (Int32.ofNat n) 2) (.int v)).bind f9 = f9 (hp L (up2 σ 1001 (86 + 5 * n + 2) v)) := by rw [eAt_2]; exact bn9 (ms_1001 h (by omega)) f9
set_option maxRecDepth 8000 in
theorem M_eS_3b (h : Lok L) (hn : n < 8) {β9 : Type} (f9 : cH → Option β9) : (aS (hp L σ) (some (L.1 1001)) 100 (F_X13_eAt (Int32.ofNat n) 3) (.int v)).bind f9 = f9 (hp L (up2 σ 1001 (86 + 5 * n + 3) v)) := by rw [eAt_3]; exact bn9 (ms_1001 h (by omega)) f9
set_option maxRecDepth 8000 in
theorem M_eS_4b (h : Lok L) (hn : n < 8) {β9 : Type} (f9 : cH → Option β9) : (aS (hp L σ) (some (L.1 1001)) 100 (F_X13_eAt (Int32.ofNat n) 4) (.int v)).bind f9 = f9 (hp L (up2 σ 1001 (86 + 5 * n + 4) v)) := by rw [eAt_4]; exact bn9 (ms_1001 h (by omega)) f9
set_option maxRecDepth 8000 in
theorem M_wS_0b (h : Lok L) (hn : n < 6) {β9 : Type} (f9 : cH → Option β9) : (aS (hp L σ) (some (L.1 1001)) 100 (F_X13_wAt (Int32.ofNat n) 0) (.int v)).bind f9 = f9 (hp L (up2 σ 1001 (126 + 2 * n + 0) v)) := by rw [wAt_0]; exact bn9 (ms_1001 h (by omega)) f9
set_option maxRecDepth 8000 in
theorem M_wS_1b (h : Lok L) (hn : n < 6) {β9 : Type} (f9 : cH → Option β9) : (aS (hp L σ) (some (L.1 1001)) 100 (F_X13_wAt (Int32.ofNat n) 1) (.int v)).bind f9 = f9 (hp L (up2 σ 1001 (126 + 2 * n + 1) v)) := by rw [wAt_1]; exact bn9 (ms_1001 h (by omega)) f9
set_option maxRecDepth 8000 in
theorem M_s42b (h : Lok L) {β9 : Type} (f9 : cH → Option β9) : (aS (hp L σ) (some (L.1 1001)) 100 42 (.int v)).bind f9 = f9 (hp L (up2 σ 1001 42 v)) := bn9 (ms_1001 (n := 42) h (by omega)) f9
set_option maxRecDepth 8000 in
theorem M_s43b (h : Lok L) {β9 : Type} (f9 : cH → Option β9) : (aS (hp L σ) (some (L.1 1001)) 100 43 (.int v)).bind f9 = f9 (hp L (up2 σ 1001 43 v)) := bn9 (ms_1001 (n := 43) h (by omega)) f9
set_option maxRecDepth 8000 in
theorem M_s44b (h : Lok L) {β9 : Type} (f9 : cH → Option β9) : (aS (hp L σ) (some (L.1 1001)) 100 44 (.int v)).bind f9 = f9 (hp L (up2 σ 1001 44 v)) := bn9 (ms_1001 (n := 44) h (by omega)) f9
set_option maxRecDepth 8000 in
theorem M_s45b (h : Lok L) {β9 : Type} (f9 : cH → Option β9) : (aS (hp L σ) (some (L.1 1001)) 100 45 (.int v)).bind f9 = f9 (hp L (up2 σ 1001 45 v)) := bn9 (ms_1001 (n := 45) h (by omega)) f9
end L3p
/-! ### acts on a world -/
def wf (b : Nat) (σ σ' : St) : Prop := ∀ i, i < b ∨ b + 52 ≤ i → σ' i = σ i
set_option maxRecDepth 8000 in
theorem wf_up {b : Nat} {σ σ' : St} {i k : Nat} {v : Int32} (hi : b ≤ i ∧ i < b + 52) (h : wf b σ σ') : wf b σ (up2 σ' i k v) := by
  intro j hj; rw [← h j hj]; funext k'; rw [up2_ne (by omega)]
set_option maxRecDepth 8000 in
theorem wf_refl (b : Nat) (σ : St) : wf b σ σ := fun _ _ => rfl
def m1f (σ σ' : St) : Prop := ∀ i, i ≠ 1001 → σ' i = σ i
set_option maxRecDepth 8000 in
theorem m1f_refl (σ : St) : m1f σ σ := fun _ _ => rfl
set_option maxRecDepth 8000 in
theorem m1f_up {σ σ' : St} {k : Nat} {v : Int32} (h : m1f σ σ') : m1f σ (up2 σ' 1001 k v) := by
  intro j hj; rw [← h j hj]; funext k'; rw [up2_ne (by omega)]
def addC (ρ : Rw) (k p s : Int32) : Rw := up1 (up1 (up1 (up1 (up1 (up1 ρ (56 + 5 * NC ρ + 0) k) (56 + 5 * NC ρ + 1) p) (56 + 5 * NC ρ + 2) s) (56 + 5 * NC ρ + 3) 0) (56 + 5 * NC ρ + 4) 0) 42 (Int32.ofNat (NC ρ + 1))
def addE (ρ : Rw) (k p s : Int32) : Rw := up1 (up1 (up1 (up1 (up1 (up1 ρ (86 + 5 * NE ρ + 0) k) (86 + 5 * NE ρ + 1) p) (86 + 5 * NE ρ + 2) s) (86 + 5 * NE ρ + 3) 0) (86 + 5 * NE ρ + 4) (-1)) 43 (Int32.ofNat (NE ρ + 1))
def addW (ρ : Rw) (k : Int32) : Rw := up1 (up1 (up1 ρ (126 + 2 * NWr ρ + 0) k) (126 + 2 * NWr ρ + 1) (-1)) 44 (Int32.ofNat (NWr ρ + 1))
def putsR (ρ : Rw) (e : Nat) (how who : Int32) : Rw := up1 (up1 ρ (86 + 5 * e + 3) how) (86 + 5 * e + 4) who
def drawR (ρ : Rw) : Rw := up1 ρ 45 (ρ 45 * 1103515245 + 12345)
def drawV (ρ : Rw) : Int32 := ((ρ 45 * 1103515245 + 12345).toUInt32 >>> ((8 : Int32).toUInt32 &&& Int32.toUInt32 31)).toInt32
section L3q
variable {L : Lt} {σ : St} {b N : Nat} {ρ : Rw}
set_option maxRecDepth 8000 in
theorem x_addCarrier (h : Lok L) (hb : isW b = true) (hW : WX σ b ρ) (hN : ρ 42 = Int32.ofNat (NC ρ)) (h6 : NC ρ < 6) (k p s : Int32) : ∃ σ', F_X4_addCarrier (some (L.1 b)) k p s (hp L σ) = some (hp L σ') ∧ WX σ' b (addC ρ k p s) ∧ wf b σ σ' := by
  have hW1 := WX_c0 (v := k) h6 hW
  have hW2 := WX_c1 (v := p) h6 hW1
  have hW3 := WX_c2 (v := s) h6 hW2
  have hW4 := WX_c3 (v := 0) h6 hW3
  have hW5 := WX_c4 (v := 0) h6 hW4
  refine ⟨_, ?_, WX_f0 (v := Int32.ofNat (NC ρ + 1)) hW5, wf_up (by omega) (wf_up (by omega) (wf_up (by omega) (wf_up (by omega) (wf_up (by omega) (wf_up (by omega) (wf_refl _ _))))))⟩
  unfold F_X4_addCarrier
  simp (discharger := first | assumption | omega | decide) only [x_tg, w_tg, m_tg, ↓reduceIte, Option.bind_some, ↓x_0b, ↓x_1b, ↓x_2b, ↓x_3b, ↓x_4b, ↓x_5b, ↓x_6b, ↓x_7b, ↓x_8b, ↓x_9b, ↓x_10b, ↓x_11b, ↓x_12b, ↓x_13b, ↓x_14b, ↓x_15b, ↓x_16b, ↓x_17b, ↓x_18b, ↓x_19b, ↓xp_2b, ↓xp_6b, ↓xp_14b, ↓xp_17b, ↓xp_18b, ↓xp_19b, ↓X_f0b, ↓X_f2b, ↓X_f4b, ↓X_f8b, ↓wf_1b, ↓wf_3b, ↓wf_5b, ↓wf_6b, ↓wf_7b, ↓wf_9b, ↓wt_1_0b, ↓wt_1_1b, ↓wt_1_2b, ↓wt_1_3b, ↓wt_1_4b, ↓wt_11_0b, ↓wt_11_1b, ↓wt_11_2b, ↓wt_11_3b, ↓wt_11_4b, ↓wt_21_0b, ↓wt_21_1b, ↓wt_31_0b, ↓wt_31_1b, ↓wt_31_2b, ↓wt_31_3b, ↓wt_31_4b, ↓wt_31_5b, ↓wt_31_6b, ↓wt_41_0b, ↓wt_41_1b, ↓wt_41_2b, ↓wt_41_3b, ↓wt_41_4b, ↓wt_41_5b, ↓wt_41_6b, ↓wt_1b, ↓wt_11b, ↓wt_21b, ↓wt_31b, ↓wt_41b, ↓X_c0b, ↓X_c1b, ↓X_c2b, ↓X_c3b, ↓X_c4b, ↓X_e0b, ↓X_e1b, ↓X_e2b, ↓X_e3b, ↓X_e4b, ↓X_cb, ↓X_eb, ↓X_w0b, ↓X_w1b, ↓X_hb, ↓X_yb, ↓X_rb, ↓wp_0b, ↓wp_2b, ↓wp_4b, ↓wp_8b, ↓ws_2b, ↓ws_3b, ↓ws_4b, ↓ws_5b, ↓ws_6b, ↓ws_12b, ↓ws_13b, ↓ws_14b, ↓ws_15b, ↓ws_16b, ↓ws_22b, ↓ws_23b, ↓ws_51b, ↓wS_yb, ↓wS_rb, ↓wS_cb, ↓wS_eb, hN, up1_ne, ofNs]
set_option maxRecDepth 8000 in
theorem x_addErrand (h : Lok L) (hb : isW b = true) (hW : WX σ b ρ) (hN : ρ 43 = Int32.ofNat (NE ρ)) (h6 : NE ρ < 8) (k p s : Int32) : ∃ σ', F_X4_addErrand (some (L.1 b)) k p s (hp L σ) = some (hp L σ') ∧ WX σ' b (addE ρ k p s) ∧ wf b σ σ' := by
  have hW1 := WX_e0 (v := k) h6 hW
  have hW2 := WX_e1 (v := p) h6 hW1
  have hW3 := WX_e2 (v := s) h6 hW2
  have hW4 := WX_e3 (v := 0) h6 hW3
  have hW5 := WX_e4 (v := -1) h6 hW4
  refine ⟨_, ?_, WX_f2 (v := Int32.ofNat (NE ρ + 1)) hW5, wf_up (by omega) (wf_up (by omega) (wf_up (by omega) (wf_up (by omega) (wf_up (by omega) (wf_up (by omega) (wf_refl _ _))))))⟩
  unfold F_X4_addErrand
  simp (discharger := first | assumption | omega | decide) only [x_tg, w_tg, m_tg, ↓reduceIte, Option.bind_some, ↓x_0b, ↓x_1b, ↓x_2b, ↓x_3b, ↓x_4b, ↓x_5b, ↓x_6b, ↓x_7b, ↓x_8b, ↓x_9b, ↓x_10b, ↓x_11b, ↓x_12b, ↓x_13b, ↓x_14b, ↓x_15b, ↓x_16b, ↓x_17b, ↓x_18b, ↓x_19b, ↓xp_2b, ↓xp_6b, ↓xp_14b, ↓xp_17b, ↓xp_18b, ↓xp_19b, ↓X_f0b, ↓X_f2b, ↓X_f4b, ↓X_f8b, ↓wf_1b, ↓wf_3b, ↓wf_5b, ↓wf_6b, ↓wf_7b, ↓wf_9b, ↓wt_1_0b, ↓wt_1_1b, ↓wt_1_2b, ↓wt_1_3b, ↓wt_1_4b, ↓wt_11_0b, ↓wt_11_1b, ↓wt_11_2b, ↓wt_11_3b, ↓wt_11_4b, ↓wt_21_0b, ↓wt_21_1b, ↓wt_31_0b, ↓wt_31_1b, ↓wt_31_2b, ↓wt_31_3b, ↓wt_31_4b, ↓wt_31_5b, ↓wt_31_6b, ↓wt_41_0b, ↓wt_41_1b, ↓wt_41_2b, ↓wt_41_3b, ↓wt_41_4b, ↓wt_41_5b, ↓wt_41_6b, ↓wt_1b, ↓wt_11b, ↓wt_21b, ↓wt_31b, ↓wt_41b, ↓X_c0b, ↓X_c1b, ↓X_c2b, ↓X_c3b, ↓X_c4b, ↓X_e0b, ↓X_e1b, ↓X_e2b, ↓X_e3b, ↓X_e4b, ↓X_cb, ↓X_eb, ↓X_w0b, ↓X_w1b, ↓X_hb, ↓X_yb, ↓X_rb, ↓wp_0b, ↓wp_2b, ↓wp_4b, ↓wp_8b, ↓ws_2b, ↓ws_3b, ↓ws_4b, ↓ws_5b, ↓ws_6b, ↓ws_12b, ↓ws_13b, ↓ws_14b, ↓ws_15b, ↓ws_16b, ↓ws_22b, ↓ws_23b, ↓ws_51b, ↓wS_yb, ↓wS_rb, ↓wS_cb, ↓wS_eb, hN, up1_ne, ofNs]
set_option maxRecDepth 8000 in
theorem x_addWare (h : Lok L) (hb : isW b = true) (hW : WX σ b ρ) (hN : ρ 44 = Int32.ofNat (NWr ρ)) (h6 : NWr ρ < 6) (k : Int32) : ∃ σ', F_X4_addWare (some (L.1 b)) k (hp L σ) = some (hp L σ') ∧ WX σ' b (addW ρ k) ∧ wf b σ σ' := by
  have hW1 := WX_w0 (v := k) h6 hW
  have hW5 := WX_w1 (v := -1) h6 hW1
  refine ⟨_, ?_, WX_f4 (v := Int32.ofNat (NWr ρ + 1)) hW5, wf_up (by omega) (wf_up (by omega) (wf_up (by omega) (wf_refl _ _)))⟩
  unfold F_X4_addWare
  simp (discharger := first | assumption | omega | decide) only [x_tg, w_tg, m_tg, ↓reduceIte, Option.bind_some, ↓x_0b, ↓x_1b, ↓x_2b, ↓x_3b, ↓x_4b, ↓x_5b, ↓x_6b, ↓x_7b, ↓x_8b, ↓x_9b, ↓x_10b, ↓x_11b, ↓x_12b, ↓x_13b, ↓x_14b, ↓x_15b, ↓x_16b, ↓x_17b, ↓x_18b, ↓x_19b, ↓xp_2b, ↓xp_6b, ↓xp_14b, ↓xp_17b, ↓xp_18b, ↓xp_19b, ↓X_f0b, ↓X_f2b, ↓X_f4b, ↓X_f8b, ↓wf_1b, ↓wf_3b, ↓wf_5b, ↓wf_6b, ↓wf_7b, ↓wf_9b, ↓wt_1_0b, ↓wt_1_1b, ↓wt_1_2b, ↓wt_1_3b, ↓wt_1_4b, ↓wt_11_0b, ↓wt_11_1b, ↓wt_11_2b, ↓wt_11_3b, ↓wt_11_4b, ↓wt_21_0b, ↓wt_21_1b, ↓wt_31_0b, ↓wt_31_1b, ↓wt_31_2b, ↓wt_31_3b, ↓wt_31_4b, ↓wt_31_5b, ↓wt_31_6b, ↓wt_41_0b, ↓wt_41_1b, ↓wt_41_2b, ↓wt_41_3b, ↓wt_41_4b, ↓wt_41_5b, ↓wt_41_6b, ↓wt_1b, ↓wt_11b, ↓wt_21b, ↓wt_31b, ↓wt_41b, ↓X_c0b, ↓X_c1b, ↓X_c2b, ↓X_c3b, ↓X_c4b, ↓X_e0b, ↓X_e1b, ↓X_e2b, ↓X_e3b, ↓X_e4b, ↓X_cb, ↓X_eb, ↓X_w0b, ↓X_w1b, ↓X_hb, ↓X_yb, ↓X_rb, ↓wp_0b, ↓wp_2b, ↓wp_4b, ↓wp_8b, ↓ws_2b, ↓ws_3b, ↓ws_4b, ↓ws_5b, ↓ws_6b, ↓ws_12b, ↓ws_13b, ↓ws_14b, ↓ws_15b, ↓ws_16b, ↓ws_22b, ↓ws_23b, ↓ws_51b, ↓wS_yb, ↓wS_rb, ↓wS_cb, ↓wS_eb, hN, up1_ne, ofNs]
set_option maxRecDepth 8000 in
theorem x_lays (h : Lok L) (hb : isW b = true) (hW : WX σ b ρ) {p q : Nat} (hp9 : p < 7) (hq : q < 7) (hne : p ≠ q) (y r : Int32) : ∃ σ', F_X4_lays (some (L.1 b)) (Int32.ofNat p) (Int32.ofNat q) y r (hp L σ) = some (hp L σ') ∧ WX σ' b (layR ρ p q y r) ∧ wf b σ σ' := by
  refine ⟨_, ?_, WX_lay (y := y) (r := r) hp9 hq hne hW, wf_up (by omega) (wf_up (by omega) (wf_up (by omega) (wf_up (by omega) (wf_refl _ _))))⟩
  unfold F_X4_lays
  simp (discharger := first | assumption | omega | decide) only [x_tg, w_tg, m_tg, ↓reduceIte, Option.bind_some, ↓x_0b, ↓x_1b, ↓x_2b, ↓x_3b, ↓x_4b, ↓x_5b, ↓x_6b, ↓x_7b, ↓x_8b, ↓x_9b, ↓x_10b, ↓x_11b, ↓x_12b, ↓x_13b, ↓x_14b, ↓x_15b, ↓x_16b, ↓x_17b, ↓x_18b, ↓x_19b, ↓xp_2b, ↓xp_6b, ↓xp_14b, ↓xp_17b, ↓xp_18b, ↓xp_19b, ↓X_f0b, ↓X_f2b, ↓X_f4b, ↓X_f8b, ↓wf_1b, ↓wf_3b, ↓wf_5b, ↓wf_6b, ↓wf_7b, ↓wf_9b, ↓wt_1_0b, ↓wt_1_1b, ↓wt_1_2b, ↓wt_1_3b, ↓wt_1_4b, ↓wt_11_0b, ↓wt_11_1b, ↓wt_11_2b, ↓wt_11_3b, ↓wt_11_4b, ↓wt_21_0b, ↓wt_21_1b, ↓wt_31_0b, ↓wt_31_1b, ↓wt_31_2b, ↓wt_31_3b, ↓wt_31_4b, ↓wt_31_5b, ↓wt_31_6b, ↓wt_41_0b, ↓wt_41_1b, ↓wt_41_2b, ↓wt_41_3b, ↓wt_41_4b, ↓wt_41_5b, ↓wt_41_6b, ↓wt_1b, ↓wt_11b, ↓wt_21b, ↓wt_31b, ↓wt_41b, ↓X_c0b, ↓X_c1b, ↓X_c2b, ↓X_c3b, ↓X_c4b, ↓X_e0b, ↓X_e1b, ↓X_e2b, ↓X_e3b, ↓X_e4b, ↓X_cb, ↓X_eb, ↓X_w0b, ↓X_w1b, ↓X_hb, ↓X_yb, ↓X_rb, ↓wp_0b, ↓wp_2b, ↓wp_4b, ↓wp_8b, ↓ws_2b, ↓ws_3b, ↓ws_4b, ↓ws_5b, ↓ws_6b, ↓ws_12b, ↓ws_13b, ↓ws_14b, ↓ws_15b, ↓ws_16b, ↓ws_22b, ↓ws_23b, ↓ws_51b, ↓wS_yb, ↓wS_rb, ↓wS_cb, ↓wS_eb]
set_option maxRecDepth 8000 in
theorem x_puts (h : Lok L) (hb : isW b = true) (hW : WX σ b ρ) {e : Nat} (he : e < 8) (k p : Int32) : ∃ σ', F_X4_puts (some (L.1 b)) (Int32.ofNat e) k p (hp L σ) = some (hp L σ') ∧ WX σ' b (putsR ρ e k p) ∧ wf b σ σ' := by
  have hW1 := WX_e3 (v := k) he hW
  refine ⟨_, ?_, WX_e4 (v := p) he hW1, wf_up (by omega) (wf_up (by omega) (wf_refl _ _))⟩
  unfold F_X4_puts
  simp (discharger := first | assumption | omega | decide) only [x_tg, w_tg, m_tg, ↓reduceIte, Option.bind_some, ↓x_0b, ↓x_1b, ↓x_2b, ↓x_3b, ↓x_4b, ↓x_5b, ↓x_6b, ↓x_7b, ↓x_8b, ↓x_9b, ↓x_10b, ↓x_11b, ↓x_12b, ↓x_13b, ↓x_14b, ↓x_15b, ↓x_16b, ↓x_17b, ↓x_18b, ↓x_19b, ↓xp_2b, ↓xp_6b, ↓xp_14b, ↓xp_17b, ↓xp_18b, ↓xp_19b, ↓X_f0b, ↓X_f2b, ↓X_f4b, ↓X_f8b, ↓wf_1b, ↓wf_3b, ↓wf_5b, ↓wf_6b, ↓wf_7b, ↓wf_9b, ↓wt_1_0b, ↓wt_1_1b, ↓wt_1_2b, ↓wt_1_3b, ↓wt_1_4b, ↓wt_11_0b, ↓wt_11_1b, ↓wt_11_2b, ↓wt_11_3b, ↓wt_11_4b, ↓wt_21_0b, ↓wt_21_1b, ↓wt_31_0b, ↓wt_31_1b, ↓wt_31_2b, ↓wt_31_3b, ↓wt_31_4b, ↓wt_31_5b, ↓wt_31_6b, ↓wt_41_0b, ↓wt_41_1b, ↓wt_41_2b, ↓wt_41_3b, ↓wt_41_4b, ↓wt_41_5b, ↓wt_41_6b, ↓wt_1b, ↓wt_11b, ↓wt_21b, ↓wt_31b, ↓wt_41b, ↓X_c0b, ↓X_c1b, ↓X_c2b, ↓X_c3b, ↓X_c4b, ↓X_e0b, ↓X_e1b, ↓X_e2b, ↓X_e3b, ↓X_e4b, ↓X_cb, ↓X_eb, ↓X_w0b, ↓X_w1b, ↓X_hb, ↓X_yb, ↓X_rb, ↓wp_0b, ↓wp_2b, ↓wp_4b, ↓wp_8b, ↓ws_2b, ↓ws_3b, ↓ws_4b, ↓ws_5b, ↓ws_6b, ↓ws_12b, ↓ws_13b, ↓ws_14b, ↓ws_15b, ↓ws_16b, ↓ws_22b, ↓ws_23b, ↓ws_51b, ↓wS_yb, ↓wS_rb, ↓wS_cb, ↓wS_eb]
set_option maxRecDepth 8000 in
theorem x_draw (h : Lok L) (hb : isW b = true) (hW : WX σ b ρ) : ∃ σ', F_X4_draw (some (L.1 b)) (hp L σ) = some (drawV ρ, hp L σ') ∧ WX σ' b (drawR ρ) ∧ wf b σ σ' := by
  have hW1 := WX_f8 (v := ρ 45 * 1103515245 + 12345) hW
  refine ⟨_, ?_, hW1, wf_up (by omega) (wf_refl _ _)⟩
  unfold F_X4_draw
  simp (discharger := first | assumption | omega | decide) only [x_tg, w_tg, m_tg, ↓reduceIte, Option.bind_some, ↓x_0b, ↓x_1b, ↓x_2b, ↓x_3b, ↓x_4b, ↓x_5b, ↓x_6b, ↓x_7b, ↓x_8b, ↓x_9b, ↓x_10b, ↓x_11b, ↓x_12b, ↓x_13b, ↓x_14b, ↓x_15b, ↓x_16b, ↓x_17b, ↓x_18b, ↓x_19b, ↓xp_2b, ↓xp_6b, ↓xp_14b, ↓xp_17b, ↓xp_18b, ↓xp_19b, ↓X_f0b, ↓X_f2b, ↓X_f4b, ↓X_f8b, ↓wf_1b, ↓wf_3b, ↓wf_5b, ↓wf_6b, ↓wf_7b, ↓wf_9b, ↓wt_1_0b, ↓wt_1_1b, ↓wt_1_2b, ↓wt_1_3b, ↓wt_1_4b, ↓wt_11_0b, ↓wt_11_1b, ↓wt_11_2b, ↓wt_11_3b, ↓wt_11_4b, ↓wt_21_0b, ↓wt_21_1b, ↓wt_31_0b, ↓wt_31_1b, ↓wt_31_2b, ↓wt_31_3b, ↓wt_31_4b, ↓wt_31_5b, ↓wt_31_6b, ↓wt_41_0b, ↓wt_41_1b, ↓wt_41_2b, ↓wt_41_3b, ↓wt_41_4b, ↓wt_41_5b, ↓wt_41_6b, ↓wt_1b, ↓wt_11b, ↓wt_21b, ↓wt_31b, ↓wt_41b, ↓X_c0b, ↓X_c1b, ↓X_c2b, ↓X_c3b, ↓X_c4b, ↓X_e0b, ↓X_e1b, ↓X_e2b, ↓X_e3b, ↓X_e4b, ↓X_cb, ↓X_eb, ↓X_w0b, ↓X_w1b, ↓X_hb, ↓X_yb, ↓X_rb, ↓wp_0b, ↓wp_2b, ↓wp_4b, ↓wp_8b, ↓ws_2b, ↓ws_3b, ↓ws_4b, ↓ws_5b, ↓ws_6b, ↓ws_12b, ↓ws_13b, ↓ws_14b, ↓ws_15b, ↓ws_16b, ↓ws_22b, ↓ws_23b, ↓ws_51b, ↓wS_yb, ↓wS_rb, ↓wS_cb, ↓wS_eb, up1_same]
  rfl
set_option maxRecDepth 8000 in
theorem x_liesAt (h : Lok L) (hb : isW b = true) (hW : WX σ b ρ) {e : Nat} (he : e < 8) (v : Int32) : F_X4_liesAt (some (L.1 b)) (Int32.ofNat e) v (hp L σ) = some (if ρ (86 + 5 * e + 3) = 0 ∧ ρ (86 + 5 * e + 1) = v then 1 else 0) := by
  by_cases h1 : ρ (86 + 5 * e + 3) = 0
  · by_cases h2 : ρ (86 + 5 * e + 1) = v
    · rw [if_pos ⟨h1, h2⟩]
      simp (discharger := first | assumption | omega | decide) only [x_tg, w_tg, m_tg, ↓reduceIte, Option.bind_some, ↓x_0b, ↓x_1b, ↓x_2b, ↓x_3b, ↓x_4b, ↓x_5b, ↓x_6b, ↓x_7b, ↓x_8b, ↓x_9b, ↓x_10b, ↓x_11b, ↓x_12b, ↓x_13b, ↓x_14b, ↓x_15b, ↓x_16b, ↓x_17b, ↓x_18b, ↓x_19b, ↓xp_2b, ↓xp_6b, ↓xp_14b, ↓xp_17b, ↓xp_18b, ↓xp_19b, ↓X_f0b, ↓X_f2b, ↓X_f4b, ↓X_f8b, ↓wf_1b, ↓wf_3b, ↓wf_5b, ↓wf_6b, ↓wf_7b, ↓wf_9b, ↓wt_1_0b, ↓wt_1_1b, ↓wt_1_2b, ↓wt_1_3b, ↓wt_1_4b, ↓wt_11_0b, ↓wt_11_1b, ↓wt_11_2b, ↓wt_11_3b, ↓wt_11_4b, ↓wt_21_0b, ↓wt_21_1b, ↓wt_31_0b, ↓wt_31_1b, ↓wt_31_2b, ↓wt_31_3b, ↓wt_31_4b, ↓wt_31_5b, ↓wt_31_6b, ↓wt_41_0b, ↓wt_41_1b, ↓wt_41_2b, ↓wt_41_3b, ↓wt_41_4b, ↓wt_41_5b, ↓wt_41_6b, ↓wt_1b, ↓wt_11b, ↓wt_21b, ↓wt_31b, ↓wt_41b, ↓X_c0b, ↓X_c1b, ↓X_c2b, ↓X_c3b, ↓X_c4b, ↓X_e0b, ↓X_e1b, ↓X_e2b, ↓X_e3b, ↓X_e4b, ↓X_cb, ↓X_eb, ↓X_w0b, ↓X_w1b, ↓X_hb, ↓X_yb, ↓X_rb, ↓wp_0b, ↓wp_2b, ↓wp_4b, ↓wp_8b, ↓ws_2b, ↓ws_3b, ↓ws_4b, ↓ws_5b, ↓ws_6b, ↓ws_12b, ↓ws_13b, ↓ws_14b, ↓ws_15b, ↓ws_16b, ↓ws_22b, ↓ws_23b, ↓ws_51b, ↓wS_yb, ↓wS_rb, ↓wS_cb, ↓wS_eb, F_X4_liesAt, eq_true h1, eq_true h2, not_true_eq_false]
    · rw [if_neg (fun q => h2 q.2)]
      simp (discharger := first | assumption | omega | decide) only [x_tg, w_tg, m_tg, ↓reduceIte, Option.bind_some, ↓x_0b, ↓x_1b, ↓x_2b, ↓x_3b, ↓x_4b, ↓x_5b, ↓x_6b, ↓x_7b, ↓x_8b, ↓x_9b, ↓x_10b, ↓x_11b, ↓x_12b, ↓x_13b, ↓x_14b, ↓x_15b, ↓x_16b, ↓x_17b, ↓x_18b, ↓x_19b, ↓xp_2b, ↓xp_6b, ↓xp_14b, ↓xp_17b, ↓xp_18b, ↓xp_19b, ↓X_f0b, ↓X_f2b, ↓X_f4b, ↓X_f8b, ↓wf_1b, ↓wf_3b, ↓wf_5b, ↓wf_6b, ↓wf_7b, ↓wf_9b, ↓wt_1_0b, ↓wt_1_1b, ↓wt_1_2b, ↓wt_1_3b, ↓wt_1_4b, ↓wt_11_0b, ↓wt_11_1b, ↓wt_11_2b, ↓wt_11_3b, ↓wt_11_4b, ↓wt_21_0b, ↓wt_21_1b, ↓wt_31_0b, ↓wt_31_1b, ↓wt_31_2b, ↓wt_31_3b, ↓wt_31_4b, ↓wt_31_5b, ↓wt_31_6b, ↓wt_41_0b, ↓wt_41_1b, ↓wt_41_2b, ↓wt_41_3b, ↓wt_41_4b, ↓wt_41_5b, ↓wt_41_6b, ↓wt_1b, ↓wt_11b, ↓wt_21b, ↓wt_31b, ↓wt_41b, ↓X_c0b, ↓X_c1b, ↓X_c2b, ↓X_c3b, ↓X_c4b, ↓X_e0b, ↓X_e1b, ↓X_e2b, ↓X_e3b, ↓X_e4b, ↓X_cb, ↓X_eb, ↓X_w0b, ↓X_w1b, ↓X_hb, ↓X_yb, ↓X_rb, ↓wp_0b, ↓wp_2b, ↓wp_4b, ↓wp_8b, ↓ws_2b, ↓ws_3b, ↓ws_4b, ↓ws_5b, ↓ws_6b, ↓ws_12b, ↓ws_13b, ↓ws_14b, ↓ws_15b, ↓ws_16b, ↓ws_22b, ↓ws_23b, ↓ws_51b, ↓wS_yb, ↓wS_rb, ↓wS_cb, ↓wS_eb, F_X4_liesAt, eq_true h1, h2, not_true_eq_false, not_false_eq_true]
  · rw [if_neg (fun q => h1 q.1)]
    simp (discharger := first | assumption | omega | decide) only [x_tg, w_tg, m_tg, ↓reduceIte, Option.bind_some, ↓x_0b, ↓x_1b, ↓x_2b, ↓x_3b, ↓x_4b, ↓x_5b, ↓x_6b, ↓x_7b, ↓x_8b, ↓x_9b, ↓x_10b, ↓x_11b, ↓x_12b, ↓x_13b, ↓x_14b, ↓x_15b, ↓x_16b, ↓x_17b, ↓x_18b, ↓x_19b, ↓xp_2b, ↓xp_6b, ↓xp_14b, ↓xp_17b, ↓xp_18b, ↓xp_19b, ↓X_f0b, ↓X_f2b, ↓X_f4b, ↓X_f8b, ↓wf_1b, ↓wf_3b, ↓wf_5b, ↓wf_6b, ↓wf_7b, ↓wf_9b, ↓wt_1_0b, ↓wt_1_1b, ↓wt_1_2b, ↓wt_1_3b, ↓wt_1_4b, ↓wt_11_0b, ↓wt_11_1b, ↓wt_11_2b, ↓wt_11_3b, ↓wt_11_4b, ↓wt_21_0b, ↓wt_21_1b, ↓wt_31_0b, ↓wt_31_1b, ↓wt_31_2b, ↓wt_31_3b, ↓wt_31_4b, ↓wt_31_5b, ↓wt_31_6b, ↓wt_41_0b, ↓wt_41_1b, ↓wt_41_2b, ↓wt_41_3b, ↓wt_41_4b, ↓wt_41_5b, ↓wt_41_6b, ↓wt_1b, ↓wt_11b, ↓wt_21b, ↓wt_31b, ↓wt_41b, ↓X_c0b, ↓X_c1b, ↓X_c2b, ↓X_c3b, ↓X_c4b, ↓X_e0b, ↓X_e1b, ↓X_e2b, ↓X_e3b, ↓X_e4b, ↓X_cb, ↓X_eb, ↓X_w0b, ↓X_w1b, ↓X_hb, ↓X_yb, ↓X_rb, ↓wp_0b, ↓wp_2b, ↓wp_4b, ↓wp_8b, ↓ws_2b, ↓ws_3b, ↓ws_4b, ↓ws_5b, ↓ws_6b, ↓ws_12b, ↓ws_13b, ↓ws_14b, ↓ws_15b, ↓ws_16b, ↓ws_22b, ↓ws_23b, ↓ws_51b, ↓wS_yb, ↓wS_rb, ↓wS_cb, ↓wS_eb, F_X4_liesAt, h1, not_false_eq_true]
set_option maxRecDepth 8000 in
theorem m_liesAt (h : Lok L) (hM : WM σ ρ) {e : Nat} (he : e < 8) (v : Int32) : F_X13_liesAt (some (L.1 1000)) (Int32.ofNat e) v (hp L σ) = some (if ρ (86 + 5 * e + 3) = 0 ∧ ρ (86 + 5 * e + 1) = v then 1 else 0) := by
  by_cases h1 : ρ (86 + 5 * e + 3) = 0
  · by_cases h2 : ρ (86 + 5 * e + 1) = v
    · rw [if_pos ⟨h1, h2⟩]
      simp (discharger := first | assumption | omega | decide) only [x_tg, w_tg, m_tg, ↓reduceIte, Option.bind_some, ↓m_0b, ↓m_1b, ↓m_2b, ↓m_3b, ↓m_4b, ↓m_5b, ↓m_6b, ↓m_7b, ↓m_8b, ↓m_9b, ↓m_10b, ↓m_11b, ↓m_12b, ↓m_13b, ↓m_14b, ↓m_15b, ↓m_16b, ↓m_17b, ↓m_18b, ↓m_19b, ↓m_20b, ↓m_21b, ↓m_22b, ↓m_23b, ↓m_24b, ↓m_25b, ↓m_26b, ↓m_27b, ↓m_28b, ↓m_29b, ↓mp_3b, ↓mp_6b, ↓mp_10b, ↓mp_11b, ↓mp_12b, ↓mp_14b, ↓mp_15b, ↓mp_16b, ↓mp_17b, ↓mp_18b, ↓mp_19b, ↓mp_22b, ↓mp_23b, ↓mp_24b, ↓mp_25b, ↓M_42b, ↓M_43b, ↓M_44b, ↓M_45b, ↓cIs_0b, ↓cIs_1b, ↓cIs_2b, ↓cIs_3b, ↓cIs_4b, ↓eIs_0b, ↓eIs_1b, ↓eIs_2b, ↓eIs_3b, ↓eIs_4b, ↓cIs_nb, ↓eIs_nb, ↓M_rb, ↓M_cAt_0b, ↓M_cAt_1b, ↓M_cAt_2b, ↓M_cAt_3b, ↓M_cAt_4b, ↓M_eAt_0b, ↓M_eAt_1b, ↓M_eAt_2b, ↓M_eAt_3b, ↓M_eAt_4b, ↓M_wAt_0b, ↓M_wAt_1b, cAt_0, cAt_1, cAt_2, cAt_3, cAt_4, eAt_0, eAt_1, eAt_2, eAt_3, eAt_4, wAt_0, wAt_1, cAt_n, eAt_n, wAt_n, F_X13_liesAt, eq_true h1, eq_true h2, not_true_eq_false]
    · rw [if_neg (fun q => h2 q.2)]
      simp (discharger := first | assumption | omega | decide) only [x_tg, w_tg, m_tg, ↓reduceIte, Option.bind_some, ↓m_0b, ↓m_1b, ↓m_2b, ↓m_3b, ↓m_4b, ↓m_5b, ↓m_6b, ↓m_7b, ↓m_8b, ↓m_9b, ↓m_10b, ↓m_11b, ↓m_12b, ↓m_13b, ↓m_14b, ↓m_15b, ↓m_16b, ↓m_17b, ↓m_18b, ↓m_19b, ↓m_20b, ↓m_21b, ↓m_22b, ↓m_23b, ↓m_24b, ↓m_25b, ↓m_26b, ↓m_27b, ↓m_28b, ↓m_29b, ↓mp_3b, ↓mp_6b, ↓mp_10b, ↓mp_11b, ↓mp_12b, ↓mp_14b, ↓mp_15b, ↓mp_16b, ↓mp_17b, ↓mp_18b, ↓mp_19b, ↓mp_22b, ↓mp_23b, ↓mp_24b, ↓mp_25b, ↓M_42b, ↓M_43b, ↓M_44b, ↓M_45b, ↓cIs_0b, ↓cIs_1b, ↓cIs_2b, ↓cIs_3b, ↓cIs_4b, ↓eIs_0b, ↓eIs_1b, ↓eIs_2b, ↓eIs_3b, ↓eIs_4b, ↓cIs_nb, ↓eIs_nb, ↓M_rb, ↓M_cAt_0b, ↓M_cAt_1b, ↓M_cAt_2b, ↓M_cAt_3b, ↓M_cAt_4b, ↓M_eAt_0b, ↓M_eAt_1b, ↓M_eAt_2b, ↓M_eAt_3b, ↓M_eAt_4b, ↓M_wAt_0b, ↓M_wAt_1b, cAt_0, cAt_1, cAt_2, cAt_3, cAt_4, eAt_0, eAt_1, eAt_2, eAt_3, eAt_4, wAt_0, wAt_1, cAt_n, eAt_n, wAt_n, F_X13_liesAt, eq_true h1, h2, not_true_eq_false, not_false_eq_true]
  · rw [if_neg (fun q => h1 q.1)]
    simp (discharger := first | assumption | omega | decide) only [x_tg, w_tg, m_tg, ↓reduceIte, Option.bind_some, ↓m_0b, ↓m_1b, ↓m_2b, ↓m_3b, ↓m_4b, ↓m_5b, ↓m_6b, ↓m_7b, ↓m_8b, ↓m_9b, ↓m_10b, ↓m_11b, ↓m_12b, ↓m_13b, ↓m_14b, ↓m_15b, ↓m_16b, ↓m_17b, ↓m_18b, ↓m_19b, ↓m_20b, ↓m_21b, ↓m_22b, ↓m_23b, ↓m_24b, ↓m_25b, ↓m_26b, ↓m_27b, ↓m_28b, ↓m_29b, ↓mp_3b, ↓mp_6b, ↓mp_10b, ↓mp_11b, ↓mp_12b, ↓mp_14b, ↓mp_15b, ↓mp_16b, ↓mp_17b, ↓mp_18b, ↓mp_19b, ↓mp_22b, ↓mp_23b, ↓mp_24b, ↓mp_25b, ↓M_42b, ↓M_43b, ↓M_44b, ↓M_45b, ↓cIs_0b, ↓cIs_1b, ↓cIs_2b, ↓cIs_3b, ↓cIs_4b, ↓eIs_0b, ↓eIs_1b, ↓eIs_2b, ↓eIs_3b, ↓eIs_4b, ↓cIs_nb, ↓eIs_nb, ↓M_rb, ↓M_cAt_0b, ↓M_cAt_1b, ↓M_cAt_2b, ↓M_cAt_3b, ↓M_cAt_4b, ↓M_eAt_0b, ↓M_eAt_1b, ↓M_eAt_2b, ↓M_eAt_3b, ↓M_eAt_4b, ↓M_wAt_0b, ↓M_wAt_1b, cAt_0, cAt_1, cAt_2, cAt_3, cAt_4, eAt_0, eAt_1, eAt_2, eAt_3, eAt_4, wAt_0, wAt_1, cAt_n, eAt_n, wAt_n, F_X13_liesAt, h1, not_false_eq_true]
set_option maxRecDepth 8000 in
theorem m_newCarrier (h : Lok L) (hM : WM σ ρ) (hN : ρ 42 = Int32.ofNat (NC ρ)) (h6 : NC ρ < 6) (k p s : Int32) : ∃ σ', F_X13_newCarrier (some (L.1 1000)) k p s (hp L σ) = some (Int32.ofNat (NC ρ), hp L σ') ∧ WM σ' (addC ρ k p s) ∧ m1f σ σ' := by
  have hM1 := WM_up (i := 56 + 5 * NC ρ + 0) (v := k) hM
  have hM2 := WM_up (i := 56 + 5 * NC ρ + 1) (v := p) hM1
  have hM3 := WM_up (i := 56 + 5 * NC ρ + 2) (v := s) hM2
  have hM4 := WM_up (i := 56 + 5 * NC ρ + 3) (v := 0) hM3
  have hM5 := WM_up (i := 56 + 5 * NC ρ + 4) (v := 0) hM4
  refine ⟨_, ?_, WM_up (i := 42) (v := Int32.ofNat (NC ρ + 1)) hM5, m1f_up (m1f_up (m1f_up (m1f_up (m1f_up (m1f_up (m1f_refl _))))))⟩
  unfold F_X13_newCarrier
  simp (discharger := first | assumption | omega | decide) only [x_tg, w_tg, m_tg, ↓reduceIte, Option.bind_some, ↓m_0b, ↓m_1b, ↓m_2b, ↓m_3b, ↓m_4b, ↓m_5b, ↓m_6b, ↓m_7b, ↓m_8b, ↓m_9b, ↓m_10b, ↓m_11b, ↓m_12b, ↓m_13b, ↓m_14b, ↓m_15b, ↓m_16b, ↓m_17b, ↓m_18b, ↓m_19b, ↓m_20b, ↓m_21b, ↓m_22b, ↓m_23b, ↓m_24b, ↓m_25b, ↓m_26b, ↓m_27b, ↓m_28b, ↓m_29b, ↓mp_3b, ↓mp_6b, ↓mp_10b, ↓mp_11b, ↓mp_12b, ↓mp_14b, ↓mp_15b, ↓mp_16b, ↓mp_17b, ↓mp_18b, ↓mp_19b, ↓mp_22b, ↓mp_23b, ↓mp_24b, ↓mp_25b, ↓M_42b, ↓M_43b, ↓M_44b, ↓M_45b, ↓cIs_0b, ↓cIs_1b, ↓cIs_2b, ↓cIs_3b, ↓cIs_4b, ↓eIs_0b, ↓eIs_1b, ↓eIs_2b, ↓eIs_3b, ↓eIs_4b, ↓cIs_nb, ↓eIs_nb, ↓M_rb, ↓M_cAt_0b, ↓M_cAt_1b, ↓M_cAt_2b, ↓M_cAt_3b, ↓M_cAt_4b, ↓M_eAt_0b, ↓M_eAt_1b, ↓M_eAt_2b, ↓M_eAt_3b, ↓M_eAt_4b, ↓M_wAt_0b, ↓M_wAt_1b, cAt_0, cAt_1, cAt_2, cAt_3, cAt_4, eAt_0, eAt_1, eAt_2, eAt_3, eAt_4, wAt_0, wAt_1, cAt_n, eAt_n, wAt_n, ↓M_cS_0b, ↓M_cS_1b, ↓M_cS_2b, ↓M_cS_3b, ↓M_cS_4b, ↓M_eS_0b, ↓M_eS_1b, ↓M_eS_2b, ↓M_eS_3b, ↓M_eS_4b, ↓M_wS_0b, ↓M_wS_1b, ↓M_s42b, ↓M_s43b, ↓M_s44b, ↓M_s45b, ↓ms_1001b, ms_1001b, hN, up1_ne, ofNs]
set_option maxRecDepth 8000 in
theorem m_newErrand (h : Lok L) (hM : WM σ ρ) (hN : ρ 43 = Int32.ofNat (NE ρ)) (h6 : NE ρ < 8) (k p s : Int32) : ∃ σ', F_X13_newErrand (some (L.1 1000)) k p s (hp L σ) = some (Int32.ofNat (NE ρ), hp L σ') ∧ WM σ' (addE ρ k p s) ∧ m1f σ σ' := by
  have hM1 := WM_up (i := 86 + 5 * NE ρ + 0) (v := k) hM
  have hM2 := WM_up (i := 86 + 5 * NE ρ + 1) (v := p) hM1
  have hM3 := WM_up (i := 86 + 5 * NE ρ + 2) (v := s) hM2
  have hM4 := WM_up (i := 86 + 5 * NE ρ + 3) (v := 0) hM3
  have hM5 := WM_up (i := 86 + 5 * NE ρ + 4) (v := -1) hM4
  refine ⟨_, ?_, WM_up (i := 43) (v := Int32.ofNat (NE ρ + 1)) hM5, m1f_up (m1f_up (m1f_up (m1f_up (m1f_up (m1f_up (m1f_refl _))))))⟩
  unfold F_X13_newErrand
  simp (discharger := first | assumption | omega | decide) only [x_tg, w_tg, m_tg, ↓reduceIte, Option.bind_some, ↓m_0b, ↓m_1b, ↓m_2b, ↓m_3b, ↓m_4b, ↓m_5b, ↓m_6b, ↓m_7b, ↓m_8b, ↓m_9b, ↓m_10b, ↓m_11b, ↓m_12b, ↓m_13b, ↓m_14b, ↓m_15b, ↓m_16b, ↓m_17b, ↓m_18b, ↓m_19b, ↓m_20b, ↓m_21b, ↓m_22b, ↓m_23b, ↓m_24b, ↓m_25b, ↓m_26b, ↓m_27b, ↓m_28b, ↓m_29b, ↓mp_3b, ↓mp_6b, ↓mp_10b, ↓mp_11b, ↓mp_12b, ↓mp_14b, ↓mp_15b, ↓mp_16b, ↓mp_17b, ↓mp_18b, ↓mp_19b, ↓mp_22b, ↓mp_23b, ↓mp_24b, ↓mp_25b, ↓M_42b, ↓M_43b, ↓M_44b, ↓M_45b, ↓cIs_0b, ↓cIs_1b, ↓cIs_2b, ↓cIs_3b, ↓cIs_4b, ↓eIs_0b, ↓eIs_1b, ↓eIs_2b, ↓eIs_3b, ↓eIs_4b, ↓cIs_nb, ↓eIs_nb, ↓M_rb, ↓M_cAt_0b, ↓M_cAt_1b, ↓M_cAt_2b, ↓M_cAt_3b, ↓M_cAt_4b, ↓M_eAt_0b, ↓M_eAt_1b, ↓M_eAt_2b, ↓M_eAt_3b, ↓M_eAt_4b, ↓M_wAt_0b, ↓M_wAt_1b, cAt_0, cAt_1, cAt_2, cAt_3, cAt_4, eAt_0, eAt_1, eAt_2, eAt_3, eAt_4, wAt_0, wAt_1, cAt_n, eAt_n, wAt_n, ↓M_cS_0b, ↓M_cS_1b, ↓M_cS_2b, ↓M_cS_3b, ↓M_cS_4b, ↓M_eS_0b, ↓M_eS_1b, ↓M_eS_2b, ↓M_eS_3b, ↓M_eS_4b, ↓M_wS_0b, ↓M_wS_1b, ↓M_s42b, ↓M_s43b, ↓M_s44b, ↓M_s45b, ↓ms_1001b, ms_1001b, hN, up1_ne, ofNs]
set_option maxRecDepth 8000 in
theorem m_newWare (h : Lok L) (hM : WM σ ρ) (hN : ρ 44 = Int32.ofNat (NWr ρ)) (h6 : NWr ρ < 6) (k : Int32) : ∃ σ', F_X13_newWare (some (L.1 1000)) k (hp L σ) = some (Int32.ofNat (NWr ρ), hp L σ') ∧ WM σ' (addW ρ k) ∧ m1f σ σ' := by
  have hM1 := WM_up (i := 126 + 2 * NWr ρ + 0) (v := k) hM
  have hM5 := WM_up (i := 126 + 2 * NWr ρ + 1) (v := -1) hM1
  refine ⟨_, ?_, WM_up (i := 44) (v := Int32.ofNat (NWr ρ + 1)) hM5, m1f_up (m1f_up (m1f_up (m1f_refl _)))⟩
  unfold F_X13_newWare
  simp (discharger := first | assumption | omega | decide) only [x_tg, w_tg, m_tg, ↓reduceIte, Option.bind_some, ↓m_0b, ↓m_1b, ↓m_2b, ↓m_3b, ↓m_4b, ↓m_5b, ↓m_6b, ↓m_7b, ↓m_8b, ↓m_9b, ↓m_10b, ↓m_11b, ↓m_12b, ↓m_13b, ↓m_14b, ↓m_15b, ↓m_16b, ↓m_17b, ↓m_18b, ↓m_19b, ↓m_20b, ↓m_21b, ↓m_22b, ↓m_23b, ↓m_24b, ↓m_25b, ↓m_26b, ↓m_27b, ↓m_28b, ↓m_29b, ↓mp_3b, ↓mp_6b, ↓mp_10b, ↓mp_11b, ↓mp_12b, ↓mp_14b, ↓mp_15b, ↓mp_16b, ↓mp_17b, ↓mp_18b, ↓mp_19b, ↓mp_22b, ↓mp_23b, ↓mp_24b, ↓mp_25b, ↓M_42b, ↓M_43b, ↓M_44b, ↓M_45b, ↓cIs_0b, ↓cIs_1b, ↓cIs_2b, ↓cIs_3b, ↓cIs_4b, ↓eIs_0b, ↓eIs_1b, ↓eIs_2b, ↓eIs_3b, ↓eIs_4b, ↓cIs_nb, ↓eIs_nb, ↓M_rb, ↓M_cAt_0b, ↓M_cAt_1b, ↓M_cAt_2b, ↓M_cAt_3b, ↓M_cAt_4b, ↓M_eAt_0b, ↓M_eAt_1b, ↓M_eAt_2b, ↓M_eAt_3b, ↓M_eAt_4b, ↓M_wAt_0b, ↓M_wAt_1b, cAt_0, cAt_1, cAt_2, cAt_3, cAt_4, eAt_0, eAt_1, eAt_2, eAt_3, eAt_4, wAt_0, wAt_1, cAt_n, eAt_n, wAt_n, ↓M_cS_0b, ↓M_cS_1b, ↓M_cS_2b, ↓M_cS_3b, ↓M_cS_4b, ↓M_eS_0b, ↓M_eS_1b, ↓M_eS_2b, ↓M_eS_3b, ↓M_eS_4b, ↓M_wS_0b, ↓M_wS_1b, ↓M_s42b, ↓M_s43b, ↓M_s44b, ↓M_s45b, ↓ms_1001b, ms_1001b, hN, up1_ne, ofNs]
set_option maxRecDepth 8000 in
theorem m_become (h : Lok L) (hM : WM σ ρ) {i : Nat} (hi : i < 138) (v : Int32) : F_X13_become (some (L.1 1000)) (Int32.ofNat i) v (hp L σ) = some (ρ i, hp L (up2 σ 1001 i v)) := by
  unfold F_X13_become
  rw [if_pos (m_tg h), bn9 (m_0 h), bn9 (M_r h hM hi), bn9 (m_0 h), bn9 (ms_1001 h hi)]
set_option maxRecDepth 8000 in
theorem m_wayIs (h : Lok L) (hM : WM σ ρ) {p q : Nat} (hp9 : p < 7) (hq : q < 7) (hne : p ≠ q) (y r : Int32) : ∃ σ', F_X13_wayIs (some (L.1 1000)) (Int32.ofNat p) (Int32.ofNat q) y r (hp L σ) = some (ρ (wy p q), hp L σ') ∧ WM σ' (layR ρ p q y r) ∧ m1f σ σ' := by
  have hy := wy_lt p q hp9 hq hne
  have hM1 := WM_up (i := wy p q + 1) (v := r) hM
  refine ⟨_, ?_, WM_up (i := wy p q) (v := y) hM1, m1f_up (m1f_up (m1f_refl _))⟩
  unfold F_X13_wayIs
  rw [if_pos (m_tg h), bn9 (m_0 h), wayAt_n p q hp9 hq hne, ofNs, bn9 (ms_1001 h (show wy p q + 1 < 138 by omega)), cb9 (m_become h hM1 (show wy p q < 138 by omega) y), up1_ne (by omega)]
set_option maxRecDepth 8000 in
theorem m_taken (h : Lok L) (hM : WM σ ρ) {e : Nat} (he : e < 8) (c : Int32) : ∃ σ', F_X13_taken (some (L.1 1000)) c (Int32.ofNat e) (hp L σ) = some (hp L σ') ∧ WM σ' (putsR ρ e 1 c) ∧ m1f σ σ' := by
  have hM1 := WM_up (i := 86 + 5 * e + 3) (v := 1) hM
  refine ⟨_, ?_, WM_up (i := 86 + 5 * e + 4) (v := c) hM1, m1f_up (m1f_up (m1f_refl _))⟩
  unfold F_X13_taken
  simp (discharger := first | assumption | omega | decide) only [x_tg, w_tg, m_tg, ↓reduceIte, Option.bind_some, ↓m_0b, ↓m_1b, ↓m_2b, ↓m_3b, ↓m_4b, ↓m_5b, ↓m_6b, ↓m_7b, ↓m_8b, ↓m_9b, ↓m_10b, ↓m_11b, ↓m_12b, ↓m_13b, ↓m_14b, ↓m_15b, ↓m_16b, ↓m_17b, ↓m_18b, ↓m_19b, ↓m_20b, ↓m_21b, ↓m_22b, ↓m_23b, ↓m_24b, ↓m_25b, ↓m_26b, ↓m_27b, ↓m_28b, ↓m_29b, ↓mp_3b, ↓mp_6b, ↓mp_10b, ↓mp_11b, ↓mp_12b, ↓mp_14b, ↓mp_15b, ↓mp_16b, ↓mp_17b, ↓mp_18b, ↓mp_19b, ↓mp_22b, ↓mp_23b, ↓mp_24b, ↓mp_25b, ↓M_42b, ↓M_43b, ↓M_44b, ↓M_45b, ↓cIs_0b, ↓cIs_1b, ↓cIs_2b, ↓cIs_3b, ↓cIs_4b, ↓eIs_0b, ↓eIs_1b, ↓eIs_2b, ↓eIs_3b, ↓eIs_4b, ↓cIs_nb, ↓eIs_nb, ↓M_rb, ↓M_cAt_0b, ↓M_cAt_1b, ↓M_cAt_2b, ↓M_cAt_3b, ↓M_cAt_4b, ↓M_eAt_0b, ↓M_eAt_1b, ↓M_eAt_2b, ↓M_eAt_3b, ↓M_eAt_4b, ↓M_wAt_0b, ↓M_wAt_1b, cAt_0, cAt_1, cAt_2, cAt_3, cAt_4, eAt_0, eAt_1, eAt_2, eAt_3, eAt_4, wAt_0, wAt_1, cAt_n, eAt_n, wAt_n, ↓M_cS_0b, ↓M_cS_1b, ↓M_cS_2b, ↓M_cS_3b, ↓M_cS_4b, ↓M_eS_0b, ↓M_eS_1b, ↓M_eS_2b, ↓M_eS_3b, ↓M_eS_4b, ↓M_wS_0b, ↓M_wS_1b, ↓M_s42b, ↓M_s43b, ↓M_s44b, ↓M_s45b, ↓ms_1001b, ms_1001b]
end L3q
/-! ### the relation of both sides to what is kept; a step of both -/
def fsum (f : Nat → Int32) : Int32 := itF (fun k n => n + f k) 0 7 0
def stag (b : Nat) : Nat := if b = 8 then 101 else if b = 16 then 102 else 100
def shX (L : Lt) (σ : St) (s : Nat) (h : Nat × Nat × (Nat → Int32)) : Prop := (h.1 = 0 ∧ L.2.2.2.1 (50 + s) 0 = some none) ∨ (h.1 ≠ 0 ∧ L.2.2.2.1 (50 + s) 0 = some (some (54 + s)) ∧ dm L (54 + s) ∧ L.2.2.1 (54 + s) = (stag h.1, h.2.1) ∧ (∀ k, L.2.2.2.1 (54 + s) k = none) ∧ ∀ k, k < h.2.1 → σ (54 + s) k = h.2.2 k)
def kpX (σ : St) (k : Option Rw) : Prop := match k with
  | none => σ 0 6 = 0
  | some κ => σ 0 6 = 1 ∧ WX σ 300 κ
def kpM (σ : St) (k : Option Rw) : Prop := match k with
  | none => σ 1000 3 = 0
  | some κ => σ 1000 3 = 1 ∧ ∀ i, i < 138 → σ 1002 i = κ i
def XR (L : Lt) (σ : St) (S : Sg) : Prop := Lok L ∧ WX σ 200 S.1 ∧ CN σ ∧ PX σ ∧ kpX σ S.2.1 ∧ (∀ k, k < 7 → σ 8 k = S.2.2.1 k) ∧ (σ 0 2 = Int32.ofNat S.2.2.2.1.1 ∧ ∀ k, k < S.2.2.2.1.1 → σ 4 k &&& 255 = Int32.ofNat (S.2.2.2.1.2 k)) ∧ ∀ s, s < 4 → shX L σ s (S.2.2.2.2 s)
def MR (L : Lt) (σ : St) (S : Sg) : Prop := Lok L ∧ WM σ S.1 ∧ PM σ ∧ kpM σ S.2.1 ∧ (∀ k, k < 7 → σ 1004 (k + 1) = S.2.2.1 k) ∧ σ 1004 0 = fsum S.2.2.1 ∧ (σ 1000 14 = Int32.ofNat S.2.2.2.1.1 ∧ ∀ k, k < S.2.2.2.1.1 → σ 1009 k = Int32.ofNat (S.2.2.2.1.2 k)) ∧ ∀ s, s < 4 → σ 1012 s = Int32.ofNat (S.2.2.2.2 s).1 ∧ σ 1013 s = Int32.ofNat (S.2.2.2.2 s).2.1 ∧ ∀ k, k < (S.2.2.2.2 s).2.1 → σ 1014 (40 * s + k) = (S.2.2.2.2 s).2.2 k
def shI (h : Nat × Nat × (Nat → Int32)) : Prop := (h.1 = 0 ∨ h.1 = 8 ∨ h.1 = 16 ∨ h.1 = 32) ∧ h.2.1 ≤ 40 ∧ (h.1 = 8 → ∀ k, k < h.2.1 → -128 ≤ (h.2.2 k).toInt ∧ (h.2.2 k).toInt ≤ 127) ∧ (h.1 = 16 → ∀ k, k < h.2.1 → -32768 ≤ (h.2.2 k).toInt ∧ (h.2.2 k).toInt ≤ 32767)
def SI (S : Sg) : Prop := Inv S.1 ∧ (∀ κ, S.2.1 = some κ → Inv κ) ∧ S.2.2.2.1.1 ≤ 120 ∧ (∀ k, k < S.2.2.2.1.1 → S.2.2.2.1.2 k < 256) ∧ ∀ s, s < 4 → shI (S.2.2.2.2 s)
def TX (σ : St) : Prop := ∀ i k, i < 17 → k < stlen.getD i 0 → σ (1020 + i) k = (stbyt.getD i []).getD k 0
def RR (L : Lt) (σ : St) (S : Sg) : Prop := XR L σ S ∧ MR L σ S ∧ SI S ∧ TX σ
def STEP (L : Lt) (σ : St) (Fx Fm : cH → Option (Int32 × cH)) : Prop := ∃ r L' σ1 σ2 S', Fx (hp L σ) = some (r, hp L' σ1) ∧ Fm (hp L' σ1) = some (r, hp L' σ2) ∧ RR L' σ2 S'
section L3r
variable {L L' : Lt} {σ σ' : St} {S S' : Sg}
set_option maxRecDepth 8000 in
theorem kpX_congr {k : Option Rw} (h0 : σ' 0 6 = σ 0 6) (h : ∀ i, 300 ≤ i → i < 352 → σ' i = σ i) (hk : kpX σ k) : kpX σ' k := by
  cases k with
  | none => exact h0.trans hk
  | some κ => exact ⟨h0.trans hk.1, WX_congr h hk.2⟩
set_option maxRecDepth 8000 in
theorem shX_congr {s : Nat} {h : Nat × Nat × (Nat → Int32)} (hs : σ' (54 + s) = σ (54 + s)) (hk : shX L σ s h) : shX L σ' s h := by
  rcases hk with hk | ⟨h1, h2, h3, h4, h5, h6⟩
  · exact .inl hk
  · exact .inr ⟨h1, h2, h3, h4, h5, fun k hk => by rw [hs]; exact h6 k hk⟩
set_option maxRecDepth 8000 in
theorem XR_ag (h : ag σ σ') (hX : XR L σ S) : XR L σ' S := by
  obtain ⟨h1, h2, h3, h4, h5, h6, ⟨h7, h8⟩, h9⟩ := hX
  refine ⟨h1, WX_ag h rfl h2, CN_ag h h3, PX_ag h h4, kpX_congr (ag_0 h (by omega)) (fun i a b => ag_x h (by omega)) h5, fun k hk => ?_, ⟨?_, fun k hk => ?_⟩, fun s hs => shX_congr (ag_x h (by omega)) (h9 s hs)⟩
  · rw [ag_x h (by omega)]; exact h6 k hk
  · rw [ag_0 h (by omega)]; exact h7
  · rw [ag_x h (by omega)]; exact h8 k hk
set_option maxRecDepth 8000 in
theorem MR_ag (h : ag σ σ') (hM : MR L σ S) : MR L σ' S := by
  obtain ⟨h1, h2, h3, h5, h6, h6b, ⟨h7, h8⟩, h9⟩ := hM
  have g : ∀ i, 1000 ≤ i → i ≠ 1005 → i ≠ 1006 → i ≠ 1007 → σ' i = σ i := fun i a b c d => ag_x h (by omega)
  refine ⟨h1, WM_ag h h2, PM_ag h h3, ?_, fun k hk => ?_, ?_, ⟨?_, fun k hk => ?_⟩, fun s hs => ?_⟩
  · revert h5
    unfold kpM
    cases S.2.1 with
    | none => intro q; dsimp only at q ⊢; rw [g _ (by omega) (by omega) (by omega) (by omega)]; exact q
    | some κ => intro q; dsimp only at q ⊢; rw [g _ (by omega) (by omega) (by omega) (by omega), g 1002 (by omega) (by omega) (by omega) (by omega)]; exact q
  · rw [g _ (by omega) (by omega) (by omega) (by omega)]; exact h6 k hk
  · rw [g _ (by omega) (by omega) (by omega) (by omega)]; exact h6b
  · rw [g _ (by omega) (by omega) (by omega) (by omega)]; exact h7
  · rw [g _ (by omega) (by omega) (by omega) (by omega)]; exact h8 k hk
  · rw [g 1012 (by omega) (by omega) (by omega) (by omega), g 1013 (by omega) (by omega) (by omega) (by omega), g 1014 (by omega) (by omega) (by omega) (by omega)]; exact h9 s hs
set_option maxRecDepth 8000 in
theorem MR_xf (h : xf σ σ') (hM : MR L σ S) (hL : Lok L') : MR L' σ' S := by
  obtain ⟨h1, h2, h3, h5, h6, h6b, ⟨h7, h8⟩, h9⟩ := hM
  have g : ∀ i, 1000 ≤ i → σ' i = σ i := h
  refine ⟨hL, fun i hi => ?_, fun i hi => ?_, ?_, fun k hk => ?_, ?_, ⟨?_, fun k hk => ?_⟩, fun s hs => ?_⟩
  · rw [g _ (by omega)]; exact h2 i hi
  · rw [g _ (by omega)]; exact h3 i hi
  · revert h5
    unfold kpM
    cases S.2.1 with
    | none => intro q; dsimp only at q ⊢; rw [g _ (by omega)]; exact q
    | some κ => intro q; dsimp only at q ⊢; rw [g _ (by omega), g 1002 (by omega)]; exact q
  · rw [g _ (by omega)]; exact h6 k hk
  · rw [g _ (by omega)]; exact h6b
  · rw [g _ (by omega)]; exact h7
  · rw [g _ (by omega)]; exact h8 k hk
  · rw [g 1012 (by omega), g 1013 (by omega), g 1014 (by omega)]; exact h9 s hs
set_option maxRecDepth 8000 in
theorem XR_mf (h : mf σ σ') (hX : XR L σ S) : XR L σ' S := by
  obtain ⟨h1, h2, h3, h4, h5, h6, ⟨h7, h8⟩, h9⟩ := hX
  have g : ∀ i, i < 1000 → σ' i = σ i := fun i hi => h i (.inl hi)
  refine ⟨h1, WX_congr (fun i _ _ => g i (by omega)) h2, fun k hk => ?_, fun k hk => ?_, kpX_congr (by rw [g 0 (by omega)]) (fun i a b => g i (by omega)) h5, fun k hk => ?_, ⟨?_, fun k hk => ?_⟩, fun s hs => shX_congr (g _ (by omega)) (h9 s hs)⟩
  · rw [g _ (by omega)]; exact h3 k hk
  · rw [g _ (by omega)]; exact h4 k hk
  · rw [g _ (by omega)]; exact h6 k hk
  · rw [g _ (by omega)]; exact h7
  · rw [g _ (by omega)]; exact h8 k hk
set_option maxRecDepth 8000 in
theorem TX_xf (h : xf σ σ') (hT : TX σ) : TX σ' := fun i k hi hk => by rw [h _ (by omega)]; exact hT i k hi hk
set_option maxRecDepth 8000 in
theorem TX_mf (h : mf σ σ') (hT : TX σ) : TX σ' := fun i k hi hk => by rw [h _ (by omega)]; exact hT i k hi hk
set_option maxRecDepth 8000 in
theorem STEP_mk {Fx Fm : cH → Option (Int32 × cH)} (hR : RR L σ S) {r : Int32} {σ1 : St} (hx : Fx (hp L σ) = some (r, hp L' σ1)) (hX : XR L' σ1 S') (hf : xf σ σ1) (hS : SI S') (hm : MR L' σ1 S → TX σ1 → ∃ σ2, Fm (hp L' σ1) = some (r, hp L' σ2) ∧ MR L' σ2 S' ∧ mf σ1 σ2) : STEP L σ Fx Fm := by
  obtain ⟨σ2, h1, h2, h3⟩ := hm (MR_xf hf hR.2.1 hX.1) (TX_xf hf hR.2.2.2)
  exact ⟨r, L', σ1, σ2, S', hx, h1, XR_mf h3 hX, h2, hS, TX_mf h3 (TX_xf hf hR.2.2.2)⟩
/-- a finding -/
def fS (S : Sg) (k : Nat) : Sg := (S.1, S.2.1, fun j => if j = k then S.2.2.1 j + 1 else S.2.2.1 j, S.2.2.2)
set_option maxRecDepth 8000 in
theorem i3 (a b c : Int32) : a + (b + c) = b + (a + c) := by rw [← Int32.add_assoc, Int32.add_comm a b, Int32.add_assoc]
set_option maxRecDepth 8000 in
theorem fsum_up (f : Nat → Int32) {k : Nat} (hk : k < 7) : fsum (fun j => if j = k then f j + 1 else f j) = fsum f + 1 := by
  have e : ∀ g : Nat → Int32, fsum g = 0 + g 0 + g 1 + g 2 + g 3 + g 4 + g 5 + g 6 := fun _ => rfl
  rw [e, e]
  rcases kd_cases hk with rfl | rfl | rfl | rfl | rfl | rfl | rfl <;> simp [Int32.add_assoc] <;> simp [Int32.add_comm, i3]
set_option maxRecDepth 8000 in
theorem x_finding (hX : XR L σ S) {k : Nat} (hk : k < 7) : F_X0_finding (some (L.1 0)) (Int32.ofNat k) (hp L σ) = some (-1000001 - Int32.ofNat k, hp L (up2 σ 8 k (S.2.2.1 k + 1))) ∧ XR L (up2 σ 8 k (S.2.2.1 k + 1)) (fS S k) ∧ xf σ (up2 σ 8 k (S.2.2.1 k + 1)) := by
  obtain ⟨h1, h2, h3, h4, h5, h6, ⟨h7, h8⟩, h9⟩ := hX
  have g : ∀ i, i ≠ 8 → up2 σ 8 k (S.2.2.1 k + 1) i = σ i := fun i hi => by funext k'; rw [up2_ne (by omega)]
  refine ⟨?_, ⟨h1, WX_congr (fun i a b => g i (by omega)) h2, fun j hj => ?_, fun j hj => ?_, kpX_congr (by rw [g 0 (by omega)]) (fun i a b => g i (by omega)) h5, fun j hj => ?_, ⟨?_, fun j hj => ?_⟩, fun s hs => shX_congr (g _ (by omega)) (h9 s hs)⟩, fun i hi => g i (by omega)⟩
  · unfold F_X0_finding
    rw [if_pos (x_tg h1), bn9 (x_10 h1), bn9 (mi_8 h1 hk), bn9 (ms_8 h1 hk), h6 k hk]
  · rw [g _ (by omega)]; exact h3 j hj
  · rw [g _ (by omega)]; exact h4 j hj
  · show up2 σ 8 k (S.2.2.1 k + 1) 8 j = if j = k then S.2.2.1 j + 1 else S.2.2.1 j
    by_cases he : j = k
    · subst he; rw [up2_same, if_pos rfl]
    · rw [up2_ne (by omega), if_neg he]; exact h6 j hj
  · rw [g _ (by omega)]; exact h7
  · rw [g _ (by omega)]; exact h8 j hj
set_option maxRecDepth 8000 in
theorem fi_ix : ∀ k, k < 7 → ((-1000001 : Int32) - (-1000001 - Int32.ofNat k)) + 1 = Int32.ofNat (k + 1) := by decide
set_option maxRecDepth 8000 in
theorem m_finding (hM : MR L σ S) {k : Nat} (hk : k < 7) : ∃ σ', F_X13_finding (some (L.1 1000)) (-1000001 - Int32.ofNat k) (hp L σ) = some (-1000001 - Int32.ofNat k, hp L σ') ∧ MR L σ' (fS S k) ∧ mf σ σ' := by
  obtain ⟨h1, h2, h3, h5, h6, h6b, ⟨h7, h8⟩, h9⟩ := hM
  have g : ∀ i, i ≠ 1004 → up2 (up2 σ 1004 (k + 1) (S.2.2.1 k + 1)) 1004 0 (fsum S.2.2.1 + 1) i = σ i := fun i hi => by funext k'; rw [up2_ne (by omega), up2_ne (by omega)]
  refine ⟨up2 (up2 σ 1004 (k + 1) (S.2.2.1 k + 1)) 1004 0 (fsum S.2.2.1 + 1), ?_, ⟨h1, fun i hi => ?_, fun i hi => ?_, ?_, fun j hj => ?_, ?_, ⟨?_, fun j hj => ?_⟩, fun s hs => ?_⟩, fun i hi => g i (by omega)⟩
  · unfold F_X13_finding
    have e0 : up2 σ 1004 (k + 1) (S.2.2.1 k + 1) 1004 0 = fsum S.2.2.1 := by rw [up2_ne (by omega)]; exact h6b
    rw [if_pos (m_tg h1), bn9 (m_4 h1), fi_ix k hk, bn9 (mi_1004 h1 (show k + 1 < 8 by omega)), bn9 (ms_1004 h1 (show k + 1 < 8 by omega)), h6 k hk, bn9 (m_4 h1)]
    have q1 := mi_1004 (σ := up2 σ 1004 (k + 1) (S.2.2.1 k + 1)) (n := 0) h1 (by omega)
    have q2 := ms_1004 (σ := up2 σ 1004 (k + 1) (S.2.2.1 k + 1)) (n := 0) (v := fsum S.2.2.1 + 1) h1 (by omega)
    rw [show Int32.ofNat 0 = 0 from rfl] at q1 q2
    rw [bn9 q1, e0, bn9 q2]
  · rw [g _ (by omega)]; exact h2 i hi
  · rw [g _ (by omega)]; exact h3 i hi
  · revert h5
    unfold kpM
    show (match S.2.1 with | none => _ | some κ => _) → (match S.2.1 with | none => _ | some κ => _)
    cases S.2.1 with
    | none => intro q; dsimp only at q ⊢; rw [g _ (by omega)]; exact q
    | some κ => intro q; dsimp only at q ⊢; rw [g _ (by omega), g 1002 (by omega)]; exact q
  · show _ = if j = k then S.2.2.1 j + 1 else S.2.2.1 j
    rw [up2_ne (by omega)]
    by_cases he : j = k
    · subst he; rw [up2_same, if_pos rfl]
    · rw [up2_ne (by omega), if_neg he]; exact h6 j hj
  · rw [up2_same]; exact (fsum_up _ hk).symm
  · rw [g _ (by omega)]; exact h7
  · rw [g _ (by omega)]; exact h8 j hj
  · rw [g 1012 (by omega), g 1013 (by omega), g 1014 (by omega)]; exact h9 s hs
set_option maxRecDepth 8000 in
theorem STEP_fnd {Fx Fm : cH → Option (Int32 × cH)} (hR : RR L σ S) {k : Nat} (hk : k < 7) {mv xv : Int32} (hxv : xv = Int32.ofNat k) (hmv : mv = -1000001 - Int32.ofNat k) (hx : ∃ σa, Fx (hp L σ) = cb (F_X0_finding (some (L.1 0)) xv (hp L σa)) (fun i w => some (i, w)) ∧ ag σ σa ∧ xf σ σa) (hm : ∀ σ1, MR L σ1 S → ∃ σb, Fm (hp L σ1) = cb (F_X13_finding (some (L.1 1000)) mv (hp L σb)) (fun i w => some (i, w)) ∧ ag σ1 σb ∧ mf σ1 σb) : STEP L σ Fx Fm := by
  subst hxv hmv
  obtain ⟨σa, e1, ga, fa⟩ := hx
  obtain ⟨f1, f2, f3⟩ := x_finding (XR_ag ga hR.1) hk
  refine STEP_mk (S' := fS S k) hR (r := -1000001 - Int32.ofNat k) (by rw [e1, f1]; rfl) f2 (xf_trans fa f3) ⟨hR.2.2.1.1, hR.2.2.1.2.1, hR.2.2.1.2.2.1, hR.2.2.1.2.2.2.1, hR.2.2.1.2.2.2.2⟩ (fun hM _ => ?_)
  obtain ⟨σb, e2, gb, fb⟩ := hm _ hM
  obtain ⟨σ2, g1, g2, g3⟩ := m_finding (MR_ag gb hM) hk
  exact ⟨σ2, by rw [e2, g1]; rfl, g2, mf_trans fb g3⟩
set_option maxRecDepth 8000 in
theorem STEP_ret {Fx Fm : cH → Option (Int32 × cH)} (hR : RR L σ S) {r : Int32} (hx : ∃ σa, Fx (hp L σ) = some (r, hp L σa) ∧ ag σ σa ∧ xf σ σa) (hm : ∀ σ1, MR L σ1 S → ∃ σb, Fm (hp L σ1) = some (r, hp L σb) ∧ ag σ1 σb ∧ mf σ1 σb) : STEP L σ Fx Fm := by
  obtain ⟨σa, e1, ga, fa⟩ := hx
  refine STEP_mk (S' := S) hR (r := r) e1 (XR_ag ga hR.1) fa hR.2.2.1 (fun hM _ => ?_)
  obtain ⟨σb, e2, gb, fb⟩ := hm _ hM
  exact ⟨σb, e2, MR_ag gb hM, fb⟩
set_option maxRecDepth 8000 in
theorem XR_world {ρ' : Rw} (hW : WX σ' 200 ρ') (h : wf 200 σ σ') (hX : XR L σ S) : XR L σ' (ρ', S.2) := by
  obtain ⟨h1, h2, h3, h4, h5, h6, ⟨h7, h8⟩, h9⟩ := hX
  have g : ∀ i, i < 200 ∨ 252 ≤ i → σ' i = σ i := h
  refine ⟨h1, hW, fun k hk => ?_, fun k hk => ?_, kpX_congr (by rw [g 0 (by omega)]) (fun i a b => g i (by omega)) h5, fun k hk => ?_, ⟨?_, fun k hk => ?_⟩, fun s hs => shX_congr (g _ (by omega)) (h9 s hs)⟩
  · rw [g _ (by omega)]; exact h3 k hk
  · rw [g _ (by omega)]; exact h4 k hk
  · rw [g _ (by omega)]; exact h6 k hk
  · rw [g _ (by omega)]; exact h7
  · rw [g _ (by omega)]; exact h8 k hk
set_option maxRecDepth 8000 in
theorem MR_world {ρ' : Rw} (hW : WM σ' ρ') (h : m1f σ σ') (hM : MR L σ S) : MR L σ' (ρ', S.2) := by
  obtain ⟨h1, h2, h3, h5, h6, h6b, ⟨h7, h8⟩, h9⟩ := hM
  have g : ∀ i, i ≠ 1001 → σ' i = σ i := h
  refine ⟨h1, hW, fun i hi => ?_, ?_, fun k hk => ?_, ?_, ⟨?_, fun k hk => ?_⟩, fun s hs => ?_⟩
  · rw [g _ (by omega)]; exact h3 i hi
  · revert h5
    unfold kpM
    show (match S.2.1 with | none => _ | some κ => _) → (match S.2.1 with | none => _ | some κ => _)
    cases S.2.1 with
    | none => intro q; dsimp only at q ⊢; rw [g _ (by omega)]; exact q
    | some κ => intro q; dsimp only at q ⊢; rw [g _ (by omega), g 1002 (by omega)]; exact q
  · rw [g _ (by omega)]; exact h6 k hk
  · rw [g _ (by omega)]; exact h6b
  · rw [g _ (by omega)]; exact h7
  · rw [g _ (by omega)]; exact h8 k hk
  · rw [g 1012 (by omega), g 1013 (by omega), g 1014 (by omega)]; exact h9 s hs
set_option maxRecDepth 8000 in
theorem xf_wf (h : wf 200 σ σ') : xf σ σ' := fun i hi => h i (by omega)
set_option maxRecDepth 8000 in
theorem mf_m1f (h : m1f σ σ') : mf σ σ' := fun i hi => h i (by omega)
set_option maxRecDepth 8000 in
/-- both write into the world -/
theorem STEP_world {Fx Fm : cH → Option (Int32 × cH)} (hR : RR L σ S) {r : Int32} {ρ' : Rw} (hI : Inv ρ') (hx : ∃ σa σ1, Fx (hp L σ) = some (r, hp L σ1) ∧ ag σ σa ∧ xf σ σa ∧ WX σ1 200 ρ' ∧ wf 200 σa σ1) (hm : ∀ σ1, MR L σ1 S → ∃ σb σ2, Fm (hp L σ1) = some (r, hp L σ2) ∧ ag σ1 σb ∧ mf σ1 σb ∧ WM σ2 ρ' ∧ m1f σb σ2) : STEP L σ Fx Fm := by
  obtain ⟨σa, σ1, e1, ga, fa, hW, hw⟩ := hx
  refine STEP_mk (S' := (ρ', S.2)) hR (r := r) e1 (XR_world hW hw (XR_ag ga hR.1)) (xf_trans fa (xf_wf hw)) ⟨hI, hR.2.2.1.2⟩ (fun hM _ => ?_)
  obtain ⟨σb, σ2, e2, gb, fb, hW2, hw2⟩ := hm _ hM
  exact ⟨σ2, e2, MR_world hW2 hw2 (MR_ag gb hM), mf_trans fb (mf_m1f hw2)⟩
end L3r
/-! ### conditions -/
set_option maxRecDepth 8000 in
theorem in_cs (v : Int32) (a b : Nat) (ha : a < 2147483648) (hb : b < 2147483648) : (F_X0_in v (Int32.ofNat a) (Int32.ofNat b) = 1 ∧ ∃ n, a ≤ n ∧ n ≤ b ∧ v = Int32.ofNat n) ∨ F_X0_in v (Int32.ofNat a) (Int32.ofNat b) = 0 := by
  rw [in_eq, toI ha, toI hb]
  by_cases h : (a : Int) ≤ v.toInt ∧ v.toInt ≤ (b : Int)
  · rw [if_pos h]
    obtain ⟨n, e, e2, _⟩ := ofN_of (v := v) (by omega)
    exact .inl ⟨rfl, n, by omega, by omega, e⟩
  · rw [if_neg h]; exact .inr rfl
set_option maxRecDepth 8000 in
theorem in_neg (v : Int32) : F_X0_in v 0 (-1) = 0 := by
  rw [in_eq, show (0 : Int32).toInt = 0 from rfl, show (-1 : Int32).toInt = -1 from rfl, if_neg (by omega)]
set_option maxRecDepth 8000 in
theorem in_0_6 (v : Int32) : (F_X0_in v 0 6 = 1 ∧ ∃ n, 0 ≤ n ∧ n ≤ 6 ∧ v = Int32.ofNat n) ∨ F_X0_in v 0 6 = 0 := in_cs v 0 6 (by omega) (by omega)
set_option maxRecDepth 8000 in
theorem in_0_7 (v : Int32) : (F_X0_in v 0 7 = 1 ∧ ∃ n, 0 ≤ n ∧ n ≤ 7 ∧ v = Int32.ofNat n) ∨ F_X0_in v 0 7 = 0 := in_cs v 0 7 (by omega) (by omega)
set_option maxRecDepth 8000 in
theorem in_1_99 (v : Int32) : (F_X0_in v 1 99 = 1 ∧ ∃ n, 1 ≤ n ∧ n ≤ 99 ∧ v = Int32.ofNat n) ∨ F_X0_in v 1 99 = 0 := in_cs v 1 99 (by omega) (by omega)
set_option maxRecDepth 8000 in
theorem in_0_99 (v : Int32) : (F_X0_in v 0 99 = 1 ∧ ∃ n, 0 ≤ n ∧ n ≤ 99 ∧ v = Int32.ofNat n) ∨ F_X0_in v 0 99 = 0 := in_cs v 0 99 (by omega) (by omega)
set_option maxRecDepth 8000 in
theorem in_0_1 (v : Int32) : (F_X0_in v 0 1 = 1 ∧ ∃ n, 0 ≤ n ∧ n ≤ 1 ∧ v = Int32.ofNat n) ∨ F_X0_in v 0 1 = 0 := in_cs v 0 1 (by omega) (by omega)
set_option maxRecDepth 8000 in
theorem in_1_60 (v : Int32) : (F_X0_in v 1 60 = 1 ∧ ∃ n, 1 ≤ n ∧ n ≤ 60 ∧ v = Int32.ofNat n) ∨ F_X0_in v 1 60 = 0 := in_cs v 1 60 (by omega) (by omega)
set_option maxRecDepth 8000 in
theorem in_1_9999 (v : Int32) : (F_X0_in v 1 9999 = 1 ∧ ∃ n, 1 ≤ n ∧ n ≤ 9999 ∧ v = Int32.ofNat n) ∨ F_X0_in v 1 9999 = 0 := in_cs v 1 9999 (by omega) (by omega)
set_option maxRecDepth 8000 in
theorem in_0_3 (v : Int32) : (F_X0_in v 0 3 = 1 ∧ ∃ n, 0 ≤ n ∧ n ≤ 3 ∧ v = Int32.ofNat n) ∨ F_X0_in v 0 3 = 0 := in_cs v 0 3 (by omega) (by omega)
set_option maxRecDepth 8000 in
theorem in_0_9 (v : Int32) : (F_X0_in v 0 9 = 1 ∧ ∃ n, 0 ≤ n ∧ n ≤ 9 ∧ v = Int32.ofNat n) ∨ F_X0_in v 0 9 = 0 := in_cs v 0 9 (by omega) (by omega)
set_option maxRecDepth 8000 in
theorem in_0_5 (v : Int32) : (F_X0_in v 0 5 = 1 ∧ ∃ n, 0 ≤ n ∧ n ≤ 5 ∧ v = Int32.ofNat n) ∨ F_X0_in v 0 5 = 0 := in_cs v 0 5 (by omega) (by omega)
set_option maxRecDepth 8000 in
theorem in_1_12 (v : Int32) : (F_X0_in v 1 12 = 1 ∧ ∃ n, 1 ≤ n ∧ n ≤ 12 ∧ v = Int32.ofNat n) ∨ F_X0_in v 1 12 = 0 := in_cs v 1 12 (by omega) (by omega)
set_option maxRecDepth 8000 in
theorem in_1_4 (v : Int32) : (F_X0_in v 1 4 = 1 ∧ ∃ n, 1 ≤ n ∧ n ≤ 4 ∧ v = Int32.ofNat n) ∨ F_X0_in v 1 4 = 0 := in_cs v 1 4 (by omega) (by omega)
set_option maxRecDepth 8000 in
theorem in_0_999999 (v : Int32) : (F_X0_in v 0 999999 = 1 ∧ ∃ n, 0 ≤ n ∧ n ≤ 999999 ∧ v = Int32.ofNat n) ∨ F_X0_in v 0 999999 = 0 := in_cs v 0 999999 (by omega) (by omega)
set_option maxRecDepth 8000 in
theorem one_and : (1 : Int32) &&& 1 = 1 := by decide
set_option maxRecDepth 8000 in
theorem zero_and : (0 : Int32) &&& 1 = 0 := by decide
set_option maxRecDepth 8000 in
theorem one_ne : ¬ (1 : Int32) = 0 := by decide
def icV (n v : Int32) : Int32 := F_X0_in v 0 (n - 1) &&& 1
set_option maxRecDepth 8000 in
theorem icV_cs (N : Nat) (hN : N < 1000) (v : Int32) : (icV (Int32.ofNat N) v = 1 ∧ ∃ c, c < N ∧ v = Int32.ofNat c) ∨ icV (Int32.ofNat N) v = 0 := by
  unfold icV
  by_cases h0 : N = 0
  · subst h0
    rw [show Int32.ofNat 0 - 1 = -1 from by decide, in_neg]; exact .inr (by decide)
  · rw [show Int32.ofNat N - 1 = Int32.ofNat (N - 1) from ofN_sub (b := 1) (by omega)]
    rcases in_cs v 0 (N - 1) (by omega) (by omega) with ⟨e, n, _, hn, e2⟩ | e
    · have e : F_X0_in v 0 (Int32.ofNat (N - 1)) = 1 := e
      rw [e]; exact .inl ⟨by decide, n, by omega, e2⟩
    · have e : F_X0_in v 0 (Int32.ofNat (N - 1)) = 0 := e
      rw [e]; exact .inr (by decide)
set_option maxRecDepth 8000 in
theorem bit_n : ∀ s, s < 256 → F_J4_bitCount (Int32.ofNat s) = Int32.ofNat (cbn s 8) := by decide +kernel
def pb : Nat → Int32 → Int32 → Option Int32
  | 0, _, _ => none
  | f + 1, a, v => if v = 0 then some a else pb f (a + 1) (v &&& (v - 1))
set_option maxRecDepth 8000 in
theorem pb_eq (w : cH) : ∀ (f : Nat) (a v : Int32), F_X13_bits_L4 f a v w = pb f a v
  | 0, _, _ => rfl
  | f + 1, a, v => by
    show F_X13_bits_B4 _ _ _ _ = _
    unfold F_X13_bits_B4 pb
    rw [pb_eq w f]
set_option maxRecDepth 8000 in
theorem pb_n : ∀ s, s < 256 → pb 20 0 (Int32.ofNat s) = some (Int32.ofNat (cbn s 8)) := by decide +kernel
set_option maxRecDepth 8000 in
theorem pb_mono : ∀ (f : Nat) (a v r : Int32), pb f a v = some r → ∀ g, pb (f + g) a v = some r
  | 0, _, _, _, h, _ => by cases h
  | f + 1, a, v, r, h, g => by
    rw [show f + 1 + g = (f + g) + 1 by omega]
    unfold pb at h ⊢
    by_cases hv : v = 0
    · rw [if_pos hv] at h ⊢; exact h
    · rw [if_neg hv] at h ⊢; exact pb_mono f _ _ _ h g
set_option maxRecDepth 8000 in
theorem bits_n (w : cH) {s : Nat} (hs : s < 256) : F_X13_bits (Int32.ofNat s) w = some (Int32.ofNat (cbn s 8)) := by
  unfold F_X13_bits
  rw [pb_eq w]
  exact pb_mono 20 _ _ _ (pb_n s hs) 4076
set_option maxRecDepth 8000 in
theorem cbn_top {s N : Nat} (hs : s < 2 ^ N) : ∀ k, cbn s (N + k) = cbn s N
  | 0 => rfl
  | k + 1 => by
    rw [show N + (k + 1) = N + k + 1 by omega, cbn_succ, cbn_top hs k, Nat.testBit_lt_two_pow (Nat.lt_of_lt_of_le hs (Nat.pow_le_pow_right (n := 2) (by decide) (show N ≤ N + k by omega)))]
    simp
set_option maxRecDepth 8000 in
theorem cbn_8 {s N : Nat} (h8 : N ≤ 8) (hs : s < 2 ^ N) : cbn s 8 = cbn s N := by
  have := cbn_top hs (8 - N); rwa [show N + (8 - N) = 8 by omega] at this
set_option maxRecDepth 8000 in
theorem cbn_le (s n : Nat) : cbn s n ≤ n := by
  induction n with
  | zero => exact Nat.le_refl _
  | succ n ih => rw [cbn_succ]; split <;> omega
set_option maxRecDepth 8000 in
theorem shN : ∀ N, N ≤ 8 → ((1 : Int32) <<< (Int32.ofNat N &&& 31)) - 1 = Int32.ofNat (2 ^ N - 1) := by decide +kernel
set_option maxRecDepth 8000 in
theorem p2_8 {N : Nat} (h : N ≤ 8) : 2 ^ N ≤ 256 ∧ 0 < 2 ^ N := ⟨Nat.pow_le_pow_right (n := 2) (by decide) h, Nat.pow_pos (by decide)⟩
section L3s
variable {L : Lt} {σ : St} {ρ : Rw} {N : Nat}
set_option maxRecDepth 8000 in
theorem x_isCarrier (h : Lok L) (hW : WX σ 200 ρ) (v : Int32) : F_X0_isCarrier (some (L.1 0)) v (hp L σ) = some (icV (ρ 42) v) := by
  unfold F_X0_isCarrier; rw [if_pos (x_tg h), bn9 (x_3 h), bn9 (X_f0 h rfl hW)]; rfl
set_option maxRecDepth 8000 in
theorem x_isErrand (h : Lok L) (hW : WX σ 200 ρ) (v : Int32) : F_X0_isErrand (some (L.1 0)) v (hp L σ) = some (icV (ρ 43) v) := by
  unfold F_X0_isErrand; rw [if_pos (x_tg h), bn9 (x_3 h), bn9 (X_f2 h rfl hW)]; rfl
set_option maxRecDepth 8000 in
theorem x_isWare (h : Lok L) (hW : WX σ 200 ρ) (v : Int32) : F_X0_isWare (some (L.1 0)) v (hp L σ) = some (icV (ρ 44) v) := by
  unfold F_X0_isWare; rw [if_pos (x_tg h), bn9 (x_3 h), bn9 (X_f4 h rfl hW)]; rfl
set_option maxRecDepth 8000 in
theorem m_isCarrier (h : Lok L) (hM : WM σ ρ) (v : Int32) : F_X13_isCarrier (some (L.1 1000)) v (hp L σ) = some (icV (ρ 42) v) := by
  unfold F_X13_isCarrier; rw [if_pos (m_tg h), bn9 (m_0 h), bn9 (M_42 h hM)]; rfl
set_option maxRecDepth 8000 in
theorem m_isErrand (h : Lok L) (hM : WM σ ρ) (v : Int32) : F_X13_isErrand (some (L.1 1000)) v (hp L σ) = some (icV (ρ 43) v) := by
  unfold F_X13_isErrand; rw [if_pos (m_tg h), bn9 (m_0 h), bn9 (M_43 h hM)]; rfl
set_option maxRecDepth 8000 in
theorem m_isWare (h : Lok L) (hM : WM σ ρ) (v : Int32) : F_X13_isWare (some (L.1 1000)) v (hp L σ) = some (icV (ρ 44) v) := by
  unfold F_X13_isWare; rw [if_pos (m_tg h), bn9 (m_0 h), bn9 (M_44 h hM)]; rfl
/-- a set of errands; of at most five -/
def isV (ρ : Rw) (v : Int32) : Int32 := F_X0_in v 0 (((1 : Int32) <<< (ρ 43 &&& 31)) - 1)
set_option maxRecDepth 8000 in
theorem isV_cs (hI : Inv ρ) (v : Int32) : (isV ρ v = 1 ∧ ∃ s, s < 2 ^ NE ρ ∧ s < 256 ∧ v = Int32.ofNat s) ∨ isV ρ v = 0 := by
  have h8 := p2_8 hI.2.1.2
  unfold isV
  rw [hI.2.1.1, shN _ hI.2.1.2]
  rcases in_cs v 0 (2 ^ NE ρ - 1) (by omega) (by omega) with ⟨e, n, _, hn, e2⟩ | e
  · exact .inl ⟨e, n, by omega, by omega, e2⟩
  · exact .inr e
set_option maxRecDepth 8000 in
theorem x_isSet (h : Lok L) (hW : WX σ 200 ρ) (v : Int32) : F_X0_isSet (some (L.1 0)) v (hp L σ) = some (isV ρ v &&& 1) := by
  unfold F_X0_isSet; rw [if_pos (x_tg h), bn9 (x_3 h), bn9 (X_f2 h rfl hW)]; rfl
def fwV (ρ : Rw) (v : Int32) : Int32 := if isV ρ v = 0 then 0 else if 5 < F_J4_bitCount v then 0 else 1
set_option maxRecDepth 8000 in
theorem x_isFew (h : Lok L) (hW : WX σ 200 ρ) (hI : Inv ρ) (v : Int32) : F_X0_isFew (some (L.1 0)) v (hp L σ) = some (fwV ρ v) := by
  unfold F_X0_isFew fwV
  rw [if_pos (x_tg h), bn9 (x_isSet h hW v)]
  rcases isV_cs hI v with ⟨e, _⟩ | e
  · rw [e, one_and, if_neg one_ne, if_neg one_ne]; split <;> rfl
  · rw [e, zero_and, if_pos rfl, if_pos rfl]
set_option maxRecDepth 8000 in
theorem m_isFew (h : Lok L) (hM : WM σ ρ) (hI : Inv ρ) (v : Int32) : F_X13_isSet (some (L.1 1000)) v 5 (hp L σ) = some (fwV ρ v) := by
  unfold F_X13_isSet fwV
  rw [if_pos (m_tg h), bn9 (m_0 h), bn9 (M_43 h hM), within_eq]
  show (if isV ρ v = 0 then _ else _) = _
  rcases isV_cs hI v with ⟨e, s, hs, hs8, rfl⟩ | e
  · rw [e, if_neg one_ne, if_neg one_ne, bn9 (bits_n _ hs8), bit_n s hs8]; split <;> rfl
  · rw [e, if_pos rfl, if_pos rfl]
set_option maxRecDepth 8000 in
theorem m_isSet8 (h : Lok L) (hM : WM σ ρ) (hI : Inv ρ) (v : Int32) : F_X13_isSet (some (L.1 1000)) v 8 (hp L σ) = some (isV ρ v) := by
  unfold F_X13_isSet
  rw [if_pos (m_tg h), bn9 (m_0 h), bn9 (M_43 h hM), within_eq]
  show (if isV ρ v = 0 then _ else _) = _
  rcases isV_cs hI v with ⟨e, s, hs, hs8, rfl⟩ | e
  · have := cbn_le s 8
    rw [e, if_neg one_ne, bn9 (bits_n _ hs8), li_8, if_neg (by rw [ofN_lt (by omega) (by omega)]; omega)]
  · rw [e, if_pos rfl]
set_option maxRecDepth 8000 in
theorem fwV_cs (hI : Inv ρ) (v : Int32) : (fwV ρ v = 1 ∧ ∃ s, s < 2 ^ NE ρ ∧ s < 256 ∧ cbn s (NE ρ) ≤ 5 ∧ v = Int32.ofNat s) ∨ fwV ρ v = 0 := by
  unfold fwV
  rcases isV_cs hI v with ⟨e, s, hs, hs8, rfl⟩ | e
  · rw [e, if_neg one_ne, bit_n s hs8, cbn_8 hI.2.1.2 hs]
    have := cbn_le s (NE ρ)
    have := hI.2.1.2
    rw [li_5]
    by_cases h5 : 5 < cbn s (NE ρ)
    · rw [if_pos ((ofN_lt (by omega) (by omega)).mpr h5)]; exact .inr rfl
    · rw [if_neg (fun q => h5 ((ofN_lt (by omega) (by omega)).mp q))]
      exact .inl ⟨rfl, s, hs, hs8, by omega, rfl⟩
  · rw [e, if_pos rfl]; exact .inr rfl
set_option maxRecDepth 8000 in
theorem x_isCarrierb (h : Lok L) (hW : WX σ 200 ρ) (v : Int32) {β9 : Type} (f9 : Int32 → Option β9) : (F_X0_isCarrier (some (L.1 0)) v (hp L σ)).bind f9 = f9 (icV (ρ 42) v) := bn9 (x_isCarrier h hW v) f9
set_option maxRecDepth 8000 in
theorem m_isCarrierb (h : Lok L) (hM : WM σ ρ) (v : Int32) {β9 : Type} (f9 : Int32 → Option β9) : (F_X13_isCarrier (some (L.1 1000)) v (hp L σ)).bind f9 = f9 (icV (ρ 42) v) := bn9 (m_isCarrier h hM v) f9
set_option maxRecDepth 8000 in
theorem x_isErrandb (h : Lok L) (hW : WX σ 200 ρ) (v : Int32) {β9 : Type} (f9 : Int32 → Option β9) : (F_X0_isErrand (some (L.1 0)) v (hp L σ)).bind f9 = f9 (icV (ρ 43) v) := bn9 (x_isErrand h hW v) f9
set_option maxRecDepth 8000 in
theorem m_isErrandb (h : Lok L) (hM : WM σ ρ) (v : Int32) {β9 : Type} (f9 : Int32 → Option β9) : (F_X13_isErrand (some (L.1 1000)) v (hp L σ)).bind f9 = f9 (icV (ρ 43) v) := bn9 (m_isErrand h hM v) f9
set_option maxRecDepth 8000 in
theorem x_isWareb (h : Lok L) (hW : WX σ 200 ρ) (v : Int32) {β9 : Type} (f9 : Int32 → Option β9) : (F_X0_isWare (some (L.1 0)) v (hp L σ)).bind f9 = f9 (icV (ρ 44) v) := bn9 (x_isWare h hW v) f9
set_option maxRecDepth 8000 in
theorem m_isWareb (h : Lok L) (hM : WM σ ρ) (v : Int32) {β9 : Type} (f9 : Int32 → Option β9) : (F_X13_isWare (some (L.1 1000)) v (hp L σ)).bind f9 = f9 (icV (ρ 44) v) := bn9 (m_isWare h hM v) f9
set_option maxRecDepth 8000 in
theorem x_isSetb (h : Lok L) (hW : WX σ 200 ρ) (v : Int32) {β9 : Type} (f9 : Int32 → Option β9) : (F_X0_isSet (some (L.1 0)) v (hp L σ)).bind f9 = f9 (isV ρ v &&& 1) := bn9 (x_isSet h hW v) f9
set_option maxRecDepth 8000 in
theorem x_isFewb (h : Lok L) (hW : WX σ 200 ρ) (hI : Inv ρ) (v : Int32) {β9 : Type} (f9 : Int32 → Option β9) : (F_X0_isFew (some (L.1 0)) v (hp L σ)).bind f9 = f9 (fwV ρ v) := bn9 (x_isFew h hW hI v) f9
set_option maxRecDepth 8000 in
theorem m_isFewb (h : Lok L) (hM : WM σ ρ) (hI : Inv ρ) (v : Int32) {β9 : Type} (f9 : Int32 → Option β9) : (F_X13_isSet (some (L.1 1000)) v 5 (hp L σ)).bind f9 = f9 (fwV ρ v) := bn9 (m_isFew h hM hI v) f9
set_option maxRecDepth 8000 in
theorem icC (hI : Inv ρ) (v : Int32) : (icV (ρ 42) v = 1 ∧ ∃ c, c < NC ρ ∧ c < 6 ∧ v = Int32.ofNat c) ∨ icV (ρ 42) v = 0 := by
  have h6 := hI.1.2
  rw [hI.1.1]
  rcases icV_cs (NC ρ) (by omega) v with ⟨e, c, hc, hv⟩ | e
  · exact .inl ⟨e, c, hc, by omega, hv⟩
  · exact .inr e
set_option maxRecDepth 8000 in
theorem icE (hI : Inv ρ) (v : Int32) : (icV (ρ 43) v = 1 ∧ ∃ c, c < NE ρ ∧ c < 8 ∧ v = Int32.ofNat c) ∨ icV (ρ 43) v = 0 := by
  have h6 := hI.2.1.2
  rw [hI.2.1.1]
  rcases icV_cs (NE ρ) (by omega) v with ⟨e, c, hc, hv⟩ | e
  · exact .inl ⟨e, c, hc, by omega, hv⟩
  · exact .inr e
set_option maxRecDepth 8000 in
theorem icW (hI : Inv ρ) (v : Int32) : (icV (ρ 44) v = 1 ∧ ∃ c, c < NWr ρ ∧ c < 6 ∧ v = Int32.ofNat c) ∨ icV (ρ 44) v = 0 := by
  have h6 := hI.2.2.1.2
  rw [hI.2.2.1.1]
  rcases icV_cs (NWr ρ) (by omega) v with ⟨e, c, hc, hv⟩ | e
  · exact .inl ⟨e, c, hc, by omega, hv⟩
  · exact .inr e
end L3s
