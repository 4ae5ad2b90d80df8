section
/-- what the two objects' states have in common: the mode is 0 to 7; the kept way back counts in mode 7 alone, and is there the same -/
def cs_ok (s b b' : Int32) : Prop :=
  s = 0 ∨ s = 1 ∨ s = 2 ∨ s = 3 ∨ s = 4 ∨ s = 5 ∨ s = 6 ∨ (s = 7 ∧ b = b' ∧ (b = 5 ∨ b = 6))
/-- the same mode, the same count of removed chars; the ways back by cs_ok -/
def i_Rel (_ : Nat) (u : SX) (v : SY) : Prop :=
  ∃ (s b b' : Int32) (d : Int64), u = (s, b, d) ∧ v = (s, b', d) ∧ cs_ok s b b'

/-- the char cast is the mask -/
theorem cs_char (v : Int32) : (v.toUInt32 % 65536).toInt32 = v &&& 65535 :=
  (lg_i2c_nf v).trans (lg_i2c_mask v)

theorem cs_r0 (k : Nat) (b b' : Int32) (d : Int64) : i_Rel k (0, b, d) (0, b', d) :=
  ⟨0, b, b', d, rfl, rfl, Or.inl rfl⟩
theorem cs_r1 (k : Nat) (b b' : Int32) (d : Int64) : i_Rel k (1, b, d) (1, b', d) :=
  ⟨1, b, b', d, rfl, rfl, Or.inr (Or.inl rfl)⟩
theorem cs_r2 (k : Nat) (b b' : Int32) (d : Int64) : i_Rel k (2, b, d) (2, b', d) :=
  ⟨2, b, b', d, rfl, rfl, Or.inr (Or.inr (Or.inl rfl))⟩
theorem cs_r3 (k : Nat) (b b' : Int32) (d : Int64) : i_Rel k (3, b, d) (3, b', d) :=
  ⟨3, b, b', d, rfl, rfl, Or.inr (Or.inr (Or.inr (Or.inl rfl)))⟩
theorem cs_r4 (k : Nat) (b b' : Int32) (d : Int64) : i_Rel k (4, b, d) (4, b', d) :=
  ⟨4, b, b', d, rfl, rfl, Or.inr (Or.inr (Or.inr (Or.inr (Or.inl rfl))))⟩
theorem cs_r5 (k : Nat) (b b' : Int32) (d : Int64) : i_Rel k (5, b, d) (5, b', d) :=
  ⟨5, b, b', d, rfl, rfl, Or.inr (Or.inr (Or.inr (Or.inr (Or.inr (Or.inl rfl)))))⟩
theorem cs_r6 (k : Nat) (b b' : Int32) (d : Int64) : i_Rel k (6, b, d) (6, b', d) :=
  ⟨6, b, b', d, rfl, rfl, Or.inr (Or.inr (Or.inr (Or.inr (Or.inr (Or.inr (Or.inl rfl))))))⟩
theorem cs_r7 (k : Nat) (b : Int32) (d : Int64) (h : b = 5 ∨ b = 6) : i_Rel k (7, b, d) (7, b, d) :=
  ⟨7, b, b, d, rfl, rfl, Or.inr (Or.inr (Or.inr (Or.inr (Or.inr (Or.inr (Or.inr ⟨rfl, rfl, h⟩))))))⟩

/-- mode 0: code -/
theorem cs_s0 (k : Nat) (b b' : Int32) (d : Int64) (v1 : Int32) : wpX_feed (fun r u' => wpY_feed (fun r' v' => r' = r ∧ i_Rel k u' v') (0, b', d) v1) (0, b, d) v1 := by
  intro x ex
  have ey : (v1.toUInt32 % 65536).toInt32 = x := (cs_char v1).trans ex.symm
  have Y : ∀ post : Int32 → SY → Prop, wY_feed_96 post x 0 0 b' d → wpY_feed post (0, b', d) v1 := by
    intro post h y hy
    cases hy.trans ey
    exact br_f (by decide) (br_f (by decide) (br_t rfl h))
  refine br_t rfl (br_c (fun h => ?_) (fun n1 => br_c (fun h => ?_) (fun n2 => br_c (fun h => ?_) (fun n3 => ?_))))
  · exact Y _ (br_t h ⟨rfl, cs_r1 k b b' d⟩)
  · exact Y _ (br_f n1 (br_t h ⟨Int32.zero_or, cs_r5 k b b' d⟩))
  · exact Y _ (br_f n1 (br_f n2 (br_t h ⟨Int32.zero_or, cs_r6 k b b' d⟩)))
  · exact Y _ (br_f n1 (br_f n2 (br_f n3 ⟨Int32.zero_or, cs_r0 k b b' d⟩)))

/-- mode 1: a slash is held -/
theorem cs_s1 (k : Nat) (b b' : Int32) (d : Int64) (v1 : Int32) : wpX_feed (fun r u' => wpY_feed (fun r' v' => r' = r ∧ i_Rel k u' v') (1, b', d) v1) (1, b, d) v1 := by
  intro x ex
  have ey : (v1.toUInt32 % 65536).toInt32 = x := (cs_char v1).trans ex.symm
  have Y1 : ∀ post : Int32 → SY → Prop, x = 47 → wY_feed_76 post 2 1 b' d → wpY_feed post (1, b', d) v1 := by
    intro post h47 h y hy
    cases hy.trans ey
    exact br_f (by decide) (br_f (by decide) (br_f (by decide) (br_t rfl (br_t h47 (br_t h47 h)))))
  have Y2 : ∀ post : Int32 → SY → Prop, ¬ x = 47 → x = 42 → wY_feed_76 post 3 1 b' d → wpY_feed post (1, b', d) v1 := by
    intro post n47 h42 h y hy
    cases hy.trans ey
    exact br_f (by decide) (br_f (by decide) (br_f (by decide) (br_t rfl (br_f n47 (br_t h42 (br_f n47 h))))))
  have Y3 : ∀ post : Int32 → SY → Prop, ¬ x = 47 → ¬ x = 42 → wY_feed_96 post x 3080192 1 b' d → wpY_feed post (1, b', d) v1 := by
    intro post n47 n42 h y hy
    cases hy.trans ey
    exact br_f (by decide) (br_f (by decide) (br_f (by decide) (br_t rfl (br_f n47 (br_f n42 h)))))
  refine br_f (by decide) (br_t rfl (br_c (fun h d1 e1 => ?_) (fun n1 => br_c (fun h d1 e1 => ?_) (fun n2 => br_c (fun h => ?_) (fun n3 => br_c (fun h => ?_) (fun n4 => ?_))))))
  · refine Y1 _ h ?_
    intro d2 e2
    cases e2.trans e1.symm
    exact ⟨rfl, cs_r2 k b b' _⟩
  · refine Y2 _ n1 h ?_
    intro d2 e2
    cases e2.trans e1.symm
    exact ⟨rfl, cs_r3 k b b' _⟩
  · exact Y3 _ n1 n2 (br_f n1 (br_t h ⟨rfl, cs_r5 k b b' d⟩))
  · exact Y3 _ n1 n2 (br_f n1 (br_f n3 (br_t h ⟨rfl, cs_r6 k b b' d⟩)))
  · exact Y3 _ n1 n2 (br_f n1 (br_f n3 (br_f n4 ⟨rfl, cs_r0 k b b' d⟩)))

/-- mode 2: a comment to the line's end -/
theorem cs_s2 (k : Nat) (b b' : Int32) (d : Int64) (v1 : Int32) : wpX_feed (fun r u' => wpY_feed (fun r' v' => r' = r ∧ i_Rel k u' v') (2, b', d) v1) (2, b, d) v1 := by
  intro x ex
  have ey : (v1.toUInt32 % 65536).toInt32 = x := (cs_char v1).trans ex.symm
  refine br_f (by decide) (br_f (by decide) (br_t rfl (br_c (fun h => ?_) (fun n d1 e1 => ?_))))
  · intro y hy
    cases hy.trans ey
    exact br_f (by decide) (br_f (by decide) (br_f (by decide) (br_f (by decide) (br_t rfl (br_t h ⟨h, cs_r0 k b b' d⟩)))))
  · intro y hy
    cases hy.trans ey
    refine br_f (by decide) (br_f (by decide) (br_f (by decide) (br_f (by decide) (br_t rfl (br_f n (fun d2 e2 => ?_))))))
    cases e2.trans e1.symm
    exact ⟨rfl, cs_r2 k b b' _⟩

/-- mode 3: a block comment -/
theorem cs_s3 (k : Nat) (b b' : Int32) (d : Int64) (v1 : Int32) : wpX_feed (fun r u' => wpY_feed (fun r' v' => r' = r ∧ i_Rel k u' v') (3, b', d) v1) (3, b, d) v1 := by
  intro x ex
  have ey : (v1.toUInt32 % 65536).toInt32 = x := (cs_char v1).trans ex.symm
  have Y : ∀ post : Int32 → SY → Prop, wY_feed_186 post x 3 b' d → wpY_feed post (3, b', d) v1 := by
    intro post h y hy
    cases hy.trans ey
    exact br_f (by decide) (br_f (by decide) (br_f (by decide) (br_f (by decide) (br_f (by decide) (br_t rfl (br_f (by decide) h))))))
  refine br_f (by decide) (br_f (by decide) (br_f (by decide) (br_t rfl (fun d1 e1 => br_c (fun h => ?_) (fun n => ?_)))))
  · refine Y _ (br_t h ?_)
    intro d2 e2
    cases e2.trans e1.symm
    exact ⟨rfl, cs_r4 k b b' _⟩
  · refine Y _ (br_f n ?_)
    intro d2 e2
    cases e2.trans e1.symm
    exact ⟨rfl, cs_r3 k b b' _⟩

/-- mode 4: a star in a block comment -/
theorem cs_s4 (k : Nat) (b b' : Int32) (d : Int64) (v1 : Int32) : wpX_feed (fun r u' => wpY_feed (fun r' v' => r' = r ∧ i_Rel k u' v') (4, b', d) v1) (4, b, d) v1 := by
  intro x ex
  have ey : (v1.toUInt32 % 65536).toInt32 = x := (cs_char v1).trans ex.symm
  have Y : ∀ post : Int32 → SY → Prop, wY_feed_164 post x 4 b' d → wpY_feed post (4, b', d) v1 := by
    intro post h y hy
    cases hy.trans ey
    exact br_f (by decide) (br_f (by decide) (br_f (by decide) (br_f (by decide) (br_f (by decide) (br_f (by decide) (br_t rfl h))))))
  refine br_f (by decide) (br_f (by decide) (br_f (by decide) (br_f (by decide) (br_t rfl (br_c (fun h => ?_) (fun n d1 e1 => br_c (fun h => ?_) (fun n2 => ?_)))))))
  · exact Y _ (br_t rfl (br_t h ⟨rfl, cs_r0 k b b' d⟩))
  · refine Y _ (br_t rfl (br_f n (br_t h ?_)))
    intro d2 e2
    cases e2.trans e1.symm
    exact ⟨rfl, cs_r4 k b b' _⟩
  · refine Y _ (br_t rfl (br_f n (br_f n2 ?_)))
    intro d2 e2
    cases e2.trans e1.symm
    exact ⟨rfl, cs_r3 k b b' _⟩

/-- mode 5: a string -/
theorem cs_s5 (k : Nat) (b b' : Int32) (d : Int64) (v1 : Int32) : wpX_feed (fun r u' => wpY_feed (fun r' v' => r' = r ∧ i_Rel k u' v') (5, b', d) v1) (5, b, d) v1 := by
  intro x ex
  have ey : (v1.toUInt32 % 65536).toInt32 = x := (cs_char v1).trans ex.symm
  have Y : ∀ post : Int32 → SY → Prop, wY_feed_213 post x 5 b' d → wpY_feed post (5, b', d) v1 := by
    intro post h y hy
    cases hy.trans ey
    exact br_f (by decide) (br_f (by decide) (br_f (by decide) (br_f (by decide) (br_f (by decide) (br_f (by decide) (br_f (by decide) (br_t rfl h)))))))
  refine br_f (by decide) (br_f (by decide) (br_f (by decide) (br_f (by decide) (br_f (by decide) (br_t rfl (br_c (fun h => ?_) (fun n => br_c (fun h => ?_) (fun n2 => ?_))))))))
  · exact Y _ (br_t h ⟨rfl, cs_r7 k 5 d (Or.inl rfl)⟩)
  · exact Y _ (br_f n (br_t rfl (br_t h ⟨rfl, cs_r0 k b b' d⟩)))
  · exact Y _ (br_f n (br_t rfl (br_f n2 ⟨rfl, cs_r5 k b b' d⟩)))

/-- mode 6: a char in quotes -/
theorem cs_s6 (k : Nat) (b b' : Int32) (d : Int64) (v1 : Int32) : wpX_feed (fun r u' => wpY_feed (fun r' v' => r' = r ∧ i_Rel k u' v') (6, b', d) v1) (6, b, d) v1 := by
  intro x ex
  have ey : (v1.toUInt32 % 65536).toInt32 = x := (cs_char v1).trans ex.symm
  have Y : ∀ post : Int32 → SY → Prop, wY_feed_213 post x 6 b' d → wpY_feed post (6, b', d) v1 := by
    intro post h y hy
    cases hy.trans ey
    exact br_f (by decide) (br_f (by decide) (br_f (by decide) (br_f (by decide) (br_f (by decide) (br_f (by decide) (br_f (by decide) (br_f (by decide) (br_t rfl h))))))))
  refine br_f (by decide) (br_f (by decide) (br_f (by decide) (br_f (by decide) (br_f (by decide) (br_f (by decide) (br_t rfl (br_c (fun h => ?_) (fun n => br_c (fun h => ?_) (fun n2 => ?_)))))))))
  · exact Y _ (br_t h ⟨rfl, cs_r7 k 6 d (Or.inr rfl)⟩)
  · exact Y _ (br_f n (br_f (by decide) (br_t h ⟨rfl, cs_r0 k b b' d⟩)))
  · exact Y _ (br_f n (br_f (by decide) (br_f n2 ⟨rfl, cs_r6 k b b' d⟩)))

/-- mode 7: behind a backslash; the way back is the same on both sides -/
theorem cs_s7 (k : Nat) (b : Int32) (hb : b = 5 ∨ b = 6) (d : Int64) (v1 : Int32) : wpX_feed (fun r u' => wpY_feed (fun r' v' => r' = r ∧ i_Rel k u' v') (7, b, d) v1) (7, b, d) v1 := by
  have R : i_Rel k (b, b, d) (b, b, d) := by
    rcases hb with hb | hb
    · cases hb; exact cs_r5 k 5 5 d
    · cases hb; exact cs_r6 k 6 6 d
  intro x ex
  have ey : (v1.toUInt32 % 65536).toInt32 = x := (cs_char v1).trans ex.symm
  refine br_f (by decide) (br_f (by decide) (br_f (by decide) (br_f (by decide) (br_f (by decide) (br_f (by decide) (br_f (by decide) ?_))))))
  intro y hy
  cases hy.trans ey
  exact br_f (by decide) (br_t (by decide) ⟨rfl, R⟩)
end
section
theorem i_up {k : Nat} {u : SX} {v : SY} (h : i_Rel k u v) : i_Rel (k + 2) u v := h
theorem i_vc0 : wpX_init (fun u => wpY_init (fun v => i_Rel 0 u v)) := cs_r0 0 5 0 0
theorem i_vc_feed {k : Nat} {u : SX} {v : SY} (I : i_Rel k u v) (hk : k + 2 ≤ 1024) (v1 : Int32) : wpX_feed (fun r u' => wpY_feed (fun r' v' => r' = r ∧ i_Rel (k + 2) u' v') v v1) u v1 := by
  obtain ⟨s, b, b', d, rfl, rfl, h⟩ := I
  rcases h with rfl | rfl | rfl | rfl | rfl | rfl | rfl | ⟨rfl, rfl, hb⟩
  · exact cs_s0 (k + 2) b b' d v1
  · exact cs_s1 (k + 2) b b' d v1
  · exact cs_s2 (k + 2) b b' d v1
  · exact cs_s3 (k + 2) b b' d v1
  · exact cs_s4 (k + 2) b b' d v1
  · exact cs_s5 (k + 2) b b' d v1
  · exact cs_s6 (k + 2) b b' d v1
  · exact cs_s7 (k + 2) b hb d v1
theorem i_vc_state {k : Nat} {u : SX} {v : SY} (I : i_Rel k u v) (hk : k + 2 ≤ 1024) : wpX_state (fun r => wpY_state (fun r' => r' = r ∧ i_Rel (k + 2) u v) v) u := by
  obtain ⟨s, b, b', d, rfl, rfl, h⟩ := I
  exact And.intro rfl ⟨s, b, b', d, rfl, rfl, h⟩
theorem i_vc_dropped {k : Nat} {u : SX} {v : SY} (I : i_Rel k u v) (hk : k + 2 ≤ 1024) : wpX_dropped (fun r => wpY_dropped (fun r' => r' = r ∧ i_Rel (k + 2) u v) v) u := by
  obtain ⟨s, b, b', d, rfl, rfl, h⟩ := I
  exact And.intro rfl ⟨s, b, b', d, rfl, rfl, h⟩
end
