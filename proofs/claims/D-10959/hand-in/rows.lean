section
/-- the array of zeros -/
abbrev fc_z : Nat → Int32 := fun _ => 0
theorem fc_zu (k : Nat) : upd fc_z k 0 = fc_z := by
  funext j
  unfold upd
  split <;> rfl
theorem fc_dt {c : Prop} [Decidable c] (h : decide c = true) : c := of_decide_eq_true h
theorem fc_df {c : Prop} [Decidable c] (h : decide c = false) : ¬ c := of_decide_eq_false h
theorem fc_vin {x : Int32} {n : Nat} (h : decide (0 ≤ x.toInt ∧ x.toInt < n) = true) : vp_in x n := vp_in_iff.mpr (of_decide_eq_true h)
theorem fc_reset23 {post : St2 → Prop} {nc fc lv cp nd pn le wc dc sc : Int32} {ac : Int64} {a1 a2 a3 a4 a5 a6 a7 a8 a9 a10 a11 a12 a13 a14 a15 a16 a17 a18 a19 a20 a21 a23 a24 a25 a26 : Nat → Int32} (hp : post (nc, fc, lv, cp, nd, pn, le, wc, ac, dc, 0, a1, a2, a3, a4, a5, a6, a7, a8, a9, a10, a11, a12, a13, a14, a15, a16, a17, a18, a19, a20, a21, fc_z, a23, a24, a25, a26)) : ∃ n, wX_reset_23 post nc fc lv cp nd pn le wc ac dc sc n 0 a1 a2 a3 a4 a5 a6 a7 a8 a9 a10 a11 a12 a13 a14 a15 a16 a17 a18 a19 a20 a21 fc_z a23 a24 a25 a26 :=
  pk_loop (σ := Unit) (fun n i _ => wX_reset_23 post nc fc lv cp nd pn le wc ac dc sc n (nI i) a1 a2 a3 a4 a5 a6 a7 a8 a9 a10 a11 a12 a13 a14 a15 a16 a17 a18 a19 a20 a21 fc_z a23 a24 a25 a26) (fun _ _ => True) 4 0 () (by omega) trivial
    (fun n _ _ => pk_le 4 4 (fun _ => hp) (fun z => absurd z (by omega)))
    (fun n i _ hi _ hw => pk_le 4 i (fun z => absurd z (by omega)) (fun _ => ⟨pk_in i 4 hi, nm_r (fc_zu _) (nm_r (nI_1 i) (hw () trivial))⟩))
theorem fc_reset2 {post : St2 → Prop} {nc fc lv cp nd pn le wc dc sc : Int32} {ac : Int64} {a1 a2 a3 a4 a5 a6 a7 a8 a9 a10 a11 a12 a13 a14 a15 a16 a17 a18 a19 a20 a23 a24 a25 a26 : Nat → Int32} (hp : post (nc, fc, lv, cp, nd, pn, le, wc, ac, dc, 0, a1, a2, a3, a4, a5, a6, a7, a8, a9, a10, a11, a12, a13, a14, a15, a16, a17, a18, a19, a20, fc_z, fc_z, a23, a24, a25, a26)) : ∃ n, wX_reset_2 post nc fc lv cp nd pn le wc ac dc sc n 2 a1 a2 a3 a4 a5 a6 a7 a8 a9 a10 a11 a12 a13 a14 a15 a16 a17 a18 a19 a20 fc_z fc_z a23 a24 a25 a26 :=
  pk_loop (σ := Unit) (fun n i _ => wX_reset_2 post nc fc lv cp nd pn le wc ac dc sc n (nI i) a1 a2 a3 a4 a5 a6 a7 a8 a9 a10 a11 a12 a13 a14 a15 a16 a17 a18 a19 a20 fc_z fc_z a23 a24 a25 a26) (fun _ _ => True) 96 2 () (by omega) trivial
    (fun n _ _ => pk_le 96 96 (fun _ => fc_reset23 hp) (fun z => absurd z (by omega)))
    (fun n i _ hi _ hw => pk_le 96 i (fun z => absurd z (by omega)) (fun _ => ⟨pk_in i 96 hi, nm_r (fc_zu _) (nm_r (nI_1 i) (hw () trivial))⟩))
theorem fc_reset {post : St2 → Prop} {nc fc lv cp nd pn le wc dc sc : Int32} {ac : Int64} {a1 a2 a3 a4 a5 a6 a7 a8 a9 a10 a11 a12 a13 a14 a15 a16 a17 a18 a19 a20 a23 a24 a25 a26 : Nat → Int32} (hp : post (nc, fc, lv, cp, nd, pn, le, wc, ac, dc, 0, a1, a2, a3, a4, a5, a6, a7, a8, a9, a10, a11, a12, a13, a14, a15, a16, a17, a18, a19, a20, fc_z, fc_z, a23, a24, a25, a26)) : wpX_reset post (nc, fc, lv, cp, nd, pn, le, wc, ac, dc, sc, a1, a2, a3, a4, a5, a6, a7, a8, a9, a10, a11, a12, a13, a14, a15, a16, a17, a18, a19, a20, fc_z, fc_z, a23, a24, a25, a26) :=
  fc_reset2 hp
theorem fc_change {post : St2 → Prop} {nc fc lv cp nd pn le wc dc sc : Int32} {ac : Int64} {a1 a2 a3 a4 a5 a6 a7 a8 a9 a10 a11 a12 a13 a14 a15 a16 a17 a18 a19 a20 a23 a24 a25 a26 : Nat → Int32} (hp : post (nc, fc, lv, 0, nd, pn, le, wc, ac, dc, 0, a1, a2, a3, a4, a5, a6, a7, a8, a9, a10, a11, a12, a13, a14, a15, a16, a17, a18, a19, a20, fc_z, fc_z, a23, a24, a25, a26)) : wpX_change post (nc, fc, lv, cp, nd, pn, le, wc, ac, dc, sc, a1, a2, a3, a4, a5, a6, a7, a8, a9, a10, a11, a12, a13, a14, a15, a16, a17, a18, a19, a20, fc_z, fc_z, a23, a24, a25, a26) := by
  unfold wpX_change
  refine fc_reset ?_
  exact hp
theorem fc_sched2 {post : St2 → Prop} {nc fc lv cp nd pn le wc dc sc : Int32} {ac : Int64} {a1 a2 a3 a4 a5 a6 a7 a8 a9 a10 a11 a12 a13 a14 a15 a16 a17 a18 a19 a21 a22 a23 a24 a25 a26 : Nat → Int32} (hp : ∃ n, wX_schedule_29 post nc fc lv cp nd pn le ac dc sc n 0 0 a1 a2 a3 a4 a5 a6 a7 a8 a9 a10 a11 a12 a13 a14 a15 a16 a17 a18 a19 fc_z a21 a22 a23 a24 a25 a26) : ∃ n, wX_schedule_2 post nc fc lv cp nd pn le wc ac dc sc n 0 a1 a2 a3 a4 a5 a6 a7 a8 a9 a10 a11 a12 a13 a14 a15 a16 a17 a18 a19 fc_z a21 a22 a23 a24 a25 a26 :=
  pk_loop (σ := Unit) (fun n i _ => wX_schedule_2 post nc fc lv cp nd pn le wc ac dc sc n (nI i) a1 a2 a3 a4 a5 a6 a7 a8 a9 a10 a11 a12 a13 a14 a15 a16 a17 a18 a19 fc_z a21 a22 a23 a24 a25 a26) (fun _ _ => True) 1210 0 () (by omega) trivial
    (fun n _ _ => pk_le 1210 1210 (fun _ => hp) (fun z => absurd z (by omega)))
    (fun n i _ hi _ hw => pk_le 1210 i (fun z => absurd z (by omega)) (fun _ => ⟨pk_in i 1210 hi, nm_r (fc_zu _) (nm_r (nI_1 i) (hw () trivial))⟩))
theorem fc_sched {post : St2 → Prop} {nc fc lv cp nd pn le wc dc sc : Int32} {ac : Int64} {a1 a2 a3 a4 a5 a6 a7 a8 a9 a10 a11 a12 a13 a14 a15 a16 a17 a18 a19 a21 a22 a23 a24 a25 a26 : Nat → Int32} (hp : ∃ n, wX_schedule_29 post nc fc lv cp nd pn le ac dc sc n 0 0 a1 a2 a3 a4 a5 a6 a7 a8 a9 a10 a11 a12 a13 a14 a15 a16 a17 a18 a19 fc_z a21 a22 a23 a24 a25 a26) : wpX_schedule post (nc, fc, lv, cp, nd, pn, le, wc, ac, dc, sc, a1, a2, a3, a4, a5, a6, a7, a8, a9, a10, a11, a12, a13, a14, a15, a16, a17, a18, a19, fc_z, a21, a22, a23, a24, a25, a26) :=
  fc_sched2 hp
/-- registerOf: none -/
def fc_m1 (k : Nat) : Nat → Int32 := fun j => if j < k then -1 else 0
theorem fc_m1u (k : Nat) : upd (fc_m1 k) k (-1) = fc_m1 (k + 1) := by
  funext j
  unfold upd fc_m1
  by_cases h : j = k
  · rw [if_pos h, if_pos (by omega)]
  · rw [if_neg h]
    by_cases h2 : j < k
    · rw [if_pos h2, if_pos (by omega)]
    · rw [if_neg h2, if_neg (by omega)]
theorem fc_m10 : fc_m1 0 = fc_z := by
  funext j
  unfold fc_m1
  rw [if_neg (by omega)]
theorem fc_c46 {post : St2 → Prop} {nc fc lv cp nd pn le wc dc sc : Int32} {ac : Int64} {a1 a2 a3 a4 a5 a6 a7 a8 a9 a10 a11 a14 a15 a16 a17 a18 a19 a20 a21 a22 a23 a24 a25 a26 : Nat → Int32} (hp : ∃ n, wX_compile_74 post n 0 nc fc lv cp nd pn le wc ac dc sc a1 a2 a3 a4 a5 a6 a7 a8 a9 a10 a11 (fc_m1 24) fc_z a14 a15 a16 a17 a18 a19 a20 a21 a22 a23 a24 a25 a26) : ∃ n, wX_compile_46 post nc fc lv cp nd pn le wc ac dc sc n 0 a1 a2 a3 a4 a5 a6 a7 a8 a9 a10 a11 fc_z fc_z a14 a15 a16 a17 a18 a19 a20 a21 a22 a23 a24 a25 a26 := by
  have h : ∃ n, wX_compile_46 post nc fc lv cp nd pn le wc ac dc sc n 0 a1 a2 a3 a4 a5 a6 a7 a8 a9 a10 a11 (fc_m1 0) fc_z a14 a15 a16 a17 a18 a19 a20 a21 a22 a23 a24 a25 a26 :=
    pk_loop (σ := Unit) (fun n i _ => wX_compile_46 post nc fc lv cp nd pn le wc ac dc sc n (nI i) a1 a2 a3 a4 a5 a6 a7 a8 a9 a10 a11 (fc_m1 i) fc_z a14 a15 a16 a17 a18 a19 a20 a21 a22 a23 a24 a25 a26) (fun _ _ => True) 24 0 () (by omega) trivial
      (fun n _ _ => pk_le 24 24 (fun _ => hp) (fun z => absurd z (by omega)))
      (fun n i _ hi _ hw => pk_le 24 i (fun z => absurd z (by omega)) (fun _ => ⟨pk_in i 24 hi, nm_r (by rw [nI_clamp (by omega)]; exact fc_m1u i) ⟨pk_in i 24 hi, nm_r (fc_zu _) (nm_r (nI_1 i) (hw () trivial))⟩⟩))
  rw [fc_m10] at h
  exact h
theorem fc_c25 {post : St2 → Prop} {nc fc lv cp nd pn le wc dc sc : Int32} {ac : Int64} {a1 a2 a3 a4 a5 a6 a7 a8 a9 a10 a12 a13 a14 a15 a16 a17 a18 a19 a20 a21 a22 a23 a24 a25 a26 : Nat → Int32} (hp : ∃ n, wX_compile_46 post nc fc lv cp nd pn le wc ac dc sc n 0 a1 a2 a3 a4 a5 a6 a7 a8 a9 a10 (fc_m1 8) a12 a13 a14 a15 a16 a17 a18 a19 a20 a21 a22 a23 a24 a25 a26) : ∃ n, wX_compile_25 post nc fc lv cp nd pn le wc ac dc sc n 0 a1 a2 a3 a4 a5 a6 a7 a8 a9 a10 fc_z a12 a13 a14 a15 a16 a17 a18 a19 a20 a21 a22 a23 a24 a25 a26 := by
  have h : ∃ n, wX_compile_25 post nc fc lv cp nd pn le wc ac dc sc n 0 a1 a2 a3 a4 a5 a6 a7 a8 a9 a10 (fc_m1 0) a12 a13 a14 a15 a16 a17 a18 a19 a20 a21 a22 a23 a24 a25 a26 :=
    pk_loop (σ := Unit) (fun n i _ => wX_compile_25 post nc fc lv cp nd pn le wc ac dc sc n (nI i) a1 a2 a3 a4 a5 a6 a7 a8 a9 a10 (fc_m1 i) a12 a13 a14 a15 a16 a17 a18 a19 a20 a21 a22 a23 a24 a25 a26) (fun _ _ => True) 8 0 () (by omega) trivial
      (fun n _ _ => pk_le 8 8 (fun _ => hp) (fun z => absurd z (by omega)))
      (fun n i _ hi _ hw => pk_le 8 i (fun z => absurd z (by omega)) (fun _ => ⟨pk_in i 8 hi, nm_r (by rw [nI_clamp (by omega)]; exact fc_m1u i) (nm_r (nI_1 i) (hw () trivial))⟩))
  rw [fc_m10] at h
  exact h
end
section
/-- outputNode as made: none -/
def fc_o9 : Nat → Int32 := upd (upd (upd (upd fc_z 0 (-1)) 1 (-1)) 2 (-1)) 3 (-1)
theorem fc_init {post : St2 → Prop} (hp : ∀ a1 : Nat → Int32, post (0, 0, 2, 0, 0, 0, 0, 0, 0, 0, 0, a1, fc_z, fc_z, fc_z, fc_z, fc_z, fc_z, fc_z, fc_o9, fc_z, fc_z, fc_z, fc_z, fc_z, fc_z, fc_z, fc_z, fc_z, fc_z, fc_z, fc_z, fc_z, fc_z, fc_z, fc_z, fc_z)) : wpX_init post 26 3378 (0, 0, 0, 0, 0, 0, 0, 0, 0, 0, 0) := by
  refine ⟨by decide, by decide, by decide, by decide, by decide, by decide, by decide, by decide, by decide, by decide, by decide, by decide, by decide, by decide, by decide, by decide, by decide, by decide, by decide, by decide, by decide, by decide, by decide, by decide, by decide, by decide, by decide, by decide, by decide, by decide, by decide, by decide, by decide, by decide, by decide, by decide, by decide, by decide, by decide, by decide, by decide, by decide, by decide, by decide, by decide, by decide, by decide, by decide, by decide, by decide, by decide, by decide, ?_⟩
  refine ⟨0 + 1 + 1 + 1 + 1 + 1, ?_⟩
  repeat first
    | refine br_t (by decide +kernel) ?_
    | refine br_f (by decide +kernel) ⟨vp_in_iff.mpr (by decide +kernel), nm_e (nm_e ?_)⟩
  refine ⟨0 + 1 + 1 + 1 + 1 + 1, ?_⟩
  repeat first
    | refine br_t (by decide +kernel) ?_
    | refine br_f (by decide +kernel) ⟨vp_in_iff.mpr (by decide +kernel), nm_e (nm_e ?_)⟩
  exact hp _
end
section
/-- what node() takes on an empty graph -/
def fc_made (k x : Int32) : Prop := (k = 0 ∧ (x = 0 ∨ x = 1)) ∨ (k = 1 ∧ ¬ x < -32768 ∧ ¬ 32767 < x) ∨ (k = 5 ∧ ¬ x < 0 ∧ ¬ 23 < x)
theorem fc_2324 {x : Int32} : ¬ 23 < x ↔ ¬ 24 ≤ x := by
  rw [Int32.lt_iff_toInt_lt, Int32.le_iff_toInt_le]
  have h1 : (23 : Int32).toInt = 23 := by decide
  have h2 : (24 : Int32).toInt = 24 := by decide
  omega
theorem fc_fit {post : Int32 → Prop} {nc fc lv cp nd pn le wc dc sc : Int32} {ac : Int64} {a1 a2 a3 a4 a5 a6 a7 a8 a9 a10 a11 a12 a13 a14 a15 a16 a17 a18 a19 a20 a21 a22 a23 a24 a25 a26 : Nat → Int32} {k x y : Int32} (hm : fc_made k x) (hp : post 1) : wpX_operandsFit post (nc, fc, lv, cp, nd, pn, le, wc, ac, dc, sc, a1, a2, a3, a4, a5, a6, a7, a8, a9, a10, a11, a12, a13, a14, a15, a16, a17, a18, a19, a20, a21, a22, a23, a24, a25, a26) k x y := by
  rcases hm with ⟨hk, hx⟩ | ⟨hk, h1, h2⟩ | ⟨hk, h1, h2⟩
  · refine br_t hk ?_
    rcases hx with hx | hx
    · exact br_t hx hp
    · exact br_f (by rw [hx]; decide) (br_t hx hp)
  · refine br_f (by rw [hk]; decide) (br_t hk ?_)
    exact br_f h1 (br_f h2 ⟨rfl, hp⟩)
  · refine br_f (by rw [hk]; decide) (br_f (by rw [hk]; decide) (br_t hk ?_))
    exact br_f h1 (br_f (fc_2324.mp h2) hp)
theorem fc_nofit {post : Int32 → Prop} {fc lv cp nd pn le wc dc sc : Int32} {ac : Int64} {a1 a2 a3 a4 a5 a6 a7 a8 a9 a10 a11 a12 a13 a14 a15 a16 a17 a18 a19 a20 a21 a22 a23 a24 a25 a26 : Nat → Int32} {k x y : Int32} (hm : ¬ fc_made k x) (hp : post 0) : wpX_operandsFit post (0, fc, lv, cp, nd, pn, le, wc, ac, dc, sc, a1, a2, a3, a4, a5, a6, a7, a8, a9, a10, a11, a12, a13, a14, a15, a16, a17, a18, a19, a20, a21, a22, a23, a24, a25, a26) k x y := by
  refine br_c (fun h0 => ?_) (fun h0 => br_c (fun h1 => ?_) (fun h1 => br_c (fun h5 => ?_) (fun h5 => ?_)))
  · refine br_c (fun z => absurd (Or.inl ⟨h0, Or.inl z⟩) hm) (fun z => br_c (fun z => absurd (Or.inl ⟨h0, Or.inr z⟩) hm) (fun _ => hp))
  · exact br_c (fun z => ⟨rfl, hp⟩) (fun z => br_c (fun _ => ⟨rfl, hp⟩) (fun z2 => absurd (Or.inr (Or.inl ⟨h1, z, z2⟩)) hm))
  · exact br_c (fun z => hp) (fun z => br_c (fun _ => hp) (fun z2 => absurd (Or.inr (Or.inr ⟨h5, z, fc_2324.mpr z2⟩)) hm))
  · exact br_c (fun z => br_t rfl hp) (fun z => br_t (Int32.not_lt.mp z) (br_t rfl hp))
theorem fc_nodeN {post : Int32 → St2 → Prop} {a1 : Nat → Int32} {k x y : Int32} (hm : ¬ fc_made k x) (hp : post (-100000) (0, 0, 2, 0, 0, 0, 0, 0, 0, 0, 0, a1, fc_z, fc_z, fc_z, fc_z, fc_z, fc_z, fc_z, fc_o9, fc_z, fc_z, fc_z, fc_z, fc_z, fc_z, fc_z, fc_z, fc_z, fc_z, fc_z, fc_z, fc_z, fc_z, fc_z, fc_z, fc_z)) : wpX_node post (0, 0, 2, 0, 0, 0, 0, 0, 0, 0, 0, a1, fc_z, fc_z, fc_z, fc_z, fc_z, fc_z, fc_z, fc_o9, fc_z, fc_z, fc_z, fc_z, fc_z, fc_z, fc_z, fc_z, fc_z, fc_z, fc_z, fc_z, fc_z, fc_z, fc_z, fc_z, fc_z) k x y := by
  have h26 : wX_node_26 post k x y 0 0 2 0 0 0 0 0 0 0 0 a1 fc_z fc_z fc_z fc_z fc_z fc_z fc_z fc_o9 fc_z fc_z fc_z fc_z fc_z fc_z fc_z fc_z fc_z fc_z fc_z fc_z fc_z fc_z fc_z fc_z fc_z := by
    refine br_c (fun _ => hp) (fun _ => br_c (fun _ => hp) (fun _ => ?_))
    refine fc_nofit hm ?_
    exact br_t rfl hp
  exact br_f (by decide) (br_c (fun _ => br_t (by decide) h26) (fun _ => h26))
theorem fc_nodeM {post : Int32 → St2 → Prop} {a1 : Nat → Int32} {k x y : Int32} (hm : fc_made k x) (hp : post 0 (1, 0, 2, 0, 0, 0, 0, 0, 0, 0, 0, a1, fc_z, upd fc_z 0 k, upd fc_z 0 x, upd fc_z 0 y, fc_z, fc_z, fc_z, fc_o9, fc_z, fc_z, fc_z, fc_z, fc_z, fc_z, fc_z, fc_z, fc_z, fc_z, fc_z, fc_z, fc_z, fc_z, fc_z, fc_z, fc_z)) : wpX_node post (0, 0, 2, 0, 0, 0, 0, 0, 0, 0, 0, a1, fc_z, fc_z, fc_z, fc_z, fc_z, fc_z, fc_z, fc_o9, fc_z, fc_z, fc_z, fc_z, fc_z, fc_z, fc_z, fc_z, fc_z, fc_z, fc_z, fc_z, fc_z, fc_z, fc_z, fc_z, fc_z) k x y := by
  have hk : k.toInt8.toInt32 = k ∧ ¬ k = 6 ∧ ¬ k < 0 ∧ ¬ 10 < k := by
    rcases hm with ⟨hk, _⟩ | ⟨hk, _⟩ | ⟨hk, _⟩ <;> rw [hk] <;> decide
  refine br_f (by decide) (br_f hk.2.1 (br_f hk.2.2.1 (br_f hk.2.2.2 ?_)))
  refine fc_fit hm ?_
  refine br_f (by decide) (nm_r (e' := 1) (by decide) ⟨pk_in 0 24 (by omega), nm_r (e' := upd fc_z 0 k) (by rw [hk.1]; rfl) ⟨pk_in 0 24 (by omega), nm_e ⟨pk_in 0 24 (by omega), nm_e (br_f hk.2.1 ?_)⟩⟩⟩)
  refine fc_change ?_
  exact hp
theorem fc_outN {post : Int32 → St2 → Prop} {fc lv cp nd pn le wc dc sc : Int32} {ac : Int64} {a1 a2 a3 a4 a5 a6 a7 a8 a9 a10 a11 a12 a13 a14 a15 a16 a17 a18 a19 a20 a21 a22 a23 a24 a25 a26 : Nat → Int32} (hp : post 0 (0, fc, lv, cp, nd, pn, le, wc, ac, dc, sc, a1, a2, a3, a4, a5, a6, a7, a8, a9, a10, a11, a12, a13, a14, a15, a16, a17, a18, a19, a20, a21, a22, a23, a24, a25, a26)) : wpX_output post (0, fc, lv, cp, nd, pn, le, wc, ac, dc, sc, a1, a2, a3, a4, a5, a6, a7, a8, a9, a10, a11, a12, a13, a14, a15, a16, a17, a18, a19, a20, a21, a22, a23, a24, a25, a26) 0 0 :=
  br_f (by decide) (br_f (by decide) (br_f (by decide) (br_f (by decide) hp)))
theorem fc_outM {post : Int32 → St2 → Prop} {fc lv cp nd pn le wc dc sc : Int32} {ac : Int64} {a1 a2 a3 a4 a5 a6 a7 a8 a9 a10 a11 a12 a13 a14 a15 a16 a17 a18 a19 a20 a23 a24 a25 a26 : Nat → Int32} (hp : post 1 (1, fc, lv, 0, nd, pn, le, wc, ac, dc, 0, a1, a2, a3, a4, a5, a6, a7, a8, upd a9 0 0, a10, a11, a12, a13, a14, a15, a16, a17, a18, a19, a20, fc_z, fc_z, a23, a24, a25, a26)) : wpX_output post (1, fc, lv, cp, nd, pn, le, wc, ac, dc, sc, a1, a2, a3, a4, a5, a6, a7, a8, a9, a10, a11, a12, a13, a14, a15, a16, a17, a18, a19, a20, fc_z, fc_z, a23, a24, a25, a26) 0 0 := by
  refine br_f (by decide) (br_f (by decide) (br_f (by decide) (br_t (by decide) ⟨pk_in 0 4 (by omega), nm_r (e' := upd a9 0 0) rfl ?_⟩)))
  refine fc_change ?_
  exact hp
/-- the sample, whether it is taken, memory behind input(0, v) -/
def fc_sa (v sa : Int32) (M : Nat → Int32) : Prop := (¬ v < -32768 ∧ ¬ 32767 < v ∧ sa = 1 ∧ M = upd fc_z 0 v) ∨ ((v < -32768 ∨ 32767 < v) ∧ sa = 0 ∧ M = fc_z)
theorem fc_in {post : Int32 → St2 → Prop} {nc fc lv cp nd pn le wc dc sc : Int32} {ac : Int64} {a1 a2 a3 a4 a5 a6 a7 a8 a9 a10 a11 a12 a13 a14 a15 a16 a17 a18 a19 a20 a22 a23 a24 a25 a26 : Nat → Int32} {v sa : Int32} {M : Nat → Int32} (hs : fc_sa v sa M) (hp : post sa (nc, fc, lv, cp, nd, pn, le, wc, ac, dc, sc, a1, a2, a3, a4, a5, a6, a7, a8, a9, a10, a11, a12, a13, a14, a15, a16, a17, a18, a19, a20, M, a22, a23, a24, a25, a26)) : wpX_input post (nc, fc, lv, cp, nd, pn, le, wc, ac, dc, sc, a1, a2, a3, a4, a5, a6, a7, a8, a9, a10, a11, a12, a13, a14, a15, a16, a17, a18, a19, a20, fc_z, a22, a23, a24, a25, a26) 0 v := by
  refine br_f (by decide) (br_f (by decide) ?_)
  rcases hs with ⟨h1, h2, rfl, rfl⟩ | ⟨h, rfl, rfl⟩
  · exact br_f h1 (br_f h2 (br_f (by decide) ⟨pk_in 0 96 (by omega), nm_r (e' := upd fc_z 0 v) rfl hp⟩))
  · rcases h with h | h
    · exact br_t h (br_t rfl hp)
    · exact br_c (fun _ => br_t rfl hp) (fun _ => br_t h (br_t rfl hp))
theorem fc_validN {post : Int32 → Prop} {fc lv cp nd pn le wc dc sc : Int32} {ac : Int64} {a1 a2 a3 a4 a5 a6 a7 a8 a9 a10 a11 a12 a13 a14 a15 a16 a17 a18 a19 a20 a21 a22 a23 a24 a25 a26 : Nat → Int32} (hp : post 1) : wpX_valid post (0, fc, lv, cp, nd, pn, le, wc, ac, dc, sc, a1, a2, a3, a4, a5, a6, a7, a8, a9, a10, a11, a12, a13, a14, a15, a16, a17, a18, a19, a20, a21, a22, a23, a24, a25, a26) :=
  ⟨0 + 1, br_t (by decide) hp⟩
theorem fc_valid1 {post : Int32 → Prop} {fc lv cp nd pn le wc dc sc : Int32} {ac : Int64} {a1 a2 a5 a6 a7 a8 a9 a10 a11 a12 a13 a14 a15 a16 a17 a18 a19 a20 a21 a22 a23 a24 a25 a26 : Nat → Int32} {k x : Int32} (hk : ¬ k = 5 ∨ x = 0) (hp : post 1) : wpX_valid post (1, fc, lv, cp, nd, pn, le, wc, ac, dc, sc, a1, a2, upd fc_z 0 k, upd fc_z 0 x, a5, a6, a7, a8, a9, a10, a11, a12, a13, a14, a15, a16, a17, a18, a19, a20, a21, a22, a23, a24, a25, a26) := by
  refine ⟨0 + 1 + 1, br_f (by decide) ⟨pk_in 0 24 (by omega), br_c (fun h => ⟨pk_in 0 24 (by omega), br_t ?_ (nm_e (br_t (by decide) hp))⟩) (fun h => nm_e (br_t (by decide) hp))⟩⟩
  rcases hk with hk | hk
  · exact absurd h hk
  · show x < 1
    rw [hk]
    decide
theorem fc_valid0 {post : Int32 → Prop} {fc lv cp nd pn le wc dc sc : Int32} {ac : Int64} {a1 a2 a5 a6 a7 a8 a9 a10 a11 a12 a13 a14 a15 a16 a17 a18 a19 a20 a21 a22 a23 a24 a25 a26 : Nat → Int32} {x : Int32} (hx : ¬ x < 1) (hp : post 0) : wpX_valid post (1, fc, lv, cp, nd, pn, le, wc, ac, dc, sc, a1, a2, upd fc_z 0 5, upd fc_z 0 x, a5, a6, a7, a8, a9, a10, a11, a12, a13, a14, a15, a16, a17, a18, a19, a20, a21, a22, a23, a24, a25, a26) :=
  ⟨0 + 1, br_f (by decide) ⟨pk_in 0 24 (by omega), br_t rfl ⟨pk_in 0 24 (by omega), br_f hx hp⟩⟩⟩
theorem fc_valueM {post : Int32 → Prop} {nc fc lv cp nd pn le wc dc sc : Int32} {ac : Int64} {a1 a2 a3 a4 a5 a6 a7 a8 a9 a10 a11 a12 a13 a14 a15 a16 a17 a18 a19 a20 a21 a22 a23 a24 a25 a26 : Nat → Int32} (h9 : a9 0 = 0) (hp : post (a21 2)) : wpX_value post (nc, fc, lv, cp, nd, pn, le, wc, ac, dc, sc, a1, a2, a3, a4, a5, a6, a7, a8, a9, a10, a11, a12, a13, a14, a15, a16, a17, a18, a19, a20, a21, a22, a23, a24, a25, a26) 0 :=
  br_f (by decide) (br_f (by decide) ⟨pk_in 0 4 (by omega), br_t (by show 0 ≤ a9 0; rw [h9]; decide) ⟨pk_in 2 96 (by omega), hp⟩⟩)
theorem fc_valueN {post : Int32 → Prop} {nc fc lv cp nd pn le wc dc sc : Int32} {ac : Int64} {a1 a2 a3 a4 a5 a6 a7 a8 a9 a10 a11 a12 a13 a14 a15 a16 a17 a18 a19 a20 a21 a22 a23 a24 a25 a26 : Nat → Int32} (h9 : a9 0 = -1) (hp : post 0) : wpX_value post (nc, fc, lv, cp, nd, pn, le, wc, ac, dc, sc, a1, a2, a3, a4, a5, a6, a7, a8, a9, a10, a11, a12, a13, a14, a15, a16, a17, a18, a19, a20, a21, a22, a23, a24, a25, a26) 0 :=
  br_f (by decide) (br_f (by decide) ⟨pk_in 0 4 (by omega), br_f (by show ¬ 0 ≤ a9 0; rw [h9]; decide) hp⟩)
end
section
theorem fc_ue {f f' : Nat → Int32} {k k' : Nat} {x x' : Int32} (hf : f = f') (hk : k = k') (hx : x = x') : upd f k x = upd f' k' x' := by
  rw [hf, hk, hx]
theorem fc_compN {post : St2 → Prop} {a1 a21 : Nat → Int32} (hp : ∀ (nd pn le wc : Int32) (a10 a11 a12 a13 a14 a15 a16 a17 a18 a19 a20 : Nat → Int32), wc = 0 → a14 = fc_z → a15 = fc_z → a16 = fc_z → a18 = fc_z → a20 = fc_z → post (0, 0, 2, 1, nd, pn, le, wc, 0, 0, 0, a1, fc_z, fc_z, fc_z, fc_z, fc_z, fc_z, fc_z, fc_o9, a10, a11, a12, a13, a14, a15, a16, a17, a18, a19, a20, a21, fc_z, fc_z, fc_z, fc_z, fc_z)) : wpX_compile post (0, 0, 2, 0, 0, 0, 0, 0, 0, 0, 0, a1, fc_z, fc_z, fc_z, fc_z, fc_z, fc_z, fc_z, fc_o9, fc_z, fc_z, fc_z, fc_z, fc_z, fc_z, fc_z, fc_z, fc_z, fc_z, fc_z, a21, fc_z, fc_z, fc_z, fc_z, fc_z) := by
  repeat first
    | refine br_t (by decide +kernel) ?_
    | refine br_f (by decide +kernel) ?_
    | refine nm_e ?_
    | refine ⟨vp_in_iff.mpr (by decide +kernel), ?_⟩
    | refine fc_c25 ?_
    | refine fc_c46 ?_
    | refine fc_sched2 ?_
    | refine ⟨0 + 1 + 1 + 1 + 1 + 1 + 1 + 1 + 1 + 1 + 1, ?_⟩
  exact hp _ _ _ _ _ _ _ _ _ _ _ _ _ _ _ (by decide +kernel) rfl rfl rfl rfl rfl
end
section
theorem fc_compI0 {post : St2 → Prop} {a1 a5 a21 : Nat → Int32} (hp : ∀ (nd pn le wc : Int32) (a10 a11 a12 a13 a14 a15 a16 a17 a18 a19 a20 : Nat → Int32), wc = 3 → a14 = upd (upd fc_z 0 16) 1 17 → a15 = upd (upd fc_z 0 0) 1 (-1) → a16 = upd (upd fc_z 0 (-1)) 1 0 → a18 = upd (upd fc_z 0 0) 1 2 → a20 = upd (upd fc_z 1 1) 5 2 → post (1, 0, 2, 1, nd, pn, le, wc, 0, 0, 0, a1, fc_z, upd fc_z 0 0, upd fc_z 0 0, a5, fc_z, fc_z, fc_z, upd fc_o9 0 0, a10, a11, a12, a13, a14, a15, a16, a17, a18, a19, a20, a21, fc_z, fc_z, fc_z, fc_z, fc_z)) : wpX_compile post (1, 0, 2, 0, 0, 0, 0, 0, 0, 0, 0, a1, fc_z, upd fc_z 0 0, upd fc_z 0 0, a5, fc_z, fc_z, fc_z, upd fc_o9 0 0, fc_z, fc_z, fc_z, fc_z, fc_z, fc_z, fc_z, fc_z, fc_z, fc_z, fc_z, a21, fc_z, fc_z, fc_z, fc_z, fc_z) := by
  repeat first
    | refine br_t (by decide +kernel) ?_
    | refine br_f (by decide +kernel) ?_
    | refine nm_e ?_
    | refine ⟨vp_in_iff.mpr (by decide +kernel), ?_⟩
    | refine fc_c25 ?_
    | refine fc_c46 ?_
    | refine fc_sched2 ?_
    | refine ⟨0 + 1 + 1 + 1 + 1 + 1 + 1 + 1 + 1 + 1 + 1, ?_⟩
  exact hp _ _ _ _ _ _ _ _ _ _ _ _ _ _ _ (by decide +kernel) (fc_ue (fc_ue rfl (by decide +kernel) (by decide +kernel)) (by decide +kernel) (by decide +kernel)) (fc_ue (fc_ue rfl (by decide +kernel) (by decide +kernel)) (by decide +kernel) (by decide +kernel)) (fc_ue (fc_ue rfl (by decide +kernel) (by decide +kernel)) (by decide +kernel) (by decide +kernel)) (fc_ue (fc_ue rfl (by decide +kernel) (by decide +kernel)) (by decide +kernel) (by decide +kernel)) (fc_ue (fc_ue rfl (by decide +kernel) (by decide +kernel)) (by decide +kernel) (by decide +kernel))
theorem fc_compI1 {post : St2 → Prop} {a1 a5 a21 : Nat → Int32} (hp : ∀ (nd pn le wc : Int32) (a10 a11 a12 a13 a14 a15 a16 a17 a18 a19 a20 : Nat → Int32), wc = 3 → a14 = upd (upd fc_z 0 16) 1 17 → a15 = upd (upd fc_z 0 0) 1 (-1) → a16 = upd (upd fc_z 0 (-1)) 1 0 → a18 = upd (upd fc_z 0 1) 1 2 → a20 = upd (upd fc_z 1 1) 5 2 → post (1, 0, 2, 1, nd, pn, le, wc, 0, 0, 0, a1, fc_z, upd fc_z 0 0, upd fc_z 0 1, a5, fc_z, fc_z, fc_z, upd fc_o9 0 0, a10, a11, a12, a13, a14, a15, a16, a17, a18, a19, a20, a21, fc_z, fc_z, fc_z, fc_z, fc_z)) : wpX_compile post (1, 0, 2, 0, 0, 0, 0, 0, 0, 0, 0, a1, fc_z, upd fc_z 0 0, upd fc_z 0 1, a5, fc_z, fc_z, fc_z, upd fc_o9 0 0, fc_z, fc_z, fc_z, fc_z, fc_z, fc_z, fc_z, fc_z, fc_z, fc_z, fc_z, a21, fc_z, fc_z, fc_z, fc_z, fc_z) := by
  repeat first
    | refine br_t (by decide +kernel) ?_
    | refine br_f (by decide +kernel) ?_
    | refine nm_e ?_
    | refine ⟨vp_in_iff.mpr (by decide +kernel), ?_⟩
    | refine fc_c25 ?_
    | refine fc_c46 ?_
    | refine fc_sched2 ?_
    | refine ⟨0 + 1 + 1 + 1 + 1 + 1 + 1 + 1 + 1 + 1 + 1, ?_⟩
  exact hp _ _ _ _ _ _ _ _ _ _ _ _ _ _ _ (by decide +kernel) (fc_ue (fc_ue rfl (by decide +kernel) (by decide +kernel)) (by decide +kernel) (by decide +kernel)) (fc_ue (fc_ue rfl (by decide +kernel) (by decide +kernel)) (by decide +kernel) (by decide +kernel)) (fc_ue (fc_ue rfl (by decide +kernel) (by decide +kernel)) (by decide +kernel) (by decide +kernel)) (fc_ue (fc_ue rfl (by decide +kernel) (by decide +kernel)) (by decide +kernel) (by decide +kernel)) (fc_ue (fc_ue rfl (by decide +kernel) (by decide +kernel)) (by decide +kernel) (by decide +kernel))
end
section
theorem fc_compC {post : St2 → Prop} {x : Int32} {a1 a5 a21 : Nat → Int32} (hp : ∀ (nd pn le wc : Int32) (a10 a11 a12 a13 a14 a15 a16 a17 a18 a19 a20 : Nat → Int32), wc = 2 → a14 = upd (upd fc_z 0 1) 1 17 → a15 = upd (upd fc_z 0 0) 1 (-1) → a16 = upd (upd fc_z 0 (-1)) 1 0 → a18 = upd (upd fc_z 0 x) 1 2 → a20 = upd (upd fc_z 0 1) 3 2 → post (1, 0, 2, 1, nd, pn, le, wc, 0, 0, 0, a1, fc_z, upd fc_z 0 1, upd fc_z 0 x, a5, fc_z, fc_z, fc_z, upd fc_o9 0 0, a10, a11, a12, a13, a14, a15, a16, a17, a18, a19, a20, a21, fc_z, fc_z, fc_z, fc_z, fc_z)) : wpX_compile post (1, 0, 2, 0, 0, 0, 0, 0, 0, 0, 0, a1, fc_z, upd fc_z 0 1, upd fc_z 0 x, a5, fc_z, fc_z, fc_z, upd fc_o9 0 0, fc_z, fc_z, fc_z, fc_z, fc_z, fc_z, fc_z, fc_z, fc_z, fc_z, fc_z, a21, fc_z, fc_z, fc_z, fc_z, fc_z) := by
  repeat first
    | refine br_t (by decide +kernel) ?_
    | refine br_f (by decide +kernel) ?_
    | refine nm_e ?_
    | refine ⟨vp_in_iff.mpr (by decide +kernel), ?_⟩
    | refine fc_c25 ?_
    | refine fc_c46 ?_
    | refine fc_sched2 ?_
    | refine ⟨0 + 1 + 1 + 1 + 1 + 1 + 1 + 1 + 1 + 1 + 1, ?_⟩
  exact hp _ _ _ _ _ _ _ _ _ _ _ _ _ _ _ (by decide +kernel) (fc_ue (fc_ue rfl (by decide +kernel) (by decide +kernel)) (by decide +kernel) (by decide +kernel)) (fc_ue (fc_ue rfl (by decide +kernel) (by decide +kernel)) (by decide +kernel) (by decide +kernel)) (fc_ue (fc_ue rfl (by decide +kernel) (by decide +kernel)) (by decide +kernel) (by decide +kernel)) (fc_ue (fc_ue rfl (by decide +kernel) rfl) (by decide +kernel) (by decide +kernel)) (fc_ue (fc_ue rfl (by decide +kernel) (by decide +kernel)) (by decide +kernel) (by decide +kernel))
end
section
theorem fc_compD {post : St2 → Prop} {a1 a5 a21 : Nat → Int32} (hp : ∀ (nd pn le wc : Int32) (a10 a11 a12 a13 a14 a15 a16 a17 a18 a19 a20 : Nat → Int32), wc = 4 → a14 = upd (upd (upd fc_z 0 16) 1 17) 2 17 → a15 = upd (upd (upd fc_z 0 0) 1 (-1)) 2 (-1) → a16 = upd (upd (upd fc_z 0 (-1)) 1 0) 2 0 → a18 = upd (upd (upd fc_z 0 8) 1 2) 2 8 → a20 = upd (upd (upd fc_z 1 1) 5 2) 7 3 → post (1, 0, 2, 1, nd, pn, le, wc, 0, 0, 0, a1, fc_z, upd fc_z 0 5, upd fc_z 0 0, a5, fc_z, fc_z, fc_z, upd fc_o9 0 0, a10, a11, a12, a13, a14, a15, a16, a17, a18, a19, a20, a21, fc_z, fc_z, fc_z, fc_z, fc_z)) : wpX_compile post (1, 0, 2, 0, 0, 0, 0, 0, 0, 0, 0, a1, fc_z, upd fc_z 0 5, upd fc_z 0 0, a5, fc_z, fc_z, fc_z, upd fc_o9 0 0, fc_z, fc_z, fc_z, fc_z, fc_z, fc_z, fc_z, fc_z, fc_z, fc_z, fc_z, a21, fc_z, fc_z, fc_z, fc_z, fc_z) := by
  repeat first
    | refine br_t (by decide +kernel) ?_
    | refine br_f (by decide +kernel) ?_
    | refine nm_e ?_
    | refine ⟨vp_in_iff.mpr (by decide +kernel), ?_⟩
    | refine fc_c25 ?_
    | refine fc_c46 ?_
    | refine fc_sched2 ?_
    | refine ⟨0 + 1 + 1 + 1 + 1 + 1 + 1 + 1 + 1 + 1 + 1, ?_⟩
  exact hp _ _ _ _ _ _ _ _ _ _ _ _ _ _ _ (by decide +kernel) (fc_ue (fc_ue (fc_ue rfl (by decide +kernel) (by decide +kernel)) (by decide +kernel) (by decide +kernel)) (by decide +kernel) (by decide +kernel)) (fc_ue (fc_ue (fc_ue rfl (by decide +kernel) (by decide +kernel)) (by decide +kernel) (by decide +kernel)) (by decide +kernel) (by decide +kernel)) (fc_ue (fc_ue (fc_ue rfl (by decide +kernel) (by decide +kernel)) (by decide +kernel) (by decide +kernel)) (by decide +kernel) (by decide +kernel)) (fc_ue (fc_ue (fc_ue rfl (by decide +kernel) (by decide +kernel)) (by decide +kernel) (by decide +kernel)) (by decide +kernel) (by decide +kernel)) (fc_ue (fc_ue (fc_ue rfl (by decide +kernel) (by decide +kernel)) (by decide +kernel) (by decide +kernel)) (by decide +kernel) (by decide +kernel))
end
section
theorem fc_stepN {post : St2 → Prop} {nd pn le dc : Int32} {a1 a10 a11 a12 a13 a17 a19 a21 a23 a24 a25 a26 : Nat → Int32} (hp : post (0, 0, 2, 1, nd, pn, le, 0, 0, 0, 0, a1, fc_z, fc_z, fc_z, fc_z, fc_z, fc_z, fc_z, fc_o9, a10, a11, a12, a13, fc_z, fc_z, fc_z, a17, fc_z, a19, fc_z, a21, fc_z, a23, a24, a25, a26)) : wpX_step post (0, 0, 2, 1, nd, pn, le, 0, 0, dc, 0, a1, fc_z, fc_z, fc_z, fc_z, fc_z, fc_z, fc_z, fc_o9, a10, a11, a12, a13, fc_z, fc_z, fc_z, a17, fc_z, a19, fc_z, a21, fc_z, a23, a24, a25, a26) :=
  ⟨0 + 1, br_t (by decide) hp⟩
theorem fc_stepI0 {post : St2 → Prop} {nd pn le dc : Int32} {a1 a5 a10 a11 a12 a13 a17 a19 a21 a23 a24 a25 a26 : Nat → Int32} (hp : ∀ (dc' : Int32) (a21' a23' a24' a25' a26' : Nat → Int32), a21' 2 = a21 0 → a21' 0 = a21 0 → post (1, 0, 2, 1, nd, pn, le, 3, 0, dc', 0, a1, fc_z, upd fc_z 0 0, upd fc_z 0 0, a5, fc_z, fc_z, fc_z, upd fc_o9 0 0, a10, a11, a12, a13, upd (upd fc_z 0 16) 1 17, upd (upd fc_z 0 0) 1 (-1), upd (upd fc_z 0 (-1)) 1 0, a17, upd (upd fc_z 0 0) 1 2, a19, upd (upd fc_z 1 1) 5 2, a21', fc_z, a23', a24', a25', a26')) : wpX_step post (1, 0, 2, 1, nd, pn, le, 3, 0, dc, 0, a1, fc_z, upd fc_z 0 0, upd fc_z 0 0, a5, fc_z, fc_z, fc_z, upd fc_o9 0 0, a10, a11, a12, a13, upd (upd fc_z 0 16) 1 17, upd (upd fc_z 0 0) 1 (-1), upd (upd fc_z 0 (-1)) 1 0, a17, upd (upd fc_z 0 0) 1 2, a19, upd (upd fc_z 1 1) 5 2, a21, fc_z, a23, a24, a25, a26) := by
  repeat first
    | refine br_t (by decide +kernel) ?_
    | refine br_f (by decide +kernel) ?_
    | refine nm_e ?_
    | refine ⟨vp_in_iff.mpr (by decide +kernel), ?_⟩
    | refine ⟨0 + 1 + 1 + 1 + 1 + 1 + 1, ?_⟩
    | refine br_t (fc_dt rfl) ?_
    | refine br_f (fc_df rfl) ?_
    | refine ⟨fc_vin rfl, ?_⟩
  exact hp _ _ _ _ _ _ rfl rfl
theorem fc_stepI1 {post : St2 → Prop} {nd pn le dc : Int32} {a1 a5 a10 a11 a12 a13 a17 a19 a21 a23 a24 a25 a26 : Nat → Int32} (hp : ∀ (dc' : Int32) (a21' a23' a24' a25' a26' : Nat → Int32), a21' 2 = a21 1 → a21' 1 = a21 1 → post (1, 0, 2, 1, nd, pn, le, 3, 0, dc', 0, a1, fc_z, upd fc_z 0 0, upd fc_z 0 1, a5, fc_z, fc_z, fc_z, upd fc_o9 0 0, a10, a11, a12, a13, upd (upd fc_z 0 16) 1 17, upd (upd fc_z 0 0) 1 (-1), upd (upd fc_z 0 (-1)) 1 0, a17, upd (upd fc_z 0 1) 1 2, a19, upd (upd fc_z 1 1) 5 2, a21', fc_z, a23', a24', a25', a26')) : wpX_step post (1, 0, 2, 1, nd, pn, le, 3, 0, dc, 0, a1, fc_z, upd fc_z 0 0, upd fc_z 0 1, a5, fc_z, fc_z, fc_z, upd fc_o9 0 0, a10, a11, a12, a13, upd (upd fc_z 0 16) 1 17, upd (upd fc_z 0 0) 1 (-1), upd (upd fc_z 0 (-1)) 1 0, a17, upd (upd fc_z 0 1) 1 2, a19, upd (upd fc_z 1 1) 5 2, a21, fc_z, a23, a24, a25, a26) := by
  repeat first
    | refine br_t (by decide +kernel) ?_
    | refine br_f (by decide +kernel) ?_
    | refine nm_e ?_
    | refine ⟨vp_in_iff.mpr (by decide +kernel), ?_⟩
    | refine ⟨0 + 1 + 1 + 1 + 1 + 1 + 1, ?_⟩
    | refine br_t (fc_dt rfl) ?_
    | refine br_f (fc_df rfl) ?_
    | refine ⟨fc_vin rfl, ?_⟩
  exact hp _ _ _ _ _ _ rfl rfl
end
section
theorem fc_stepC {post : St2 → Prop} {x : Int32} {nd pn le dc : Int32} {a1 a5 a10 a11 a12 a13 a17 a19 a21 a23 a24 a25 a26 : Nat → Int32} (hp : ∀ (dc' : Int32) (a21' a23' a24' a25' a26' : Nat → Int32), a21' 2 = x → post (1, 0, 2, 1, nd, pn, le, 2, 0, dc', 0, a1, fc_z, upd fc_z 0 1, upd fc_z 0 x, a5, fc_z, fc_z, fc_z, upd fc_o9 0 0, a10, a11, a12, a13, upd (upd fc_z 0 1) 1 17, upd (upd fc_z 0 0) 1 (-1), upd (upd fc_z 0 (-1)) 1 0, a17, upd (upd fc_z 0 x) 1 2, a19, upd (upd fc_z 0 1) 3 2, a21', fc_z, a23', a24', a25', a26')) : wpX_step post (1, 0, 2, 1, nd, pn, le, 2, 0, dc, 0, a1, fc_z, upd fc_z 0 1, upd fc_z 0 x, a5, fc_z, fc_z, fc_z, upd fc_o9 0 0, a10, a11, a12, a13, upd (upd fc_z 0 1) 1 17, upd (upd fc_z 0 0) 1 (-1), upd (upd fc_z 0 (-1)) 1 0, a17, upd (upd fc_z 0 x) 1 2, a19, upd (upd fc_z 0 1) 3 2, a21, fc_z, a23, a24, a25, a26) := by
  repeat first
    | refine br_t (by decide +kernel) ?_
    | refine br_f (by decide +kernel) ?_
    | refine nm_e ?_
    | refine ⟨vp_in_iff.mpr (by decide +kernel), ?_⟩
    | refine ⟨0 + 1 + 1 + 1 + 1 + 1 + 1, ?_⟩
    | refine br_t (fc_dt rfl) ?_
    | refine br_f (fc_df rfl) ?_
    | refine ⟨fc_vin rfl, ?_⟩
  exact hp _ _ _ _ _ _ rfl
theorem fc_stepD {post : St2 → Prop} {nd pn le dc : Int32} {a1 a5 a10 a11 a12 a13 a17 a19 a21 a23 a24 a25 a26 : Nat → Int32} (hp : ∀ (dc' : Int32) (a21' a23' a24' a25' a26' : Nat → Int32), a21' 2 = a21 8 → a21' 8 = a21 8 → post (1, 0, 2, 1, nd, pn, le, 4, 0, dc', 0, a1, fc_z, upd fc_z 0 5, upd fc_z 0 0, a5, fc_z, fc_z, fc_z, upd fc_o9 0 0, a10, a11, a12, a13, upd (upd (upd fc_z 0 16) 1 17) 2 17, upd (upd (upd fc_z 0 0) 1 (-1)) 2 (-1), upd (upd (upd fc_z 0 (-1)) 1 0) 2 0, a17, upd (upd (upd fc_z 0 8) 1 2) 2 8, a19, upd (upd (upd fc_z 1 1) 5 2) 7 3, a21', fc_z, a23', a24', a25', a26')) : wpX_step post (1, 0, 2, 1, nd, pn, le, 4, 0, dc, 0, a1, fc_z, upd fc_z 0 5, upd fc_z 0 0, a5, fc_z, fc_z, fc_z, upd fc_o9 0 0, a10, a11, a12, a13, upd (upd (upd fc_z 0 16) 1 17) 2 17, upd (upd (upd fc_z 0 0) 1 (-1)) 2 (-1), upd (upd (upd fc_z 0 (-1)) 1 0) 2 0, a17, upd (upd (upd fc_z 0 8) 1 2) 2 8, a19, upd (upd (upd fc_z 1 1) 5 2) 7 3, a21, fc_z, a23, a24, a25, a26) := by
  repeat first
    | refine br_t (by decide +kernel) ?_
    | refine br_f (by decide +kernel) ?_
    | refine nm_e ?_
    | refine ⟨vp_in_iff.mpr (by decide +kernel), ?_⟩
    | refine ⟨0 + 1 + 1 + 1 + 1 + 1 + 1, ?_⟩
    | refine br_t (fc_dt rfl) ?_
    | refine br_f (fc_df rfl) ?_
    | refine ⟨fc_vin rfl, ?_⟩
  exact hp _ _ _ _ _ _ rfl rfl
end
section
/-- how many steps run(n) takes -/
def fc_st (n st : Int32) : Prop := (0 ≤ n ∧ n ≤ 50 ∧ st = n) ∨ (0 ≤ n ∧ ¬ n ≤ 50 ∧ st = 50) ∨ (¬ 0 ≤ n ∧ st = 0)
theorem fc_loopN {post : Int32 → St2 → Prop} {nd pn le dc : Int32} {a1 a10 a11 a12 a13 a17 a19 a21 a23 a24 a25 a26 : Nat → Int32} {k : Nat} (hk : k ≤ 50) (hp : ∀ dc' : Int32, post (nI k) (0, 0, 2, 1, nd, pn, le, 0, 0, dc', nI k, a1, fc_z, fc_z, fc_z, fc_z, fc_z, fc_z, fc_z, fc_o9, a10, a11, a12, a13, fc_z, fc_z, fc_z, a17, fc_z, a19, fc_z, a21, fc_z, a23, a24, a25, a26)) : ∃ n, wX_run_44 post (nI k) n 0 0 0 2 1 nd pn le 0 0 dc 0 a1 fc_z fc_z fc_z fc_z fc_z fc_z fc_z fc_o9 a10 a11 a12 a13 fc_z fc_z fc_z a17 fc_z a19 fc_z a21 fc_z a23 a24 a25 a26 :=
  pk_loop (fun n i s => wX_run_44 post (nI k) n (nI i) 0 0 2 1 nd pn le 0 0 s 0 a1 fc_z fc_z fc_z fc_z fc_z fc_z fc_z fc_o9 a10 a11 a12 a13 fc_z fc_z fc_z a17 fc_z a19 fc_z a21 fc_z a23 a24 a25 a26) (fun _ _ => True) k 0 dc (by omega) trivial
    (fun n s _ => pk_le k k (fun _ => nm_r (Int32.zero_add _) (hp s)) (fun z => absurd z (by omega)))
    (fun n i s hi _ hw => pk_le k i (fun z => absurd z (by omega)) (fun _ => by
      refine fc_stepN ?_
      exact nm_r (nI_1 i) (hw 0 trivial)))
theorem fc_runN {post : Int32 → St2 → Prop} {n : Int32} {a1 a21 : Nat → Int32} {k : Nat} (hk : k ≤ 50) (hst : fc_st n (nI k)) (hp : ∀ (nd pn le dc' : Int32) (a10 a11 a12 a13 a17 a19 : Nat → Int32), post (nI k) (0, 0, 2, 1, nd, pn, le, 0, 0, dc', nI k, a1, fc_z, fc_z, fc_z, fc_z, fc_z, fc_z, fc_z, fc_o9, a10, a11, a12, a13, fc_z, fc_z, fc_z, a17, fc_z, a19, fc_z, a21, fc_z, fc_z, fc_z, fc_z, fc_z)) : wpX_run post (0, 0, 2, 0, 0, 0, 0, 0, 0, 0, 0, a1, fc_z, fc_z, fc_z, fc_z, fc_z, fc_z, fc_z, fc_o9, fc_z, fc_z, fc_z, fc_z, fc_z, fc_z, fc_z, fc_z, fc_z, fc_z, fc_z, a21, fc_z, fc_z, fc_z, fc_z, fc_z) n := by
  have h30 : wX_run_30 post (nI k) 0 0 2 0 0 0 0 0 0 0 0 a1 fc_z fc_z fc_z fc_z fc_z fc_z fc_z fc_o9 fc_z fc_z fc_z fc_z fc_z fc_z fc_z fc_z fc_z fc_z fc_z a21 fc_z fc_z fc_z fc_z fc_z := by
    refine br_t (by decide) ?_
    refine fc_compN ?_
    intro nd pn le wc a10 a11 a12 a13 a14 a15 a16 a17 a18 a19 a20 e1 e2 e3 e4 e5 e6
    subst e1 e2 e3 e4 e5 e6
    exact fc_loopN hk (fun dc' => hp _ _ _ _ _ _ _ _ _ _)
  refine fc_validN ?_
  refine br_f (by decide) ?_
  rcases hst with ⟨h0, h1, e⟩ | ⟨h0, h1, e⟩ | ⟨h0, e⟩
  · rw [e] at h30
    exact br_t h0 (br_t h1 h30)
  · rw [e] at h30
    exact br_t h0 (br_f h1 h30)
  · rw [e] at h30
    exact br_f h0 h30
theorem fc_loopI0 {post : Int32 → St2 → Prop} {nd pn le dc : Int32} {a1 a5 a10 a11 a12 a13 a17 a19 a21 a23 a24 a25 a26 : Nat → Int32} {k : Nat} (hk : k ≤ 50) (hp : ∀ (dc' : Int32) (a21' a23' a24' a25' a26' : Nat → Int32), (k = 0 → a21' = a21) → (0 < k → a21' 2 = a21 0) → post (nI k) (1, 0, 2, 1, nd, pn, le, 3, 0, dc', nI k, a1, fc_z, upd fc_z 0 0, upd fc_z 0 0, a5, fc_z, fc_z, fc_z, upd fc_o9 0 0, a10, a11, a12, a13, upd (upd fc_z 0 16) 1 17, upd (upd fc_z 0 0) 1 (-1), upd (upd fc_z 0 (-1)) 1 0, a17, upd (upd fc_z 0 0) 1 2, a19, upd (upd fc_z 1 1) 5 2, a21', fc_z, a23', a24', a25', a26')) : ∃ n, wX_run_44 post (nI k) n 0 1 0 2 1 nd pn le 3 0 dc 0 a1 fc_z (upd fc_z 0 0) (upd fc_z 0 0) a5 fc_z fc_z fc_z (upd fc_o9 0 0) a10 a11 a12 a13 (upd (upd fc_z 0 16) 1 17) (upd (upd fc_z 0 0) 1 (-1)) (upd (upd fc_z 0 (-1)) 1 0) a17 (upd (upd fc_z 0 0) 1 2) a19 (upd (upd fc_z 1 1) 5 2) a21 fc_z a23 a24 a25 a26 :=
  pk_loop (σ := Int32 × (Nat → Int32) × (Nat → Int32) × (Nat → Int32) × (Nat → Int32) × (Nat → Int32)) (fun n i s => wX_run_44 post (nI k) n (nI i) 1 0 2 1 nd pn le 3 0 s.1 0 a1 fc_z (upd fc_z 0 0) (upd fc_z 0 0) a5 fc_z fc_z fc_z (upd fc_o9 0 0) a10 a11 a12 a13 (upd (upd fc_z 0 16) 1 17) (upd (upd fc_z 0 0) 1 (-1)) (upd (upd fc_z 0 (-1)) 1 0) a17 (upd (upd fc_z 0 0) 1 2) a19 (upd (upd fc_z 1 1) 5 2) s.2.1 fc_z s.2.2.1 s.2.2.2.1 s.2.2.2.2.1 s.2.2.2.2.2) (fun i s => (i = 0 → s.2.1 = a21) ∧ (0 < i → s.2.1 2 = a21 0) ∧ s.2.1 0 = a21 0) k 0 (dc, a21, a23, a24, a25, a26) (by omega) ⟨fun _ => rfl, fun z => absurd z (by omega), rfl⟩
    (fun n s h => pk_le k k (fun _ => nm_r (Int32.zero_add _) (hp _ _ _ _ _ _ h.1 h.2.1)) (fun z => absurd z (by omega)))
    (fun n i s hi h hw => pk_le k i (fun z => absurd z (by omega)) (fun _ => by
      refine fc_stepI0 ?_
      intro dc' a21' a23' a24' a25' a26' f1 f2
      exact nm_r (nI_1 i) (hw (dc', a21', a23', a24', a25', a26') ⟨fun z => absurd z (by omega), fun _ => f1.trans h.2.2, f2.trans h.2.2⟩)))
theorem fc_runI0 {post : Int32 → St2 → Prop} {n : Int32} {a1 a5 a21 : Nat → Int32} {k : Nat} (hk : k ≤ 50) (hst : fc_st n (nI k)) (hp : ∀ (nd pn le dc' : Int32) (a10 a11 a12 a13 a17 a19 a21' a23' a24' a25' a26' : Nat → Int32), (k = 0 → a21' = a21) → (0 < k → a21' 2 = a21 0) → post (nI k) (1, 0, 2, 1, nd, pn, le, 3, 0, dc', nI k, a1, fc_z, upd fc_z 0 0, upd fc_z 0 0, a5, fc_z, fc_z, fc_z, upd fc_o9 0 0, a10, a11, a12, a13, upd (upd fc_z 0 16) 1 17, upd (upd fc_z 0 0) 1 (-1), upd (upd fc_z 0 (-1)) 1 0, a17, upd (upd fc_z 0 0) 1 2, a19, upd (upd fc_z 1 1) 5 2, a21', fc_z, a23', a24', a25', a26')) : wpX_run post (1, 0, 2, 0, 0, 0, 0, 0, 0, 0, 0, a1, fc_z, upd fc_z 0 0, upd fc_z 0 0, a5, fc_z, fc_z, fc_z, upd fc_o9 0 0, fc_z, fc_z, fc_z, fc_z, fc_z, fc_z, fc_z, fc_z, fc_z, fc_z, fc_z, a21, fc_z, fc_z, fc_z, fc_z, fc_z) n := by
  have h30 : wX_run_30 post (nI k) 1 0 2 0 0 0 0 0 0 0 0 a1 fc_z (upd fc_z 0 0) (upd fc_z 0 0) a5 fc_z fc_z fc_z (upd fc_o9 0 0) fc_z fc_z fc_z fc_z fc_z fc_z fc_z fc_z fc_z fc_z fc_z a21 fc_z fc_z fc_z fc_z fc_z := by
    refine br_t (by decide) ?_
    refine fc_compI0 ?_
    intro nd pn le wc a10 a11 a12 a13 a14 a15 a16 a17 a18 a19 a20 e1 e2 e3 e4 e5 e6
    subst e1 e2 e3 e4 e5 e6
    exact fc_loopI0 hk (fun dc' a21' a23' a24' a25' a26' => hp _ _ _ _ _ _ _ _ _ _ _ _ _ _ _)
  refine fc_valid1 (Or.inl (by decide)) ?_
  refine br_f (by decide) ?_
  rcases hst with ⟨h0, h1, e⟩ | ⟨h0, h1, e⟩ | ⟨h0, e⟩
  · rw [e] at h30
    exact br_t h0 (br_t h1 h30)
  · rw [e] at h30
    exact br_t h0 (br_f h1 h30)
  · rw [e] at h30
    exact br_f h0 h30
theorem fc_loopI1 {post : Int32 → St2 → Prop} {nd pn le dc : Int32} {a1 a5 a10 a11 a12 a13 a17 a19 a21 a23 a24 a25 a26 : Nat → Int32} {k : Nat} (hk : k ≤ 50) (hp : ∀ (dc' : Int32) (a21' a23' a24' a25' a26' : Nat → Int32), (k = 0 → a21' = a21) → (0 < k → a21' 2 = a21 1) → post (nI k) (1, 0, 2, 1, nd, pn, le, 3, 0, dc', nI k, a1, fc_z, upd fc_z 0 0, upd fc_z 0 1, a5, fc_z, fc_z, fc_z, upd fc_o9 0 0, a10, a11, a12, a13, upd (upd fc_z 0 16) 1 17, upd (upd fc_z 0 0) 1 (-1), upd (upd fc_z 0 (-1)) 1 0, a17, upd (upd fc_z 0 1) 1 2, a19, upd (upd fc_z 1 1) 5 2, a21', fc_z, a23', a24', a25', a26')) : ∃ n, wX_run_44 post (nI k) n 0 1 0 2 1 nd pn le 3 0 dc 0 a1 fc_z (upd fc_z 0 0) (upd fc_z 0 1) a5 fc_z fc_z fc_z (upd fc_o9 0 0) a10 a11 a12 a13 (upd (upd fc_z 0 16) 1 17) (upd (upd fc_z 0 0) 1 (-1)) (upd (upd fc_z 0 (-1)) 1 0) a17 (upd (upd fc_z 0 1) 1 2) a19 (upd (upd fc_z 1 1) 5 2) a21 fc_z a23 a24 a25 a26 :=
  pk_loop (σ := Int32 × (Nat → Int32) × (Nat → Int32) × (Nat → Int32) × (Nat → Int32) × (Nat → Int32)) (fun n i s => wX_run_44 post (nI k) n (nI i) 1 0 2 1 nd pn le 3 0 s.1 0 a1 fc_z (upd fc_z 0 0) (upd fc_z 0 1) a5 fc_z fc_z fc_z (upd fc_o9 0 0) a10 a11 a12 a13 (upd (upd fc_z 0 16) 1 17) (upd (upd fc_z 0 0) 1 (-1)) (upd (upd fc_z 0 (-1)) 1 0) a17 (upd (upd fc_z 0 1) 1 2) a19 (upd (upd fc_z 1 1) 5 2) s.2.1 fc_z s.2.2.1 s.2.2.2.1 s.2.2.2.2.1 s.2.2.2.2.2) (fun i s => (i = 0 → s.2.1 = a21) ∧ (0 < i → s.2.1 2 = a21 1) ∧ s.2.1 1 = a21 1) k 0 (dc, a21, a23, a24, a25, a26) (by omega) ⟨fun _ => rfl, fun z => absurd z (by omega), rfl⟩
    (fun n s h => pk_le k k (fun _ => nm_r (Int32.zero_add _) (hp _ _ _ _ _ _ h.1 h.2.1)) (fun z => absurd z (by omega)))
    (fun n i s hi h hw => pk_le k i (fun z => absurd z (by omega)) (fun _ => by
      refine fc_stepI1 ?_
      intro dc' a21' a23' a24' a25' a26' f1 f2
      exact nm_r (nI_1 i) (hw (dc', a21', a23', a24', a25', a26') ⟨fun z => absurd z (by omega), fun _ => f1.trans h.2.2, f2.trans h.2.2⟩)))
theorem fc_runI1 {post : Int32 → St2 → Prop} {n : Int32} {a1 a5 a21 : Nat → Int32} {k : Nat} (hk : k ≤ 50) (hst : fc_st n (nI k)) (hp : ∀ (nd pn le dc' : Int32) (a10 a11 a12 a13 a17 a19 a21' a23' a24' a25' a26' : Nat → Int32), (k = 0 → a21' = a21) → (0 < k → a21' 2 = a21 1) → post (nI k) (1, 0, 2, 1, nd, pn, le, 3, 0, dc', nI k, a1, fc_z, upd fc_z 0 0, upd fc_z 0 1, a5, fc_z, fc_z, fc_z, upd fc_o9 0 0, a10, a11, a12, a13, upd (upd fc_z 0 16) 1 17, upd (upd fc_z 0 0) 1 (-1), upd (upd fc_z 0 (-1)) 1 0, a17, upd (upd fc_z 0 1) 1 2, a19, upd (upd fc_z 1 1) 5 2, a21', fc_z, a23', a24', a25', a26')) : wpX_run post (1, 0, 2, 0, 0, 0, 0, 0, 0, 0, 0, a1, fc_z, upd fc_z 0 0, upd fc_z 0 1, a5, fc_z, fc_z, fc_z, upd fc_o9 0 0, fc_z, fc_z, fc_z, fc_z, fc_z, fc_z, fc_z, fc_z, fc_z, fc_z, fc_z, a21, fc_z, fc_z, fc_z, fc_z, fc_z) n := by
  have h30 : wX_run_30 post (nI k) 1 0 2 0 0 0 0 0 0 0 0 a1 fc_z (upd fc_z 0 0) (upd fc_z 0 1) a5 fc_z fc_z fc_z (upd fc_o9 0 0) fc_z fc_z fc_z fc_z fc_z fc_z fc_z fc_z fc_z fc_z fc_z a21 fc_z fc_z fc_z fc_z fc_z := by
    refine br_t (by decide) ?_
    refine fc_compI1 ?_
    intro nd pn le wc a10 a11 a12 a13 a14 a15 a16 a17 a18 a19 a20 e1 e2 e3 e4 e5 e6
    subst e1 e2 e3 e4 e5 e6
    exact fc_loopI1 hk (fun dc' a21' a23' a24' a25' a26' => hp _ _ _ _ _ _ _ _ _ _ _ _ _ _ _)
  refine fc_valid1 (Or.inl (by decide)) ?_
  refine br_f (by decide) ?_
  rcases hst with ⟨h0, h1, e⟩ | ⟨h0, h1, e⟩ | ⟨h0, e⟩
  · rw [e] at h30
    exact br_t h0 (br_t h1 h30)
  · rw [e] at h30
    exact br_t h0 (br_f h1 h30)
  · rw [e] at h30
    exact br_f h0 h30
theorem fc_loopC {post : Int32 → St2 → Prop} {x : Int32} {nd pn le dc : Int32} {a1 a5 a10 a11 a12 a13 a17 a19 a21 a23 a24 a25 a26 : Nat → Int32} {k : Nat} (hk : k ≤ 50) (hp : ∀ (dc' : Int32) (a21' a23' a24' a25' a26' : Nat → Int32), (k = 0 → a21' = a21) → (0 < k → a21' 2 = x) → post (nI k) (1, 0, 2, 1, nd, pn, le, 2, 0, dc', nI k, a1, fc_z, upd fc_z 0 1, upd fc_z 0 x, a5, fc_z, fc_z, fc_z, upd fc_o9 0 0, a10, a11, a12, a13, upd (upd fc_z 0 1) 1 17, upd (upd fc_z 0 0) 1 (-1), upd (upd fc_z 0 (-1)) 1 0, a17, upd (upd fc_z 0 x) 1 2, a19, upd (upd fc_z 0 1) 3 2, a21', fc_z, a23', a24', a25', a26')) : ∃ n, wX_run_44 post (nI k) n 0 1 0 2 1 nd pn le 2 0 dc 0 a1 fc_z (upd fc_z 0 1) (upd fc_z 0 x) a5 fc_z fc_z fc_z (upd fc_o9 0 0) a10 a11 a12 a13 (upd (upd fc_z 0 1) 1 17) (upd (upd fc_z 0 0) 1 (-1)) (upd (upd fc_z 0 (-1)) 1 0) a17 (upd (upd fc_z 0 x) 1 2) a19 (upd (upd fc_z 0 1) 3 2) a21 fc_z a23 a24 a25 a26 :=
  pk_loop (σ := Int32 × (Nat → Int32) × (Nat → Int32) × (Nat → Int32) × (Nat → Int32) × (Nat → Int32)) (fun n i s => wX_run_44 post (nI k) n (nI i) 1 0 2 1 nd pn le 2 0 s.1 0 a1 fc_z (upd fc_z 0 1) (upd fc_z 0 x) a5 fc_z fc_z fc_z (upd fc_o9 0 0) a10 a11 a12 a13 (upd (upd fc_z 0 1) 1 17) (upd (upd fc_z 0 0) 1 (-1)) (upd (upd fc_z 0 (-1)) 1 0) a17 (upd (upd fc_z 0 x) 1 2) a19 (upd (upd fc_z 0 1) 3 2) s.2.1 fc_z s.2.2.1 s.2.2.2.1 s.2.2.2.2.1 s.2.2.2.2.2) (fun i s => (i = 0 → s.2.1 = a21) ∧ (0 < i → s.2.1 2 = x)) k 0 (dc, a21, a23, a24, a25, a26) (by omega) ⟨fun _ => rfl, fun z => absurd z (by omega)⟩
    (fun n s h => pk_le k k (fun _ => nm_r (Int32.zero_add _) (hp _ _ _ _ _ _ h.1 h.2)) (fun z => absurd z (by omega)))
    (fun n i s hi h hw => pk_le k i (fun z => absurd z (by omega)) (fun _ => by
      refine fc_stepC ?_
      intro dc' a21' a23' a24' a25' a26' f1
      exact nm_r (nI_1 i) (hw (dc', a21', a23', a24', a25', a26') ⟨fun z => absurd z (by omega), fun _ => f1⟩)))
theorem fc_runC {post : Int32 → St2 → Prop} {x : Int32} {n : Int32} {a1 a5 a21 : Nat → Int32} {k : Nat} (hk : k ≤ 50) (hst : fc_st n (nI k)) (hp : ∀ (nd pn le dc' : Int32) (a10 a11 a12 a13 a17 a19 a21' a23' a24' a25' a26' : Nat → Int32), (k = 0 → a21' = a21) → (0 < k → a21' 2 = x) → post (nI k) (1, 0, 2, 1, nd, pn, le, 2, 0, dc', nI k, a1, fc_z, upd fc_z 0 1, upd fc_z 0 x, a5, fc_z, fc_z, fc_z, upd fc_o9 0 0, a10, a11, a12, a13, upd (upd fc_z 0 1) 1 17, upd (upd fc_z 0 0) 1 (-1), upd (upd fc_z 0 (-1)) 1 0, a17, upd (upd fc_z 0 x) 1 2, a19, upd (upd fc_z 0 1) 3 2, a21', fc_z, a23', a24', a25', a26')) : wpX_run post (1, 0, 2, 0, 0, 0, 0, 0, 0, 0, 0, a1, fc_z, upd fc_z 0 1, upd fc_z 0 x, a5, fc_z, fc_z, fc_z, upd fc_o9 0 0, fc_z, fc_z, fc_z, fc_z, fc_z, fc_z, fc_z, fc_z, fc_z, fc_z, fc_z, a21, fc_z, fc_z, fc_z, fc_z, fc_z) n := by
  have h30 : wX_run_30 post (nI k) 1 0 2 0 0 0 0 0 0 0 0 a1 fc_z (upd fc_z 0 1) (upd fc_z 0 x) a5 fc_z fc_z fc_z (upd fc_o9 0 0) fc_z fc_z fc_z fc_z fc_z fc_z fc_z fc_z fc_z fc_z fc_z a21 fc_z fc_z fc_z fc_z fc_z := by
    refine br_t (by decide) ?_
    refine fc_compC ?_
    intro nd pn le wc a10 a11 a12 a13 a14 a15 a16 a17 a18 a19 a20 e1 e2 e3 e4 e5 e6
    subst e1 e2 e3 e4 e5 e6
    exact fc_loopC hk (fun dc' a21' a23' a24' a25' a26' => hp _ _ _ _ _ _ _ _ _ _ _ _ _ _ _)
  refine fc_valid1 (Or.inl (by decide)) ?_
  refine br_f (by decide) ?_
  rcases hst with ⟨h0, h1, e⟩ | ⟨h0, h1, e⟩ | ⟨h0, e⟩
  · rw [e] at h30
    exact br_t h0 (br_t h1 h30)
  · rw [e] at h30
    exact br_t h0 (br_f h1 h30)
  · rw [e] at h30
    exact br_f h0 h30
theorem fc_loopD {post : Int32 → St2 → Prop} {nd pn le dc : Int32} {a1 a5 a10 a11 a12 a13 a17 a19 a21 a23 a24 a25 a26 : Nat → Int32} {k : Nat} (hk : k ≤ 50) (hp : ∀ (dc' : Int32) (a21' a23' a24' a25' a26' : Nat → Int32), (k = 0 → a21' = a21) → (0 < k → a21' 2 = a21 8) → post (nI k) (1, 0, 2, 1, nd, pn, le, 4, 0, dc', nI k, a1, fc_z, upd fc_z 0 5, upd fc_z 0 0, a5, fc_z, fc_z, fc_z, upd fc_o9 0 0, a10, a11, a12, a13, upd (upd (upd fc_z 0 16) 1 17) 2 17, upd (upd (upd fc_z 0 0) 1 (-1)) 2 (-1), upd (upd (upd fc_z 0 (-1)) 1 0) 2 0, a17, upd (upd (upd fc_z 0 8) 1 2) 2 8, a19, upd (upd (upd fc_z 1 1) 5 2) 7 3, a21', fc_z, a23', a24', a25', a26')) : ∃ n, wX_run_44 post (nI k) n 0 1 0 2 1 nd pn le 4 0 dc 0 a1 fc_z (upd fc_z 0 5) (upd fc_z 0 0) a5 fc_z fc_z fc_z (upd fc_o9 0 0) a10 a11 a12 a13 (upd (upd (upd fc_z 0 16) 1 17) 2 17) (upd (upd (upd fc_z 0 0) 1 (-1)) 2 (-1)) (upd (upd (upd fc_z 0 (-1)) 1 0) 2 0) a17 (upd (upd (upd fc_z 0 8) 1 2) 2 8) a19 (upd (upd (upd fc_z 1 1) 5 2) 7 3) a21 fc_z a23 a24 a25 a26 :=
  pk_loop (σ := Int32 × (Nat → Int32) × (Nat → Int32) × (Nat → Int32) × (Nat → Int32) × (Nat → Int32)) (fun n i s => wX_run_44 post (nI k) n (nI i) 1 0 2 1 nd pn le 4 0 s.1 0 a1 fc_z (upd fc_z 0 5) (upd fc_z 0 0) a5 fc_z fc_z fc_z (upd fc_o9 0 0) a10 a11 a12 a13 (upd (upd (upd fc_z 0 16) 1 17) 2 17) (upd (upd (upd fc_z 0 0) 1 (-1)) 2 (-1)) (upd (upd (upd fc_z 0 (-1)) 1 0) 2 0) a17 (upd (upd (upd fc_z 0 8) 1 2) 2 8) a19 (upd (upd (upd fc_z 1 1) 5 2) 7 3) s.2.1 fc_z s.2.2.1 s.2.2.2.1 s.2.2.2.2.1 s.2.2.2.2.2) (fun i s => (i = 0 → s.2.1 = a21) ∧ (0 < i → s.2.1 2 = a21 8) ∧ s.2.1 8 = a21 8) k 0 (dc, a21, a23, a24, a25, a26) (by omega) ⟨fun _ => rfl, fun z => absurd z (by omega), rfl⟩
    (fun n s h => pk_le k k (fun _ => nm_r (Int32.zero_add _) (hp _ _ _ _ _ _ h.1 h.2.1)) (fun z => absurd z (by omega)))
    (fun n i s hi h hw => pk_le k i (fun z => absurd z (by omega)) (fun _ => by
      refine fc_stepD ?_
      intro dc' a21' a23' a24' a25' a26' f1 f2
      exact nm_r (nI_1 i) (hw (dc', a21', a23', a24', a25', a26') ⟨fun z => absurd z (by omega), fun _ => f1.trans h.2.2, f2.trans h.2.2⟩)))
theorem fc_runD {post : Int32 → St2 → Prop} {n : Int32} {a1 a5 a21 : Nat → Int32} {k : Nat} (hk : k ≤ 50) (hst : fc_st n (nI k)) (hp : ∀ (nd pn le dc' : Int32) (a10 a11 a12 a13 a17 a19 a21' a23' a24' a25' a26' : Nat → Int32), (k = 0 → a21' = a21) → (0 < k → a21' 2 = a21 8) → post (nI k) (1, 0, 2, 1, nd, pn, le, 4, 0, dc', nI k, a1, fc_z, upd fc_z 0 5, upd fc_z 0 0, a5, fc_z, fc_z, fc_z, upd fc_o9 0 0, a10, a11, a12, a13, upd (upd (upd fc_z 0 16) 1 17) 2 17, upd (upd (upd fc_z 0 0) 1 (-1)) 2 (-1), upd (upd (upd fc_z 0 (-1)) 1 0) 2 0, a17, upd (upd (upd fc_z 0 8) 1 2) 2 8, a19, upd (upd (upd fc_z 1 1) 5 2) 7 3, a21', fc_z, a23', a24', a25', a26')) : wpX_run post (1, 0, 2, 0, 0, 0, 0, 0, 0, 0, 0, a1, fc_z, upd fc_z 0 5, upd fc_z 0 0, a5, fc_z, fc_z, fc_z, upd fc_o9 0 0, fc_z, fc_z, fc_z, fc_z, fc_z, fc_z, fc_z, fc_z, fc_z, fc_z, fc_z, a21, fc_z, fc_z, fc_z, fc_z, fc_z) n := by
  have h30 : wX_run_30 post (nI k) 1 0 2 0 0 0 0 0 0 0 0 a1 fc_z (upd fc_z 0 5) (upd fc_z 0 0) a5 fc_z fc_z fc_z (upd fc_o9 0 0) fc_z fc_z fc_z fc_z fc_z fc_z fc_z fc_z fc_z fc_z fc_z a21 fc_z fc_z fc_z fc_z fc_z := by
    refine br_t (by decide) ?_
    refine fc_compD ?_
    intro nd pn le wc a10 a11 a12 a13 a14 a15 a16 a17 a18 a19 a20 e1 e2 e3 e4 e5 e6
    subst e1 e2 e3 e4 e5 e6
    exact fc_loopD hk (fun dc' a21' a23' a24' a25' a26' => hp _ _ _ _ _ _ _ _ _ _ _ _ _ _ _)
  refine fc_valid1 (Or.inr rfl) ?_
  refine br_f (by decide) ?_
  rcases hst with ⟨h0, h1, e⟩ | ⟨h0, h1, e⟩ | ⟨h0, e⟩
  · rw [e] at h30
    exact br_t h0 (br_t h1 h30)
  · rw [e] at h30
    exact br_t h0 (br_f h1 h30)
  · rw [e] at h30
    exact br_f h0 h30
end
section
theorem fc_saM {v sa : Int32} {M : Nat → Int32} (h : fc_sa v sa M) : M 1 = 0 ∧ M 2 = 0 ∧ M 8 = 0 ∧ (sa = 0 → M 0 = 0) ∧ (¬ sa = 0 → M 0 = v) := by
  rcases h with ⟨_, _, rfl, rfl⟩ | ⟨_, rfl, rfl⟩
  · exact ⟨rfl, rfl, rfl, fun z => absurd z (by decide), fun _ => rfl⟩
  · exact ⟨rfl, rfl, rfl, fun _ => rfl, fun z => absurd rfl z⟩
theorem fc_leafI0 {y v n sa due : Int32} {M : Nat → Int32} {k : Nat} (hk : k ≤ 50) (hst : fc_st n (nI k)) (hs : fc_sa v sa M) (hd0 : k = 0 → due = 0) (hd : 0 < k → due = M 0) : wL_lawOf_178 (fun r _ => r = 1) 27 3415 0 0 y v n 1 1 (nI k) sa due 0 0 := by
  refine ⟨by decide, by decide, 26, 3378, by decide, by decide, ?_⟩
  refine fc_init ?_
  intro a1
  refine fc_nodeM (Or.inl ⟨rfl, Or.inl rfl⟩) ?_
  refine br_f (by decide) (br_t rfl ?_)
  refine fc_outM ?_
  refine br_t rfl ?_
  refine fc_in hs ?_
  refine br_t rfl ?_
  refine fc_runI0 hk hst ?_
  intro nd pn le dc' a10 a11 a12 a13 a17 a19 a21' a23' a24' a25' a26' h0 h1
  refine br_f (by decide) (br_f (by decide) (br_t rfl ?_))
  refine fc_valueM rfl ?_
  refine br_t ?_ ?_
  · by_cases z : k = 0
    · rw [h0 z, hd0 z]
      exact (fc_saM hs).2.1
    · rw [h1 (by omega), hd (by omega)]
  · exact br_f (by decide) (br_f (by decide) (br_t rfl rfl))
theorem fc_leafI1 {y v n sa due : Int32} {M : Nat → Int32} {k : Nat} (hk : k ≤ 50) (hst : fc_st n (nI k)) (hs : fc_sa v sa M) (hd0 : k = 0 → due = 0) (hd : 0 < k → due = M 1) : wL_lawOf_178 (fun r _ => r = 1) 27 3415 0 1 y v n 1 1 (nI k) sa due 0 0 := by
  refine ⟨by decide, by decide, 26, 3378, by decide, by decide, ?_⟩
  refine fc_init ?_
  intro a1
  refine fc_nodeM (Or.inl ⟨rfl, Or.inr rfl⟩) ?_
  refine br_f (by decide) (br_t rfl ?_)
  refine fc_outM ?_
  refine br_t rfl ?_
  refine fc_in hs ?_
  refine br_t rfl ?_
  refine fc_runI1 hk hst ?_
  intro nd pn le dc' a10 a11 a12 a13 a17 a19 a21' a23' a24' a25' a26' h0 h1
  refine br_f (by decide) (br_f (by decide) (br_t rfl ?_))
  refine fc_valueM rfl ?_
  refine br_t ?_ ?_
  · by_cases z : k = 0
    · rw [h0 z, hd0 z]
      exact (fc_saM hs).2.1
    · rw [h1 (by omega), hd (by omega)]
  · exact br_f (by decide) (br_f (by decide) (br_t rfl rfl))
theorem fc_leafC {x : Int32} (hx : fc_made 1 x) {y v n sa due : Int32} {M : Nat → Int32} {k : Nat} (hk : k ≤ 50) (hst : fc_st n (nI k)) (hs : fc_sa v sa M) (hd0 : k = 0 → due = 0) (hd : 0 < k → due = x) : wL_lawOf_178 (fun r _ => r = 1) 27 3415 1 x y v n 1 1 (nI k) sa due 0 0 := by
  refine ⟨by decide, by decide, 26, 3378, by decide, by decide, ?_⟩
  refine fc_init ?_
  intro a1
  refine fc_nodeM hx ?_
  refine br_f (by decide) (br_t rfl ?_)
  refine fc_outM ?_
  refine br_t rfl ?_
  refine fc_in hs ?_
  refine br_t rfl ?_
  refine fc_runC hk hst ?_
  intro nd pn le dc' a10 a11 a12 a13 a17 a19 a21' a23' a24' a25' a26' h0 h1
  refine br_f (by decide) (br_f (by decide) (br_t rfl ?_))
  refine fc_valueM rfl ?_
  refine br_t ?_ ?_
  · by_cases z : k = 0
    · rw [h0 z, hd0 z]
      exact (fc_saM hs).2.1
    · rw [h1 (by omega), hd (by omega)]
  · exact br_f (by decide) (br_f (by decide) (br_t rfl rfl))
theorem fc_leafD {y v n sa due : Int32} {M : Nat → Int32} {k : Nat} (hk : k ≤ 50) (hst : fc_st n (nI k)) (hs : fc_sa v sa M) (hd0 : k = 0 → due = 0) (hd : 0 < k → due = M 8) : wL_lawOf_178 (fun r _ => r = 1) 27 3415 5 0 y v n 1 1 (nI k) sa due 0 0 := by
  refine ⟨by decide, by decide, 26, 3378, by decide, by decide, ?_⟩
  refine fc_init ?_
  intro a1
  refine fc_nodeM (Or.inr (Or.inr ⟨rfl, by decide, by decide⟩)) ?_
  refine br_f (by decide) (br_t rfl ?_)
  refine fc_outM ?_
  refine br_t rfl ?_
  refine fc_in hs ?_
  refine br_t rfl ?_
  refine fc_runD hk hst ?_
  intro nd pn le dc' a10 a11 a12 a13 a17 a19 a21' a23' a24' a25' a26' h0 h1
  refine br_f (by decide) (br_f (by decide) (br_t rfl ?_))
  refine fc_valueM rfl ?_
  refine br_t ?_ ?_
  · by_cases z : k = 0
    · rw [h0 z, hd0 z]
      exact (fc_saM hs).2.1
    · rw [h1 (by omega), hd (by omega)]
  · exact br_f (by decide) (br_f (by decide) (br_t rfl rfl))
theorem fc_leafE {x y v n sa : Int32} {M : Nat → Int32} {st : Int32} (hx : fc_made 5 x) (h1 : ¬ x < 1) (hs : fc_sa v sa M) : wL_lawOf_178 (fun r _ => r = 1) 27 3415 5 x y v n 1 0 st sa 0 0 0 := by
  refine ⟨by decide, by decide, 26, 3378, by decide, by decide, ?_⟩
  refine fc_init ?_
  intro a1
  refine fc_nodeM hx ?_
  refine br_f (by decide) (br_t rfl ?_)
  refine fc_outM ?_
  refine br_t rfl ?_
  refine fc_in hs ?_
  refine br_t rfl ?_
  refine fc_valid0 h1 ?_
  refine br_t rfl ?_
  refine br_f (by decide) (br_t rfl (br_t rfl ?_))
  refine fc_valueM rfl ?_
  refine br_t (fc_saM hs).2.1 ?_
  exact br_f (by decide) (br_t rfl (br_t rfl rfl))
theorem fc_leafN {kd x y v n sa vl : Int32} {M : Nat → Int32} {k : Nat} (hm : ¬ fc_made kd x) (hk : k ≤ 50) (hst : fc_st n (nI k)) (hs : fc_sa v sa M) : wL_lawOf_178 (fun r _ => r = 1) 27 3415 kd x y v n 0 vl (nI k) sa 0 0 0 := by
  refine ⟨by decide, by decide, 26, 3378, by decide, by decide, ?_⟩
  refine fc_init ?_
  intro a1
  refine fc_nodeN hm ?_
  refine br_t rfl (br_t rfl ?_)
  refine fc_outN ?_
  refine br_t rfl ?_
  refine fc_in hs ?_
  refine br_t rfl ?_
  refine fc_runN hk hst ?_
  intro nd pn le dc' a10 a11 a12 a13 a17 a19
  refine br_t rfl (br_t rfl ?_)
  refine fc_valueN rfl ?_
  refine br_t rfl ?_
  exact br_t rfl (br_t rfl rfl)
end
section
theorem fc_t114I0 {y v n sa : Int32} {M : Nat → Int32} {k : Nat} (hk : k ≤ 50) (hst : fc_st n (nI k)) (hs : fc_sa v sa M) : wL_lawOf_114 (fun r _ => r = 1) 27 3415 0 0 y v n 1 1 (nI k) sa 0 0 :=
  br_f (by decide) (br_f (by decide) (br_c
    (fun h => br_t rfl (fc_leafI0 hk hst hs (fun _ => rfl) (fun z => absurd h (nI_nle z (by omega)))))
    (fun h => br_f (by decide) (br_t rfl (br_t rfl (br_c (fun e => fc_leafI0 hk hst hs (fun _ => rfl) (fun _ => ((fc_saM hs).2.2.2.1 e).symm)) (fun e => fc_leafI0 hk hst hs (fun z => absurd (show nI k ≤ 0 by rw [z]; decide) h) (fun _ => ((fc_saM hs).2.2.2.2 e).symm))))))))
theorem fc_t114I1 {y v n sa : Int32} {M : Nat → Int32} {k : Nat} (hk : k ≤ 50) (hst : fc_st n (nI k)) (hs : fc_sa v sa M) : wL_lawOf_114 (fun r _ => r = 1) 27 3415 0 1 y v n 1 1 (nI k) sa 0 0 :=
  br_f (by decide) (br_f (by decide) (br_c
    (fun h => br_t rfl (fc_leafI1 hk hst hs (fun _ => rfl) (fun z => absurd h (nI_nle z (by omega)))))
    (fun h => br_f (by decide) (br_t rfl (br_f (by decide) (fc_leafI1 hk hst hs (fun _ => rfl) (fun _ => (fc_saM hs).1.symm)))))))
theorem fc_t114C {x : Int32} (hx : fc_made 1 x) {y v n sa : Int32} {M : Nat → Int32} {k : Nat} (hk : k ≤ 50) (hst : fc_st n (nI k)) (hs : fc_sa v sa M) : wL_lawOf_114 (fun r _ => r = 1) 27 3415 1 x y v n 1 1 (nI k) sa 0 0 :=
  br_f (by decide) (br_f (by decide) (br_c
    (fun h => br_t rfl (fc_leafC hx hk hst hs (fun _ => rfl) (fun z => absurd h (nI_nle z (by omega)))))
    (fun h => br_f (by decide) (br_f (by decide) (br_t rfl (fc_leafC hx hk hst hs (fun z => absurd (show nI k ≤ 0 by rw [z]; decide) h) (fun _ => rfl)))))))
theorem fc_t114D {y v n sa : Int32} {M : Nat → Int32} {k : Nat} (hk : k ≤ 50) (hst : fc_st n (nI k)) (hs : fc_sa v sa M) : wL_lawOf_114 (fun r _ => r = 1) 27 3415 5 0 y v n 1 1 (nI k) sa 0 0 :=
  br_f (by decide) (br_f (by decide) (br_c
    (fun h => br_t rfl (fc_leafD hk hst hs (fun _ => rfl) (fun z => absurd h (nI_nle z (by omega)))))
    (fun h => br_f (by decide) (br_f (by decide) (br_f (by decide) (fc_leafD hk hst hs (fun _ => rfl) (fun _ => (fc_saM hs).2.2.1.symm)))))))
theorem fc_t114E {x y v n sa : Int32} {M : Nat → Int32} {st : Int32} (hx : fc_made 5 x) (h1 : ¬ x < 1) (hs : fc_sa v sa M) : wL_lawOf_114 (fun r _ => r = 1) 27 3415 5 x y v n 1 0 st sa 0 0 :=
  br_f (by decide) (br_t rfl (br_t rfl (fc_leafE hx h1 hs)))
theorem fc_t114N {kd x y v n sa vl : Int32} {M : Nat → Int32} {k : Nat} (hm : ¬ fc_made kd x) (hk : k ≤ 50) (hst : fc_st n (nI k)) (hs : fc_sa v sa M) : wL_lawOf_114 (fun r _ => r = 1) 27 3415 kd x y v n 0 vl (nI k) sa 0 0 :=
  br_t rfl (br_t rfl (fc_leafN hm hk hst hs))
theorem fc_t93 {kd x y v n md vl st : Int32} (H : ∀ (sa : Int32) (M : Nat → Int32), fc_sa v sa M → wL_lawOf_114 (fun r _ => r = 1) 27 3415 kd x y v n md vl st sa 0 0) : wL_lawOf_93 (fun r _ => r = 1) 27 3415 kd x y v n md vl st 0 0 :=
  br_c (fun h => H 0 fc_z (Or.inr ⟨Or.inl h, rfl, rfl⟩)) (fun h => br_c (fun h2 => H 0 fc_z (Or.inr ⟨Or.inr h2, rfl, rfl⟩)) (fun h2 => H 1 (upd fc_z 0 v) (Or.inl ⟨h, h2, rfl, rfl⟩)))
theorem fc_t68 {kd x y v n md vl : Int32} (H : ∀ (k : Nat) (sa : Int32) (M : Nat → Int32), k ≤ 50 → fc_st n (nI k) → fc_sa v sa M → wL_lawOf_114 (fun r _ => r = 1) 27 3415 kd x y v n md vl (nI k) sa 0 0) : wL_lawOf_68 (fun r _ => r = 1) 27 3415 kd x y v n md vl 0 0 := by
  have H' : ∀ k : Nat, k ≤ 50 → fc_st n (nI k) → wL_lawOf_93 (fun r _ => r = 1) 27 3415 kd x y v n md vl (nI k) 0 0 := fun k h1 h2 => fc_t93 (fun sa M hs => H k sa M h1 h2 hs)
  refine br_c (fun h0 => br_c (fun h50 => ?_) (fun h50 => ?_)) (fun h0 => ?_)
  · obtain ⟨j, hj, e⟩ := nI_of2 (x := n) (M := 50) (n := 50) (by decide) (Int32.not_lt.mpr h0) h50
    have h := H' j hj (Or.inl ⟨h0, h50, e.symm⟩)
    rw [← e] at h
    exact h
  · exact H' 50 (by omega) (Or.inr (Or.inl ⟨h0, h50, rfl⟩))
  · exact H' 0 (by omega) (Or.inr (Or.inr ⟨h0, rfl⟩))
theorem fc_ge1 {x : Int32} (h : ¬ x < 0) (h0 : ¬ x = 0) : ¬ x < 1 := by
  obtain ⟨j, hj, rfl⟩ := nI_of h
  have : 0 < j := by
    rcases Nat.eq_zero_or_pos j with z | z
    · exact absurd (by rw [z]; rfl) h0
    · exact z
  exact nI_nlt (a := j) (b := 1) this hj
theorem fc_t47 {kd x y v n : Int32} (hm : fc_made kd x) : wL_lawOf_47 (fun r _ => r = 1) 27 3415 kd x y v n 0 0 := by
  rcases hm with ⟨rfl, hx⟩ | ⟨rfl, h⟩ | ⟨rfl, h1, h2⟩
  · refine br_f (by decide) ?_
    rcases hx with rfl | rfl
    · exact fc_t68 (fun k sa M hk hst hs => fc_t114I0 hk hst hs)
    · exact fc_t68 (fun k sa M hk hst hs => fc_t114I1 hk hst hs)
  · refine br_f (by decide) ?_
    exact fc_t68 (fun k sa M hk hst hs => fc_t114C (Or.inr (Or.inl ⟨rfl, h⟩)) hk hst hs)
  · refine br_t rfl (br_c (fun e => ?_) (fun e => ?_))
    · subst e
      exact fc_t68 (fun k sa M hk hst hs => fc_t114D hk hst hs)
    · exact fc_t68 (fun k sa M hk hst hs => fc_t114E (Or.inr (Or.inr ⟨rfl, h1, h2⟩)) (fc_ge1 h1 e) hs)
theorem fc_t51 {kd x y v n : Int32} (hm : ¬ fc_made kd x) : wL_lawOf_51 (fun r _ => r = 1) 27 3415 kd x y v n 0 0 :=
  br_c (fun _ => br_c (fun _ => fc_t68 (fun k sa M hk hst hs => fc_t114N hm hk hst hs)) (fun _ => fc_t68 (fun k sa M hk hst hs => fc_t114N hm hk hst hs))) (fun _ => fc_t68 (fun k sa M hk hst hs => fc_t114N hm hk hst hs))
theorem fc_t32 {kd x y v n : Int32} (h0 : ¬ (kd = 0 ∧ (x = 0 ∨ x = 1))) (h1 : ¬ (kd = 1 ∧ ¬ x < -32768 ∧ ¬ 32767 < x)) : wL_lawOf_32 (fun r _ => r = 1) 27 3415 kd x y v n 0 0 :=
  br_c (fun h5 => br_c (fun z => fc_t51 (fun hm => hm.elim h0 (fun hm => hm.elim h1 (fun hm => hm.2.1 z))))
      (fun z => br_c (fun z2 => fc_t51 (fun hm => hm.elim h0 (fun hm => hm.elim h1 (fun hm => hm.2.2 z2)))) (fun z2 => fc_t47 (Or.inr (Or.inr ⟨h5, z, z2⟩)))))
    (fun h5 => fc_t51 (fun hm => hm.elim h0 (fun hm => hm.elim h1 (fun hm => h5 hm.1))))
theorem fc_t13 {kd x y v n : Int32} (h0 : ¬ (kd = 0 ∧ (x = 0 ∨ x = 1))) : wL_lawOf_13 (fun r _ => r = 1) 27 3415 kd x y v n 0 0 :=
  br_c (fun h1 => br_c (fun z => fc_t32 h0 (fun hm => hm.2.1 z))
      (fun z => br_c (fun z2 => fc_t47 (Or.inr (Or.inl ⟨h1, z, Int32.not_lt.mpr z2⟩))) (fun z2 => fc_t32 h0 (fun hm => z2 (Int32.not_lt.mp hm.2.2)))))
    (fun h1 => fc_t32 h0 (fun hm => h1 hm.1))
theorem fc_lawOf {kd x y v n : Int32} : wpL_lawOf (fun r _ => r = 1) 27 3415 () kd x y v n :=
  br_c (fun h => br_c (fun z => fc_t47 (Or.inl ⟨h, Or.inl z⟩)) (fun z => br_c (fun z2 => fc_t47 (Or.inl ⟨h, Or.inr z2⟩)) (fun z2 => fc_t13 (fun hm => hm.2.elim z z2))))
    (fun h => fc_t13 (fun hm => h hm.1))
theorem fc_cell {post : Int32 → Prop} {L : Nat} {xs : Nat → Int32} (p : Nat) (hp : p ≤ 4) (hL : L ≤ 5) (h : ∀ r, post r) : wpL_cellAt post L xs () (nI p) :=
  pk_le L p (fun _ => h _) (fun z => ⟨vp_in_nI z (by omega), h _⟩)
end
section
theorem i_vc (xs : Nat → Int32) (L : Nat) (hL : L ≤ 5) : wpL_law (fun r => r = 1) L xs := by
  refine fc_cell 0 (by omega) hL (fun k => ?_)
  refine fc_cell 1 (by omega) hL (fun x => ?_)
  refine fc_cell 2 (by omega) hL (fun y => ?_)
  refine fc_cell 3 (by omega) hL (fun v => ?_)
  refine fc_cell 4 (by omega) hL (fun n => ?_)
  exact ⟨27, 3415, by decide, by decide, fc_lawOf⟩
end
