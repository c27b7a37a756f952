section
/-- an array of 41 cells of which the cells 0, 1 and 2 alone may hold something -/
def oe_a (p q r : Int32) : Nat → Int32 := fun j => if j = 0 then p else if j = 1 then q else if j = 2 then r else 0
theorem oe_z : (fun _ : Nat => (0 : Int32)) = oe_a 0 0 0 := by
  funext j
  unfold oe_a
  split
  · rfl
  · split
    · rfl
    · split
      · rfl
      · rfl
theorem oe_zj (j : Nat) : oe_a 0 0 0 j = 0 := by rw [← oe_z]
theorem oe_c {p q r p' q' r' : Int32} (h0 : p = p') (h1 : q = q') (h2 : r = r') : oe_a p q r = oe_a p' q' r' := by rw [h0, h1, h2]
theorem oe_up (p q r : Int32) (k : Nat) (v : Int32) (hk : k < 3) : upd (oe_a p q r) k v = oe_a (if 0 = k then v else p) (if 1 = k then v else q) (if 2 = k then v else r) := by
  have h : k = 0 ∨ k = 1 ∨ k = 2 := by omega
  funext j
  rcases h with rfl | rfl | rfl <;> unfold upd oe_a <;> by_cases j0 : j = 0 <;> by_cases j1 : j = 1 <;> by_cases j2 : j = 2 <;> simp_all
theorem oe_in {x : Int32} {n : Nat} (h : ¬ (x < 0 ∨ n ≤ x.toNatClampNeg)) : vp_in x n := h
theorem oe_fin {post : Int32 → St2 → Prop} {r r' f f' : Int32} {a1 a2 a3 a4 a5 a6 a7 a8 a9 b1 b2 b3 b4 b5 b6 b7 b8 b9 : Nat → Int32} (H : post r (f, a1, a2, a3, a4, a5, a6, a7, a8, a9)) (hr : r' = r) (hf : f' = f) (h1 : b1 = a1) (h2 : b2 = a2) (h3 : b3 = a3) (h4 : b4 = a4) (h5 : b5 = a5) (h6 : b6 = a6) (h7 : b7 = a7) (h8 : b8 = a8) (h9 : b9 = a9) : post r' (f', b1, b2, b3, b4, b5, b6, b7, b8, b9) := by
  subst hr hf h1 h2 h3 h4 h5 h6 h7 h8 h9
  exact H
theorem oe_fin0 {post : St2 → Prop} {f f' : Int32} {a1 a2 a3 a4 a5 a6 a7 a8 a9 b1 b2 b3 b4 b5 b6 b7 b8 b9 : Nat → Int32} (H : post (f, a1, a2, a3, a4, a5, a6, a7, a8, a9)) (hf : f' = f) (h1 : b1 = a1) (h2 : b2 = a2) (h3 : b3 = a3) (h4 : b4 = a4) (h5 : b5 = a5) (h6 : b6 = a6) (h7 : b7 = a7) (h8 : b8 = a8) (h9 : b9 = a9) : post (f', b1, b2, b3, b4, b5, b6, b7, b8, b9) := by
  subst hf h1 h2 h3 h4 h5 h6 h7 h8 h9
  exact H
theorem oe_cl0 (x : Int32) : x < 0 ∨ (¬ x < 0 ∧ 0 ≤ x) := by
  have e0 : (0 : Int32).toInt = 0 := by decide
  simp only [Int32.lt_iff_toInt_lt, Int32.le_iff_toInt_le, e0]
  omega
theorem oe_cl1 (x : Int32) : (x < 0 ∧ ¬ x = 0) ∨ x = 0 ∨ (¬ x < 0 ∧ ¬ x < 1 ∧ 1 ≤ x ∧ ¬ x = 0) := by
  have e0 : (0 : Int32).toInt = 0 := by decide
  have e1 : (1 : Int32).toInt = 1 := by decide
  simp only [Int32.lt_iff_toInt_lt, Int32.le_iff_toInt_le, ← Int32.toInt_inj, e0, e1]
  omega
theorem oe_cl2 (x : Int32) : (x < 0 ∧ ¬ x = 0 ∧ ¬ x = 1) ∨ x = 0 ∨ x = 1 ∨ (¬ x < 0 ∧ ¬ x < 2 ∧ 2 ≤ x ∧ ¬ x = 0 ∧ ¬ x = 1) := by
  have e0 : (0 : Int32).toInt = 0 := by decide
  have e1 : (1 : Int32).toInt = 1 := by decide
  have e2 : (2 : Int32).toInt = 2 := by decide
  simp only [Int32.lt_iff_toInt_lt, Int32.le_iff_toInt_le, ← Int32.toInt_inj, e0, e1, e2]
  omega
theorem oe_cl7 (x : Int32) : (x < 0 ∧ ¬ x = 0) ∨ x = 0 ∨ (¬ x < 0 ∧ x ≤ 7 ∧ ¬ x = 0 ∧ ¬ x ≤ -1 + 1) ∨ (¬ x < 0 ∧ ¬ x ≤ 7 ∧ ¬ x = 0) := by
  have e0 : (0 : Int32).toInt = 0 := by decide
  have e7 : (7 : Int32).toInt = 7 := by decide
  have em : (-1 + 1 : Int32).toInt = 0 := by decide
  simp only [Int32.lt_iff_toInt_lt, Int32.le_iff_toInt_le, ← Int32.toInt_inj, e0, e7, em]
  omega
/-- fresh: the search from 40 down to 1 ends at the first cell that isn't in use -/
theorem oe_fr {post : Int32 → St2 → Prop} {f : Int32} {a1 a2 a3 a4 a5 a6 a7 a8 a9 : Nat → Int32} (x0 : Nat) (h1 : 0 < x0) (h40 : x0 ≤ 40) (h0 : a1 x0 = 0) (hb : ∀ j, 0 < j → j < x0 → ¬ a1 j = 0)
    (H : ∀ n, wX_fresh_5 post f a1 a2 a3 a4 a5 a6 a7 a8 a9 (n + 1) (nI x0) 0) : ∃ n, wX_fresh_5 post f a1 a2 a3 a4 a5 a6 a7 a8 a9 n 1 40 := by
  refine ⟨41, pk_loopD (fun n i s => wX_fresh_5 post f a1 a2 a3 a4 a5 a6 a7 a8 a9 n s (nI i)) (fun i s => i ≤ 40 ∧ (i < x0 → s = nI x0)) ?_ ?_ 40 1 ⟨Nat.le_refl 40, fun z => absurd z (by omega)⟩⟩
  · intro n s h
    have e := h.2 h1
    subst e
    exact H n
  · intro n i s h hw
    have hi := h.1
    have hs := h.2
    refine br_f (nI_nle (Nat.succ_pos i) (by omega)) ⟨vp_in_nI (by omega) (by omega), ?_⟩
    by_cases z : a1 (i + 1) = 0
    · refine br_t (by rw [nI_clamp (by omega)]; exact z) (nm_r (pk_m1 i) (hw (nI (i + 1)) ⟨by omega, fun q => ?_⟩))
      by_cases y : i + 1 < x0
      · exact absurd z (hb (i + 1) (by omega) y)
      · rw [show x0 = i + 1 by omega]
    · refine br_f (by rw [nI_clamp (by omega)]; exact z) (nm_r (pk_m1 i) (hw s ⟨by omega, fun q => ?_⟩))
      by_cases y : i + 1 < x0
      · exact hs y
      · exact absurd h0 (by rw [show x0 = i + 1 by omega]; exact z)
/-- place: no cell in use holds the name -/
theorem oe_pl {post : Int32 → Prop} {f : Int32} {a1 a2 a3 a4 a5 a6 a7 a8 a9 : Nat → Int32} (h : ∀ j, a1 j = 0 ∨ ¬ a2 j = 1) (H : post (-4)) : wpX_place post (f, a1, a2, a3, a4, a5, a6, a7, a8, a9) 1 := by
  refine pk_loop (σ := Unit) (fun n i _ => wX_place_2 post 1 f a1 a2 a3 a4 a5 a6 a7 a8 a9 n (nI i)) (fun i _ => 0 < i) 41 1 () (by omega) (by omega) ?_ ?_
  · intro n s h
    exact br_t (by decide +kernel) H
  · intro n i s hi h0 hw
    refine br_f (nI_nlt (a := 40) (by omega) (by decide)) ⟨vp_in_nI hi (by omega), ?_⟩
    by_cases z : a1 i = 0
    · exact br_t (by rw [nI_clamp (by omega)]; exact z) (nm_r (nI_1 i) (hw () (Nat.succ_pos i)))
    · exact br_f (by rw [nI_clamp (by omega)]; exact z) ⟨vp_in_nI hi (by omega), br_f (by rw [nI_clamp (by omega)]; exact (h i).resolve_left z) (nm_r (nI_1 i) (hw () (Nat.succ_pos i)))⟩
theorem oe_rows {post : Int32 → Prop} {f : Int32} {a1 a2 a3 a4 a5 a6 a7 a8 a9 : Nat → Int32} {r : Int32} (hr : a9 0 = r) (H : post r) : wpX_rows post (f, a1, a2, a3, a4, a5, a6, a7, a8, a9) := by
  subst hr
  exact H
theorem oe_bad {post : Int32 → Prop} {f : Int32} {a1 a2 a3 a4 a5 a6 a7 a8 a9 : Nat → Int32} {x n : Int32} (hn : a8 0 = n) (h : x < 0 ∨ (¬ x < 0 ∧ ¬ x < n)) (H : post 1) : wpX_bad post (f, a1, a2, a3, a4, a5, a6, a7, a8, a9) x := by
  subst hn
  rcases h with h | ⟨h, g⟩
  · exact br_t h H
  · exact br_f h (br_f g H)
theorem oe_afterB {post : Int32 → St2 → Prop} {f : Int32} {a1 a2 a3 a4 a5 a6 a7 a8 a9 : Nat → Int32} {x n : Int32} (hn : a8 0 = n) (h : x < 0 ∨ (¬ x < 0 ∧ ¬ x < n)) (H : post (-1) (f, a1, a2, a3, a4, a5, a6, a7, a8, a9)) : wpX_addAfter post (f, a1, a2, a3, a4, a5, a6, a7, a8, a9) x := by
  unfold wpX_addAfter
  dsimp only
  exact oe_bad hn h (br_f (by decide) H)
theorem oe_indentB {post : Int32 → St2 → Prop} {f : Int32} {a1 a2 a3 a4 a5 a6 a7 a8 a9 : Nat → Int32} {x n : Int32} (hn : a8 0 = n) (h : x < 0 ∨ (¬ x < 0 ∧ ¬ x < n)) (H : post (-1) (f, a1, a2, a3, a4, a5, a6, a7, a8, a9)) : wpX_indent post (f, a1, a2, a3, a4, a5, a6, a7, a8, a9) x := by
  unfold wpX_indent
  dsimp only
  exact oe_bad hn h (br_f (by decide) H)
theorem oe_foldB {post : Int32 → St2 → Prop} {f : Int32} {a1 a2 a3 a4 a5 a6 a7 a8 a9 : Nat → Int32} {x y n : Int32} (hn : a8 0 = n) (h : x < 0 ∨ (¬ x < 0 ∧ ¬ x < n)) (H : post (-1) (f, a1, a2, a3, a4, a5, a6, a7, a8, a9)) : wpX_fold post (f, a1, a2, a3, a4, a5, a6, a7, a8, a9) x y := by
  unfold wpX_fold
  dsimp only
  exact oe_bad hn h (br_f (by decide) H)
theorem oe_linkc {post : St2 → Prop} {s : St2} {p0 p1 p2 q0 q1 q2 : Int32} (h0 : p0 = q0) (h1 : p1 = q1) (h2 : p2 = q2) (H : wpX_link post s q0 q1 q2) : wpX_link post s p0 p1 p2 := by
  subst h0 h1 h2
  exact H
theorem oe_init {post : St2 → Prop} (H : post (0, oe_a 0 0 0, oe_a 0 0 0, oe_a 0 0 0, oe_a 0 0 0, oe_a 0 0 0, oe_a 0 0 0, oe_a 0 0 0, oe_a 0 0 0, oe_a 0 0 0)) : wpX_init post 9 369 0 := by
  unfold wpX_init
  rw [oe_z]
  exact ⟨by decide, by decide, by decide, by decide, by decide, by decide, by decide, by decide, by decide, by decide, by decide, by decide, by decide, by decide, by decide, by decide, by decide, by decide, H⟩
theorem oe_cell {post : Int32 → Prop} {L : Nat} {xs : Nat → Int32} (c : Nat) (hc : c ≤ 4) (hL : L ≤ 5) (h : ∀ r, post r) : wpL_cellAt post L xs () (nI c) := by
  refine ⟨fun _ => h 0, fun z => ⟨?_, h _⟩⟩
  rcases Nat.lt_or_ge c L with g | g
  · exact vp_in_nI g (by omega)
  · exact absurd (nI_le g (by omega)) z
end
section
theorem oe_fresh1 {post : Int32 → St2 → Prop} (H : post 1 (1, oe_a 0 1 0, oe_a 0 0 0, oe_a 0 0 0, oe_a 0 0 0, oe_a 0 0 0, oe_a 0 0 0, oe_a 0 0 0, oe_a 0 1 0, oe_a 0 1 0)) : wpX_fresh post (0, oe_a 0 0 0, oe_a 0 0 0, oe_a 0 0 0, oe_a 0 0 0, oe_a 0 0 0, oe_a 0 0 0, oe_a 0 0 0, oe_a 0 0 0, oe_a 0 0 0) := by
  unfold wpX_fresh
  dsimp only
  refine oe_fr 1 (by decide) (by decide) (by decide +kernel) (fun j h g => absurd g (by omega)) (fun n => ?_)
  repeat (first
    | exact oe_fin (post := post) H (by decide +kernel) (by decide +kernel) (oe_c (by decide +kernel) (by decide +kernel) (by decide +kernel)) (oe_c (by decide +kernel) (by decide +kernel) (by decide +kernel)) (oe_c (by decide +kernel) (by decide +kernel) (by decide +kernel)) (oe_c (by decide +kernel) (by decide +kernel) (by decide +kernel)) (oe_c (by decide +kernel) (by decide +kernel) (by decide +kernel)) (oe_c (by decide +kernel) (by decide +kernel) (by decide +kernel)) (oe_c (by decide +kernel) (by decide +kernel) (by decide +kernel)) (oe_c (by decide +kernel) (by decide +kernel) (by decide +kernel)) (oe_c (by decide +kernel) (by decide +kernel) (by decide +kernel))
    | refine ⟨oe_in (by decide +kernel), ?_⟩
    | refine br_t (by decide +kernel) ?_
    | refine br_f (by decide +kernel) ?_
    | refine nm_r (oe_up _ _ _ _ _ (by decide +kernel)) ?_
    | refine nm_e ?_
    | refine Exists.intro 4 ?_)
theorem oe_fresh2 {post : Int32 → St2 → Prop} (H : post 2 (2, oe_a 0 1 1, oe_a 0 0 1, oe_a 0 0 0, oe_a 0 0 0, oe_a 1 0 0, oe_a 0 0 0, oe_a 0 0 0, oe_a 1 1 1, oe_a 1 1 1)) : wpX_fresh post (1, oe_a 0 1 0, oe_a 0 0 0, oe_a 0 0 0, oe_a 0 0 0, oe_a 1 0 0, oe_a 0 0 0, oe_a 0 0 0, oe_a 1 1 0, oe_a 1 1 0) := by
  unfold wpX_fresh
  dsimp only
  refine oe_fr 2 (by decide) (by decide) (by decide +kernel) (by intro j h g; have e : j = 1 := (by omega); subst e; decide +kernel) (fun n => ?_)
  repeat (first
    | exact oe_fin (post := post) H (by decide +kernel) (by decide +kernel) (oe_c (by decide +kernel) (by decide +kernel) (by decide +kernel)) (oe_c (by decide +kernel) (by decide +kernel) (by decide +kernel)) (oe_c (by decide +kernel) (by decide +kernel) (by decide +kernel)) (oe_c (by decide +kernel) (by decide +kernel) (by decide +kernel)) (oe_c (by decide +kernel) (by decide +kernel) (by decide +kernel)) (oe_c (by decide +kernel) (by decide +kernel) (by decide +kernel)) (oe_c (by decide +kernel) (by decide +kernel) (by decide +kernel)) (oe_c (by decide +kernel) (by decide +kernel) (by decide +kernel)) (oe_c (by decide +kernel) (by decide +kernel) (by decide +kernel))
    | refine ⟨oe_in (by decide +kernel), ?_⟩
    | refine br_t (by decide +kernel) ?_
    | refine br_f (by decide +kernel) ?_
    | refine nm_r (oe_up _ _ _ _ _ (by decide +kernel)) ?_
    | refine nm_e ?_
    | refine Exists.intro 4 ?_)
theorem oe_link1 {post : St2 → Prop} (H : post (1, oe_a 0 1 0, oe_a 0 0 0, oe_a 0 0 0, oe_a 0 0 0, oe_a 1 0 0, oe_a 0 0 0, oe_a 0 0 0, oe_a 1 1 0, oe_a 1 1 0)) : wpX_link post (1, oe_a 0 1 0, oe_a 0 0 0, oe_a 0 0 0, oe_a 0 0 0, oe_a 0 0 0, oe_a 0 0 0, oe_a 0 0 0, oe_a 0 1 0, oe_a 0 1 0) 1 0 0 := by
  repeat (first
    | exact oe_fin0 (post := post) H (by decide +kernel) (oe_c (by decide +kernel) (by decide +kernel) (by decide +kernel)) (oe_c (by decide +kernel) (by decide +kernel) (by decide +kernel)) (oe_c (by decide +kernel) (by decide +kernel) (by decide +kernel)) (oe_c (by decide +kernel) (by decide +kernel) (by decide +kernel)) (oe_c (by decide +kernel) (by decide +kernel) (by decide +kernel)) (oe_c (by decide +kernel) (by decide +kernel) (by decide +kernel)) (oe_c (by decide +kernel) (by decide +kernel) (by decide +kernel)) (oe_c (by decide +kernel) (by decide +kernel) (by decide +kernel)) (oe_c (by decide +kernel) (by decide +kernel) (by decide +kernel))
    | refine ⟨oe_in (by decide +kernel), ?_⟩
    | refine br_t (by decide +kernel) ?_
    | refine br_f (by decide +kernel) ?_
    | refine nm_r (oe_up _ _ _ _ _ (by decide +kernel)) ?_
    | refine nm_e ?_
    | refine Exists.intro 4 ?_)
theorem oe_link2 {post : St2 → Prop} (H : post (2, oe_a 0 1 1, oe_a 0 0 1, oe_a 0 0 0, oe_a 0 0 0, oe_a 1 0 0, oe_a 0 2 0, oe_a 0 0 1, oe_a 2 1 1, oe_a 2 1 1)) : wpX_link post (2, oe_a 0 1 1, oe_a 0 0 1, oe_a 0 0 0, oe_a 0 0 0, oe_a 1 0 0, oe_a 0 0 0, oe_a 0 0 0, oe_a 1 1 1, oe_a 1 1 1) 2 0 1 := by
  repeat (first
    | exact oe_fin0 (post := post) H (by decide +kernel) (oe_c (by decide +kernel) (by decide +kernel) (by decide +kernel)) (oe_c (by decide +kernel) (by decide +kernel) (by decide +kernel)) (oe_c (by decide +kernel) (by decide +kernel) (by decide +kernel)) (oe_c (by decide +kernel) (by decide +kernel) (by decide +kernel)) (oe_c (by decide +kernel) (by decide +kernel) (by decide +kernel)) (oe_c (by decide +kernel) (by decide +kernel) (by decide +kernel)) (oe_c (by decide +kernel) (by decide +kernel) (by decide +kernel)) (oe_c (by decide +kernel) (by decide +kernel) (by decide +kernel)) (oe_c (by decide +kernel) (by decide +kernel) (by decide +kernel))
    | refine ⟨oe_in (by decide +kernel), ?_⟩
    | refine br_t (by decide +kernel) ?_
    | refine br_f (by decide +kernel) ?_
    | refine nm_r (oe_up _ _ _ _ _ (by decide +kernel)) ?_
    | refine nm_e ?_
    | refine Exists.intro 4 ?_)
theorem oe_node10 {post : Int32 → Prop} (H : post 1) : wpX_nodeAt post (1, oe_a 0 1 0, oe_a 0 0 0, oe_a 0 0 0, oe_a 0 0 0, oe_a 1 0 0, oe_a 0 0 0, oe_a 0 0 0, oe_a 1 1 0, oe_a 1 1 0) 0 := by
  repeat (first
    | exact ek_v (P := post) (by decide +kernel) H
    | refine ⟨oe_in (by decide +kernel), ?_⟩
    | refine br_t (by decide +kernel) ?_
    | refine br_f (by decide +kernel) ?_
    | refine nm_r (oe_up _ _ _ _ _ (by decide +kernel)) ?_
    | refine nm_e ?_
    | refine Exists.intro 4 ?_)
theorem oe_node20 {post : Int32 → Prop} (H : post 1) : wpX_nodeAt post (2, oe_a 0 1 1, oe_a 0 0 1, oe_a 0 0 0, oe_a 0 0 0, oe_a 1 0 0, oe_a 0 2 0, oe_a 0 0 1, oe_a 2 1 1, oe_a 2 1 1) 0 := by
  repeat (first
    | exact ek_v (P := post) (by decide +kernel) H
    | refine ⟨oe_in (by decide +kernel), ?_⟩
    | refine br_t (by decide +kernel) ?_
    | refine br_f (by decide +kernel) ?_
    | refine nm_r (oe_up _ _ _ _ _ (by decide +kernel)) ?_
    | refine nm_e ?_
    | refine Exists.intro 4 ?_)
theorem oe_node21 {post : Int32 → Prop} (H : post 2) : wpX_nodeAt post (2, oe_a 0 1 1, oe_a 0 0 1, oe_a 0 0 0, oe_a 0 0 0, oe_a 1 0 0, oe_a 0 2 0, oe_a 0 0 1, oe_a 2 1 1, oe_a 2 1 1) 1 := by
  repeat (first
    | exact ek_v (P := post) (by decide +kernel) H
    | refine ⟨oe_in (by decide +kernel), ?_⟩
    | refine br_t (by decide +kernel) ?_
    | refine br_f (by decide +kernel) ?_
    | refine nm_r (oe_up _ _ _ _ _ (by decide +kernel)) ?_
    | refine nm_e ?_
    | refine Exists.intro 4 ?_)
theorem oe_node30 {post : Int32 → Prop} (H : post 1) : wpX_nodeAt post (2, oe_a 0 1 1, oe_a 0 0 1, oe_a 0 0 0, oe_a 0 0 1, oe_a 1 2 0, oe_a 0 0 0, oe_a 0 0 0, oe_a 2 2 1, oe_a 2 2 1) 0 := by
  repeat (first
    | exact ek_v (P := post) (by decide +kernel) H
    | refine ⟨oe_in (by decide +kernel), ?_⟩
    | refine br_t (by decide +kernel) ?_
    | refine br_f (by decide +kernel) ?_
    | refine nm_r (oe_up _ _ _ _ _ (by decide +kernel)) ?_
    | refine nm_e ?_
    | refine Exists.intro 4 ?_)
theorem oe_node31 {post : Int32 → Prop} (H : post 2) : wpX_nodeAt post (2, oe_a 0 1 1, oe_a 0 0 1, oe_a 0 0 0, oe_a 0 0 1, oe_a 1 2 0, oe_a 0 0 0, oe_a 0 0 0, oe_a 2 2 1, oe_a 2 2 1) 1 := by
  repeat (first
    | exact ek_v (P := post) (by decide +kernel) H
    | refine ⟨oe_in (by decide +kernel), ?_⟩
    | refine br_t (by decide +kernel) ?_
    | refine br_f (by decide +kernel) ?_
    | refine nm_r (oe_up _ _ _ _ _ (by decide +kernel)) ?_
    | refine nm_e ?_
    | refine Exists.intro 4 ?_)
theorem oe_deep2 {post : Int32 → Prop} (H : post 0) : wpX_deepestIn post (2, oe_a 0 1 1, oe_a 0 0 1, oe_a 0 0 0, oe_a 0 0 0, oe_a 1 0 0, oe_a 0 2 0, oe_a 0 0 1, oe_a 2 1 1, oe_a 2 1 1) 2 := by
  repeat (first
    | exact ek_v (P := post) (by decide +kernel) H
    | refine ⟨oe_in (by decide +kernel), ?_⟩
    | refine br_t (by decide +kernel) ?_
    | refine br_f (by decide +kernel) ?_
    | refine nm_r (oe_up _ _ _ _ _ (by decide +kernel)) ?_
    | refine nm_e ?_
    | refine Exists.intro 4 ?_)
theorem oe_unl2 {post : St2 → Prop} (H : post (2, oe_a 0 1 1, oe_a 0 0 1, oe_a 0 0 0, oe_a 0 0 0, oe_a 1 0 0, oe_a 0 0 0, oe_a 0 0 1, oe_a 1 1 1, oe_a 1 1 1)) : wpX_unlink post (2, oe_a 0 1 1, oe_a 0 0 1, oe_a 0 0 0, oe_a 0 0 0, oe_a 1 0 0, oe_a 0 2 0, oe_a 0 0 1, oe_a 2 1 1, oe_a 2 1 1) 2 := by
  repeat (first
    | exact oe_fin0 (post := post) H (by decide +kernel) (oe_c (by decide +kernel) (by decide +kernel) (by decide +kernel)) (oe_c (by decide +kernel) (by decide +kernel) (by decide +kernel)) (oe_c (by decide +kernel) (by decide +kernel) (by decide +kernel)) (oe_c (by decide +kernel) (by decide +kernel) (by decide +kernel)) (oe_c (by decide +kernel) (by decide +kernel) (by decide +kernel)) (oe_c (by decide +kernel) (by decide +kernel) (by decide +kernel)) (oe_c (by decide +kernel) (by decide +kernel) (by decide +kernel)) (oe_c (by decide +kernel) (by decide +kernel) (by decide +kernel)) (oe_c (by decide +kernel) (by decide +kernel) (by decide +kernel))
    | refine ⟨oe_in (by decide +kernel), ?_⟩
    | refine br_t (by decide +kernel) ?_
    | refine br_f (by decide +kernel) ?_
    | refine nm_r (oe_up _ _ _ _ _ (by decide +kernel)) ?_
    | refine nm_e ?_
    | refine Exists.intro 4 ?_)
theorem oe_last2 {post : Int32 → Prop} (H : post 0) : wpX_lastChild post (2, oe_a 0 1 1, oe_a 0 0 1, oe_a 0 0 0, oe_a 0 0 0, oe_a 1 0 0, oe_a 0 0 0, oe_a 0 0 1, oe_a 1 1 1, oe_a 1 1 1) 1 := by
  repeat (first
    | exact ek_v (P := post) (by decide +kernel) H
    | refine ⟨oe_in (by decide +kernel), ?_⟩
    | refine br_t (by decide +kernel) ?_
    | refine br_f (by decide +kernel) ?_
    | refine nm_r (oe_up _ _ _ _ _ (by decide +kernel)) ?_
    | refine nm_e ?_
    | refine Exists.intro 4 ?_)
theorem oe_link3 {post : St2 → Prop} (H : post (2, oe_a 0 1 1, oe_a 0 0 1, oe_a 0 0 0, oe_a 0 0 1, oe_a 1 2 0, oe_a 0 0 0, oe_a 0 0 0, oe_a 2 2 1, oe_a 2 2 1)) : wpX_link post (2, oe_a 0 1 1, oe_a 0 0 1, oe_a 0 0 0, oe_a 0 0 0, oe_a 1 0 0, oe_a 0 0 0, oe_a 0 0 1, oe_a 1 1 1, oe_a 1 1 1) 2 1 0 := by
  repeat (first
    | exact oe_fin0 (post := post) H (by decide +kernel) (oe_c (by decide +kernel) (by decide +kernel) (by decide +kernel)) (oe_c (by decide +kernel) (by decide +kernel) (by decide +kernel)) (oe_c (by decide +kernel) (by decide +kernel) (by decide +kernel)) (oe_c (by decide +kernel) (by decide +kernel) (by decide +kernel)) (oe_c (by decide +kernel) (by decide +kernel) (by decide +kernel)) (oe_c (by decide +kernel) (by decide +kernel) (by decide +kernel)) (oe_c (by decide +kernel) (by decide +kernel) (by decide +kernel)) (oe_c (by decide +kernel) (by decide +kernel) (by decide +kernel)) (oe_c (by decide +kernel) (by decide +kernel) (by decide +kernel))
    | refine ⟨oe_in (by decide +kernel), ?_⟩
    | refine br_t (by decide +kernel) ?_
    | refine br_f (by decide +kernel) ?_
    | refine nm_r (oe_up _ _ _ _ _ (by decide +kernel)) ?_
    | refine nm_e ?_
    | refine Exists.intro 4 ?_)
theorem oe_lev3 {post : Int32 → Prop} (H : post 1) : wpX_levelOf post (2, oe_a 0 1 1, oe_a 0 0 1, oe_a 0 0 0, oe_a 0 0 1, oe_a 1 2 0, oe_a 0 0 0, oe_a 0 0 0, oe_a 2 2 1, oe_a 2 2 1) 2 := by
  repeat (first
    | exact ek_v (P := post) (by decide +kernel) H
    | refine ⟨oe_in (by decide +kernel), ?_⟩
    | refine br_t (by decide +kernel) ?_
    | refine br_f (by decide +kernel) ?_
    | refine nm_r (oe_up _ _ _ _ _ (by decide +kernel)) ?_
    | refine nm_e ?_
    | refine Exists.intro 4 ?_)
theorem oe_place0 {post : Int32 → Prop} (H : post (-4)) : wpX_place post (0, oe_a 0 0 0, oe_a 0 0 0, oe_a 0 0 0, oe_a 0 0 0, oe_a 0 0 0, oe_a 0 0 0, oe_a 0 0 0, oe_a 0 0 0, oe_a 0 0 0) 1 := oe_pl (fun j => Or.inr (by rw [oe_zj]; decide)) H
theorem oe_place1 {post : Int32 → Prop} (H : post (-4)) : wpX_place post (1, oe_a 0 1 0, oe_a 0 0 0, oe_a 0 0 0, oe_a 0 0 0, oe_a 1 0 0, oe_a 0 0 0, oe_a 0 0 0, oe_a 1 1 0, oe_a 1 1 0) 1 := oe_pl (fun j => Or.inr (by rw [oe_zj]; decide)) H
theorem oe_place1f {post : Int32 → Prop} (H : post (-4)) : wpX_place post (1, oe_a 0 1 0, oe_a 0 0 0, oe_a 0 1 0, oe_a 0 0 0, oe_a 1 0 0, oe_a 0 0 0, oe_a 0 0 0, oe_a 1 1 0, oe_a 1 1 0) 1 := oe_pl (fun j => Or.inr (by rw [oe_zj]; decide)) H
theorem oe_place2 {post : Int32 → Prop} (H : post 1) : wpX_place post (2, oe_a 0 1 1, oe_a 0 0 1, oe_a 0 0 0, oe_a 0 0 0, oe_a 1 0 0, oe_a 0 2 0, oe_a 0 0 1, oe_a 2 1 1, oe_a 2 1 1) 1 := by
  repeat (first
    | exact ek_v (P := post) (by decide +kernel) H
    | refine ⟨oe_in (by decide +kernel), ?_⟩
    | refine br_t (by decide +kernel) ?_
    | refine br_f (by decide +kernel) ?_
    | refine nm_r (oe_up _ _ _ _ _ (by decide +kernel)) ?_
    | refine nm_e ?_
    | refine Exists.intro 4 ?_)
theorem oe_place2f0 {post : Int32 → Prop} (H : post 1) : wpX_place post (2, oe_a 0 1 1, oe_a 0 0 1, oe_a 0 1 0, oe_a 0 0 0, oe_a 1 0 0, oe_a 0 2 0, oe_a 0 0 1, oe_a 2 1 1, oe_a 2 1 1) 1 := by
  repeat (first
    | exact ek_v (P := post) (by decide +kernel) H
    | refine ⟨oe_in (by decide +kernel), ?_⟩
    | refine br_t (by decide +kernel) ?_
    | refine br_f (by decide +kernel) ?_
    | refine nm_r (oe_up _ _ _ _ _ (by decide +kernel)) ?_
    | refine nm_e ?_
    | refine Exists.intro 4 ?_)
theorem oe_place2f1 {post : Int32 → Prop} (H : post 1) : wpX_place post (2, oe_a 0 1 1, oe_a 0 0 1, oe_a 0 0 1, oe_a 0 0 0, oe_a 1 0 0, oe_a 0 2 0, oe_a 0 0 1, oe_a 2 1 1, oe_a 2 1 1) 1 := by
  repeat (first
    | exact ek_v (P := post) (by decide +kernel) H
    | refine ⟨oe_in (by decide +kernel), ?_⟩
    | refine br_t (by decide +kernel) ?_
    | refine br_f (by decide +kernel) ?_
    | refine nm_r (oe_up _ _ _ _ _ (by decide +kernel)) ?_
    | refine nm_e ?_
    | refine Exists.intro 4 ?_)
theorem oe_place3 {post : Int32 → Prop} (H : post 1) : wpX_place post (2, oe_a 0 1 1, oe_a 0 0 1, oe_a 0 0 0, oe_a 0 0 1, oe_a 1 2 0, oe_a 0 0 0, oe_a 0 0 0, oe_a 2 2 1, oe_a 2 2 1) 1 := by
  repeat (first
    | exact ek_v (P := post) (by decide +kernel) H
    | refine ⟨oe_in (by decide +kernel), ?_⟩
    | refine br_t (by decide +kernel) ?_
    | refine br_f (by decide +kernel) ?_
    | refine nm_r (oe_up _ _ _ _ _ (by decide +kernel)) ?_
    | refine nm_e ?_
    | refine Exists.intro 4 ?_)
theorem oe_place3f0 {post : Int32 → Prop} (H : post 1) : wpX_place post (2, oe_a 0 1 1, oe_a 0 0 1, oe_a 0 1 0, oe_a 0 0 1, oe_a 1 2 0, oe_a 0 0 0, oe_a 0 0 0, oe_a 2 2 1, oe_a 1 1 1) 1 := by
  repeat (first
    | exact ek_v (P := post) (by decide +kernel) H
    | refine ⟨oe_in (by decide +kernel), ?_⟩
    | refine br_t (by decide +kernel) ?_
    | refine br_f (by decide +kernel) ?_
    | refine nm_r (oe_up _ _ _ _ _ (by decide +kernel)) ?_
    | refine nm_e ?_
    | refine Exists.intro 4 ?_)
theorem oe_place3f1 {post : Int32 → Prop} (H : post 1) : wpX_place post (2, oe_a 0 1 1, oe_a 0 0 1, oe_a 0 0 1, oe_a 0 0 1, oe_a 1 2 0, oe_a 0 0 0, oe_a 0 0 0, oe_a 2 2 1, oe_a 2 2 1) 1 := by
  repeat (first
    | exact ek_v (P := post) (by decide +kernel) H
    | refine ⟨oe_in (by decide +kernel), ?_⟩
    | refine br_t (by decide +kernel) ?_
    | refine br_f (by decide +kernel) ?_
    | refine nm_r (oe_up _ _ _ _ _ (by decide +kernel)) ?_
    | refine nm_e ?_
    | refine Exists.intro 4 ?_)
end
section
theorem oe_addN {post : Int32 → St2 → Prop} {l : Int32} (h : l < 0) (H : post (-1) (0, oe_a 0 0 0, oe_a 0 0 0, oe_a 0 0 0, oe_a 0 0 0, oe_a 0 0 0, oe_a 0 0 0, oe_a 0 0 0, oe_a 0 0 0, oe_a 0 0 0)) : wpX_add post (0, oe_a 0 0 0, oe_a 0 0 0, oe_a 0 0 0, oe_a 0 0 0, oe_a 0 0 0, oe_a 0 0 0, oe_a 0 0 0, oe_a 0 0 0, oe_a 0 0 0) l := br_t h H
theorem oe_addB {post : Int32 → St2 → Prop} {l : Int32} (h0 : ¬ l < 0) (h7 : ¬ l ≤ 7) (H : post (-1) (0, oe_a 0 0 0, oe_a 0 0 0, oe_a 0 0 0, oe_a 0 0 0, oe_a 0 0 0, oe_a 0 0 0, oe_a 0 0 0, oe_a 0 0 0, oe_a 0 0 0)) : wpX_add post (0, oe_a 0 0 0, oe_a 0 0 0, oe_a 0 0 0, oe_a 0 0 0, oe_a 0 0 0, oe_a 0 0 0, oe_a 0 0 0, oe_a 0 0 0, oe_a 0 0 0) l := br_f h0 (br_f h7 H)
theorem oe_addM {post : Int32 → St2 → Prop} {l : Int32} (h0 : ¬ l < 0) (h7 : l ≤ 7) (hm : ¬ l ≤ -1 + 1) (H : post (-4) (0, oe_a 0 0 0, oe_a 0 0 0, oe_a 0 0 0, oe_a 0 0 0, oe_a 0 0 0, oe_a 0 0 0, oe_a 0 0 0, oe_a 0 0 0, oe_a 0 0 0)) : wpX_add post (0, oe_a 0 0 0, oe_a 0 0 0, oe_a 0 0 0, oe_a 0 0 0, oe_a 0 0 0, oe_a 0 0 0, oe_a 0 0 0, oe_a 0 0 0, oe_a 0 0 0) l := by
  repeat (first
    | exact oe_fin (post := post) H (by decide +kernel) (by decide +kernel) (oe_c (by decide +kernel) (by decide +kernel) (by decide +kernel)) (oe_c (by decide +kernel) (by decide +kernel) (by decide +kernel)) (oe_c (by decide +kernel) (by decide +kernel) (by decide +kernel)) (oe_c (by decide +kernel) (by decide +kernel) (by decide +kernel)) (oe_c (by decide +kernel) (by decide +kernel) (by decide +kernel)) (oe_c (by decide +kernel) (by decide +kernel) (by decide +kernel)) (oe_c (by decide +kernel) (by decide +kernel) (by decide +kernel)) (oe_c (by decide +kernel) (by decide +kernel) (by decide +kernel)) (oe_c (by decide +kernel) (by decide +kernel) (by decide +kernel))
    | refine ⟨oe_in (by decide +kernel), ?_⟩
    | refine br_t (by first | exact h0 | exact h7 | exact hm | decide +kernel) ?_
    | refine br_f (by first | exact h0 | exact h7 | exact hm | decide +kernel) ?_
    | refine nm_r (oe_up _ _ _ _ _ (by decide +kernel)) ?_
    | refine nm_e ?_
    | refine Exists.intro 4 ?_)
theorem oe_add0 {post : Int32 → St2 → Prop} (H : post 0 (1, oe_a 0 1 0, oe_a 0 0 0, oe_a 0 0 0, oe_a 0 0 0, oe_a 1 0 0, oe_a 0 0 0, oe_a 0 0 0, oe_a 1 1 0, oe_a 1 1 0)) : wpX_add post (0, oe_a 0 0 0, oe_a 0 0 0, oe_a 0 0 0, oe_a 0 0 0, oe_a 0 0 0, oe_a 0 0 0, oe_a 0 0 0, oe_a 0 0 0, oe_a 0 0 0) 0 := by
  repeat (first
    | exact oe_fin (post := post) H (by decide +kernel) (by decide +kernel) (oe_c (by decide +kernel) (by decide +kernel) (by decide +kernel)) (oe_c (by decide +kernel) (by decide +kernel) (by decide +kernel)) (oe_c (by decide +kernel) (by decide +kernel) (by decide +kernel)) (oe_c (by decide +kernel) (by decide +kernel) (by decide +kernel)) (oe_c (by decide +kernel) (by decide +kernel) (by decide +kernel)) (oe_c (by decide +kernel) (by decide +kernel) (by decide +kernel)) (oe_c (by decide +kernel) (by decide +kernel) (by decide +kernel)) (oe_c (by decide +kernel) (by decide +kernel) (by decide +kernel)) (oe_c (by decide +kernel) (by decide +kernel) (by decide +kernel))
    | refine oe_fresh1 ?_
    | refine oe_linkc (q0 := 1) (q1 := 0) (q2 := 0) (by decide +kernel) (by decide +kernel) (by decide +kernel) (oe_link1 ?_)
    | refine ⟨oe_in (by decide +kernel), ?_⟩
    | refine br_t (by decide +kernel) ?_
    | refine br_f (by decide +kernel) ?_
    | refine nm_r (oe_up _ _ _ _ _ (by decide +kernel)) ?_
    | refine nm_e ?_
    | refine Exists.intro 4 ?_)
theorem oe_after0 {post : Int32 → St2 → Prop} (H : post 1 (2, oe_a 0 1 1, oe_a 0 0 1, oe_a 0 0 0, oe_a 0 0 0, oe_a 1 0 0, oe_a 0 2 0, oe_a 0 0 1, oe_a 2 1 1, oe_a 2 1 1)) : wpX_addAfter post (1, oe_a 0 1 0, oe_a 0 0 0, oe_a 0 0 0, oe_a 0 0 0, oe_a 1 0 0, oe_a 0 0 0, oe_a 0 0 0, oe_a 1 1 0, oe_a 1 1 0) 0 := by
  repeat (first
    | exact oe_fin (post := post) H (by decide +kernel) (by decide +kernel) (oe_c (by decide +kernel) (by decide +kernel) (by decide +kernel)) (oe_c (by decide +kernel) (by decide +kernel) (by decide +kernel)) (oe_c (by decide +kernel) (by decide +kernel) (by decide +kernel)) (oe_c (by decide +kernel) (by decide +kernel) (by decide +kernel)) (oe_c (by decide +kernel) (by decide +kernel) (by decide +kernel)) (oe_c (by decide +kernel) (by decide +kernel) (by decide +kernel)) (oe_c (by decide +kernel) (by decide +kernel) (by decide +kernel)) (oe_c (by decide +kernel) (by decide +kernel) (by decide +kernel)) (oe_c (by decide +kernel) (by decide +kernel) (by decide +kernel))
    | refine oe_node10 ?_
    | refine oe_fresh2 ?_
    | refine oe_linkc (q0 := 2) (q1 := 0) (q2 := 1) (by decide +kernel) (by decide +kernel) (by decide +kernel) (oe_link2 ?_)
    | refine ⟨oe_in (by decide +kernel), ?_⟩
    | refine br_t (by decide +kernel) ?_
    | refine br_f (by decide +kernel) ?_
    | refine nm_r (oe_up _ _ _ _ _ (by decide +kernel)) ?_
    | refine nm_e ?_
    | refine Exists.intro 4 ?_)
theorem oe_ind10 {post : Int32 → St2 → Prop} (H : post (-4) (1, oe_a 0 1 0, oe_a 0 0 0, oe_a 0 0 0, oe_a 0 0 0, oe_a 1 0 0, oe_a 0 0 0, oe_a 0 0 0, oe_a 1 1 0, oe_a 1 1 0)) : wpX_indent post (1, oe_a 0 1 0, oe_a 0 0 0, oe_a 0 0 0, oe_a 0 0 0, oe_a 1 0 0, oe_a 0 0 0, oe_a 0 0 0, oe_a 1 1 0, oe_a 1 1 0) 0 := by
  repeat (first
    | exact oe_fin (post := post) H (by decide +kernel) (by decide +kernel) (oe_c (by decide +kernel) (by decide +kernel) (by decide +kernel)) (oe_c (by decide +kernel) (by decide +kernel) (by decide +kernel)) (oe_c (by decide +kernel) (by decide +kernel) (by decide +kernel)) (oe_c (by decide +kernel) (by decide +kernel) (by decide +kernel)) (oe_c (by decide +kernel) (by decide +kernel) (by decide +kernel)) (oe_c (by decide +kernel) (by decide +kernel) (by decide +kernel)) (oe_c (by decide +kernel) (by decide +kernel) (by decide +kernel)) (oe_c (by decide +kernel) (by decide +kernel) (by decide +kernel)) (oe_c (by decide +kernel) (by decide +kernel) (by decide +kernel))
    | refine oe_node10 ?_
    | refine ⟨oe_in (by decide +kernel), ?_⟩
    | refine br_t (by decide +kernel) ?_
    | refine br_f (by decide +kernel) ?_
    | refine nm_r (oe_up _ _ _ _ _ (by decide +kernel)) ?_
    | refine nm_e ?_
    | refine Exists.intro 4 ?_)
theorem oe_ind20 {post : Int32 → St2 → Prop} (H : post (-4) (2, oe_a 0 1 1, oe_a 0 0 1, oe_a 0 0 0, oe_a 0 0 0, oe_a 1 0 0, oe_a 0 2 0, oe_a 0 0 1, oe_a 2 1 1, oe_a 2 1 1)) : wpX_indent post (2, oe_a 0 1 1, oe_a 0 0 1, oe_a 0 0 0, oe_a 0 0 0, oe_a 1 0 0, oe_a 0 2 0, oe_a 0 0 1, oe_a 2 1 1, oe_a 2 1 1) 0 := by
  repeat (first
    | exact oe_fin (post := post) H (by decide +kernel) (by decide +kernel) (oe_c (by decide +kernel) (by decide +kernel) (by decide +kernel)) (oe_c (by decide +kernel) (by decide +kernel) (by decide +kernel)) (oe_c (by decide +kernel) (by decide +kernel) (by decide +kernel)) (oe_c (by decide +kernel) (by decide +kernel) (by decide +kernel)) (oe_c (by decide +kernel) (by decide +kernel) (by decide +kernel)) (oe_c (by decide +kernel) (by decide +kernel) (by decide +kernel)) (oe_c (by decide +kernel) (by decide +kernel) (by decide +kernel)) (oe_c (by decide +kernel) (by decide +kernel) (by decide +kernel)) (oe_c (by decide +kernel) (by decide +kernel) (by decide +kernel))
    | refine oe_node20 ?_
    | refine ⟨oe_in (by decide +kernel), ?_⟩
    | refine br_t (by decide +kernel) ?_
    | refine br_f (by decide +kernel) ?_
    | refine nm_r (oe_up _ _ _ _ _ (by decide +kernel)) ?_
    | refine nm_e ?_
    | refine Exists.intro 4 ?_)
theorem oe_lastc {post : Int32 → Prop} {s : St2} {p q : Int32} (h : p = q) (H : wpX_lastChild post s q) : wpX_lastChild post s p := by
  subst h
  exact H
theorem oe_ind21 {post : Int32 → St2 → Prop} (H : post 1 (2, oe_a 0 1 1, oe_a 0 0 1, oe_a 0 0 0, oe_a 0 0 1, oe_a 1 2 0, oe_a 0 0 0, oe_a 0 0 0, oe_a 2 2 1, oe_a 2 2 1)) : wpX_indent post (2, oe_a 0 1 1, oe_a 0 0 1, oe_a 0 0 0, oe_a 0 0 0, oe_a 1 0 0, oe_a 0 2 0, oe_a 0 0 1, oe_a 2 1 1, oe_a 2 1 1) 1 := by
  repeat (first
    | exact oe_fin (post := post) H (by decide +kernel) (by decide +kernel) (oe_c (by decide +kernel) (by decide +kernel) (by decide +kernel)) (oe_c (by decide +kernel) (by decide +kernel) (by decide +kernel)) (oe_c (by decide +kernel) (by decide +kernel) (by decide +kernel)) (oe_c (by decide +kernel) (by decide +kernel) (by decide +kernel)) (oe_c (by decide +kernel) (by decide +kernel) (by decide +kernel)) (oe_c (by decide +kernel) (by decide +kernel) (by decide +kernel)) (oe_c (by decide +kernel) (by decide +kernel) (by decide +kernel)) (oe_c (by decide +kernel) (by decide +kernel) (by decide +kernel)) (oe_c (by decide +kernel) (by decide +kernel) (by decide +kernel))
    | refine oe_node21 ?_
    | refine oe_deep2 ?_
    | refine oe_unl2 ?_
    | refine oe_lastc (q := 1) (by decide +kernel) (oe_last2 ?_)
    | refine oe_linkc (q0 := 2) (q1 := 1) (q2 := 0) (by decide +kernel) (by decide +kernel) (by decide +kernel) (oe_link3 ?_)
    | refine oe_lev3 ?_
    | refine ⟨oe_in (by decide +kernel), ?_⟩
    | refine br_t (by decide +kernel) ?_
    | refine br_f (by decide +kernel) ?_
    | refine nm_r (oe_up _ _ _ _ _ (by decide +kernel)) ?_
    | refine nm_e ?_
    | refine Exists.intro 4 ?_)
theorem oe_fold10z {post : Int32 → St2 → Prop} {on : Int32} (hon : on = 0) (H : post 0 (1, oe_a 0 1 0, oe_a 0 0 0, oe_a 0 0 0, oe_a 0 0 0, oe_a 1 0 0, oe_a 0 0 0, oe_a 0 0 0, oe_a 1 1 0, oe_a 1 1 0)) : wpX_fold post (1, oe_a 0 1 0, oe_a 0 0 0, oe_a 0 0 0, oe_a 0 0 0, oe_a 1 0 0, oe_a 0 0 0, oe_a 0 0 0, oe_a 1 1 0, oe_a 1 1 0) 0 on := by
  repeat (first
    | exact oe_fin (post := post) H (by decide +kernel) (by decide +kernel) (oe_c (by decide +kernel) (by decide +kernel) (by decide +kernel)) (oe_c (by decide +kernel) (by decide +kernel) (by decide +kernel)) (oe_c (by decide +kernel) (by decide +kernel) (by decide +kernel)) (oe_c (by decide +kernel) (by decide +kernel) (by decide +kernel)) (oe_c (by decide +kernel) (by decide +kernel) (by decide +kernel)) (oe_c (by decide +kernel) (by decide +kernel) (by decide +kernel)) (oe_c (by decide +kernel) (by decide +kernel) (by decide +kernel)) (oe_c (by decide +kernel) (by decide +kernel) (by decide +kernel)) (oe_c (by decide +kernel) (by decide +kernel) (by decide +kernel))
    | refine oe_node10 ?_
    | refine ⟨oe_in (by decide +kernel), ?_⟩
    | refine br_t (by first | exact hon | decide +kernel) ?_
    | refine br_f (by first | exact hon | decide +kernel) ?_
    | refine nm_r (oe_up _ _ _ _ _ (by decide +kernel)) ?_
    | refine nm_e ?_
    | refine Exists.intro 4 ?_)
theorem oe_fold10n {post : Int32 → St2 → Prop} {on : Int32} (hon : ¬ on = 0) (H : post 0 (1, oe_a 0 1 0, oe_a 0 0 0, oe_a 0 1 0, oe_a 0 0 0, oe_a 1 0 0, oe_a 0 0 0, oe_a 0 0 0, oe_a 1 1 0, oe_a 1 1 0)) : wpX_fold post (1, oe_a 0 1 0, oe_a 0 0 0, oe_a 0 0 0, oe_a 0 0 0, oe_a 1 0 0, oe_a 0 0 0, oe_a 0 0 0, oe_a 1 1 0, oe_a 1 1 0) 0 on := by
  repeat (first
    | exact oe_fin (post := post) H (by decide +kernel) (by decide +kernel) (oe_c (by decide +kernel) (by decide +kernel) (by decide +kernel)) (oe_c (by decide +kernel) (by decide +kernel) (by decide +kernel)) (oe_c (by decide +kernel) (by decide +kernel) (by decide +kernel)) (oe_c (by decide +kernel) (by decide +kernel) (by decide +kernel)) (oe_c (by decide +kernel) (by decide +kernel) (by decide +kernel)) (oe_c (by decide +kernel) (by decide +kernel) (by decide +kernel)) (oe_c (by decide +kernel) (by decide +kernel) (by decide +kernel)) (oe_c (by decide +kernel) (by decide +kernel) (by decide +kernel)) (oe_c (by decide +kernel) (by decide +kernel) (by decide +kernel))
    | refine oe_node10 ?_
    | refine ⟨oe_in (by decide +kernel), ?_⟩
    | refine br_t (by first | exact hon | decide +kernel) ?_
    | refine br_f (by first | exact hon | decide +kernel) ?_
    | refine nm_r (oe_up _ _ _ _ _ (by decide +kernel)) ?_
    | refine nm_e ?_
    | refine Exists.intro 4 ?_)
theorem oe_fold20z {post : Int32 → St2 → Prop} {on : Int32} (hon : on = 0) (H : post 0 (2, oe_a 0 1 1, oe_a 0 0 1, oe_a 0 0 0, oe_a 0 0 0, oe_a 1 0 0, oe_a 0 2 0, oe_a 0 0 1, oe_a 2 1 1, oe_a 2 1 1)) : wpX_fold post (2, oe_a 0 1 1, oe_a 0 0 1, oe_a 0 0 0, oe_a 0 0 0, oe_a 1 0 0, oe_a 0 2 0, oe_a 0 0 1, oe_a 2 1 1, oe_a 2 1 1) 0 on := by
  repeat (first
    | exact oe_fin (post := post) H (by decide +kernel) (by decide +kernel) (oe_c (by decide +kernel) (by decide +kernel) (by decide +kernel)) (oe_c (by decide +kernel) (by decide +kernel) (by decide +kernel)) (oe_c (by decide +kernel) (by decide +kernel) (by decide +kernel)) (oe_c (by decide +kernel) (by decide +kernel) (by decide +kernel)) (oe_c (by decide +kernel) (by decide +kernel) (by decide +kernel)) (oe_c (by decide +kernel) (by decide +kernel) (by decide +kernel)) (oe_c (by decide +kernel) (by decide +kernel) (by decide +kernel)) (oe_c (by decide +kernel) (by decide +kernel) (by decide +kernel)) (oe_c (by decide +kernel) (by decide +kernel) (by decide +kernel))
    | refine oe_node20 ?_
    | refine ⟨oe_in (by decide +kernel), ?_⟩
    | refine br_t (by first | exact hon | decide +kernel) ?_
    | refine br_f (by first | exact hon | decide +kernel) ?_
    | refine nm_r (oe_up _ _ _ _ _ (by decide +kernel)) ?_
    | refine nm_e ?_
    | refine Exists.intro 4 ?_)
theorem oe_fold20n {post : Int32 → St2 → Prop} {on : Int32} (hon : ¬ on = 0) (H : post 0 (2, oe_a 0 1 1, oe_a 0 0 1, oe_a 0 1 0, oe_a 0 0 0, oe_a 1 0 0, oe_a 0 2 0, oe_a 0 0 1, oe_a 2 1 1, oe_a 2 1 1)) : wpX_fold post (2, oe_a 0 1 1, oe_a 0 0 1, oe_a 0 0 0, oe_a 0 0 0, oe_a 1 0 0, oe_a 0 2 0, oe_a 0 0 1, oe_a 2 1 1, oe_a 2 1 1) 0 on := by
  repeat (first
    | exact oe_fin (post := post) H (by decide +kernel) (by decide +kernel) (oe_c (by decide +kernel) (by decide +kernel) (by decide +kernel)) (oe_c (by decide +kernel) (by decide +kernel) (by decide +kernel)) (oe_c (by decide +kernel) (by decide +kernel) (by decide +kernel)) (oe_c (by decide +kernel) (by decide +kernel) (by decide +kernel)) (oe_c (by decide +kernel) (by decide +kernel) (by decide +kernel)) (oe_c (by decide +kernel) (by decide +kernel) (by decide +kernel)) (oe_c (by decide +kernel) (by decide +kernel) (by decide +kernel)) (oe_c (by decide +kernel) (by decide +kernel) (by decide +kernel)) (oe_c (by decide +kernel) (by decide +kernel) (by decide +kernel))
    | refine oe_node20 ?_
    | refine ⟨oe_in (by decide +kernel), ?_⟩
    | refine br_t (by first | exact hon | decide +kernel) ?_
    | refine br_f (by first | exact hon | decide +kernel) ?_
    | refine nm_r (oe_up _ _ _ _ _ (by decide +kernel)) ?_
    | refine nm_e ?_
    | refine Exists.intro 4 ?_)
theorem oe_fold21z {post : Int32 → St2 → Prop} {on : Int32} (hon : on = 0) (H : post 0 (2, oe_a 0 1 1, oe_a 0 0 1, oe_a 0 0 0, oe_a 0 0 0, oe_a 1 0 0, oe_a 0 2 0, oe_a 0 0 1, oe_a 2 1 1, oe_a 2 1 1)) : wpX_fold post (2, oe_a 0 1 1, oe_a 0 0 1, oe_a 0 0 0, oe_a 0 0 0, oe_a 1 0 0, oe_a 0 2 0, oe_a 0 0 1, oe_a 2 1 1, oe_a 2 1 1) 1 on := by
  repeat (first
    | exact oe_fin (post := post) H (by decide +kernel) (by decide +kernel) (oe_c (by decide +kernel) (by decide +kernel) (by decide +kernel)) (oe_c (by decide +kernel) (by decide +kernel) (by decide +kernel)) (oe_c (by decide +kernel) (by decide +kernel) (by decide +kernel)) (oe_c (by decide +kernel) (by decide +kernel) (by decide +kernel)) (oe_c (by decide +kernel) (by decide +kernel) (by decide +kernel)) (oe_c (by decide +kernel) (by decide +kernel) (by decide +kernel)) (oe_c (by decide +kernel) (by decide +kernel) (by decide +kernel)) (oe_c (by decide +kernel) (by decide +kernel) (by decide +kernel)) (oe_c (by decide +kernel) (by decide +kernel) (by decide +kernel))
    | refine oe_node21 ?_
    | refine ⟨oe_in (by decide +kernel), ?_⟩
    | refine br_t (by first | exact hon | decide +kernel) ?_
    | refine br_f (by first | exact hon | decide +kernel) ?_
    | refine nm_r (oe_up _ _ _ _ _ (by decide +kernel)) ?_
    | refine nm_e ?_
    | refine Exists.intro 4 ?_)
theorem oe_fold21n {post : Int32 → St2 → Prop} {on : Int32} (hon : ¬ on = 0) (H : post 0 (2, oe_a 0 1 1, oe_a 0 0 1, oe_a 0 0 1, oe_a 0 0 0, oe_a 1 0 0, oe_a 0 2 0, oe_a 0 0 1, oe_a 2 1 1, oe_a 2 1 1)) : wpX_fold post (2, oe_a 0 1 1, oe_a 0 0 1, oe_a 0 0 0, oe_a 0 0 0, oe_a 1 0 0, oe_a 0 2 0, oe_a 0 0 1, oe_a 2 1 1, oe_a 2 1 1) 1 on := by
  repeat (first
    | exact oe_fin (post := post) H (by decide +kernel) (by decide +kernel) (oe_c (by decide +kernel) (by decide +kernel) (by decide +kernel)) (oe_c (by decide +kernel) (by decide +kernel) (by decide +kernel)) (oe_c (by decide +kernel) (by decide +kernel) (by decide +kernel)) (oe_c (by decide +kernel) (by decide +kernel) (by decide +kernel)) (oe_c (by decide +kernel) (by decide +kernel) (by decide +kernel)) (oe_c (by decide +kernel) (by decide +kernel) (by decide +kernel)) (oe_c (by decide +kernel) (by decide +kernel) (by decide +kernel)) (oe_c (by decide +kernel) (by decide +kernel) (by decide +kernel)) (oe_c (by decide +kernel) (by decide +kernel) (by decide +kernel))
    | refine oe_node21 ?_
    | refine ⟨oe_in (by decide +kernel), ?_⟩
    | refine br_t (by first | exact hon | decide +kernel) ?_
    | refine br_f (by first | exact hon | decide +kernel) ?_
    | refine nm_r (oe_up _ _ _ _ _ (by decide +kernel)) ?_
    | refine nm_e ?_
    | refine Exists.intro 4 ?_)
theorem oe_fold30z {post : Int32 → St2 → Prop} {on : Int32} (hon : on = 0) (H : post 0 (2, oe_a 0 1 1, oe_a 0 0 1, oe_a 0 0 0, oe_a 0 0 1, oe_a 1 2 0, oe_a 0 0 0, oe_a 0 0 0, oe_a 2 2 1, oe_a 2 2 1)) : wpX_fold post (2, oe_a 0 1 1, oe_a 0 0 1, oe_a 0 0 0, oe_a 0 0 1, oe_a 1 2 0, oe_a 0 0 0, oe_a 0 0 0, oe_a 2 2 1, oe_a 2 2 1) 0 on := by
  repeat (first
    | exact oe_fin (post := post) H (by decide +kernel) (by decide +kernel) (oe_c (by decide +kernel) (by decide +kernel) (by decide +kernel)) (oe_c (by decide +kernel) (by decide +kernel) (by decide +kernel)) (oe_c (by decide +kernel) (by decide +kernel) (by decide +kernel)) (oe_c (by decide +kernel) (by decide +kernel) (by decide +kernel)) (oe_c (by decide +kernel) (by decide +kernel) (by decide +kernel)) (oe_c (by decide +kernel) (by decide +kernel) (by decide +kernel)) (oe_c (by decide +kernel) (by decide +kernel) (by decide +kernel)) (oe_c (by decide +kernel) (by decide +kernel) (by decide +kernel)) (oe_c (by decide +kernel) (by decide +kernel) (by decide +kernel))
    | refine oe_node30 ?_
    | refine ⟨oe_in (by decide +kernel), ?_⟩
    | refine br_t (by first | exact hon | decide +kernel) ?_
    | refine br_f (by first | exact hon | decide +kernel) ?_
    | refine nm_r (oe_up _ _ _ _ _ (by decide +kernel)) ?_
    | refine nm_e ?_
    | refine Exists.intro 4 ?_)
theorem oe_fold30n {post : Int32 → St2 → Prop} {on : Int32} (hon : ¬ on = 0) (H : post 0 (2, oe_a 0 1 1, oe_a 0 0 1, oe_a 0 1 0, oe_a 0 0 1, oe_a 1 2 0, oe_a 0 0 0, oe_a 0 0 0, oe_a 2 2 1, oe_a 1 1 1)) : wpX_fold post (2, oe_a 0 1 1, oe_a 0 0 1, oe_a 0 0 0, oe_a 0 0 1, oe_a 1 2 0, oe_a 0 0 0, oe_a 0 0 0, oe_a 2 2 1, oe_a 2 2 1) 0 on := by
  repeat (first
    | exact oe_fin (post := post) H (by decide +kernel) (by decide +kernel) (oe_c (by decide +kernel) (by decide +kernel) (by decide +kernel)) (oe_c (by decide +kernel) (by decide +kernel) (by decide +kernel)) (oe_c (by decide +kernel) (by decide +kernel) (by decide +kernel)) (oe_c (by decide +kernel) (by decide +kernel) (by decide +kernel)) (oe_c (by decide +kernel) (by decide +kernel) (by decide +kernel)) (oe_c (by decide +kernel) (by decide +kernel) (by decide +kernel)) (oe_c (by decide +kernel) (by decide +kernel) (by decide +kernel)) (oe_c (by decide +kernel) (by decide +kernel) (by decide +kernel)) (oe_c (by decide +kernel) (by decide +kernel) (by decide +kernel))
    | refine oe_node30 ?_
    | refine ⟨oe_in (by decide +kernel), ?_⟩
    | refine br_t (by first | exact hon | decide +kernel) ?_
    | refine br_f (by first | exact hon | decide +kernel) ?_
    | refine nm_r (oe_up _ _ _ _ _ (by decide +kernel)) ?_
    | refine nm_e ?_
    | refine Exists.intro 4 ?_)
theorem oe_fold31z {post : Int32 → St2 → Prop} {on : Int32} (hon : on = 0) (H : post 0 (2, oe_a 0 1 1, oe_a 0 0 1, oe_a 0 0 0, oe_a 0 0 1, oe_a 1 2 0, oe_a 0 0 0, oe_a 0 0 0, oe_a 2 2 1, oe_a 2 2 1)) : wpX_fold post (2, oe_a 0 1 1, oe_a 0 0 1, oe_a 0 0 0, oe_a 0 0 1, oe_a 1 2 0, oe_a 0 0 0, oe_a 0 0 0, oe_a 2 2 1, oe_a 2 2 1) 1 on := by
  repeat (first
    | exact oe_fin (post := post) H (by decide +kernel) (by decide +kernel) (oe_c (by decide +kernel) (by decide +kernel) (by decide +kernel)) (oe_c (by decide +kernel) (by decide +kernel) (by decide +kernel)) (oe_c (by decide +kernel) (by decide +kernel) (by decide +kernel)) (oe_c (by decide +kernel) (by decide +kernel) (by decide +kernel)) (oe_c (by decide +kernel) (by decide +kernel) (by decide +kernel)) (oe_c (by decide +kernel) (by decide +kernel) (by decide +kernel)) (oe_c (by decide +kernel) (by decide +kernel) (by decide +kernel)) (oe_c (by decide +kernel) (by decide +kernel) (by decide +kernel)) (oe_c (by decide +kernel) (by decide +kernel) (by decide +kernel))
    | refine oe_node31 ?_
    | refine ⟨oe_in (by decide +kernel), ?_⟩
    | refine br_t (by first | exact hon | decide +kernel) ?_
    | refine br_f (by first | exact hon | decide +kernel) ?_
    | refine nm_r (oe_up _ _ _ _ _ (by decide +kernel)) ?_
    | refine nm_e ?_
    | refine Exists.intro 4 ?_)
theorem oe_fold31n {post : Int32 → St2 → Prop} {on : Int32} (hon : ¬ on = 0) (H : post 0 (2, oe_a 0 1 1, oe_a 0 0 1, oe_a 0 0 1, oe_a 0 0 1, oe_a 1 2 0, oe_a 0 0 0, oe_a 0 0 0, oe_a 2 2 1, oe_a 2 2 1)) : wpX_fold post (2, oe_a 0 1 1, oe_a 0 0 1, oe_a 0 0 0, oe_a 0 0 1, oe_a 1 2 0, oe_a 0 0 0, oe_a 0 0 0, oe_a 2 2 1, oe_a 2 2 1) 1 on := by
  repeat (first
    | exact oe_fin (post := post) H (by decide +kernel) (by decide +kernel) (oe_c (by decide +kernel) (by decide +kernel) (by decide +kernel)) (oe_c (by decide +kernel) (by decide +kernel) (by decide +kernel)) (oe_c (by decide +kernel) (by decide +kernel) (by decide +kernel)) (oe_c (by decide +kernel) (by decide +kernel) (by decide +kernel)) (oe_c (by decide +kernel) (by decide +kernel) (by decide +kernel)) (oe_c (by decide +kernel) (by decide +kernel) (by decide +kernel)) (oe_c (by decide +kernel) (by decide +kernel) (by decide +kernel)) (oe_c (by decide +kernel) (by decide +kernel) (by decide +kernel)) (oe_c (by decide +kernel) (by decide +kernel) (by decide +kernel))
    | refine oe_node31 ?_
    | refine ⟨oe_in (by decide +kernel), ?_⟩
    | refine br_t (by first | exact hon | decide +kernel) ?_
    | refine br_f (by first | exact hon | decide +kernel) ?_
    | refine nm_r (oe_up _ _ _ _ _ (by decide +kernel)) ?_
    | refine nm_e ?_
    | refine Exists.intro 4 ?_)
end
section
theorem oe_law (l i j k on : Int32) : wpL_lawOf (fun r _ => r = 1) 10 379 () l i j k on := by
  refine ⟨by decide, by decide, 9, 369, by decide, by decide, oe_init ?_⟩
  rcases oe_cl7 l with ⟨hl, dl⟩ | rfl | ⟨hl, ml, dl, el⟩ | ⟨hl, ml, dl⟩
  · refine oe_addN hl ?_
    rcases oe_cl0 i with hi | ⟨hi, gi⟩
    · refine oe_afterB (n := 0) (by decide +kernel) (Or.inl hi) ?_
      rcases oe_cl0 j with hj | ⟨hj, gj⟩
      · refine oe_indentB (n := 0) (by decide +kernel) (Or.inl hj) ?_
        rcases oe_cl0 k with hk | ⟨hk, gk⟩
        · refine oe_foldB (n := 0) (by decide +kernel) (Or.inl hk) ?_
          refine oe_rows (r := 0) (by decide +kernel) ?_
          refine oe_place0 ?_
          repeat (first | exact rfl | refine br_t (by first | assumption | decide +kernel) ?_ | refine br_f (by first | assumption | decide +kernel) ?_)
        · refine oe_foldB (n := 0) (by decide +kernel) (Or.inr ⟨hk, hk⟩) ?_
          refine oe_rows (r := 0) (by decide +kernel) ?_
          refine oe_place0 ?_
          repeat (first | exact rfl | refine br_t (by first | assumption | decide +kernel) ?_ | refine br_f (by first | assumption | decide +kernel) ?_)
      · refine oe_indentB (n := 0) (by decide +kernel) (Or.inr ⟨hj, hj⟩) ?_
        rcases oe_cl0 k with hk | ⟨hk, gk⟩
        · refine oe_foldB (n := 0) (by decide +kernel) (Or.inl hk) ?_
          refine oe_rows (r := 0) (by decide +kernel) ?_
          refine oe_place0 ?_
          repeat (first | exact rfl | refine br_t (by first | assumption | decide +kernel) ?_ | refine br_f (by first | assumption | decide +kernel) ?_)
        · refine oe_foldB (n := 0) (by decide +kernel) (Or.inr ⟨hk, hk⟩) ?_
          refine oe_rows (r := 0) (by decide +kernel) ?_
          refine oe_place0 ?_
          repeat (first | exact rfl | refine br_t (by first | assumption | decide +kernel) ?_ | refine br_f (by first | assumption | decide +kernel) ?_)
    · refine oe_afterB (n := 0) (by decide +kernel) (Or.inr ⟨hi, hi⟩) ?_
      rcases oe_cl0 j with hj | ⟨hj, gj⟩
      · refine oe_indentB (n := 0) (by decide +kernel) (Or.inl hj) ?_
        rcases oe_cl0 k with hk | ⟨hk, gk⟩
        · refine oe_foldB (n := 0) (by decide +kernel) (Or.inl hk) ?_
          refine oe_rows (r := 0) (by decide +kernel) ?_
          refine oe_place0 ?_
          repeat (first | exact rfl | refine br_t (by first | assumption | decide +kernel) ?_ | refine br_f (by first | assumption | decide +kernel) ?_)
        · refine oe_foldB (n := 0) (by decide +kernel) (Or.inr ⟨hk, hk⟩) ?_
          refine oe_rows (r := 0) (by decide +kernel) ?_
          refine oe_place0 ?_
          repeat (first | exact rfl | refine br_t (by first | assumption | decide +kernel) ?_ | refine br_f (by first | assumption | decide +kernel) ?_)
      · refine oe_indentB (n := 0) (by decide +kernel) (Or.inr ⟨hj, hj⟩) ?_
        rcases oe_cl0 k with hk | ⟨hk, gk⟩
        · refine oe_foldB (n := 0) (by decide +kernel) (Or.inl hk) ?_
          refine oe_rows (r := 0) (by decide +kernel) ?_
          refine oe_place0 ?_
          repeat (first | exact rfl | refine br_t (by first | assumption | decide +kernel) ?_ | refine br_f (by first | assumption | decide +kernel) ?_)
        · refine oe_foldB (n := 0) (by decide +kernel) (Or.inr ⟨hk, hk⟩) ?_
          refine oe_rows (r := 0) (by decide +kernel) ?_
          refine oe_place0 ?_
          repeat (first | exact rfl | refine br_t (by first | assumption | decide +kernel) ?_ | refine br_f (by first | assumption | decide +kernel) ?_)
  · refine oe_add0 ?_
    rcases oe_cl1 i with ⟨hi, di⟩ | rfl | ⟨hi, mi, gi, di⟩
    · refine oe_afterB (n := 1) (by decide +kernel) (Or.inl hi) ?_
      rcases oe_cl1 j with ⟨hj, dj⟩ | rfl | ⟨hj, mj, gj, dj⟩
      · refine oe_indentB (n := 1) (by decide +kernel) (Or.inl hj) ?_
        rcases oe_cl1 k with ⟨hk, dk⟩ | rfl | ⟨hk, mk, gk, dk⟩
        · refine oe_foldB (n := 1) (by decide +kernel) (Or.inl hk) ?_
          refine oe_rows (r := 1) (by decide +kernel) ?_
          refine oe_place1 ?_
          repeat (first | exact rfl | refine br_t (by first | assumption | decide +kernel) ?_ | refine br_f (by first | assumption | decide +kernel) ?_)
        · by_cases hon : on = 0
          · refine oe_fold10z hon ?_
            refine oe_rows (r := 1) (by decide +kernel) ?_
            refine oe_place1 ?_
            repeat (first | exact rfl | refine br_t (by first | assumption | decide +kernel) ?_ | refine br_f (by first | assumption | decide +kernel) ?_)
          · refine oe_fold10n hon ?_
            refine oe_rows (r := 1) (by decide +kernel) ?_
            refine oe_place1f ?_
            repeat (first | exact rfl | refine br_t (by first | assumption | decide +kernel) ?_ | refine br_f (by first | assumption | decide +kernel) ?_)
        · refine oe_foldB (n := 1) (by decide +kernel) (Or.inr ⟨hk, mk⟩) ?_
          refine oe_rows (r := 1) (by decide +kernel) ?_
          refine oe_place1 ?_
          repeat (first | exact rfl | refine br_t (by first | assumption | decide +kernel) ?_ | refine br_f (by first | assumption | decide +kernel) ?_)
      · refine oe_ind10 ?_
        rcases oe_cl1 k with ⟨hk, dk⟩ | rfl | ⟨hk, mk, gk, dk⟩
        · refine oe_foldB (n := 1) (by decide +kernel) (Or.inl hk) ?_
          refine oe_rows (r := 1) (by decide +kernel) ?_
          refine oe_place1 ?_
          repeat (first | exact rfl | refine br_t (by first | assumption | decide +kernel) ?_ | refine br_f (by first | assumption | decide +kernel) ?_)
        · by_cases hon : on = 0
          · refine oe_fold10z hon ?_
            refine oe_rows (r := 1) (by decide +kernel) ?_
            refine oe_place1 ?_
            repeat (first | exact rfl | refine br_t (by first | assumption | decide +kernel) ?_ | refine br_f (by first | assumption | decide +kernel) ?_)
          · refine oe_fold10n hon ?_
            refine oe_rows (r := 1) (by decide +kernel) ?_
            refine oe_place1f ?_
            repeat (first | exact rfl | refine br_t (by first | assumption | decide +kernel) ?_ | refine br_f (by first | assumption | decide +kernel) ?_)
        · refine oe_foldB (n := 1) (by decide +kernel) (Or.inr ⟨hk, mk⟩) ?_
          refine oe_rows (r := 1) (by decide +kernel) ?_
          refine oe_place1 ?_
          repeat (first | exact rfl | refine br_t (by first | assumption | decide +kernel) ?_ | refine br_f (by first | assumption | decide +kernel) ?_)
      · refine oe_indentB (n := 1) (by decide +kernel) (Or.inr ⟨hj, mj⟩) ?_
        rcases oe_cl1 k with ⟨hk, dk⟩ | rfl | ⟨hk, mk, gk, dk⟩
        · refine oe_foldB (n := 1) (by decide +kernel) (Or.inl hk) ?_
          refine oe_rows (r := 1) (by decide +kernel) ?_
          refine oe_place1 ?_
          repeat (first | exact rfl | refine br_t (by first | assumption | decide +kernel) ?_ | refine br_f (by first | assumption | decide +kernel) ?_)
        · by_cases hon : on = 0
          · refine oe_fold10z hon ?_
            refine oe_rows (r := 1) (by decide +kernel) ?_
            refine oe_place1 ?_
            repeat (first | exact rfl | refine br_t (by first | assumption | decide +kernel) ?_ | refine br_f (by first | assumption | decide +kernel) ?_)
          · refine oe_fold10n hon ?_
            refine oe_rows (r := 1) (by decide +kernel) ?_
            refine oe_place1f ?_
            repeat (first | exact rfl | refine br_t (by first | assumption | decide +kernel) ?_ | refine br_f (by first | assumption | decide +kernel) ?_)
        · refine oe_foldB (n := 1) (by decide +kernel) (Or.inr ⟨hk, mk⟩) ?_
          refine oe_rows (r := 1) (by decide +kernel) ?_
          refine oe_place1 ?_
          repeat (first | exact rfl | refine br_t (by first | assumption | decide +kernel) ?_ | refine br_f (by first | assumption | decide +kernel) ?_)
    · refine oe_after0 ?_
      rcases oe_cl2 j with ⟨hj, dj, ej⟩ | rfl | rfl | ⟨hj, mj, gj, dj, ej⟩
      · refine oe_indentB (n := 2) (by decide +kernel) (Or.inl hj) ?_
        rcases oe_cl2 k with ⟨hk, dk, ek⟩ | rfl | rfl | ⟨hk, mk, gk, dk, ek⟩
        · refine oe_foldB (n := 2) (by decide +kernel) (Or.inl hk) ?_
          refine oe_rows (r := 2) (by decide +kernel) ?_
          refine oe_place2 ?_
          repeat (first | exact rfl | refine br_t (by first | assumption | decide +kernel) ?_ | refine br_f (by first | assumption | decide +kernel) ?_)
        · by_cases hon : on = 0
          · refine oe_fold20z hon ?_
            refine oe_rows (r := 2) (by decide +kernel) ?_
            refine oe_place2 ?_
            repeat (first | exact rfl | refine br_t (by first | assumption | decide +kernel) ?_ | refine br_f (by first | assumption | decide +kernel) ?_)
          · refine oe_fold20n hon ?_
            refine oe_rows (r := 2) (by decide +kernel) ?_
            refine oe_place2f0 ?_
            repeat (first | exact rfl | refine br_t (by first | assumption | decide +kernel) ?_ | refine br_f (by first | assumption | decide +kernel) ?_)
        · by_cases hon : on = 0
          · refine oe_fold21z hon ?_
            refine oe_rows (r := 2) (by decide +kernel) ?_
            refine oe_place2 ?_
            repeat (first | exact rfl | refine br_t (by first | assumption | decide +kernel) ?_ | refine br_f (by first | assumption | decide +kernel) ?_)
          · refine oe_fold21n hon ?_
            refine oe_rows (r := 2) (by decide +kernel) ?_
            refine oe_place2f1 ?_
            repeat (first | exact rfl | refine br_t (by first | assumption | decide +kernel) ?_ | refine br_f (by first | assumption | decide +kernel) ?_)
        · refine oe_foldB (n := 2) (by decide +kernel) (Or.inr ⟨hk, mk⟩) ?_
          refine oe_rows (r := 2) (by decide +kernel) ?_
          refine oe_place2 ?_
          repeat (first | exact rfl | refine br_t (by first | assumption | decide +kernel) ?_ | refine br_f (by first | assumption | decide +kernel) ?_)
      · refine oe_ind20 ?_
        rcases oe_cl2 k with ⟨hk, dk, ek⟩ | rfl | rfl | ⟨hk, mk, gk, dk, ek⟩
        · refine oe_foldB (n := 2) (by decide +kernel) (Or.inl hk) ?_
          refine oe_rows (r := 2) (by decide +kernel) ?_
          refine oe_place2 ?_
          repeat (first | exact rfl | refine br_t (by first | assumption | decide +kernel) ?_ | refine br_f (by first | assumption | decide +kernel) ?_)
        · by_cases hon : on = 0
          · refine oe_fold20z hon ?_
            refine oe_rows (r := 2) (by decide +kernel) ?_
            refine oe_place2 ?_
            repeat (first | exact rfl | refine br_t (by first | assumption | decide +kernel) ?_ | refine br_f (by first | assumption | decide +kernel) ?_)
          · refine oe_fold20n hon ?_
            refine oe_rows (r := 2) (by decide +kernel) ?_
            refine oe_place2f0 ?_
            repeat (first | exact rfl | refine br_t (by first | assumption | decide +kernel) ?_ | refine br_f (by first | assumption | decide +kernel) ?_)
        · by_cases hon : on = 0
          · refine oe_fold21z hon ?_
            refine oe_rows (r := 2) (by decide +kernel) ?_
            refine oe_place2 ?_
            repeat (first | exact rfl | refine br_t (by first | assumption | decide +kernel) ?_ | refine br_f (by first | assumption | decide +kernel) ?_)
          · refine oe_fold21n hon ?_
            refine oe_rows (r := 2) (by decide +kernel) ?_
            refine oe_place2f1 ?_
            repeat (first | exact rfl | refine br_t (by first | assumption | decide +kernel) ?_ | refine br_f (by first | assumption | decide +kernel) ?_)
        · refine oe_foldB (n := 2) (by decide +kernel) (Or.inr ⟨hk, mk⟩) ?_
          refine oe_rows (r := 2) (by decide +kernel) ?_
          refine oe_place2 ?_
          repeat (first | exact rfl | refine br_t (by first | assumption | decide +kernel) ?_ | refine br_f (by first | assumption | decide +kernel) ?_)
      · refine oe_ind21 ?_
        rcases oe_cl2 k with ⟨hk, dk, ek⟩ | rfl | rfl | ⟨hk, mk, gk, dk, ek⟩
        · refine oe_foldB (n := 2) (by decide +kernel) (Or.inl hk) ?_
          refine oe_rows (r := 2) (by decide +kernel) ?_
          refine oe_place3 ?_
          repeat (first | exact rfl | refine br_t (by first | assumption | decide +kernel) ?_ | refine br_f (by first | assumption | decide +kernel) ?_)
        · by_cases hon : on = 0
          · refine oe_fold30z hon ?_
            refine oe_rows (r := 2) (by decide +kernel) ?_
            refine oe_place3 ?_
            repeat (first | exact rfl | refine br_t (by first | assumption | decide +kernel) ?_ | refine br_f (by first | assumption | decide +kernel) ?_)
          · refine oe_fold30n hon ?_
            refine oe_rows (r := 1) (by decide +kernel) ?_
            refine oe_place3f0 ?_
            repeat (first | exact rfl | refine br_t (by first | assumption | decide +kernel) ?_ | refine br_f (by first | assumption | decide +kernel) ?_)
        · by_cases hon : on = 0
          · refine oe_fold31z hon ?_
            refine oe_rows (r := 2) (by decide +kernel) ?_
            refine oe_place3 ?_
            repeat (first | exact rfl | refine br_t (by first | assumption | decide +kernel) ?_ | refine br_f (by first | assumption | decide +kernel) ?_)
          · refine oe_fold31n hon ?_
            refine oe_rows (r := 2) (by decide +kernel) ?_
            refine oe_place3f1 ?_
            repeat (first | exact rfl | refine br_t (by first | assumption | decide +kernel) ?_ | refine br_f (by first | assumption | decide +kernel) ?_)
        · refine oe_foldB (n := 2) (by decide +kernel) (Or.inr ⟨hk, mk⟩) ?_
          refine oe_rows (r := 2) (by decide +kernel) ?_
          refine oe_place3 ?_
          repeat (first | exact rfl | refine br_t (by first | assumption | decide +kernel) ?_ | refine br_f (by first | assumption | decide +kernel) ?_)
      · refine oe_indentB (n := 2) (by decide +kernel) (Or.inr ⟨hj, mj⟩) ?_
        rcases oe_cl2 k with ⟨hk, dk, ek⟩ | rfl | rfl | ⟨hk, mk, gk, dk, ek⟩
        · refine oe_foldB (n := 2) (by decide +kernel) (Or.inl hk) ?_
          refine oe_rows (r := 2) (by decide +kernel) ?_
          refine oe_place2 ?_
          repeat (first | exact rfl | refine br_t (by first | assumption | decide +kernel) ?_ | refine br_f (by first | assumption | decide +kernel) ?_)
        · by_cases hon : on = 0
          · refine oe_fold20z hon ?_
            refine oe_rows (r := 2) (by decide +kernel) ?_
            refine oe_place2 ?_
            repeat (first | exact rfl | refine br_t (by first | assumption | decide +kernel) ?_ | refine br_f (by first | assumption | decide +kernel) ?_)
          · refine oe_fold20n hon ?_
            refine oe_rows (r := 2) (by decide +kernel) ?_
            refine oe_place2f0 ?_
            repeat (first | exact rfl | refine br_t (by first | assumption | decide +kernel) ?_ | refine br_f (by first | assumption | decide +kernel) ?_)
        · by_cases hon : on = 0
          · refine oe_fold21z hon ?_
            refine oe_rows (r := 2) (by decide +kernel) ?_
            refine oe_place2 ?_
            repeat (first | exact rfl | refine br_t (by first | assumption | decide +kernel) ?_ | refine br_f (by first | assumption | decide +kernel) ?_)
          · refine oe_fold21n hon ?_
            refine oe_rows (r := 2) (by decide +kernel) ?_
            refine oe_place2f1 ?_
            repeat (first | exact rfl | refine br_t (by first | assumption | decide +kernel) ?_ | refine br_f (by first | assumption | decide +kernel) ?_)
        · refine oe_foldB (n := 2) (by decide +kernel) (Or.inr ⟨hk, mk⟩) ?_
          refine oe_rows (r := 2) (by decide +kernel) ?_
          refine oe_place2 ?_
          repeat (first | exact rfl | refine br_t (by first | assumption | decide +kernel) ?_ | refine br_f (by first | assumption | decide +kernel) ?_)
    · refine oe_afterB (n := 1) (by decide +kernel) (Or.inr ⟨hi, mi⟩) ?_
      rcases oe_cl1 j with ⟨hj, dj⟩ | rfl | ⟨hj, mj, gj, dj⟩
      · refine oe_indentB (n := 1) (by decide +kernel) (Or.inl hj) ?_
        rcases oe_cl1 k with ⟨hk, dk⟩ | rfl | ⟨hk, mk, gk, dk⟩
        · refine oe_foldB (n := 1) (by decide +kernel) (Or.inl hk) ?_
          refine oe_rows (r := 1) (by decide +kernel) ?_
          refine oe_place1 ?_
          repeat (first | exact rfl | refine br_t (by first | assumption | decide +kernel) ?_ | refine br_f (by first | assumption | decide +kernel) ?_)
        · by_cases hon : on = 0
          · refine oe_fold10z hon ?_
            refine oe_rows (r := 1) (by decide +kernel) ?_
            refine oe_place1 ?_
            repeat (first | exact rfl | refine br_t (by first | assumption | decide +kernel) ?_ | refine br_f (by first | assumption | decide +kernel) ?_)
          · refine oe_fold10n hon ?_
            refine oe_rows (r := 1) (by decide +kernel) ?_
            refine oe_place1f ?_
            repeat (first | exact rfl | refine br_t (by first | assumption | decide +kernel) ?_ | refine br_f (by first | assumption | decide +kernel) ?_)
        · refine oe_foldB (n := 1) (by decide +kernel) (Or.inr ⟨hk, mk⟩) ?_
          refine oe_rows (r := 1) (by decide +kernel) ?_
          refine oe_place1 ?_
          repeat (first | exact rfl | refine br_t (by first | assumption | decide +kernel) ?_ | refine br_f (by first | assumption | decide +kernel) ?_)
      · refine oe_ind10 ?_
        rcases oe_cl1 k with ⟨hk, dk⟩ | rfl | ⟨hk, mk, gk, dk⟩
        · refine oe_foldB (n := 1) (by decide +kernel) (Or.inl hk) ?_
          refine oe_rows (r := 1) (by decide +kernel) ?_
          refine oe_place1 ?_
          repeat (first | exact rfl | refine br_t (by first | assumption | decide +kernel) ?_ | refine br_f (by first | assumption | decide +kernel) ?_)
        · by_cases hon : on = 0
          · refine oe_fold10z hon ?_
            refine oe_rows (r := 1) (by decide +kernel) ?_
            refine oe_place1 ?_
            repeat (first | exact rfl | refine br_t (by first | assumption | decide +kernel) ?_ | refine br_f (by first | assumption | decide +kernel) ?_)
          · refine oe_fold10n hon ?_
            refine oe_rows (r := 1) (by decide +kernel) ?_
            refine oe_place1f ?_
            repeat (first | exact rfl | refine br_t (by first | assumption | decide +kernel) ?_ | refine br_f (by first | assumption | decide +kernel) ?_)
        · refine oe_foldB (n := 1) (by decide +kernel) (Or.inr ⟨hk, mk⟩) ?_
          refine oe_rows (r := 1) (by decide +kernel) ?_
          refine oe_place1 ?_
          repeat (first | exact rfl | refine br_t (by first | assumption | decide +kernel) ?_ | refine br_f (by first | assumption | decide +kernel) ?_)
      · refine oe_indentB (n := 1) (by decide +kernel) (Or.inr ⟨hj, mj⟩) ?_
        rcases oe_cl1 k with ⟨hk, dk⟩ | rfl | ⟨hk, mk, gk, dk⟩
        · refine oe_foldB (n := 1) (by decide +kernel) (Or.inl hk) ?_
          refine oe_rows (r := 1) (by decide +kernel) ?_
          refine oe_place1 ?_
          repeat (first | exact rfl | refine br_t (by first | assumption | decide +kernel) ?_ | refine br_f (by first | assumption | decide +kernel) ?_)
        · by_cases hon : on = 0
          · refine oe_fold10z hon ?_
            refine oe_rows (r := 1) (by decide +kernel) ?_
            refine oe_place1 ?_
            repeat (first | exact rfl | refine br_t (by first | assumption | decide +kernel) ?_ | refine br_f (by first | assumption | decide +kernel) ?_)
          · refine oe_fold10n hon ?_
            refine oe_rows (r := 1) (by decide +kernel) ?_
            refine oe_place1f ?_
            repeat (first | exact rfl | refine br_t (by first | assumption | decide +kernel) ?_ | refine br_f (by first | assumption | decide +kernel) ?_)
        · refine oe_foldB (n := 1) (by decide +kernel) (Or.inr ⟨hk, mk⟩) ?_
          refine oe_rows (r := 1) (by decide +kernel) ?_
          refine oe_place1 ?_
          repeat (first | exact rfl | refine br_t (by first | assumption | decide +kernel) ?_ | refine br_f (by first | assumption | decide +kernel) ?_)
  · refine oe_addM hl ml el ?_
    rcases oe_cl0 i with hi | ⟨hi, gi⟩
    · refine oe_afterB (n := 0) (by decide +kernel) (Or.inl hi) ?_
      rcases oe_cl0 j with hj | ⟨hj, gj⟩
      · refine oe_indentB (n := 0) (by decide +kernel) (Or.inl hj) ?_
        rcases oe_cl0 k with hk | ⟨hk, gk⟩
        · refine oe_foldB (n := 0) (by decide +kernel) (Or.inl hk) ?_
          refine oe_rows (r := 0) (by decide +kernel) ?_
          refine oe_place0 ?_
          repeat (first | exact rfl | refine br_t (by first | assumption | decide +kernel) ?_ | refine br_f (by first | assumption | decide +kernel) ?_)
        · refine oe_foldB (n := 0) (by decide +kernel) (Or.inr ⟨hk, hk⟩) ?_
          refine oe_rows (r := 0) (by decide +kernel) ?_
          refine oe_place0 ?_
          repeat (first | exact rfl | refine br_t (by first | assumption | decide +kernel) ?_ | refine br_f (by first | assumption | decide +kernel) ?_)
      · refine oe_indentB (n := 0) (by decide +kernel) (Or.inr ⟨hj, hj⟩) ?_
        rcases oe_cl0 k with hk | ⟨hk, gk⟩
        · refine oe_foldB (n := 0) (by decide +kernel) (Or.inl hk) ?_
          refine oe_rows (r := 0) (by decide +kernel) ?_
          refine oe_place0 ?_
          repeat (first | exact rfl | refine br_t (by first | assumption | decide +kernel) ?_ | refine br_f (by first | assumption | decide +kernel) ?_)
        · refine oe_foldB (n := 0) (by decide +kernel) (Or.inr ⟨hk, hk⟩) ?_
          refine oe_rows (r := 0) (by decide +kernel) ?_
          refine oe_place0 ?_
          repeat (first | exact rfl | refine br_t (by first | assumption | decide +kernel) ?_ | refine br_f (by first | assumption | decide +kernel) ?_)
    · refine oe_afterB (n := 0) (by decide +kernel) (Or.inr ⟨hi, hi⟩) ?_
      rcases oe_cl0 j with hj | ⟨hj, gj⟩
      · refine oe_indentB (n := 0) (by decide +kernel) (Or.inl hj) ?_
        rcases oe_cl0 k with hk | ⟨hk, gk⟩
        · refine oe_foldB (n := 0) (by decide +kernel) (Or.inl hk) ?_
          refine oe_rows (r := 0) (by decide +kernel) ?_
          refine oe_place0 ?_
          repeat (first | exact rfl | refine br_t (by first | assumption | decide +kernel) ?_ | refine br_f (by first | assumption | decide +kernel) ?_)
        · refine oe_foldB (n := 0) (by decide +kernel) (Or.inr ⟨hk, hk⟩) ?_
          refine oe_rows (r := 0) (by decide +kernel) ?_
          refine oe_place0 ?_
          repeat (first | exact rfl | refine br_t (by first | assumption | decide +kernel) ?_ | refine br_f (by first | assumption | decide +kernel) ?_)
      · refine oe_indentB (n := 0) (by decide +kernel) (Or.inr ⟨hj, hj⟩) ?_
        rcases oe_cl0 k with hk | ⟨hk, gk⟩
        · refine oe_foldB (n := 0) (by decide +kernel) (Or.inl hk) ?_
          refine oe_rows (r := 0) (by decide +kernel) ?_
          refine oe_place0 ?_
          repeat (first | exact rfl | refine br_t (by first | assumption | decide +kernel) ?_ | refine br_f (by first | assumption | decide +kernel) ?_)
        · refine oe_foldB (n := 0) (by decide +kernel) (Or.inr ⟨hk, hk⟩) ?_
          refine oe_rows (r := 0) (by decide +kernel) ?_
          refine oe_place0 ?_
          repeat (first | exact rfl | refine br_t (by first | assumption | decide +kernel) ?_ | refine br_f (by first | assumption | decide +kernel) ?_)
  · refine oe_addB hl ml ?_
    rcases oe_cl0 i with hi | ⟨hi, gi⟩
    · refine oe_afterB (n := 0) (by decide +kernel) (Or.inl hi) ?_
      rcases oe_cl0 j with hj | ⟨hj, gj⟩
      · refine oe_indentB (n := 0) (by decide +kernel) (Or.inl hj) ?_
        rcases oe_cl0 k with hk | ⟨hk, gk⟩
        · refine oe_foldB (n := 0) (by decide +kernel) (Or.inl hk) ?_
          refine oe_rows (r := 0) (by decide +kernel) ?_
          refine oe_place0 ?_
          repeat (first | exact rfl | refine br_t (by first | assumption | decide +kernel) ?_ | refine br_f (by first | assumption | decide +kernel) ?_)
        · refine oe_foldB (n := 0) (by decide +kernel) (Or.inr ⟨hk, hk⟩) ?_
          refine oe_rows (r := 0) (by decide +kernel) ?_
          refine oe_place0 ?_
          repeat (first | exact rfl | refine br_t (by first | assumption | decide +kernel) ?_ | refine br_f (by first | assumption | decide +kernel) ?_)
      · refine oe_indentB (n := 0) (by decide +kernel) (Or.inr ⟨hj, hj⟩) ?_
        rcases oe_cl0 k with hk | ⟨hk, gk⟩
        · refine oe_foldB (n := 0) (by decide +kernel) (Or.inl hk) ?_
          refine oe_rows (r := 0) (by decide +kernel) ?_
          refine oe_place0 ?_
          repeat (first | exact rfl | refine br_t (by first | assumption | decide +kernel) ?_ | refine br_f (by first | assumption | decide +kernel) ?_)
        · refine oe_foldB (n := 0) (by decide +kernel) (Or.inr ⟨hk, hk⟩) ?_
          refine oe_rows (r := 0) (by decide +kernel) ?_
          refine oe_place0 ?_
          repeat (first | exact rfl | refine br_t (by first | assumption | decide +kernel) ?_ | refine br_f (by first | assumption | decide +kernel) ?_)
    · refine oe_afterB (n := 0) (by decide +kernel) (Or.inr ⟨hi, hi⟩) ?_
      rcases oe_cl0 j with hj | ⟨hj, gj⟩
      · refine oe_indentB (n := 0) (by decide +kernel) (Or.inl hj) ?_
        rcases oe_cl0 k with hk | ⟨hk, gk⟩
        · refine oe_foldB (n := 0) (by decide +kernel) (Or.inl hk) ?_
          refine oe_rows (r := 0) (by decide +kernel) ?_
          refine oe_place0 ?_
          repeat (first | exact rfl | refine br_t (by first | assumption | decide +kernel) ?_ | refine br_f (by first | assumption | decide +kernel) ?_)
        · refine oe_foldB (n := 0) (by decide +kernel) (Or.inr ⟨hk, hk⟩) ?_
          refine oe_rows (r := 0) (by decide +kernel) ?_
          refine oe_place0 ?_
          repeat (first | exact rfl | refine br_t (by first | assumption | decide +kernel) ?_ | refine br_f (by first | assumption | decide +kernel) ?_)
      · refine oe_indentB (n := 0) (by decide +kernel) (Or.inr ⟨hj, hj⟩) ?_
        rcases oe_cl0 k with hk | ⟨hk, gk⟩
        · refine oe_foldB (n := 0) (by decide +kernel) (Or.inl hk) ?_
          refine oe_rows (r := 0) (by decide +kernel) ?_
          refine oe_place0 ?_
          repeat (first | exact rfl | refine br_t (by first | assumption | decide +kernel) ?_ | refine br_f (by first | assumption | decide +kernel) ?_)
        · refine oe_foldB (n := 0) (by decide +kernel) (Or.inr ⟨hk, hk⟩) ?_
          refine oe_rows (r := 0) (by decide +kernel) ?_
          refine oe_place0 ?_
          repeat (first | exact rfl | refine br_t (by first | assumption | decide +kernel) ?_ | refine br_f (by first | assumption | decide +kernel) ?_)
end
section
theorem i_vc (xs : Nat → Int32) (L : Nat) (hL : L ≤ 5) : wpL_law (fun r => r = 1) L xs :=
  oe_cell 0 (by decide) hL (fun r1 => oe_cell 1 (by decide) hL (fun r2 => oe_cell 2 (by decide) hL (fun r3 => oe_cell 3 (by decide) hL (fun r4 => oe_cell 4 (by decide) hL (fun r5 => ⟨10, 379, by decide, by decide, oe_law r1 r2 r3 r4 r5⟩)))))
end
