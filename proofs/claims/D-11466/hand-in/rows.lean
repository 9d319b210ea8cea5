section
/-- between two showings: one node, number 1, no child -/
def kr_S (nid ty ke id st gn : Int32) (u : St2) : Prop := match u with
  | (f0_drafted, f0_open, f0_root, f0_nextId, f0_rowSize, f0_keptCount, f0_goneCount, f0_moveCount, a1, a2, a3, a4, a5, a6, a7, a8, a9, a10, a11, a12, a13, a14, a15, a16, a17, a18, a19, a20, a21, a22, a23) => f0_drafted = 0 ∧ f0_open = 0 ∧ f0_root = 1 ∧ f0_nextId = nid ∧ f0_goneCount = gn ∧ a6 1 = ty ∧ a7 1 = ke ∧ a8 1 = id ∧ a9 1 = st ∧ a11 1 = 0
section
variable {f0_drafted f0_open f0_root f0_nextId f0_rowSize f0_keptCount f0_goneCount f0_moveCount : Int32} {a1 a2 a3 a4 a5 a6 a7 a8 a9 a10 a11 a12 a13 a14 a15 a16 a17 a18 a19 a20 a21 a22 a23 : Nat → Int32}
theorem kr_turn0 {post : St2 → Prop} (H : post (f0_drafted, f0_open, f0_root, f0_nextId, f0_rowSize, f0_keptCount, f0_goneCount, f0_moveCount, a1, a2, a3, a4, a5, a6, a7, a8, a9, a10, a11, a12, a13, a14, a15, a16, a17, a18, a19, a20, a21, a22, a23)) : wpX_turnPile post (f0_drafted, f0_open, f0_root, f0_nextId, f0_rowSize, f0_keptCount, f0_goneCount, f0_moveCount, a1, a2, a3, a4, a5, a6, a7, a8, a9, a10, a11, a12, a13, a14, a15, a16, a17, a18, a19, a20, a21, a22, a23) 0 0 := by
  unfold wpX_turnPile
  exact nm_e ⟨1, br_f (by decide) (br_t (by decide) H)⟩
theorem kr_list {post : Int32 → St2 → Prop} (hc : a11 1 = 0) (H : ∀ b22 b23 : Nat → Int32, b22 0 = 1 → post 1 (f0_drafted, f0_open, f0_root, f0_nextId, f0_rowSize, f0_keptCount, f0_goneCount, f0_moveCount, a1, a2, a3, a4, a5, a6, a7, a8, a9, a10, a11, a12, a13, a14, a15, a16, a17, a18, a19, a20, a21, b22, b23)) : wpX_listPlaces post (f0_drafted, f0_open, f0_root, f0_nextId, f0_rowSize, f0_keptCount, f0_goneCount, f0_moveCount, a1, a2, a3, a4, a5, a6, a7, a8, a9, a10, a11, a12, a13, a14, a15, a16, a17, a18, a19, a20, a21, a22, a23) 1 := by
  unfold wpX_listPlaces
  refine br_f (by decide) (nm_e ⟨2, ?_⟩)
  refine br_f (by decide) (br_f (by decide) (nm_r (e' := 0) (by decide) ⟨pk_in 0 33 (by decide), nm_r (e' := 1) pk_us ⟨pk_in 0 33 (by decide), nm_e (nm_r (e' := 1) (by decide) ⟨pk_in 1 33 (by decide), nm_r (e' := 0) hc ⟨1, br_f (by decide) (br_t rfl ?_)⟩⟩)⟩⟩))
  unfold wX_listPlaces_106
  refine kr_turn0 ?_
  refine nm_r (e' := 1) (by decide) ?_
  exact br_f (by decide) (br_t (by decide) (H _ _ pk_us))
theorem kr_make {post : Int32 → St2 → Prop} (h5 : a5 1 = 0) (H : ∀ b5 b6 b7 b8 b9 b10 b11 : Nat → Int32, b6 1 = a1 0 → b7 1 = a2 0 → b8 1 = f0_nextId → b9 1 = 0 → b11 1 = 0 → post 1 (f0_drafted, f0_open, f0_root, f0_nextId + 1, f0_rowSize, f0_keptCount, f0_goneCount, f0_moveCount, a1, a2, a3, a4, b5, b6, b7, b8, b9, b10, b11, a12, a13, a14, a15, a16, a17, a18, a19, a20, a21, a22, a23)) : wpX_makeNode post (f0_drafted, f0_open, f0_root, f0_nextId, f0_rowSize, f0_keptCount, f0_goneCount, f0_moveCount, a1, a2, a3, a4, a5, a6, a7, a8, a9, a10, a11, a12, a13, a14, a15, a16, a17, a18, a19, a20, a21, a22, a23) 0 := by
  unfold wpX_makeNode
  refine ⟨33, pk_loopD (fun n i s => wX_makeNode_5 post 0 f0_drafted f0_open f0_root f0_nextId f0_rowSize f0_keptCount f0_goneCount f0_moveCount a1 a2 a3 a4 a5 a6 a7 a8 a9 a10 a11 a12 a13 a14 a15 a16 a17 a18 a19 a20 a21 a22 a23 n s (nI i)) (fun i s => i ≤ 32 ∧ (i = 0 → s = 1)) ?_ ?_ 32 1 ⟨by omega, fun h => absurd h (by omega)⟩⟩
  · intro n s h
    have e := h.2 rfl
    subst e
    exact br_t (by decide) ⟨pk_in 1 33 (by decide), nm_e ⟨pk_in 0 16 (by decide), ⟨pk_in 1 33 (by decide), nm_e ⟨pk_in 0 16 (by decide), ⟨pk_in 1 33 (by decide), nm_e ⟨pk_in 1 33 (by decide), nm_e (nm_e ⟨pk_in 1 33 (by decide), nm_e ⟨pk_in 1 33 (by decide), nm_e ⟨pk_in 1 33 (by decide), nm_e (H _ _ _ _ _ _ _ pk_us pk_us pk_us pk_us pk_us)⟩⟩⟩)⟩⟩⟩⟩⟩⟩
  · intro n i s h hw
    have hi : i + 1 ≤ 32 := h.1
    refine br_f (nI_nle (by omega) (by omega)) ⟨pk_in (i + 1) 33 (by omega), ?_⟩
    refine br_c (fun e => nm_r (pk_m1 i) (hw _ ⟨by omega, fun h => by subst h; rfl⟩)) (fun e => nm_r (pk_m1 i) (hw _ ⟨by omega, fun h => absurd ?_ e⟩))
    subst h
    exact h5
theorem kr_match0 {post : St2 → Prop} (h15 : a15 0 = 0) (H : post (1, f0_open, f0_root, f0_nextId, f0_rowSize, f0_keptCount, f0_goneCount, f0_moveCount, a1, a2, a3, a4, a5, a6, a7, a8, a9, a10, a11, a12, a13, a14, a15, a16, a17, a18, a19, a20, a21, a22, a23)) : wpX_matchChildren post (1, f0_open, f0_root, f0_nextId, f0_rowSize, f0_keptCount, f0_goneCount, f0_moveCount, a1, a2, a3, a4, a5, a6, a7, a8, a9, a10, a11, a12, a13, a14, a15, a16, a17, a18, a19, a20, a21, a22, a23) 0 := by
  unfold wpX_matchChildren
  exact ⟨pk_in 0 16 (by decide), nm_e ⟨pk_in 0 16 (by decide), nm_r (e' := 0) h15 (br_t rfl (nm_e ⟨1, br_t (by decide) (br_t rfl H)⟩))⟩⟩
theorem kr_index {post : St2 → Prop} (h11 : a11 1 = 0) (H : ∀ b16 : Nat → Int32, (∀ j, j < 10 → b16 j = 0) → post (f0_drafted, f0_open, f0_root, f0_nextId, f0_rowSize, f0_keptCount, f0_goneCount, f0_moveCount, a1, a2, a3, a4, a5, a6, a7, a8, a9, a10, a11, a12, a13, a14, a15, b16, a17, a18, a19, a20, a21, a22, a23)) : wpX_index post (f0_drafted, f0_open, f0_root, f0_nextId, f0_rowSize, f0_keptCount, f0_goneCount, f0_moveCount, a1, a2, a3, a4, a5, a6, a7, a8, a9, a10, a11, a12, a13, a14, a15, a16, a17, a18, a19, a20, a21, a22, a23) 1 := by
  unfold wpX_index
  refine pk_loop (fun n i s => wX_index_2 post 1 f0_drafted f0_open f0_root f0_nextId f0_rowSize f0_keptCount f0_goneCount f0_moveCount n (nI i) a1 a2 a3 a4 a5 a6 a7 a8 a9 a10 a11 a12 a13 a14 a15 s a17 a18 a19 a20 a21 a22 a23) (fun i s => ∀ j, j < i → s j = 0) 10 0 a16 (by omega) (fun j hj => absurd hj (by omega)) ?_ ?_
  · intro n s h
    exact pk_le 10 10 (fun _ => ⟨pk_in 1 33 (by decide), nm_r (e' := 0) h11 ⟨1, br_f (by decide) (br_t rfl (H s h))⟩⟩) (fun z => absurd z (by omega))
  · intro n i s hi h hw
    refine pk_le 10 i (fun z => absurd z (by omega)) (fun _ => ⟨pk_in i 10 hi, nm_e (nm_r (nI_1 i) (hw _ ?_))⟩)
    intro j hj
    rw [nI_clamp (by omega)]
    by_cases e : j = i
    · rw [e, pk_us]
    · rw [pk_un e]
      exact h j (by omega)
theorem kr_dropRest {post : St2 → Prop} (h16 : ∀ j, j < 10 → a16 j = 0) (H : post (f0_drafted, f0_open, f0_root, f0_nextId, f0_rowSize, f0_keptCount, f0_goneCount, f0_moveCount, a1, a2, a3, a4, a5, a6, a7, a8, a9, a10, a11, a12, a13, a14, a15, a16, a17, a18, a19, a20, a21, a22, a23)) : wpX_dropRest post (f0_drafted, f0_open, f0_root, f0_nextId, f0_rowSize, f0_keptCount, f0_goneCount, f0_moveCount, a1, a2, a3, a4, a5, a6, a7, a8, a9, a10, a11, a12, a13, a14, a15, a16, a17, a18, a19, a20, a21, a22, a23) := by
  unfold wpX_dropRest
  refine pk_loop (σ := Unit) (fun n i _ => wX_dropRest_2 post n (nI i) f0_drafted f0_open f0_root f0_nextId f0_rowSize f0_keptCount f0_goneCount f0_moveCount a1 a2 a3 a4 a5 a6 a7 a8 a9 a10 a11 a12 a13 a14 a15 a16 a17 a18 a19 a20 a21 a22 a23) (fun _ _ => True) 10 0 () (by omega) trivial ?_ ?_
  · intro n _ _
    exact pk_le 10 10 (fun _ => H) (fun z => absurd z (by omega))
  · intro n i _ hi _ hw
    exact pk_le 10 i (fun z => absurd z (by omega)) (fun _ => ⟨pk_in i 10 hi, br_t (by rw [nI_clamp (by omega)]; exact h16 i hi) (nm_r (nI_1 i) (hw () trivial))⟩)
theorem kr_row0 {post : Int32 → St2 → Prop} (H : post 0 (f0_drafted, f0_open, f0_root, f0_nextId, 0, f0_keptCount, f0_goneCount, f0_moveCount, a1, a2, a3, a4, a5, a6, a7, a8, a9, a10, a11, a12, a13, a14, a15, a16, a17, a18, a19, a20, a21, a22, a23)) : wpX_longestRow post (f0_drafted, f0_open, f0_root, f0_nextId, f0_rowSize, f0_keptCount, f0_goneCount, f0_moveCount, a1, a2, a3, a4, a5, a6, a7, a8, a9, a10, a11, a12, a13, a14, a15, a16, a17, a18, a19, a20, a21, a22, a23) 0 := by
  unfold wpX_longestRow
  exact ⟨1, br_t (by decide) (br_t rfl ⟨1, br_f (by decide) (br_t (by decide) H)⟩)⟩
theorem kr_match1 {post : St2 → Prop} (h11 : a11 1 = 0) (h14 : a14 0 = 1) (h15 : a15 0 = 1) (H : ∀ (b16 : Nat → Int32) (mv : Int32), post (1, f0_open, f0_root, f0_nextId, 0, f0_keptCount, f0_goneCount, mv, a1, a2, a3, a4, a5, a6, a7, a8, a9, a10, a11, a12, a13, a14, a15, b16, a17, a18, a19, a20, a21, a22, a23)) : wpX_matchChildren post (1, f0_open, f0_root, f0_nextId, f0_rowSize, f0_keptCount, f0_goneCount, f0_moveCount, a1, a2, a3, a4, a5, a6, a7, a8, a9, a10, a11, a12, a13, a14, a15, a16, a17, a18, a19, a20, a21, a22, a23) 0 := by
  unfold wpX_matchChildren
  refine ⟨pk_in 0 16 (by decide), nm_r (e' := 1) h14 ⟨pk_in 0 16 (by decide), nm_r (e' := 1) h15 (br_f (by decide) ?_)⟩⟩
  refine kr_index h11 (fun b16 h16 => ?_)
  refine nm_e ⟨1, br_t (by decide) (br_f (by decide) ?_)⟩
  refine kr_dropRest h16 ?_
  refine kr_row0 ?_
  exact nm_e (H _ _)
theorem kr_arr {post : St2 → Prop} (H : post (1, f0_open, f0_root, f0_nextId, f0_rowSize, f0_keptCount, f0_goneCount, f0_moveCount, a1, a2, a3, a4, a5, a6, a7, a8, a9, a10, a11, a12, a13, a14, a15, a16, a17, a18, a19, a20, a21, a22, a23)) : wpX_arrange post (1, f0_open, f0_root, f0_nextId, f0_rowSize, f0_keptCount, f0_goneCount, f0_moveCount, a1, a2, a3, a4, a5, a6, a7, a8, a9, a10, a11, a12, a13, a14, a15, a16, a17, a18, a19, a20, a21, a22, a23) 0 := by
  unfold wpX_arrange
  exact ⟨pk_in 0 16 (by decide), nm_e (nm_e ⟨1, br_t (by decide) H⟩)⟩
theorem kr_drop {post : St2 → Prop} (h11 : a11 1 = 0) (H : ∀ b5 b22 b23 : Nat → Int32, b5 1 = 0 → post (f0_drafted, f0_open, f0_root, f0_nextId, f0_rowSize, f0_keptCount, f0_goneCount + 1, f0_moveCount, a1, a2, a3, a4, b5, a6, a7, a8, a9, a10, a11, a12, a13, a14, a15, a16, a17, a18, a19, a20, a21, b22, b23)) : wpX_drop post (f0_drafted, f0_open, f0_root, f0_nextId, f0_rowSize, f0_keptCount, f0_goneCount, f0_moveCount, a1, a2, a3, a4, a5, a6, a7, a8, a9, a10, a11, a12, a13, a14, a15, a16, a17, a18, a19, a20, a21, a22, a23) 1 := by
  unfold wpX_drop
  refine kr_list h11 (fun b22 b23 h => ⟨2, ?_⟩)
  refine br_f (by decide) ⟨pk_in 0 33 (by decide), pk_in 1 33 (by decide) h, nm_e (nm_e (br_t (by decide) (nm_e (H _ _ _ ?_))))⟩
  show upd a5 (b22 0).toNatClampNeg 0 1 = 0
  rw [h]
  exact pk_us
end
end
section
section
variable {f0_drafted f0_open f0_root f0_nextId f0_rowSize f0_keptCount f0_goneCount f0_moveCount : Int32} {a1 a2 a3 a4 a5 a6 a7 a8 a9 a10 a11 a12 a13 a14 a15 a16 a17 a18 a19 a20 a21 a22 a23 : Nat → Int32}
/-- open over an empty draft -/
theorem kr_open {post : Int32 → St2 → Prop} {t k : Int32} (h1 : ¬ t < 0) (h2 : ¬ 3 < t) (h3 : ¬ k < 0) (h4 : k < 10) (H : ∀ b1 b2 b3 b4 : Nat → Int32, b1 0 = t → b2 0 = k → post 1 (1, 1, f0_root, f0_nextId, f0_rowSize, f0_keptCount, f0_goneCount, f0_moveCount, b1, b2, b3, b4, a5, a6, a7, a8, a9, a10, a11, a12, a13, a14, a15, a16, a17, a18, a19, a20, a21, a22, a23)) : wpX_open post (0, 0, f0_root, f0_nextId, f0_rowSize, f0_keptCount, f0_goneCount, f0_moveCount, a1, a2, a3, a4, a5, a6, a7, a8, a9, a10, a11, a12, a13, a14, a15, a16, a17, a18, a19, a20, a21, a22, a23) t k := by
  unfold wpX_open
  refine br_f h1 (br_f h2 (br_f h3 (br_t h4 (br_f (by decide) (br_t rfl ?_)))))
  unfold wX_open_55
  refine br_t rfl (br_f (by decide) ?_)
  unfold wX_open_70
  refine br_t (by decide) ?_
  unfold wX_open_89
  exact ⟨pk_in 0 16 (by decide), nm_e ⟨pk_in 0 16 (by decide), nm_e ⟨pk_in 0 16 (by decide), nm_e ⟨pk_in 0 16 (by decide), nm_e (nm_r (e' := 1) (by decide) (nm_r (e' := 1) (by decide) (H _ _ _ _ pk_us pk_us)))⟩⟩⟩⟩
theorem kr_leaf {post : Int32 → St2 → Prop} {t k : Int32} (h1 : ¬ t < 0) (h2 : ¬ 3 < t) (h3 : ¬ k < 0) (h4 : k < 10) (H : ∀ b1 b2 b3 b4 : Nat → Int32, b1 0 = t → b2 0 = k → post 0 (1, 0, f0_root, f0_nextId, f0_rowSize, f0_keptCount, f0_goneCount, f0_moveCount, b1, b2, b3, b4, a5, a6, a7, a8, a9, a10, a11, a12, a13, a14, a15, a16, a17, a18, a19, a20, a21, a22, a23)) : wpX_leaf post (0, 0, f0_root, f0_nextId, f0_rowSize, f0_keptCount, f0_goneCount, f0_moveCount, a1, a2, a3, a4, a5, a6, a7, a8, a9, a10, a11, a12, a13, a14, a15, a16, a17, a18, a19, a20, a21, a22, a23) t k := by
  unfold wpX_leaf
  refine kr_open h1 h2 h3 h4 (fun b1 b2 b3 b4 g1 g2 => ?_)
  refine br_t (by decide) ?_
  exact br_f (by decide) (nm_r (e' := 0) (by decide) (H b1 b2 b3 b4 g1 g2))
/-- a leaf that doesn't fit -/
theorem kr_leafN {post : Int32 → St2 → Prop} {t k : Int32} (hn : t < 0 ∨ 3 < t ∨ k < 0 ∨ ¬ k < 10) (H : post (-1) (f0_drafted, f0_open, f0_root, f0_nextId, f0_rowSize, f0_keptCount, f0_goneCount, f0_moveCount, a1, a2, a3, a4, a5, a6, a7, a8, a9, a10, a11, a12, a13, a14, a15, a16, a17, a18, a19, a20, a21, a22, a23)) : wpX_leaf post (f0_drafted, f0_open, f0_root, f0_nextId, f0_rowSize, f0_keptCount, f0_goneCount, f0_moveCount, a1, a2, a3, a4, a5, a6, a7, a8, a9, a10, a11, a12, a13, a14, a15, a16, a17, a18, a19, a20, a21, a22, a23) t k := by
  unfold wpX_leaf
  unfold wpX_open
  refine br_c (fun _ => br_f (by decide) H) (fun n1 => br_c (fun _ => br_f (by decide) H) (fun n2 => br_c (fun _ => br_f (by decide) H) (fun n3 => br_f ?_ (br_f (by decide) H))))
  rcases hn with h | h | h | h
  · exact absurd h n1
  · exact absurd h n2
  · exact absurd h n3
  · exact h
theorem kr_201 {post : Int32 → St2 → Prop} {x1 : Int32} (H : post x1 (0, 0, f0_root, f0_nextId, f0_rowSize, f0_keptCount, f0_goneCount, f0_moveCount, a1, a2, a3, a4, a5, a6, a7, a8, a9, a10, a11, a12, a13, a14, a15, a16, a17, a18, a19, a20, a21, a22, a23)) : ∃ n, wX_show_201 post x1 n 0 1 f0_open f0_root f0_nextId f0_rowSize f0_keptCount f0_goneCount f0_moveCount a1 a2 a3 a4 a5 a6 a7 a8 a9 a10 a11 a12 a13 a14 a15 a16 a17 a18 a19 a20 a21 a22 a23 := by
  refine ⟨2, ?_⟩
  refine br_f (by decide) ?_
  refine kr_arr ?_
  refine nm_r (e' := 1) (by decide) ?_
  exact br_t (by decide) H
theorem kr_124e {post : Int32 → St2 → Prop} {x1 : Int32} {n : Nat} (h14 : a14 0 = 1) (H : ∀ b10 : Nat → Int32, post x1 (0, 0, 1, f0_nextId, f0_rowSize, f0_keptCount, f0_goneCount, f0_moveCount, a1, a2, a3, a4, a5, a6, a7, a8, a9, b10, a11, a12, a13, a14, a15, a16, a17, a18, a19, a20, a21, a22, a23)) : wX_show_124 post (n + 1) x1 1 1 f0_open f0_root f0_nextId f0_rowSize f0_keptCount f0_goneCount f0_moveCount a1 a2 a3 a4 a5 a6 a7 a8 a9 a10 a11 a12 a13 a14 a15 a16 a17 a18 a19 a20 a21 a22 a23 :=
  br_t (by decide) (nm_r (e' := 1) h14 ⟨pk_in 1 33 (by decide), nm_e (kr_201 (H _))⟩)
/-- the showing's first loop: a new node -/
theorem kr_124n {post : Int32 → St2 → Prop} (h15 : a15 0 = 0) (h5 : a5 1 = 0) (H : ∀ u, kr_S (f0_nextId + 1) (a1 0) (a2 0) f0_nextId 0 f0_goneCount u → post 1 u) : ∃ n, wX_show_124 post n 0 0 1 f0_open f0_root f0_nextId f0_rowSize f0_keptCount f0_goneCount f0_moveCount a1 a2 a3 a4 a5 a6 a7 a8 a9 a10 a11 a12 a13 a14 a15 a16 a17 a18 a19 a20 a21 a22 a23 := by
  refine ⟨2, ?_⟩
  refine br_f (by decide) ⟨pk_in 0 16 (by decide), br_t h15 ?_⟩
  refine kr_make h5 (fun b5 b6 b7 b8 b9 b10 b11 g6 g7 g8 g9 g11 => ?_)
  refine ⟨pk_in 0 16 (by decide), nm_e (nm_r (e' := 1) (by decide) ?_)⟩
  unfold wX_show_168
  refine kr_match0 h15 ?_
  refine nm_r (e' := 1) (by decide) ?_
  refine kr_124e pk_us (fun c10 => H _ ?_)
  exact ⟨rfl, rfl, rfl, rfl, rfl, g6, g7, g8, g9, g11⟩
/-- the showing's first loop: the node is kept -/
theorem kr_124k {post : Int32 → St2 → Prop} (h15 : a15 0 = 1) (h14 : a14 0 = 1) (h11 : a11 1 = 0) (H : ∀ u, kr_S f0_nextId (a6 1) (a7 1) (a8 1) (a9 1) f0_goneCount u → post 0 u) : ∃ n, wX_show_124 post n 0 0 1 f0_open f0_root f0_nextId f0_rowSize f0_keptCount f0_goneCount f0_moveCount a1 a2 a3 a4 a5 a6 a7 a8 a9 a10 a11 a12 a13 a14 a15 a16 a17 a18 a19 a20 a21 a22 a23 := by
  refine ⟨2, ?_⟩
  refine br_f (by decide) ⟨pk_in 0 16 (by decide), br_f (fun z => absurd (h15.symm.trans z) (by decide)) (nm_e ?_)⟩
  unfold wX_show_168
  refine kr_match1 h11 h14 h15 (fun b16 mv => ?_)
  refine nm_r (e' := 1) (by decide) ?_
  refine kr_124e h14 (fun c10 => H _ ?_)
  exact ⟨rfl, rfl, rfl, rfl, rfl, rfl, rfl, rfl, rfl, h11⟩
theorem kr_nb0 : vp_nar .boolean 0 = 0 := by decide
theorem kr_nb1 : vp_nar .boolean 1 = 1 := by decide
/-- nothing drafted -/
theorem kr_show0 {post : Int32 → St2 → Prop} (H : post (-4) (0, f0_open, f0_root, f0_nextId, f0_rowSize, f0_keptCount, f0_goneCount, f0_moveCount, a1, a2, a3, a4, a5, a6, a7, a8, a9, a10, a11, a12, a13, a14, a15, a16, a17, a18, a19, a20, a21, a22, a23)) : wpX_show post (0, f0_open, f0_root, f0_nextId, f0_rowSize, f0_keptCount, f0_goneCount, f0_moveCount, a1, a2, a3, a4, a5, a6, a7, a8, a9, a10, a11, a12, a13, a14, a15, a16, a17, a18, a19, a20, a21, a22, a23) := by
  unfold wpX_show
  exact br_t rfl H
/-- the first showing -/
theorem kr_show1 {post : Int32 → St2 → Prop} (h5 : a5 1 = 0) (H : ∀ u, kr_S (f0_nextId + 1) (a1 0) (a2 0) f0_nextId 0 0 u → post 1 u) : wpX_show post (1, 0, 0, f0_nextId, f0_rowSize, f0_keptCount, f0_goneCount, f0_moveCount, a1, a2, a3, a4, a5, a6, a7, a8, a9, a10, a11, a12, a13, a14, a15, a16, a17, a18, a19, a20, a21, a22, a23) := by
  unfold wpX_show
  refine br_f (by decide) (br_t (by decide) (br_t rfl ?_))
  unfold wX_show_86 wX_show_87
  exact ⟨pk_in 0 16 (by decide), nm_r (e' := upd a15 0 0) (by rw [kr_nb0]; rfl) (nm_e (br_t pk_us (br_t rfl (kr_124n pk_us h5 H))))⟩
/-- another node takes the place -/
theorem kr_86 {post : Int32 → St2 → Prop} (h11 : a11 1 = 0) (H : ∀ u, kr_S (f0_nextId + 1) (a1 0) (a2 0) f0_nextId 0 (f0_goneCount + 1) u → post 1 u) : wX_show_86 post 0 0 1 0 1 f0_nextId f0_rowSize f0_keptCount f0_goneCount f0_moveCount a1 a2 a3 a4 a5 a6 a7 a8 a9 a10 a11 a12 a13 a14 a15 a16 a17 a18 a19 a20 a21 a22 a23 := by
  unfold wX_show_86 wX_show_87
  refine ⟨pk_in 0 16 (by decide), nm_r (e' := upd a15 0 0) (by rw [kr_nb0]; rfl) (nm_e (br_t pk_us (br_f (by decide) ?_)))⟩
  refine kr_drop h11 (fun b5 b22 b23 g5 => ?_)
  exact kr_124n pk_us g5 H
theorem kr_show2 {post : Int32 → St2 → Prop} (h11 : a11 1 = 0) (hn : a6 1 = a1 0 → ¬ a7 1 = a2 0) (H : ∀ u, kr_S (f0_nextId + 1) (a1 0) (a2 0) f0_nextId 0 1 u → post 1 u) : wpX_show post (1, 0, 1, f0_nextId, f0_rowSize, f0_keptCount, f0_goneCount, f0_moveCount, a1, a2, a3, a4, a5, a6, a7, a8, a9, a10, a11, a12, a13, a14, a15, a16, a17, a18, a19, a20, a21, a22, a23) := by
  unfold wpX_show
  refine br_f (by decide) (br_t (by decide) (br_f (by decide) ⟨pk_in 1 33 (by decide), br_c (fun e => ⟨pk_in 1 33 (by decide), br_f (hn e) ?_⟩) (fun _ => ?_)⟩))
  · exact kr_86 h11 H
  · exact kr_86 h11 H
/-- the same node again -/
theorem kr_show3 {post : Int32 → St2 → Prop} (h11 : a11 1 = 0) (h6 : a6 1 = a1 0) (h7 : a7 1 = a2 0) (H : ∀ u, kr_S f0_nextId (a6 1) (a7 1) (a8 1) (a9 1) 0 u → post 0 u) : wpX_show post (1, 0, 1, f0_nextId, f0_rowSize, f0_keptCount, f0_goneCount, f0_moveCount, a1, a2, a3, a4, a5, a6, a7, a8, a9, a10, a11, a12, a13, a14, a15, a16, a17, a18, a19, a20, a21, a22, a23) := by
  unfold wpX_show
  refine br_f (by decide) (br_t (by decide) (br_f (by decide) ⟨pk_in 1 33 (by decide), br_t h6 ⟨pk_in 1 33 (by decide), br_t h7 ?_⟩⟩))
  unfold wX_show_87
  exact ⟨pk_in 0 16 (by decide), nm_r (e' := upd a15 0 1) (by rw [kr_nb1]; rfl) (nm_e (br_f (fun z : upd a15 0 1 0 = 0 => absurd (pk_us.symm.trans z : (1 : Int32) = 0) (by decide)) (kr_124k pk_us pk_us h11 H)))⟩
theorem kr_node {post : Int32 → St2 → Prop} (h11 : a11 1 = 0) (H : ∀ b22 b23 : Nat → Int32, post 1 (f0_drafted, f0_open, 1, f0_nextId, f0_rowSize, f0_keptCount, f0_goneCount, f0_moveCount, a1, a2, a3, a4, a5, a6, a7, a8, a9, a10, a11, a12, a13, a14, a15, a16, a17, a18, a19, a20, a21, b22, b23)) : wpX_nodeAt post (f0_drafted, f0_open, 1, f0_nextId, f0_rowSize, f0_keptCount, f0_goneCount, f0_moveCount, a1, a2, a3, a4, a5, a6, a7, a8, a9, a10, a11, a12, a13, a14, a15, a16, a17, a18, a19, a20, a21, a22, a23) 0 := by
  unfold wpX_nodeAt
  refine kr_list h11 (fun b22 b23 h => ?_)
  refine br_f (by decide) (br_t (by decide) ⟨pk_in 0 33 (by decide), ?_⟩)
  have e : b22 (0 : Int32).toNatClampNeg = 1 := h
  rw [e]
  exact H b22 b23
end
/-- id, state, put, gone, recall, place over one node -/
theorem kr_id {post : Int32 → St2 → Prop} {nid ty ke id st gn : Int32} {u : St2} (h : kr_S nid ty ke id st gn u) (H : ∀ u, kr_S nid ty ke id st gn u → post id u) : wpX_id post u 0 := by
  obtain ⟨f0_drafted, f0_open, f0_root, f0_nextId, f0_rowSize, f0_keptCount, f0_goneCount, f0_moveCount, a1, a2, a3, a4, a5, a6, a7, a8, a9, a10, a11, a12, a13, a14, a15, a16, a17, a18, a19, a20, a21, a22, a23⟩ := u
  obtain ⟨rfl, rfl, rfl, rfl, rfl, rfl, rfl, rfl, rfl, h11⟩ := h
  unfold wpX_id
  refine kr_node h11 (fun b22 b23 => ?_)
  exact br_f (by decide) ⟨pk_in 1 33 (by decide), H _ ⟨rfl, rfl, rfl, rfl, rfl, rfl, rfl, rfl, rfl, h11⟩⟩
theorem kr_state {post : Int32 → St2 → Prop} {nid ty ke id st gn : Int32} {u : St2} (h : kr_S nid ty ke id st gn u) (H : ∀ u, kr_S nid ty ke id st gn u → post st u) : wpX_state post u 0 := by
  obtain ⟨f0_drafted, f0_open, f0_root, f0_nextId, f0_rowSize, f0_keptCount, f0_goneCount, f0_moveCount, a1, a2, a3, a4, a5, a6, a7, a8, a9, a10, a11, a12, a13, a14, a15, a16, a17, a18, a19, a20, a21, a22, a23⟩ := u
  obtain ⟨rfl, rfl, rfl, rfl, rfl, rfl, rfl, rfl, rfl, h11⟩ := h
  unfold wpX_state
  refine kr_node h11 (fun b22 b23 => ?_)
  exact br_f (by decide) ⟨pk_in 1 33 (by decide), H _ ⟨rfl, rfl, rfl, rfl, rfl, rfl, rfl, rfl, rfl, h11⟩⟩
theorem kr_put {post : Int32 → St2 → Prop} {nid ty ke id st gn s : Int32} {u : St2} (h : kr_S nid ty ke id st gn u) (H : ∀ r st' u, (0 ≤ s ∧ r = st ∧ st' = s) ∨ (¬ 0 ≤ s ∧ r = -1 ∧ st' = st) → kr_S nid ty ke id st' gn u → post r u) : wpX_put post u 0 s := by
  obtain ⟨f0_drafted, f0_open, f0_root, f0_nextId, f0_rowSize, f0_keptCount, f0_goneCount, f0_moveCount, a1, a2, a3, a4, a5, a6, a7, a8, a9, a10, a11, a12, a13, a14, a15, a16, a17, a18, a19, a20, a21, a22, a23⟩ := u
  obtain ⟨rfl, rfl, rfl, rfl, rfl, rfl, rfl, rfl, rfl, h11⟩ := h
  unfold wpX_put
  refine kr_node h11 (fun b22 b23 => ?_)
  exact br_f (by decide) (br_c (fun z => ⟨pk_in 1 33 (by decide), nm_e ⟨pk_in 1 33 (by decide), nm_e (H _ _ _ (Or.inl ⟨z, rfl, rfl⟩) ⟨rfl, rfl, rfl, rfl, rfl, rfl, rfl, rfl, pk_us, h11⟩)⟩⟩) (fun z => H _ _ _ (Or.inr ⟨z, rfl, rfl⟩) ⟨rfl, rfl, rfl, rfl, rfl, rfl, rfl, rfl, rfl, h11⟩))
theorem kr_gone {post : Int32 → Prop} {nid ty ke id st gn : Int32} {u : St2} (h : kr_S nid ty ke id st gn u) (H : post gn) : wpX_gone post u := by
  obtain ⟨f0_drafted, f0_open, f0_root, f0_nextId, f0_rowSize, f0_keptCount, f0_goneCount, f0_moveCount, a1, a2, a3, a4, a5, a6, a7, a8, a9, a10, a11, a12, a13, a14, a15, a16, a17, a18, a19, a20, a21, a22, a23⟩ := u
  obtain ⟨rfl, rfl, rfl, rfl, rfl, rfl, rfl, rfl, rfl, h11⟩ := h
  exact H
/-- between the showings, and the draft recalled -/
def kr_R (id : Int32) (u : St2) : Prop := match u with
  | (f0_drafted, f0_open, f0_root, f0_nextId, f0_rowSize, f0_keptCount, f0_goneCount, f0_moveCount, a1, a2, a3, a4, a5, a6, a7, a8, a9, a10, a11, a12, a13, a14, a15, a16, a17, a18, a19, a20, a21, a22, a23) => f0_root = 1 ∧ a8 1 = id ∧ a11 1 = 0
theorem kr_recall {post : Int32 → St2 → Prop} {nid ty ke id st gn : Int32} {u : St2} (h : kr_S nid ty ke id st gn u) (H : ∀ u, kr_R id u → post 1 u) : wpX_recall post u := by
  obtain ⟨f0_drafted, f0_open, f0_root, f0_nextId, f0_rowSize, f0_keptCount, f0_goneCount, f0_moveCount, a1, a2, a3, a4, a5, a6, a7, a8, a9, a10, a11, a12, a13, a14, a15, a16, a17, a18, a19, a20, a21, a22, a23⟩ := u
  obtain ⟨rfl, rfl, rfl, rfl, rfl, rfl, rfl, rfl, rfl, h11⟩ := h
  unfold wpX_recall
  refine kr_list h11 (fun b22 b23 e => ⟨2, ?_⟩)
  refine br_f (by decide) ⟨pk_in 0 33 (by decide), nm_r (e' := 1) e ⟨pk_in 1 33 (by decide), ⟨pk_in 0 16 (by decide), nm_e ⟨pk_in 1 33 (by decide), ⟨pk_in 0 16 (by decide), nm_e ⟨pk_in 0 16 (by decide), nm_e ⟨1, br_t (by decide) (nm_r (e' := 1) (by decide) ?_)⟩⟩⟩⟩⟩⟩⟩
  exact br_t (by decide) (H _ ⟨rfl, rfl, h11⟩)
theorem kr_place {post : Int32 → St2 → Prop} {id q : Int32} {u : St2} (h : kr_R id u) (H : ∀ r u, (q = id ∧ r = 0) ∨ (¬ q = id ∧ r = -4) → post r u) : wpX_place post u q := by
  obtain ⟨f0_drafted, f0_open, f0_root, f0_nextId, f0_rowSize, f0_keptCount, f0_goneCount, f0_moveCount, a1, a2, a3, a4, a5, a6, a7, a8, a9, a10, a11, a12, a13, a14, a15, a16, a17, a18, a19, a20, a21, a22, a23⟩ := u
  obtain ⟨rfl, rfl, h11⟩ := h
  unfold wpX_place
  refine kr_list h11 (fun b22 b23 e => ⟨2, ?_⟩)
  refine br_f (by decide) ⟨pk_in 0 33 (by decide), pk_in 1 33 (by decide) e, ?_⟩
  have e' : b22 (0 : Int32).toNatClampNeg = 1 := e
  rw [e']
  exact br_c (fun z => H _ _ (Or.inl ⟨z.symm, rfl⟩)) (fun z => nm_r (e' := 1) (by decide) (br_t (by decide) (H _ _ (Or.inr ⟨fun y => z y.symm, rfl⟩))))
end
section
theorem kr_init {post : St2 → Prop} (H : post (0, 0, 0, 0, 0, 0, 0, 0, (fun _ => 0), (fun _ => 0), (fun _ => 0), (fun _ => 0), (fun _ => 0), (fun _ => 0), (fun _ => 0), (fun _ => 0), (fun _ => 0), (fun _ => 0), (fun _ => 0), (fun _ => 0), (fun _ => 0), (fun _ => 0), (fun _ => 0), (fun _ => 0), (fun _ => 0), (fun _ => 0), (fun _ => 0), (fun _ => 0), (fun _ => 0), (fun _ => 0), (fun _ => 0))) : wpX_init post 331 5265 (0, 0, 0, 0, 0, 0, 0, 0) := by
  unfold wpX_init
  exact ⟨by decide, by decide, by decide, by decide, by decide, by decide, by decide, by decide, by decide, by decide, by decide, by decide, by decide, by decide, by decide, by decide, by decide, by decide, by decide, by decide, by decide, by decide, by decide, by decide, by decide, by decide, by decide, by decide, by decide, by decide, by decide, by decide, by decide, by decide, by decide, by decide, by decide, by decide, by decide, by decide, by decide, by decide, by decide, by decide, by decide, by decide, H⟩
/-- the pair that fits -/
def kr_fits (t k : Int32) : Prop := ¬ t < 0 ∧ ¬ 3 < t ∧ ¬ k < 0 ∧ ¬ 9 < k
theorem kr_9 {k : Int32} : ¬ 9 < k ↔ k < 10 := by
  rw [Int32.lt_iff_toInt_lt, Int32.lt_iff_toInt_lt, show (9 : Int32).toInt = 9 from by decide, show (10 : Int32).toInt = 10 from by decide]
  omega
/-- behind the second leaf -/
def kr_D (t k st : Int32) (u : St2) : Prop := match u with
  | (f0_drafted, f0_open, f0_root, f0_nextId, f0_rowSize, f0_keptCount, f0_goneCount, f0_moveCount, a1, a2, a3, a4, a5, a6, a7, a8, a9, a10, a11, a12, a13, a14, a15, a16, a17, a18, a19, a20, a21, a22, a23) => f0_open = 0 ∧ f0_root = 1 ∧ f0_nextId = 1 ∧ f0_goneCount = 0 ∧ a6 1 = 1 ∧ a7 1 = 3 ∧ a8 1 = 0 ∧ a9 1 = st ∧ a11 1 = 0 ∧ ((kr_fits t k ∧ f0_drafted = 1 ∧ a1 0 = t ∧ a2 0 = k) ∨ (¬ kr_fits t k ∧ f0_drafted = 0))
/-- what the second showing answers, the identity, the state and the count of those that went -/
def kr_E (t k st r id st' gn : Int32) : Prop := (¬ kr_fits t k ∧ r = -4 ∧ id = 0 ∧ st' = st ∧ gn = 0) ∨ (kr_fits t k ∧ t = 1 ∧ k = 3 ∧ r = 0 ∧ id = 0 ∧ st' = st ∧ gn = 0) ∨ (kr_fits t k ∧ ¬ (t = 1 ∧ k = 3) ∧ r = 1 ∧ id = 1 ∧ st' = 0 ∧ gn = 1)
theorem kr_leafD {Q : Int32 → St2 → Prop} {t k st : Int32} {u : St2} (h : kr_S 1 1 3 0 st 0 u) (H : ∀ r u, kr_D t k st u → Q r u) : wpX_leaf Q u t k := by
  obtain ⟨f0_drafted, f0_open, f0_root, f0_nextId, f0_rowSize, f0_keptCount, f0_goneCount, f0_moveCount, a1, a2, a3, a4, a5, a6, a7, a8, a9, a10, a11, a12, a13, a14, a15, a16, a17, a18, a19, a20, a21, a22, a23⟩ := u
  obtain ⟨rfl, rfl, rfl, rfl, rfl, h6, h7, h8, h9, h11⟩ := h
  by_cases hf : kr_fits t k
  · refine kr_leaf hf.1 hf.2.1 hf.2.2.1 (kr_9.mp hf.2.2.2) (fun b1 b2 b3 b4 g1 g2 => H _ _ ?_)
    exact ⟨rfl, rfl, rfl, rfl, h6, h7, h8, h9, h11, Or.inl ⟨hf, rfl, g1, g2⟩⟩
  · refine kr_leafN ?_ (H _ _ ⟨rfl, rfl, rfl, rfl, h6, h7, h8, h9, h11, Or.inr ⟨hf, rfl⟩⟩)
    by_cases c1 : t < 0
    · exact Or.inl c1
    by_cases c2 : 3 < t
    · exact Or.inr (Or.inl c2)
    by_cases c3 : k < 0
    · exact Or.inr (Or.inr (Or.inl c3))
    exact Or.inr (Or.inr (Or.inr (fun c4 => hf ⟨c1, c2, c3, kr_9.mpr c4⟩)))
theorem kr_showD {P : Int32 → St2 → Prop} {t k st : Int32} {u : St2} (h : kr_D t k st u) (H : ∀ r id st' gn nid ty ke u, kr_E t k st r id st' gn → kr_S nid ty ke id st' gn u → P r u) : wpX_show P u := by
  obtain ⟨f0_drafted, f0_open, f0_root, f0_nextId, f0_rowSize, f0_keptCount, f0_goneCount, f0_moveCount, a1, a2, a3, a4, a5, a6, a7, a8, a9, a10, a11, a12, a13, a14, a15, a16, a17, a18, a19, a20, a21, a22, a23⟩ := u
  obtain ⟨rfl, rfl, rfl, rfl, h6, h7, h8, h9, h11, ⟨hf, rfl, g1, g2⟩ | ⟨hf, rfl⟩⟩ := h
  · by_cases e : t = 1 ∧ k = 3
    · refine kr_show3 h11 (by rw [h6, g1, e.1]) (by rw [h7, g2, e.2]) (fun u hu => ?_)
      rw [h8, h9] at hu
      exact H _ _ _ _ _ _ _ _ (Or.inr (Or.inl ⟨hf, e.1, e.2, rfl, rfl, rfl, rfl⟩)) hu
    · refine kr_show2 h11 (fun y z => e ⟨?_, ?_⟩) (fun u hu => H _ _ _ _ _ _ _ _ (Or.inr (Or.inr ⟨hf, e, rfl, rfl, rfl, rfl⟩)) hu)
      · rw [← g1, ← y, h6]
      · rw [← g2, ← z, h7]
  · exact kr_show0 (H _ _ _ _ _ _ _ _ (Or.inl ⟨hf, rfl, rfl, rfl, rfl⟩) ⟨rfl, rfl, rfl, rfl, rfl, h6, h7, h8, h9, h11⟩)
/-! the law's own tail -/
section
variable {post : Int32 → St0 → Prop} {mc ms kc ks : Nat} {t k s q x6 x9 x12 : Int32}
theorem kr_261 {x8 z : Int32} (H : post 1 ()) (h12 : (q = x8 ∧ x12 = 0) ∨ (¬ q = x8 ∧ x12 = -4)) : wL_lawOf_261 post mc ms q x8 1 x12 z z kc ks := by
  unfold wL_lawOf_261 wL_lawOf_284
  refine br_t rfl (br_t rfl ?_)
  rcases h12 with ⟨g, rfl⟩ | ⟨g, rfl⟩
  · exact br_t g (br_t rfl H)
  · exact br_f g (br_t rfl H)
theorem kr_t0 (H : post 1 ()) (hs : (0 ≤ s ∧ x6 = 0 ∧ x9 = s) ∨ (¬ 0 ≤ s ∧ x6 = -1 ∧ x9 = 0)) (h12 : (q = 0 ∧ x12 = 0) ∨ (¬ q = 0 ∧ x12 = -4)) : wL_lawOf_109 post mc ms t k s q 1 x6 (-4) 0 x9 0 1 x12 kc ks := by
  unfold wL_lawOf_109 wL_lawOf_110 wL_lawOf_131 wL_lawOf_132
  refine br_t rfl ?_
  rcases hs with ⟨h, rfl, rfl⟩ | ⟨h, rfl, rfl⟩
  · refine br_f (Int32.not_lt.mpr h) ?_
    unfold wL_lawOf_143 wL_lawOf_159 wL_lawOf_169
    refine br_t rfl (br_f (by decide) (br_t rfl (br_f (by decide) ?_)))
    unfold wL_lawOf_189 wL_lawOf_214 wL_lawOf_233 wL_lawOf_234 wL_lawOf_260
    exact br_t rfl (br_t rfl (br_t rfl (br_t rfl (br_t rfl (br_t rfl (br_t rfl (kr_261 H h12)))))))
  · refine br_t (Int32.not_le.mp h) ?_
    unfold wL_lawOf_143 wL_lawOf_159 wL_lawOf_169
    refine br_t rfl (br_t rfl (br_t rfl (br_t rfl ?_)))
    unfold wL_lawOf_189 wL_lawOf_214 wL_lawOf_233 wL_lawOf_234 wL_lawOf_260
    exact br_t rfl (br_t rfl (br_t rfl (br_t rfl (br_t rfl (br_t rfl (br_t rfl (kr_261 H h12)))))))
theorem kr_t1 (H : post 1 ()) (ht : t = 1) (hk : k = 3) (hs : (0 ≤ s ∧ x6 = 0 ∧ x9 = s) ∨ (¬ 0 ≤ s ∧ x6 = -1 ∧ x9 = 0)) (h12 : (q = 0 ∧ x12 = 0) ∨ (¬ q = 0 ∧ x12 = -4)) : wL_lawOf_110 post mc ms t k s q 1 x6 0 0 x9 0 1 x12 1 kc ks := by
  unfold wL_lawOf_110 wL_lawOf_132
  refine br_f (by decide) (br_t ht (br_t hk ?_))
  rcases hs with ⟨h, rfl, rfl⟩ | ⟨h, rfl, rfl⟩
  · refine br_f (Int32.not_lt.mpr h) ?_
    unfold wL_lawOf_143 wL_lawOf_159 wL_lawOf_169
    refine br_f (by decide) (br_f (by decide) (br_f (by decide) (br_t rfl (br_f (by decide) ?_))))
    unfold wL_lawOf_189 wL_lawOf_214 wL_lawOf_233 wL_lawOf_234 wL_lawOf_260
    exact br_t rfl (br_f (by decide) (br_f (by decide) (br_t rfl (br_f (by decide) (br_f (by decide) (br_t rfl (br_t rfl (br_f (by decide) (br_f (by decide) (kr_261 H h12))))))))))
  · refine br_t (Int32.not_le.mp h) ?_
    unfold wL_lawOf_143 wL_lawOf_159 wL_lawOf_169
    refine br_f (by decide) (br_f (by decide) (br_t rfl (br_t rfl (br_t rfl ?_))))
    unfold wL_lawOf_189 wL_lawOf_214 wL_lawOf_233 wL_lawOf_234 wL_lawOf_260
    exact br_t rfl (br_f (by decide) (br_f (by decide) (br_t rfl (br_f (by decide) (br_f (by decide) (br_t rfl (br_t rfl (br_f (by decide) (br_f (by decide) (kr_261 H h12))))))))))
theorem kr_131 (H : post 1 ()) (hs : (0 ≤ s ∧ x6 = 0) ∨ (¬ 0 ≤ s ∧ x6 = -1)) (h12 : (q = 1 ∧ x12 = 0) ∨ (¬ q = 1 ∧ x12 = -4)) : wL_lawOf_131 post mc ms s q 1 x6 1 1 0 1 1 x12 1 kc ks := by
  unfold wL_lawOf_131 wL_lawOf_132
  rcases hs with ⟨h, rfl⟩ | ⟨h, rfl⟩
  · refine br_f (Int32.not_lt.mpr h) ?_
    unfold wL_lawOf_143 wL_lawOf_169
    refine br_f (by decide) (br_t rfl (br_t rfl (br_f (by decide) ?_)))
    unfold wL_lawOf_189 wL_lawOf_214 wL_lawOf_234
    exact br_t rfl (br_f (by decide) (br_t rfl (br_t rfl (br_f (by decide) (br_t rfl (br_t rfl (br_t rfl (br_f (by decide) (br_t rfl (kr_261 H h12))))))))))
  · refine br_t (Int32.not_le.mp h) ?_
    unfold wL_lawOf_143 wL_lawOf_169
    refine br_f (by decide) (br_t rfl (br_t rfl (br_t rfl ?_)))
    unfold wL_lawOf_189 wL_lawOf_214 wL_lawOf_234
    exact br_t rfl (br_f (by decide) (br_t rfl (br_t rfl (br_f (by decide) (br_t rfl (br_t rfl (br_t rfl (br_f (by decide) (br_t rfl (kr_261 H h12))))))))))
theorem kr_t2 (H : post 1 ()) (hn : ¬ (t = 1 ∧ k = 3)) (hs : (0 ≤ s ∧ x6 = 0) ∨ (¬ 0 ≤ s ∧ x6 = -1)) (h12 : (q = 1 ∧ x12 = 0) ∨ (¬ q = 1 ∧ x12 = -4)) : wL_lawOf_110 post mc ms t k s q 1 x6 1 1 0 1 1 x12 1 kc ks := by
  unfold wL_lawOf_110
  exact br_f (by decide) (br_c (fun y => br_f (fun z => hn ⟨y, z⟩) (kr_131 H hs h12)) (fun _ => kr_131 H hs h12))
end
end
section
theorem kr_lawOf {post : Int32 → St0 → Prop} (H : post 1 ()) (t k s q : Int32) : wpL_lawOf post 332 5296 () t k s q := by
  unfold wpL_lawOf
  refine ⟨by decide, by decide, 331, 5265, by decide, by decide, ?_⟩
  refine kr_init ?_
  refine kr_leaf (by decide) (by decide) (by decide) (by decide) (fun b1 b2 b3 b4 g1 g2 => ?_)
  refine kr_show1 rfl (fun u hu => ?_)
  rw [g1, g2] at hu
  obtain ⟨f0_drafted, f0_open, f0_root, f0_nextId, f0_rowSize, f0_keptCount, f0_goneCount, f0_moveCount, a1, a2, a3, a4, a5, a6, a7, a8, a9, a10, a11, a12, a13, a14, a15, a16, a17, a18, a19, a20, a21, a22, a23⟩ := u
  refine kr_put hu (fun x6 st u hs hu => ?_)
  obtain ⟨f0_drafted, f0_open, f0_root, f0_nextId, f0_rowSize, f0_keptCount, f0_goneCount, f0_moveCount, a1, a2, a3, a4, a5, a6, a7, a8, a9, a10, a11, a12, a13, a14, a15, a16, a17, a18, a19, a20, a21, a22, a23⟩ := u
  refine kr_leafD hu (fun _ u hu => ?_)
  obtain ⟨f0_drafted, f0_open, f0_root, f0_nextId, f0_rowSize, f0_keptCount, f0_goneCount, f0_moveCount, a1, a2, a3, a4, a5, a6, a7, a8, a9, a10, a11, a12, a13, a14, a15, a16, a17, a18, a19, a20, a21, a22, a23⟩ := u
  refine kr_showD hu (fun x7 x8 x9 x10 nid ty ke u he hu => ?_)
  obtain ⟨f0_drafted, f0_open, f0_root, f0_nextId, f0_rowSize, f0_keptCount, f0_goneCount, f0_moveCount, a1, a2, a3, a4, a5, a6, a7, a8, a9, a10, a11, a12, a13, a14, a15, a16, a17, a18, a19, a20, a21, a22, a23⟩ := u
  refine kr_id hu (fun u hu => ?_)
  obtain ⟨f0_drafted, f0_open, f0_root, f0_nextId, f0_rowSize, f0_keptCount, f0_goneCount, f0_moveCount, a1, a2, a3, a4, a5, a6, a7, a8, a9, a10, a11, a12, a13, a14, a15, a16, a17, a18, a19, a20, a21, a22, a23⟩ := u
  refine kr_state hu (fun u hu => ?_)
  obtain ⟨f0_drafted, f0_open, f0_root, f0_nextId, f0_rowSize, f0_keptCount, f0_goneCount, f0_moveCount, a1, a2, a3, a4, a5, a6, a7, a8, a9, a10, a11, a12, a13, a14, a15, a16, a17, a18, a19, a20, a21, a22, a23⟩ := u
  refine kr_gone hu ?_
  refine kr_recall hu (fun u hu => ?_)
  obtain ⟨f0_drafted, f0_open, f0_root, f0_nextId, f0_rowSize, f0_keptCount, f0_goneCount, f0_moveCount, a1, a2, a3, a4, a5, a6, a7, a8, a9, a10, a11, a12, a13, a14, a15, a16, a17, a18, a19, a20, a21, a22, a23⟩ := u
  refine kr_place hu (fun x12 u h12 => ?_)
  obtain ⟨f0_drafted, f0_open, f0_root, f0_nextId, f0_rowSize, f0_keptCount, f0_goneCount, f0_moveCount, a1, a2, a3, a4, a5, a6, a7, a8, a9, a10, a11, a12, a13, a14, a15, a16, a17, a18, a19, a20, a21, a22, a23⟩ := u
  rcases he with ⟨hf, rfl, rfl, rfl, rfl⟩ | ⟨hf, ht, hk, rfl, rfl, rfl, rfl⟩ | ⟨hf, hn, rfl, rfl, rfl, rfl⟩
  · exact br_c (fun _ => kr_t0 H hs h12) (fun c1 => br_c (fun _ => kr_t0 H hs h12) (fun c2 => br_c (fun _ => kr_t0 H hs h12) (fun c3 => br_c (fun _ => kr_t0 H hs h12) (fun c4 => absurd ⟨c1, c2, c3, c4⟩ hf))))
  · exact br_f hf.1 (br_f hf.2.1 (br_f hf.2.2.1 (br_f hf.2.2.2 (kr_t1 H ht hk hs h12))))
  · exact br_f hf.1 (br_f hf.2.1 (br_f hf.2.2.1 (br_f hf.2.2.2 (kr_t2 H hn (hs.imp (fun z => ⟨z.1, z.2.1⟩) (fun z => ⟨z.1, z.2.1⟩)) h12))))
theorem kr_cell {post : Int32 → Prop} (xs : Nat → Int32) (L : Nat) (hL : L ≤ 4) (i : Nat) (hi : i < 4) (H : ∀ x, post x) : wpL_cellAt post L xs () (nI i) := by
  unfold wpL_cellAt
  exact pk_le L i (fun _ => H _) (fun z => ⟨pk_in i L z, H _⟩)
theorem i_vc (xs : Nat → Int32) (L : Nat) (hL : L ≤ 4) : wpL_law (fun r => r = 1) L xs := by
  unfold wpL_law
  refine kr_cell xs L hL 0 (by decide) (fun x0 => ?_)
  refine kr_cell xs L hL 1 (by decide) (fun x1 => ?_)
  refine kr_cell xs L hL 2 (by decide) (fun x2 => ?_)
  refine kr_cell xs L hL 3 (by decide) (fun x3 => ?_)
  exact ⟨332, 5296, by decide, by decide, kr_lawOf rfl x0 x1 x2 x3⟩
end
