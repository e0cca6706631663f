section
-- the state: T tables, N nodes, g2 .. g8 the other fields, a1 tabWidth, a2 tabRows, a3 tab
section
variable {T N g2 g3 g4 g5 g6 g7 g8 : Int32} {a1 a2 a3 a4 a5 a6 a7 a8 a9 a10 a11 a12 a13 a14 a15 a16 a17 a18 a19 a20 a21 a22 a23 a24 a25 a26 a27 a28 a29 a30 : Nat → Int32}
/-- a table that stands: it is one of four -/
theorem qp_four {x M : Int32} (h0 : ¬ x < 0) (h1 : x < M) (hM : M ≤ 4) : ∃ t : Nat, t < 4 ∧ x = nI t := by
  obtain ⟨j, hj, rfl⟩ := nI_of h0
  rw [Int32.lt_iff_toInt_lt, nI_toInt hj] at h1
  rw [Int32.le_iff_toInt_le] at hM
  have e : (4 : Int32).toInt = 4 := by decide
  rw [e] at hM
  exact ⟨j, by omega, rfl⟩
theorem qp_in4 {x M : Int32} (h0 : ¬ x < 0) (h1 : x < M) (hM : M ≤ 4) : vp_in x 4 := by
  obtain ⟨t, ht, rfl⟩ := qp_four h0 h1 hM
  exact pk_in t 4 ht
theorem qp_lt4 {x M : Int32} (h0 : ¬ x < 0) (h1 : x < M) (hM : M ≤ 4) : x.toNatClampNeg < 4 := by
  obtain ⟨t, ht, rfl⟩ := qp_four h0 h1 hM
  rw [nI_clamp (by omega)]
  exact ht
/-- the only row is row 0 -/
theorem qp_row {x : Int32} (h0 : ¬ x < 0) (h : x ≠ 0) : ¬ x < 1 := by
  intro h1
  obtain ⟨j, hj, rfl⟩ := nI_of h0
  have e : (1 : Int32) = nI 1 := rfl
  rw [e, nI_ltI hj (by omega)] at h1
  have : j = 0 := by omega
  subst this
  exact h nI_0
theorem qp_nt_b {post : Int32 → Prop} {x : Int32} (h : x < 0 ∨ ¬ x < T) (hp : post 1) : wpX_noTable post (T, N, g2, g3, g4, g5, g6, g7, g8, a1, a2, a3, a4, a5, a6, a7, a8, a9, a10, a11, a12, a13, a14, a15, a16, a17, a18, a19, a20, a21, a22, a23, a24, a25, a26, a27, a28, a29, a30) x := by
  unfold wpX_noTable
  by_cases h0 : x < 0
  · exact br_t h0 hp
  · exact br_f h0 (br_f (h.resolve_left h0) hp)
theorem qp_nt_g {post : Int32 → Prop} {x : Int32} (h0 : ¬ x < 0) (h1 : x < T) (hp : post 0) : wpX_noTable post (T, N, g2, g3, g4, g5, g6, g7, g8, a1, a2, a3, a4, a5, a6, a7, a8, a9, a10, a11, a12, a13, a14, a15, a16, a17, a18, a19, a20, a21, a22, a23, a24, a25, a26, a27, a28, a29, a30) x := by
  unfold wpX_noTable
  exact br_f h0 (br_t h1 hp)
theorem qp_def_b {post : Int32 → St2 → Prop} {x w : Int32} (h : x < 0 ∨ ¬ x < T) (hp : post (-1) (T, N, g2, g3, g4, g5, g6, g7, g8, a1, a2, a3, a4, a5, a6, a7, a8, a9, a10, a11, a12, a13, a14, a15, a16, a17, a18, a19, a20, a21, a22, a23, a24, a25, a26, a27, a28, a29, a30)) : wpX_defineTable post (T, N, g2, g3, g4, g5, g6, g7, g8, a1, a2, a3, a4, a5, a6, a7, a8, a9, a10, a11, a12, a13, a14, a15, a16, a17, a18, a19, a20, a21, a22, a23, a24, a25, a26, a27, a28, a29, a30) x w := by
  unfold wpX_defineTable
  exact qp_nt_b h (br_f (by decide) hp)
theorem qp_def_w {post : Int32 → St2 → Prop} {x w : Int32} (h0 : ¬ x < 0) (h1 : x < T) (hw : w < 1 ∨ ¬ w ≤ 3) (hp : post (-2) (T, N, g2, g3, g4, g5, g6, g7, g8, a1, a2, a3, a4, a5, a6, a7, a8, a9, a10, a11, a12, a13, a14, a15, a16, a17, a18, a19, a20, a21, a22, a23, a24, a25, a26, a27, a28, a29, a30)) : wpX_defineTable post (T, N, g2, g3, g4, g5, g6, g7, g8, a1, a2, a3, a4, a5, a6, a7, a8, a9, a10, a11, a12, a13, a14, a15, a16, a17, a18, a19, a20, a21, a22, a23, a24, a25, a26, a27, a28, a29, a30) x w := by
  unfold wpX_defineTable
  refine qp_nt_g h0 h1 (br_t rfl ?_)
  by_cases g : w < 1
  · exact br_t g hp
  · exact br_f g (br_f (hw.resolve_left g) hp)
theorem qp_def_g {post : Int32 → St2 → Prop} {x w : Int32} (h0 : ¬ x < 0) (h1 : x < T) (hT : T ≤ 4) (hw1 : ¬ w < 1) (hw3 : w ≤ 3)
    (hp : post 0 (T, 0, g2, g3, g4, g5, g6, g7, g8, upd a1 x.toNatClampNeg w, upd a2 x.toNatClampNeg 0, a3, a4, a5, a6, a7, a8, a9, a10, a11, a12, a13, a14, a15, a16, a17, a18, a19, a20, a21, a22, a23, a24, a25, a26, a27, a28, a29, a30)) : wpX_defineTable post (T, 0, g2, g3, g4, g5, g6, g7, g8, a1, a2, a3, a4, a5, a6, a7, a8, a9, a10, a11, a12, a13, a14, a15, a16, a17, a18, a19, a20, a21, a22, a23, a24, a25, a26, a27, a28, a29, a30) x w := by
  have hi := qp_in4 h0 h1 hT
  unfold wpX_defineTable
  refine qp_nt_g h0 h1 (br_t rfl (br_f hw1 (br_t hw3 ⟨1, ?_⟩)))
  unfold wX_defineTable_25
  exact br_t (by decide) ⟨hi, nm_e ⟨hi, nm_e hp⟩⟩
theorem qp_at (t : Nat) : nI t * 30 + 0 * 3 = nI (t * 30) := by
  have e : (0 : Int32) * 3 = nI 0 := by decide
  have e' : (30 : Int32) = nI 30 := rfl
  rw [e, e', pk_mul, nI_add]
  rfl
theorem qp_add_b {post : Int32 → St2 → Prop} {x b c d : Int32} (h : x < 0 ∨ ¬ x < T) (hp : post (-1) (T, N, g2, g3, g4, g5, g6, g7, g8, a1, a2, a3, a4, a5, a6, a7, a8, a9, a10, a11, a12, a13, a14, a15, a16, a17, a18, a19, a20, a21, a22, a23, a24, a25, a26, a27, a28, a29, a30)) : wpX_addRow post (T, N, g2, g3, g4, g5, g6, g7, g8, a1, a2, a3, a4, a5, a6, a7, a8, a9, a10, a11, a12, a13, a14, a15, a16, a17, a18, a19, a20, a21, a22, a23, a24, a25, a26, a27, a28, a29, a30) x b c d := by
  unfold wpX_addRow
  exact qp_nt_b h (br_f (by decide) hp)
theorem qp_add_g {post : Int32 → St2 → Prop} {x b c d : Int32} (h0 : ¬ x < 0) (h1 : x < T) (hT : T ≤ 4) (hz : a2 x.toNatClampNeg = 0)
    (hp : ∀ a, post 0 (T, N, g2, g3, g4, g5, g6, g7, g8, a1, upd a2 x.toNatClampNeg 1, a, a4, a5, a6, a7, a8, a9, a10, a11, a12, a13, a14, a15, a16, a17, a18, a19, a20, a21, a22, a23, a24, a25, a26, a27, a28, a29, a30)) : wpX_addRow post (T, N, g2, g3, g4, g5, g6, g7, g8, a1, a2, a3, a4, a5, a6, a7, a8, a9, a10, a11, a12, a13, a14, a15, a16, a17, a18, a19, a20, a21, a22, a23, a24, a25, a26, a27, a28, a29, a30) x b c d := by
  have hi := qp_in4 h0 h1 hT
  obtain ⟨t, ht, hx⟩ := qp_four h0 h1 hT
  have e6 : x * 30 + 0 * 3 = nI (t * 30) := by rw [hx]; exact qp_at t
  unfold wpX_addRow
  refine qp_nt_g h0 h1 (br_t rfl ⟨hi, nm_r hz (br_t (by decide) (nm_r e6 ⟨pk_in (t * 30) 120 (by omega), nm_e ?_⟩))⟩)
  refine ⟨pk_in (t * 30 + 1) 120 (by omega) (nI_1 _), nm_e ⟨pk_in (t * 30 + 2) 120 (by omega) (nI_add _ 2), nm_e ⟨hi, nm_r (e' := upd a2 x.toNatClampNeg 1) ?_ (hp _)⟩⟩⟩
  rw [show (0 : Int32) + 1 = 1 by decide]
theorem qp_set_b {post : Int32 → St2 → Prop} {x r c v : Int32} (h : x < 0 ∨ ¬ x < T) (hp : post (-1) (T, N, g2, g3, g4, g5, g6, g7, g8, a1, a2, a3, a4, a5, a6, a7, a8, a9, a10, a11, a12, a13, a14, a15, a16, a17, a18, a19, a20, a21, a22, a23, a24, a25, a26, a27, a28, a29, a30)) : wpX_setCell post (T, N, g2, g3, g4, g5, g6, g7, g8, a1, a2, a3, a4, a5, a6, a7, a8, a9, a10, a11, a12, a13, a14, a15, a16, a17, a18, a19, a20, a21, a22, a23, a24, a25, a26, a27, a28, a29, a30) x r c v := by
  unfold wpX_setCell
  exact qp_nt_b h (br_f (by decide) hp)
theorem qp_set_r {post : Int32 → St2 → Prop} {x r c v : Int32} (h0 : ¬ x < 0) (h1 : x < T) (hT : T ≤ 4) (h2 : a2 x.toNatClampNeg = 1) (hr : r ≠ 0)
    (hp : post (-12) (T, N, g2, g3, g4, g5, g6, g7, g8, a1, a2, a3, a4, a5, a6, a7, a8, a9, a10, a11, a12, a13, a14, a15, a16, a17, a18, a19, a20, a21, a22, a23, a24, a25, a26, a27, a28, a29, a30)) : wpX_setCell post (T, N, g2, g3, g4, g5, g6, g7, g8, a1, a2, a3, a4, a5, a6, a7, a8, a9, a10, a11, a12, a13, a14, a15, a16, a17, a18, a19, a20, a21, a22, a23, a24, a25, a26, a27, a28, a29, a30) x r c v := by
  have hi := qp_in4 h0 h1 hT
  unfold wpX_setCell
  refine qp_nt_g h0 h1 (br_t rfl ?_)
  by_cases g : r < 0
  · exact br_t g hp
  · exact br_f g ⟨hi, br_f (by rw [h2]; exact qp_row g hr) hp⟩
theorem qp_set_c {post : Int32 → St2 → Prop} {x c v : Int32} (h0 : ¬ x < 0) (h1 : x < T) (hT : T ≤ 4) (h2 : a2 x.toNatClampNeg = 1) (hc : c < 0 ∨ ¬ c < a1 x.toNatClampNeg)
    (hp : post (-3) (T, N, g2, g3, g4, g5, g6, g7, g8, a1, a2, a3, a4, a5, a6, a7, a8, a9, a10, a11, a12, a13, a14, a15, a16, a17, a18, a19, a20, a21, a22, a23, a24, a25, a26, a27, a28, a29, a30)) : wpX_setCell post (T, N, g2, g3, g4, g5, g6, g7, g8, a1, a2, a3, a4, a5, a6, a7, a8, a9, a10, a11, a12, a13, a14, a15, a16, a17, a18, a19, a20, a21, a22, a23, a24, a25, a26, a27, a28, a29, a30) x 0 c v := by
  have hi := qp_in4 h0 h1 hT
  unfold wpX_setCell
  refine qp_nt_g h0 h1 (br_t rfl (br_f (by decide) ⟨hi, br_t (by rw [h2]; decide) ?_⟩))
  by_cases g : c < 0
  · exact br_t g hp
  · exact br_f g ⟨hi, br_f (hc.resolve_left g) hp⟩
theorem qp_set_g {post : Int32 → St2 → Prop} {x c v : Int32} (h0 : ¬ x < 0) (h1 : x < T) (hT : T ≤ 4) (h2 : a2 x.toNatClampNeg = 1) (hc0 : ¬ c < 0) (hc : c < a1 x.toNatClampNeg)
    (hw : a1 x.toNatClampNeg ≤ 4) (hp : ∀ a, post 0 (T, N, g2, g3, g4, g5, g6, g7, g8, a1, a2, a, a4, a5, a6, a7, a8, a9, a10, a11, a12, a13, a14, a15, a16, a17, a18, a19, a20, a21, a22, a23, a24, a25, a26, a27, a28, a29, a30)) : wpX_setCell post (T, N, g2, g3, g4, g5, g6, g7, g8, a1, a2, a3, a4, a5, a6, a7, a8, a9, a10, a11, a12, a13, a14, a15, a16, a17, a18, a19, a20, a21, a22, a23, a24, a25, a26, a27, a28, a29, a30) x 0 c v := by
  have hi := qp_in4 h0 h1 hT
  obtain ⟨t, ht, hx⟩ := qp_four h0 h1 hT
  obtain ⟨k, hk, hck⟩ := qp_four hc0 hc hw
  have e : x * 30 + 0 * 3 + c = nI (t * 30 + k) := by rw [hx, hck, qp_at, nI_add]
  unfold wpX_setCell
  exact qp_nt_g h0 h1 (br_t rfl (br_f (by decide) ⟨hi, br_t (by rw [h2]; decide) (br_f hc0 ⟨hi, br_t hc ⟨pk_in (t * 30 + k) 120 (by omega) e, nm_e (hp _)⟩⟩)⟩))
theorem qp_run {post : Int32 → St2 → Prop} {r : Int32} (hp : post (-4) (T, 0, g2, g3, g4, g5, g6, g7, g8, a1, a2, a3, a4, a5, a6, a7, a8, a9, a10, a11, a12, a13, a14, a15, a16, a17, a18, a19, a20, a21, a22, a23, a24, a25, a26, a27, a28, a29, a30)) : wpX_run post (T, 0, g2, g3, g4, g5, g6, g7, g8, a1, a2, a3, a4, a5, a6, a7, a8, a9, a10, a11, a12, a13, a14, a15, a16, a17, a18, a19, a20, a21, a22, a23, a24, a25, a26, a27, a28, a29, a30) r := by
  unfold wpX_run wpX_noNode
  by_cases g : r < 0
  · exact br_t g (br_f (by decide) hp)
  · exact br_f g (br_f g (br_f (by decide) hp))
theorem qp_drop_b {post : Int32 → St2 → Prop} {x r : Int32} (h : x < 0 ∨ ¬ x < T) (hp : post (-1) (T, N, g2, g3, g4, g5, g6, g7, g8, a1, a2, a3, a4, a5, a6, a7, a8, a9, a10, a11, a12, a13, a14, a15, a16, a17, a18, a19, a20, a21, a22, a23, a24, a25, a26, a27, a28, a29, a30)) : wpX_dropRow post (T, N, g2, g3, g4, g5, g6, g7, g8, a1, a2, a3, a4, a5, a6, a7, a8, a9, a10, a11, a12, a13, a14, a15, a16, a17, a18, a19, a20, a21, a22, a23, a24, a25, a26, a27, a28, a29, a30) x r := by
  unfold wpX_dropRow
  exact qp_nt_b h (br_f (by decide) hp)
theorem qp_drop_r {post : Int32 → St2 → Prop} {x r : Int32} (h0 : ¬ x < 0) (h1 : x < T) (hT : T ≤ 4) (h2 : a2 x.toNatClampNeg = 1) (hr : r ≠ 0)
    (hp : post (-12) (T, N, g2, g3, g4, g5, g6, g7, g8, a1, a2, a3, a4, a5, a6, a7, a8, a9, a10, a11, a12, a13, a14, a15, a16, a17, a18, a19, a20, a21, a22, a23, a24, a25, a26, a27, a28, a29, a30)) : wpX_dropRow post (T, N, g2, g3, g4, g5, g6, g7, g8, a1, a2, a3, a4, a5, a6, a7, a8, a9, a10, a11, a12, a13, a14, a15, a16, a17, a18, a19, a20, a21, a22, a23, a24, a25, a26, a27, a28, a29, a30) x r := by
  have hi := qp_in4 h0 h1 hT
  unfold wpX_dropRow
  refine qp_nt_g h0 h1 (br_t rfl ⟨hi, nm_r h2 ?_⟩)
  by_cases g : r < 0
  · exact br_t g hp
  · exact br_f g (br_f (qp_row g hr) hp)
theorem qp_drop_g {post : Int32 → St2 → Prop} {x : Int32} (h0 : ¬ x < 0) (h1 : x < T) (hT : T ≤ 4) (h2 : a2 x.toNatClampNeg = 1)
    (hp : post 0 (T, N, g2, g3, g4, g5, g6, g7, g8, a1, upd a2 x.toNatClampNeg 0, a3, a4, a5, a6, a7, a8, a9, a10, a11, a12, a13, a14, a15, a16, a17, a18, a19, a20, a21, a22, a23, a24, a25, a26, a27, a28, a29, a30)) : wpX_dropRow post (T, N, g2, g3, g4, g5, g6, g7, g8, a1, a2, a3, a4, a5, a6, a7, a8, a9, a10, a11, a12, a13, a14, a15, a16, a17, a18, a19, a20, a21, a22, a23, a24, a25, a26, a27, a28, a29, a30) x 0 := by
  have hi := qp_in4 h0 h1 hT
  unfold wpX_dropRow
  refine qp_nt_g h0 h1 (br_t rfl ⟨hi, nm_r h2 (br_f (by decide) (br_t (by decide) (nm_e (nm_e ⟨1, ?_⟩))))⟩)
  unfold wX_dropRow_40
  refine br_t (by decide) ⟨hi, nm_e ?_⟩
  rw [show (1 : Int32) - 1 = 0 by decide]
  exact hp
theorem qp_rows_b {post : Int32 → Prop} {x : Int32} (h : x < 0 ∨ ¬ x < T) (hp : post (-1)) : wpX_tableRows post (T, N, g2, g3, g4, g5, g6, g7, g8, a1, a2, a3, a4, a5, a6, a7, a8, a9, a10, a11, a12, a13, a14, a15, a16, a17, a18, a19, a20, a21, a22, a23, a24, a25, a26, a27, a28, a29, a30) x := by
  unfold wpX_tableRows
  exact qp_nt_b h (br_f (by decide) hp)
theorem qp_rows_g {post : Int32 → Prop} {x : Int32} (h0 : ¬ x < 0) (h1 : x < T) (hT : T ≤ 4) (hp : post (a2 x.toNatClampNeg)) : wpX_tableRows post (T, N, g2, g3, g4, g5, g6, g7, g8, a1, a2, a3, a4, a5, a6, a7, a8, a9, a10, a11, a12, a13, a14, a15, a16, a17, a18, a19, a20, a21, a22, a23, a24, a25, a26, a27, a28, a29, a30) x := by
  unfold wpX_tableRows
  exact qp_nt_g h0 h1 (br_t rfl ⟨qp_in4 h0 h1 hT, hp⟩)
theorem qp_fill {s : Nat → Int32} {i k : Nat} (hk : k = i) (h : ∀ j, j < i → s j = 2) : ∀ j, j < i + 1 → upd s k 2 j = 2 := by
  intro j hj
  rw [hk]
  by_cases e : j = i
  · rw [e, pk_us]
  · rw [pk_un e]
    exact h j (by omega)
theorem qp_273 {post : St2 → Prop} {mc ms kc ks : Nat} (hp : ∀ a, (∀ j, j < 4 → a j = 2) → post (T, N, g2, g3, g4, g5, g6, g7, g8, a, a2, a3, a4, a5, a6, a7, a8, a9, a10, a11, a12, a13, a14, a15, a16, a17, a18, a19, a20, a21, a22, a23, a24, a25, a26, a27, a28, a29, a30)) :
    ∃ n, wX_init_273 post mc ms kc ks T N g2 g3 g4 g5 g6 g7 g8 n 0 a1 a2 a3 a4 a5 a6 a7 a8 a9 a10 a11 a12 a13 a14 a15 a16 a17 a18 a19 a20 a21 a22 a23 a24 a25 a26 a27 a28 a29 a30 :=
  pk_loop (fun n i s => wX_init_273 post mc ms kc ks T N g2 g3 g4 g5 g6 g7 g8 n (nI i) s a2 a3 a4 a5 a6 a7 a8 a9 a10 a11 a12 a13 a14 a15 a16 a17 a18 a19 a20 a21 a22 a23 a24 a25 a26 a27 a28 a29 a30) (fun i s => ∀ j, j < i → s j = 2) 4 0 a1 (by omega) (fun j hj => absurd hj (by omega))
    (fun n s h => pk_le 4 4 (fun _ => hp s h) (fun z => absurd z (by omega)))
    (fun n i s hi h hw => pk_le 4 i (fun z => absurd z (by omega)) (fun _ => ⟨pk_in i 4 hi, nm_e (nm_r (nI_1 i) (hw _ (qp_fill (nI_clamp (by omega)) h)))⟩))
end
end
section
section
variable {T N g2 g3 g4 g5 g6 g7 g8 : Int32} {a1 a2 a3 a4 a5 a6 a7 a8 a9 a10 a11 a12 a13 a14 a15 a16 a17 a18 a19 a20 a21 a22 a23 a24 a25 a26 a27 a28 a29 a30 : Nat → Int32}
variable {post : Int32 → St0 → Prop} {mc ms kc ks : Nat} {x1 x2 x3 x4 x5 : Int32}
/-! a table that doesn't stand: every call answers -1, the run -4 -/
theorem qp_237_b (hp : post 1 ()) (h : x1 < 0 ∨ ¬ x1 < T) : wL_lawOf_237 post mc ms x1 x3 1 (-1) (-1) kc ks T N g2 g3 g4 g5 g6 g7 g8 a1 a2 a3 a4 a5 a6 a7 a8 a9 a10 a11 a12 a13 a14 a15 a16 a17 a18 a19 a20 a21 a22 a23 a24 a25 a26 a27 a28 a29 a30 := by
  unfold wL_lawOf_237
  refine br_t rfl (qp_rows_b h (br_f (by decide) ?_))
  unfold wL_lawOf_266
  exact br_t rfl hp
theorem qp_180_b (hp : post 1 ()) (h : x1 < 0 ∨ ¬ x1 < T) : wL_lawOf_180 post mc ms x1 x3 x4 x5 1 (-1) kc ks T 0 g2 g3 g4 g5 g6 g7 g8 a1 a2 a3 a4 a5 a6 a7 a8 a9 a10 a11 a12 a13 a14 a15 a16 a17 a18 a19 a20 a21 a22 a23 a24 a25 a26 a27 a28 a29 a30 := by
  unfold wL_lawOf_180
  exact qp_set_b h (br_t rfl (qp_run (br_t rfl (qp_drop_b h (br_f (by decide) (qp_237_b hp h))))))
theorem qp_134_b {x10 : Int32} (hp : post 1 ()) (h : x1 < 0 ∨ ¬ x1 < T) : wL_lawOf_134 post mc ms x1 x3 x4 x5 1 x10 (-1) (-1) kc ks T 0 g2 g3 g4 g5 g6 g7 g8 a1 a2 a3 a4 a5 a6 a7 a8 a9 a10 a11 a12 a13 a14 a15 a16 a17 a18 a19 a20 a21 a22 a23 a24 a25 a26 a27 a28 a29 a30 := by
  unfold wL_lawOf_134
  exact br_t rfl (br_f (by decide) (qp_180_b hp h))
theorem qp_97_b {x10 : Int32} (hp : post 1 ()) (h : x1 < 0 ∨ ¬ x1 < T) : wL_lawOf_97 post mc ms x1 x2 x3 x4 x5 1 x10 (-1) kc ks T 0 g2 g3 g4 g5 g6 g7 g8 a1 a2 a3 a4 a5 a6 a7 a8 a9 a10 a11 a12 a13 a14 a15 a16 a17 a18 a19 a20 a21 a22 a23 a24 a25 a26 a27 a28 a29 a30 := by
  unfold wL_lawOf_97
  exact qp_def_b h (br_t rfl (qp_add_b h (br_f (by decide) (qp_134_b hp h))))
theorem qp_75_b {x9 z : Int32} (hp : post 1 ()) (h : x1 < 0 ∨ ¬ x1 < T) : wL_lawOf_75 post mc ms x1 x2 x3 x4 x5 1 x9 z kc ks T 0 g2 g3 g4 g5 g6 g7 g8 a1 a2 a3 a4 a5 a6 a7 a8 a9 a10 a11 a12 a13 a14 a15 a16 a17 a18 a19 a20 a21 a22 a23 a24 a25 a26 a27 a28 a29 a30 := by
  unfold wL_lawOf_75
  exact br_f (by decide) (qp_97_b hp h)
theorem qp_63_b {z : Int32} (hp : post 1 ()) (h : x1 < 0 ∨ ¬ x1 < T) : wL_lawOf_63 post mc ms x1 x2 x3 x4 x5 1 z kc ks T 0 g2 g3 g4 g5 g6 g7 g8 a1 a2 a3 a4 a5 a6 a7 a8 a9 a10 a11 a12 a13 a14 a15 a16 a17 a18 a19 a20 a21 a22 a23 a24 a25 a26 a27 a28 a29 a30 := by
  unfold wL_lawOf_63
  exact br_c (fun _ => qp_75_b hp h) (fun _ => qp_75_b hp h)
theorem qp_46_b (hp : post 1 ()) (h : x1 < 0 ∨ ¬ x1 < T) : wL_lawOf_46 post mc ms x1 x2 x3 x4 x5 1 kc ks T 0 g2 g3 g4 g5 g6 g7 g8 a1 a2 a3 a4 a5 a6 a7 a8 a9 a10 a11 a12 a13 a14 a15 a16 a17 a18 a19 a20 a21 a22 a23 a24 a25 a26 a27 a28 a29 a30 := by
  unfold wL_lawOf_46 wL_lawOf_62
  exact br_c (fun _ => qp_63_b hp h) (fun _ => br_c (fun _ => qp_63_b hp h) (fun _ => qp_63_b hp h))
/-! a table that stands -/
theorem qp_237_g {z : Int32} (hp : post 1 ()) (h0 : ¬ x1 < 0) (h1 : x1 < T) (hT : T ≤ 4) (h2 : a2 x1.toNatClampNeg = if x3 = 0 then 0 else 1) :
    wL_lawOf_237 post mc ms x1 x3 0 z z kc ks T N g2 g3 g4 g5 g6 g7 g8 a1 a2 a3 a4 a5 a6 a7 a8 a9 a10 a11 a12 a13 a14 a15 a16 a17 a18 a19 a20 a21 a22 a23 a24 a25 a26 a27 a28 a29 a30 := by
  unfold wL_lawOf_237 wL_lawOf_266
  refine br_t rfl (qp_rows_g h0 h1 hT (br_t rfl ?_))
  rw [h2]
  by_cases g : x3 = 0
  · rw [if_pos g]
    exact br_t g (br_t rfl hp)
  · rw [if_neg g]
    exact br_f g (br_t rfl hp)
/-- from the run on, the table holds one row -/
theorem qp_180_t (hp : post 1 ()) (h0 : ¬ x1 < 0) (h1 : x1 < T) (hT : T ≤ 4) (h2 : a2 x1.toNatClampNeg = 1) (psi : Int32 → St2 → Prop)
    (hq : ∀ r b1 b2 b3, (x3 = 0 → r = 0 ∧ b2 x1.toNatClampNeg = 0) → (x3 ≠ 0 → r = -12 ∧ b2 x1.toNatClampNeg = 1) → psi r (T, 0, g2, g3, g4, g5, g6, g7, g8, b1, b2, b3, a4, a5, a6, a7, a8, a9, a10, a11, a12, a13, a14, a15, a16, a17, a18, a19, a20, a21, a22, a23, a24, a25, a26, a27, a28, a29, a30)) : wpX_dropRow psi (T, 0, g2, g3, g4, g5, g6, g7, g8, a1, a2, a3, a4, a5, a6, a7, a8, a9, a10, a11, a12, a13, a14, a15, a16, a17, a18, a19, a20, a21, a22, a23, a24, a25, a26, a27, a28, a29, a30) x1 x3 := by
  by_cases g : x3 = 0
  · subst g
    exact qp_drop_g h0 h1 hT h2 (hq _ _ _ _ (fun _ => ⟨rfl, pk_us⟩) (fun z => absurd rfl z))
  · exact qp_drop_r h0 h1 hT h2 g (hq _ _ _ _ (fun z => absurd z g) (fun _ => ⟨rfl, h2⟩))
/-- the law behind a setCell that answered as it should -/
theorem qp_tail (hp : post 1 ()) (h0 : ¬ x1 < 0) (h1 : x1 < T) (hT : T ≤ 4) (h2 : a2 x1.toNatClampNeg = 1) {psi : Int32 → St2 → Prop}
    (hq : ∀ r b1 b2 b3, (x3 = 0 → wL_lawOf_237 post mc ms x1 x3 0 0 r kc ks T 0 g2 g3 g4 g5 g6 g7 g8 b1 b2 b3 a4 a5 a6 a7 a8 a9 a10 a11 a12 a13 a14 a15 a16 a17 a18 a19 a20 a21 a22 a23 a24 a25 a26 a27 a28 a29 a30) → (¬ x3 = 0 → wL_lawOf_237 post mc ms x1 x3 0 (-12) r kc ks T 0 g2 g3 g4 g5 g6 g7 g8 b1 b2 b3 a4 a5 a6 a7 a8 a9 a10 a11 a12 a13 a14 a15 a16 a17 a18 a19 a20 a21 a22 a23 a24 a25 a26 a27 a28 a29 a30) → psi r (T, 0, g2, g3, g4, g5, g6, g7, g8, b1, b2, b3, a4, a5, a6, a7, a8, a9, a10, a11, a12, a13, a14, a15, a16, a17, a18, a19, a20, a21, a22, a23, a24, a25, a26, a27, a28, a29, a30)) : wpX_dropRow psi (T, 0, g2, g3, g4, g5, g6, g7, g8, a1, a2, a3, a4, a5, a6, a7, a8, a9, a10, a11, a12, a13, a14, a15, a16, a17, a18, a19, a20, a21, a22, a23, a24, a25, a26, a27, a28, a29, a30) x1 x3 :=
  qp_180_t hp h0 h1 hT h2 psi (fun r b1 b2 b3 e1 e2 => hq r b1 b2 b3
    (fun g => by rw [(e1 g).1]; exact qp_237_g hp h0 h1 hT (by rw [if_pos g]; exact (e1 g).2))
    (fun g => by rw [(e2 g).1]; exact qp_237_g hp h0 h1 hT (by rw [if_neg g]; exact (e2 g).2)))
theorem qp_180_r (hp : post 1 ()) (h0 : ¬ x1 < 0) (h1 : x1 < T) (hT : T ≤ 4) (h2 : a2 x1.toNatClampNeg = 1) (hr : x3 ≠ 0) :
    wL_lawOf_180 post mc ms x1 x3 x4 x5 0 (-12) kc ks T 0 g2 g3 g4 g5 g6 g7 g8 a1 a2 a3 a4 a5 a6 a7 a8 a9 a10 a11 a12 a13 a14 a15 a16 a17 a18 a19 a20 a21 a22 a23 a24 a25 a26 a27 a28 a29 a30 := by
  unfold wL_lawOf_180
  exact qp_set_r h0 h1 hT h2 hr (br_t rfl (qp_run (br_t rfl (qp_tail hp h0 h1 hT h2 (fun r b1 b2 b3 k1 k2 => br_t rfl ⟨k1, k2⟩)))))
theorem qp_180_c (hp : post 1 ()) (h0 : ¬ x1 < 0) (h1 : x1 < T) (hT : T ≤ 4) (h2 : a2 x1.toNatClampNeg = 1) (hc : x4 < 0 ∨ ¬ x4 < a1 x1.toNatClampNeg) :
    wL_lawOf_180 post mc ms x1 0 x4 x5 0 (-3) kc ks T 0 g2 g3 g4 g5 g6 g7 g8 a1 a2 a3 a4 a5 a6 a7 a8 a9 a10 a11 a12 a13 a14 a15 a16 a17 a18 a19 a20 a21 a22 a23 a24 a25 a26 a27 a28 a29 a30 := by
  unfold wL_lawOf_180
  exact qp_set_c h0 h1 hT h2 hc (br_t rfl (qp_run (br_t rfl (qp_tail hp h0 h1 hT h2 (fun r b1 b2 b3 k1 k2 => br_t rfl ⟨k1, k2⟩)))))
theorem qp_180_g (hp : post 1 ()) (h0 : ¬ x1 < 0) (h1 : x1 < T) (hT : T ≤ 4) (h2 : a2 x1.toNatClampNeg = 1) (hc0 : ¬ x4 < 0) (hc : x4 < a1 x1.toNatClampNeg) (hw : a1 x1.toNatClampNeg ≤ 4) :
    wL_lawOf_180 post mc ms x1 0 x4 x5 0 0 kc ks T 0 g2 g3 g4 g5 g6 g7 g8 a1 a2 a3 a4 a5 a6 a7 a8 a9 a10 a11 a12 a13 a14 a15 a16 a17 a18 a19 a20 a21 a22 a23 a24 a25 a26 a27 a28 a29 a30 := by
  unfold wL_lawOf_180
  exact qp_set_g h0 h1 hT h2 hc0 hc hw (fun a => br_t rfl (qp_run (br_t rfl (qp_tail hp h0 h1 hT h2 (fun r b1 b2 b3 k1 k2 => br_t rfl ⟨k1, k2⟩)))))
theorem qp_134_g {x10 : Int32} (hp : post 1 ()) (h0 : ¬ x1 < 0) (h1 : x1 < T) (hT : T ≤ 4) (h2 : a2 x1.toNatClampNeg = 1) (hx : a1 x1.toNatClampNeg = x10) (hw : x10 ≤ 4) :
    wL_lawOf_134 post mc ms x1 x3 x4 x5 0 x10 0 0 kc ks T 0 g2 g3 g4 g5 g6 g7 g8 a1 a2 a3 a4 a5 a6 a7 a8 a9 a10 a11 a12 a13 a14 a15 a16 a17 a18 a19 a20 a21 a22 a23 a24 a25 a26 a27 a28 a29 a30 := by
  subst hx
  unfold wL_lawOf_134 wL_lawOf_176
  refine br_t rfl (br_t rfl ?_)
  by_cases g : x3 = 0
  · subst g
    exact br_t rfl (br_c (fun z => qp_180_c hp h0 h1 hT h2 (Or.inl z)) (fun z => br_c (fun y => qp_180_g hp h0 h1 hT h2 z y hw) (fun y => qp_180_c hp h0 h1 hT h2 (Or.inr y))))
  · exact br_f g (qp_180_r hp h0 h1 hT h2 g)
theorem qp_97_w (hp : post 1 ()) (h0 : ¬ x1 < 0) (h1 : x1 < T) (hT : T ≤ 4) (ha : a1 x1.toNatClampNeg = 2) (hz : a2 x1.toNatClampNeg = 0) (hw : x2 < 1 ∨ ¬ x2 ≤ 3) :
    wL_lawOf_97 post mc ms x1 x2 x3 x4 x5 0 2 (-2) kc ks T 0 g2 g3 g4 g5 g6 g7 g8 a1 a2 a3 a4 a5 a6 a7 a8 a9 a10 a11 a12 a13 a14 a15 a16 a17 a18 a19 a20 a21 a22 a23 a24 a25 a26 a27 a28 a29 a30 := by
  unfold wL_lawOf_97
  exact qp_def_w h0 h1 hw (br_t rfl (qp_add_g h0 h1 hT hz (fun a => br_t rfl (qp_134_g hp h0 h1 hT pk_us ha (by decide)))))
theorem qp_97_g (hp : post 1 ()) (h0 : ¬ x1 < 0) (h1 : x1 < T) (hT : T ≤ 4) (hw1 : ¬ x2 < 1) (hw3 : x2 ≤ 3) (hw4 : x2 ≤ 4) :
    wL_lawOf_97 post mc ms x1 x2 x3 x4 x5 0 x2 0 kc ks T 0 g2 g3 g4 g5 g6 g7 g8 a1 a2 a3 a4 a5 a6 a7 a8 a9 a10 a11 a12 a13 a14 a15 a16 a17 a18 a19 a20 a21 a22 a23 a24 a25 a26 a27 a28 a29 a30 := by
  unfold wL_lawOf_97
  exact qp_def_g h0 h1 hT hw1 hw3 (br_t rfl (qp_add_g h0 h1 hT pk_us (fun a => br_t rfl (qp_134_g hp h0 h1 hT pk_us pk_us hw4))))
theorem qp_3lt {x : Int32} (h : ¬ 3 < x) : x ≤ 3 := by
  rw [Int32.lt_iff_toInt_lt] at h
  rw [Int32.le_iff_toInt_le]
  omega
theorem qp_3gt {x : Int32} (h : 3 < x) : ¬ x ≤ 3 := by
  rw [Int32.lt_iff_toInt_lt] at h
  rw [Int32.le_iff_toInt_le]
  omega
theorem qp_34 {x : Int32} (h : x ≤ 3) : x ≤ 4 := by
  rw [Int32.le_iff_toInt_le] at h
  rw [Int32.le_iff_toInt_le]
  have e3 : (3 : Int32).toInt = 3 := by decide
  have e4 : (4 : Int32).toInt = 4 := by decide
  omega
theorem qp_62_w (hp : post 1 ()) (h0 : ¬ x1 < 0) (h1 : x1 < T) (hT : T ≤ 4) (ha : a1 x1.toNatClampNeg = 2) (hz : a2 x1.toNatClampNeg = 0) (hw : x2 < 1 ∨ ¬ x2 ≤ 3) :
    wL_lawOf_62 post mc ms x1 x2 x3 x4 x5 0 kc ks T 0 g2 g3 g4 g5 g6 g7 g8 a1 a2 a3 a4 a5 a6 a7 a8 a9 a10 a11 a12 a13 a14 a15 a16 a17 a18 a19 a20 a21 a22 a23 a24 a25 a26 a27 a28 a29 a30 := by
  unfold wL_lawOf_62 wL_lawOf_63 wL_lawOf_75
  exact br_t rfl (br_t rfl (br_t rfl (qp_97_w hp h0 h1 hT ha hz hw)))
theorem qp_46_g (hp : post 1 ()) (h0 : ¬ x1 < 0) (h1 : x1 < T) (hT : T ≤ 4) (ha : a1 x1.toNatClampNeg = 2) (hz : a2 x1.toNatClampNeg = 0) :
    wL_lawOf_46 post mc ms x1 x2 x3 x4 x5 0 kc ks T 0 g2 g3 g4 g5 g6 g7 g8 a1 a2 a3 a4 a5 a6 a7 a8 a9 a10 a11 a12 a13 a14 a15 a16 a17 a18 a19 a20 a21 a22 a23 a24 a25 a26 a27 a28 a29 a30 := by
  unfold wL_lawOf_46
  refine br_c (fun g => qp_62_w hp h0 h1 hT ha hz (Or.inl g)) (fun g => br_c (fun g3 => qp_62_w hp h0 h1 hT ha hz (Or.inr (qp_3gt g3))) (fun g3 => ?_))
  unfold wL_lawOf_63 wL_lawOf_75
  exact br_f (by decide) (br_t rfl (br_f (by decide) (qp_97_g hp h0 h1 hT g (qp_3lt g3) (qp_34 (qp_3lt g3)))))
theorem qp_29 (hp : post 1 ()) (hT : T ≤ 4) (ha : ∀ j, j < 4 → a1 j = 2) (hz : ∀ j, a2 j = 0) :
    wL_lawOf_29 post mc ms x1 x2 x3 x4 x5 T kc ks T 0 g2 g3 g4 g5 g6 g7 g8 a1 a2 a3 a4 a5 a6 a7 a8 a9 a10 a11 a12 a13 a14 a15 a16 a17 a18 a19 a20 a21 a22 a23 a24 a25 a26 a27 a28 a29 a30 := by
  unfold wL_lawOf_29 wL_lawOf_41
  exact br_c (fun g => qp_46_b hp (Or.inl g)) (fun g => br_c (fun y => qp_46_g hp g y hT (ha _ (qp_lt4 g y hT)) (hz _)) (fun y => qp_46_b hp (Or.inr y)))
end
end
section
section
theorem qp_init {post : St2 → Prop} {p : Int32} (hp : ∀ T a, T ≤ 4 → (1 ≤ p → p ≤ 4 → T = p) → (1 ≤ p → ¬ p ≤ 4 → T = 4) → (¬ 1 ≤ p → T = 1) → (∀ j, j < 4 → a j = 2) →
    post (T, 0, 0, 0, 0, 0, 0, 0, 0, a, fun _ => 0, fun _ => 0, fun _ => 0, fun _ => 0, fun _ => 0, fun _ => 0, fun _ => 0, fun _ => 0, fun _ => 0, fun _ => 0, fun _ => 0, fun _ => 0, fun _ => 0, fun _ => 0, fun _ => 0, fun _ => 0, fun _ => 0, fun _ => 0, fun _ => 0, fun _ => 0, fun _ => 0, fun _ => 0, fun _ => 0, fun _ => 0, fun _ => 0, fun _ => 0, fun _ => 0, fun _ => 0, fun _ => 0)) :
    wpX_init post 30 3652 (0, 0, 0, 0, 0, 0, 0, 0, 0) p := by
  unfold wpX_init wX_init_259
  refine ⟨by omega, by omega, by omega, by omega, by omega, by omega, by omega, by omega, by omega, by omega, by omega, by omega, by omega, by omega, by omega, by omega, by omega, by omega, by omega, by omega, by omega, by omega, by omega, by omega, by omega, by omega, by omega, by omega, by omega, by omega, by omega, by omega, by omega, by omega, by omega, by omega, by omega, by omega, by omega, by omega, by omega, by omega, by omega, by omega, by omega, by omega, by omega, by omega, by omega, by omega, by omega, by omega, by omega, by omega, by omega, by omega, by omega, by omega, by omega, by omega, ?_⟩
  refine br_c (fun g => br_c (fun y => qp_273 (fun a ha => hp _ a y (fun _ _ => rfl) (fun _ z => absurd y z) (fun z => absurd g z) ha)) (fun y => qp_273 (fun a ha => hp _ a (by decide) (fun _ z => absurd z y) (fun _ _ => rfl) (fun z => absurd g z) ha))) (fun g => ?_)
  exact br_t (by decide) (qp_273 (fun a ha => hp _ a (by decide) (fun z => absurd z g) (fun z => absurd z g) (fun _ => rfl) ha))
theorem qp_lawOf {post : Int32 → St0 → Prop} (hp : post 1 ()) (p0 p1 p2 p3 p4 p5 : Int32) : wpL_lawOf post 31 3691 () p0 p1 p2 p3 p4 p5 := by
  unfold wpL_lawOf
  refine ⟨by omega, by omega, 30, 3652, by omega, by omega, qp_init (fun T a hT e1 e2 e3 ha => ?_)⟩
  refine br_c (fun g => br_c (fun y => ?_) (fun y => ?_)) (fun g => ?_)
  · have e := e1 g y
    subst e
    exact qp_29 hp hT ha (fun _ => rfl)
  · have e := e2 g y
    subst e
    exact qp_29 hp hT ha (fun _ => rfl)
  · have e := e3 g
    subst e
    exact qp_29 hp hT ha (fun _ => rfl)
theorem qp_cell {post : Int32 → Prop} {L : Nat} {xs : Nat → Int32} {u : St0} {x : Int32} (k : Nat) (hx : x = nI k) (hk : k < 6) (hL : L ≤ 6) (hp : ∀ r, post r) : wpL_cellAt post L xs u x := by
  unfold wpL_cellAt
  exact pk_le L k (fun _ => hp _) (fun z => ⟨pk_in k L z hx, hp _⟩) rfl hx
theorem i_vc (xs : Nat → Int32) (L : Nat) (hL : L ≤ 6) : wpL_law (fun r => r = 1) L xs := by
  unfold wpL_law
  refine qp_cell 0 rfl (by omega) hL (fun r1 => qp_cell 1 rfl (by omega) hL (fun r2 => qp_cell 2 rfl (by omega) hL (fun r3 => qp_cell 3 rfl (by omega) hL (fun r4 => qp_cell 4 rfl (by omega) hL (fun r5 => qp_cell 5 rfl (by omega) hL (fun r6 => ?_))))))
  exact ⟨31, 3691, by omega, by omega, qp_lawOf (post := fun r _ => r = 1) rfl r1 r2 r3 r4 r5 r6⟩
end
end
