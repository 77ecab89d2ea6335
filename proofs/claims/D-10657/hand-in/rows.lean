section
/-! plain rows: places of the arrays as naturals -/
theorem sd_m16 (n : Nat) : nI n * 16 = nI (16 * n) := by
  show nI n * nI 16 = _
  rw [pk_mul, Nat.mul_comm]
theorem sd_m8 (n : Nat) : nI n * 8 = nI (8 * n) := by
  show nI n * nI 8 = _
  rw [pk_mul, Nat.mul_comm]
theorem sd_a16 (n b : Nat) : nI n * 16 + nI b = nI (16 * n + b) := by
  rw [sd_m16, nI_add]
theorem sd_a8 (n b : Nat) : nI n * 8 + nI b = nI (8 * n + b) := by
  rw [sd_m8, nI_add]
theorem sd_neg : (-1 : Int32) < 0 := by decide
theorem sd_neg' : ¬ (0 : Int32) ≤ -1 := by decide
theorem sd_neg4 : ¬ (0 : Int32) ≤ -4 := by decide
theorem sd_nm {k : Nat} (hk : k < 2 ^ 31) : nI k ≠ -1 := fun h => nI_pos hk (h ▸ sd_neg)
/-! the journal is empty: a block isn't found -/
theorem sd_j0 {post : Int32 → Prop} {f0 : Int32} {a1 a2 a3 a4 a5 a6 a7 a8 a9 a10 a11 a12 : Nat → Int32} {n : Nat} {x : Int32} (hn : n < 3) (h3 : a3 n = 0) (hp : post (-1)) :
    wpX_journaled post (f0, a1, a2, a3, a4, a5, a6, a7, a8, a9, a10, a11, a12) (nI n) x := by
  unfold wpX_journaled
  dsimp only
  refine nm_r (sd_m16 n) ⟨1, pk_in n 3 hn, br_t ?_ hp⟩
  rw [nI_clamp (by omega), h3, ← nI_0, sd_a16]
  exact nI_le (by omega) (by omega)
/-! cached: none, or the node's first cell -/
theorem sd_c0 {post : Int32 → Prop} {a1 a2 a3 a4 a5 a6 a7 a8 a9 a10 a11 a12 : Nat → Int32} {n r : Nat} {x : Int32} (hn : n < 3) (hr : r ≤ 8) (h9 : ∀ j, 8 * n ≤ j → j < 8 * n + r → a9 j ≠ x) (hp : post (-1)) :
    wpX_cached post (nI r, a1, a2, a3, a4, a5, a6, a7, a8, a9, a10, a11, a12) (nI n) x := by
  unfold wpX_cached
  dsimp only
  refine nm_r (sd_m8 n) ?_
  exact pk_loop (σ := Unit) (fun f i _ => wX_cached_5 post (nI n) x (nI r) a1 a2 a3 a4 a5 a6 a7 a8 a9 a10 a11 a12 f (nI i)) (fun i _ => 8 * n ≤ i) (8 * n + r) (8 * n) () (by omega) (Nat.le_refl _)
    (fun f _ _ => pk_le (8 * n + r) (8 * n + r) (fun _ => hp) (fun z => absurd z (by omega)) (hx := sd_a8 n r))
    (fun f i _ hi hI hw => pk_le (8 * n + r) i (fun z => absurd z (by omega)) (fun _ => ⟨pk_in i 24 (by omega), br_f (by rw [nI_clamp (by omega)]; exact h9 i hI hi) (nm_r (nI_1 i) (hw () (Nat.le_succ_of_le hI)))⟩) (hx := sd_a8 n r))
theorem sd_c1 {post : Int32 → Prop} {a1 a2 a3 a4 a5 a6 a7 a8 a9 a10 a11 a12 : Nat → Int32} {n r : Nat} {x : Int32} (hn : n < 3) (h0 : 0 < r) (hr : r ≤ 8) (h9 : a9 (8 * n) = x) (hp : post (nI (8 * n))) :
    wpX_cached post (nI r, a1, a2, a3, a4, a5, a6, a7, a8, a9, a10, a11, a12) (nI n) x := by
  unfold wpX_cached
  dsimp only
  refine nm_r (sd_m8 n) ⟨1, ?_⟩
  exact pk_le (8 * n + r) (8 * n) (fun z => absurd z (by omega)) (fun _ => ⟨pk_in (8 * n) 24 (by omega), br_t (by rw [nI_clamp (by omega)]; exact h9) hp⟩) (hx := sd_a8 n r)
/-! isUnsafe -/
theorem sd_i0 {post : Int32 → Prop} {a1 a2 a3 a4 a5 a6 a7 a8 a9 a10 a11 a12 : Nat → Int32} {n r : Nat} {x : Int32} (hn : n < 3) (hr : r ≤ 8) (h3 : a3 n = 0) (h9 : ∀ j, 8 * n ≤ j → j < 8 * n + r → a9 j ≠ x) (hp : post 0) :
    wpX_isUnsafe post (nI r, a1, a2, a3, a4, a5, a6, a7, a8, a9, a10, a11, a12) (nI n) x := by
  unfold wpX_isUnsafe
  dsimp only
  exact sd_j0 hn h3 (br_t sd_neg (sd_c0 hn hr h9 (br_t sd_neg hp)))
theorem sd_i1 {post : Int32 → Prop} {a1 a2 a3 a4 a5 a6 a7 a8 a9 a10 a11 a12 : Nat → Int32} {n r : Nat} {x : Int32} (hn : n < 3) (h0 : 0 < r) (hr : r ≤ 8) (h3 : a3 n = 0) (h9 : a9 (8 * n) = x) (h11 : ¬ a11 (8 * n) = 0) (hp : post 1) :
    wpX_isUnsafe post (nI r, a1, a2, a3, a4, a5, a6, a7, a8, a9, a10, a11, a12) (nI n) x := by
  unfold wpX_isUnsafe
  dsimp only
  exact sd_j0 hn h3 (br_t sd_neg (sd_c1 hn h0 hr h9 (br_f (nI_pos (by omega)) ⟨pk_in (8 * n) 24 (by omega), br_f (by rw [nI_clamp (by omega)]; exact h11) hp⟩)))
/-! unsafeCount -/
theorem sd_ul {post : Int32 → Prop} {a1 a2 a3 a4 a5 a6 a7 a8 a9 a10 a11 a12 : Nat → Int32} {n r i0 : Nat} {q : Int32} (hn : n < 3) (hr : r ≤ 8) (hi : i0 ≤ 8 * n + r) (h11 : ∀ j, i0 ≤ j → j < 8 * n + r → a11 j = 0) (hp : post q) :
    ∃ f, wX_unsafeCount_12 post (nI n) (nI r) a1 a2 a3 a4 a5 a6 a7 a8 a9 a10 a11 a12 f q (nI i0) :=
  pk_loop (σ := Unit) (fun f i _ => wX_unsafeCount_12 post (nI n) (nI r) a1 a2 a3 a4 a5 a6 a7 a8 a9 a10 a11 a12 f q (nI i)) (fun i _ => i0 ≤ i) (8 * n + r) i0 () hi (Nat.le_refl _)
    (fun f _ _ => pk_le (8 * n + r) (8 * n + r) (fun _ => hp) (fun z => absurd z (by omega)) (hx := sd_a8 n r))
    (fun f i _ hi hI hw => pk_le (8 * n + r) i (fun z => absurd z (by omega)) (fun _ => ⟨pk_in i 24 (by omega), br_t (by rw [nI_clamp (by omega)]; exact h11 i hI hi) (nm_r (nI_1 i) (hw () (Nat.le_succ_of_le hI)))⟩) (hx := sd_a8 n r))
theorem sd_u0 {post : Int32 → Prop} {a1 a2 a3 a4 a5 a6 a7 a8 a9 a10 a11 a12 : Nat → Int32} {n r : Nat} (hn : n < 3) (hr : r ≤ 8) (h3 : a3 n = 0) (h11 : ∀ j, 8 * n ≤ j → j < 8 * n + r → a11 j = 0) (hp : post 0) :
    wpX_unsafeCount post (nI r, a1, a2, a3, a4, a5, a6, a7, a8, a9, a10, a11, a12) (nI n) := by
  unfold wpX_unsafeCount
  dsimp only
  exact ⟨pk_in n 3 hn, nm_r (by rw [nI_clamp (by omega)]; exact h3) (nm_r (sd_m8 n) (sd_ul hn hr (by omega) h11 hp))⟩
theorem sd_u1 {post : Int32 → Prop} {a1 a2 a3 a4 a5 a6 a7 a8 a9 a10 a11 a12 : Nat → Int32} {n r : Nat} (hn : n < 3) (h0 : 0 < r) (hr : r ≤ 8) (h3 : a3 n = 0) (hd : ¬ a11 (8 * n) = 0) (h11 : ∀ j, 8 * n + 1 ≤ j → j < 8 * n + r → a11 j = 0) (hp : post 1) :
    wpX_unsafeCount post (nI r, a1, a2, a3, a4, a5, a6, a7, a8, a9, a10, a11, a12) (nI n) := by
  unfold wpX_unsafeCount
  dsimp only
  obtain ⟨f, hf⟩ := sd_ul (post := post) (a1 := a1) (a2 := a2) (a3 := a3) (a4 := a4) (a5 := a5) (a6 := a6) (a7 := a7) (a8 := a8) (a9 := a9) (a10 := a10) (a12 := a12) (q := 1) hn hr (show 8 * n + 1 ≤ 8 * n + r by omega) h11 hp
  refine ⟨pk_in n 3 hn, nm_r (e' := 0) (by rw [nI_clamp (by omega)]; exact h3) (nm_r (sd_m8 n) ⟨f + 1, ?_⟩)⟩
  refine pk_le (8 * n + r) (8 * n) (fun z => absurd z (by omega)) (fun _ => ⟨pk_in (8 * n) 24 (by omega), br_f (by rw [nI_clamp (by omega)]; exact hd) ⟨pk_in (8 * n) 24 (by omega), ?_⟩⟩) (hx := sd_a8 n r)
  exact sd_j0 hn h3 (br_f sd_neg' (nm_r (by rfl) (nm_r (nI_1 (8 * n)) hf)))
end
section
/-! a fresh object: the locks are free, the caches empty: write -/
theorem sd_take {post : St2 → Prop} {f0 : Int32} {a1 a2 a3 a4 a5 a6 a7 a8 a9 a10 a11 a12 : Nat → Int32} {n b : Nat} (hn : n < 3) (hb : b < 16) (h8 : ∀ j, j < 48 → a8 j = 0) (hp : post (f0, a1, a2, a3, a4, a5, a6, a7, upd a8 (16 * n + b) 2, a9, a10, a11, a12)) :
    wpX_take post (f0, a1, a2, a3, a4, a5, a6, a7, a8, a9, a10, a11, a12) (nI n) (nI b) 2 := by
  unfold wpX_take
  dsimp only
  have hx : ∀ m, (nI m * 16 + nI b).toNatClampNeg = 16 * m + b ∨ ¬ m < 3 := by
    intro m
    by_cases hm : m < 3
    · left
      rw [sd_a16, nI_clamp (by omega)]
    · exact Or.inr hm
  have hc : ∀ m, m < 3 → (nI m * 16 + nI b).toNatClampNeg = 16 * m + b := fun m hm => (hx m).resolve_right (fun z => z hm)
  have hv : ∀ m, m < 3 → a8 (nI m * 16 + nI b).toNatClampNeg = 0 := fun m hm => by
    rw [hc m hm]
    exact h8 _ (by omega)
  have hi : ∀ m, m < 3 → vp_in (nI m * 16 + nI b) 48 := fun m hm => pk_in (16 * m + b) 48 (by omega) (sd_a16 m b)
  exact pk_loop (σ := Unit) (fun f i _ => wX_take_3 post (nI n) (nI b) 2 f (nI i) f0 a1 a2 a3 a4 a5 a6 a7 a8 a9 a10 a11 a12) (fun _ _ => True) 3 0 () (by omega) trivial
    (fun f _ _ => pk_le 3 3 (fun _ => ⟨hi n hn, pk_le 2 0 (fun z => absurd z (by omega)) (fun _ => ⟨hi n hn, nm_r (by rw [hc n hn]) hp⟩) (hy := hv n hn)⟩) (fun z => absurd z (by omega)))
    (fun f i _ hi3 _ hw => pk_le 3 i (fun z => absurd z (by omega)) (fun _ => pk_eq i n (fun _ => nm_r (nI_1 i) (hw () trivial)) (fun _ => ⟨hi i hi3, br_t (hv i hi3) (nm_r (nI_1 i) (hw () trivial))⟩)))
theorem sd_free {post : Int32 → St2 → Prop} {a1 a2 a3 a4 a5 a6 a7 a8 a9 a10 a11 a12 : Nat → Int32} {n r : Nat} (hn : n < 3) (h0 : 0 < r) (hr : r ≤ 8) (h9 : a9 (8 * n) = -1) (hp : post (nI (8 * n)) (nI r, a1, a2, a3, a4, a5, a6, a7, a8, a9, a10, a11, a12)) :
    wpX_freeCell post (nI r, a1, a2, a3, a4, a5, a6, a7, a8, a9, a10, a11, a12) (nI n) := by
  unfold wpX_freeCell
  dsimp only
  exact sd_c1 hn h0 hr h9 (br_f (nI_pos (by omega)) hp)
theorem sd_bring {post : Int32 → St2 → Prop} {a1 a2 a3 a4 a5 a6 a7 a8 a9 a10 a11 a12 : Nat → Int32} {n r b : Nat} (hn : n < 3) (h0 : 0 < r) (hr : r ≤ 8) (hb : b < 16) (h3 : a3 n = 0) (h9 : ∀ j, j < 24 → a9 j = -1)
    (hp : post (nI (8 * n)) (nI r, a1, a2, a3, a4, a5, a6, a7, a8, upd a9 (8 * n) (nI b), upd a10 (8 * n) (a2 b), a11, a12)) :
    wpX_bringIn post (nI r, a1, a2, a3, a4, a5, a6, a7, a8, a9, a10, a11, a12) (nI n) (nI b) := by
  unfold wpX_bringIn
  dsimp only
  refine sd_c0 hn hr (fun j _ h2 e => sd_nm (k := b) (by omega) (by rw [← e]; exact h9 j (by omega))) (br_t sd_neg ?_)
  refine sd_free hn h0 hr (h9 _ (by omega)) ?_
  refine sd_j0 hn h3 ⟨pk_in (8 * n) 24 (by omega), nm_r (by rw [nI_clamp (by omega)]) (br_t sd_neg ⟨pk_in b 16 hb, pk_in (8 * n) 24 (by omega), nm_r (by rw [nI_clamp (by omega), nI_clamp (by omega)]) hp⟩)⟩
theorem sd_wb {post : St2 → Prop} {a1 a2 a3 a4 a5 a6 a7 a8 a9 a10 a11 a12 : Nat → Int32} {n r b : Nat} {v : Int32} (hn : n < 3) (h0 : 0 < r) (hr : r ≤ 8) (hb : b < 16) (h3 : a3 n = 0) (h8 : ∀ j, j < 48 → a8 j = 0) (h9 : ∀ j, j < 24 → a9 j = -1)
    (hp : post (nI r, a1, a2, a3, a4, a5, a6, a7, upd a8 (16 * n + b) 2, upd a9 (8 * n) (nI b), upd (upd a10 (8 * n) (a2 b)) (8 * n) v, upd a11 (8 * n) 1, a12)) :
    wpX_writeBlock post (nI r, a1, a2, a3, a4, a5, a6, a7, a8, a9, a10, a11, a12) (nI n) (nI b) v := by
  unfold wpX_writeBlock
  dsimp only
  refine sd_take hn hb h8 ?_
  refine sd_bring hn h0 hr hb h3 h9 ?_
  exact ⟨pk_in (8 * n) 24 (by omega), nm_r (by rw [nI_clamp (by omega)]) ⟨pk_in (8 * n) 24 (by omega), nm_r (by rw [nI_clamp (by omega)]) hp⟩⟩
/-! a node, a block: in range or not -/
theorem sd_bn0 {post : Int32 → Prop} {n : Nat} (hn : n < 3) (hp : post 0) : wpX_badNode post () (nI n) :=
  br_f (nI_pos (by omega)) (br_t (nI_lt (b := 3) hn (by omega)) hp)
theorem sd_bn1 {post : Int32 → Prop} {x : Int32} (h : x < 0 ∨ ¬ x < 3) (hp : post 1) : wpX_badNode post () x :=
  br_c (fun _ => hp) (fun z => br_f (h.resolve_left z) hp)
theorem sd_bb0 {post : Int32 → Prop} {b : Nat} (hb : b < 16) (hp : post 0) : wpX_badBlock post () (nI b) :=
  br_f (nI_pos (by omega)) (br_t (nI_lt (b := 16) hb (by omega)) hp)
theorem sd_bb1 {post : Int32 → Prop} {x : Int32} (h : x < 0 ∨ ¬ x < 16) (hp : post 1) : wpX_badBlock post () x :=
  br_c (fun _ => hp) (fun z => br_f (h.resolve_left z) hp)
/-! the picture: the room; the one dirty cell k (24: none), its block and content; home blocks 0, journals empty and unmarked -/
def sd_P (r k : Nat) (b v : Int32) (a2 a3 a7 a9 a10 a11 : Nat → Int32) : Prop :=
  2 ≤ r ∧ r ≤ 8 ∧ k % 8 = 0 ∧ k ≤ 24 ∧ (∀ j, j < 16 → a2 j = 0) ∧ (∀ j, j < 3 → a3 j = 0) ∧ (∀ j, j < 3 → a7 j = 0) ∧
  (∀ j, j < 24 → j ≠ k → a9 j = -1 ∧ a11 j = 0) ∧ (k < 24 → a9 k = b ∧ a10 k = v ∧ a11 k = 1)
theorem sd_w {post : Int32 → St2 → Prop} {a1 a2 a3 a4 a5 a6 a7 a8 a9 a10 a11 a12 : Nat → Int32} {r n b : Nat} {b0 v0 v : Int32} (hP : sd_P r 24 b0 v0 a2 a3 a7 a9 a10 a11) (h1 : ∀ j, j < 3 → a1 j = 1) (h8 : ∀ j, j < 48 → a8 j = 0) (hn : n < 3) (hb : b < 16)
    (hp : ∀ a8' a9' a10' a11', sd_P r (8 * n) (nI b) v a2 a3 a7 a9' a10' a11' → post 1 (nI r, a1, a2, a3, a4, a5, a6, a7, a8', a9', a10', a11', a12)) :
    wpX_write post (nI r, a1, a2, a3, a4, a5, a6, a7, a8, a9, a10, a11, a12) (nI n) (nI b) v := by
  obtain ⟨p1, p2, _, _, p5, p6, p7, p8, _⟩ := hP
  unfold wpX_write
  dsimp only
  refine sd_bn0 hn (br_t rfl (sd_bb0 hb (br_t rfl ⟨pk_in n 3 hn, br_f ?_ ?_⟩)))
  · rw [nI_clamp (by omega), h1 n hn]
    decide
  · refine sd_wb hn (by omega) p2 hb (p6 n hn) h8 (fun j hj => (p8 j hj (by omega)).1) ?_
    dsimp only
    refine sd_u1 hn (by omega) p2 (p6 n hn) ?_ (fun j g1 g2 => ?_) (hp _ _ _ _ ⟨p1, p2, by omega, by omega, p5, p6, p7, fun j g1 g2 => ?_, fun _ => ⟨pk_us, pk_us, pk_us⟩⟩)
    · rw [pk_us]
      decide
    · rw [pk_un (by omega)]
      exact (p8 j (by omega) (by omega)).2
    · rw [pk_un g2, pk_un g2]
      exact p8 j g1 (by omega)
end
section
/-! small members -/
theorem sd_wh0 {post : Int32 → Prop} {f0 : Int32} {a1 a2 a3 a4 a5 a6 a7 a8 a9 a10 a11 a12 : Nat → Int32} {n : Nat} (hn : n < 3) (h7 : a7 n = 0) (hp : post 0) : wpX_whole post (f0, a1, a2, a3, a4, a5, a6, a7, a8, a9, a10, a11, a12) (nI n) := by
  unfold wpX_whole
  dsimp only
  exact ⟨pk_in n 3 hn, br_t (by rw [nI_clamp (by omega)]; exact h7) hp⟩
theorem sd_ej {post : St2 → Prop} {f0 : Int32} {a1 a2 a3 a4 a5 a6 a7 a8 a9 a10 a11 a12 : Nat → Int32} {n : Nat} (hn : n < 3) (hp : post (f0, a1, a2, upd a3 n 0, a4, a5, a6, upd a7 n 0, a8, a9, a10, a11, a12)) : wpX_emptyJournal post (f0, a1, a2, a3, a4, a5, a6, a7, a8, a9, a10, a11, a12) (nI n) := by
  unfold wpX_emptyJournal
  dsimp only
  exact ⟨pk_in n 3 hn, nm_r (by rw [nI_clamp (by omega)]) ⟨pk_in n 3 hn, nm_r (by rw [nI_clamp (by omega)]) hp⟩⟩
theorem sd_dc {post : St2 → Prop} {f0 : Int32} {a1 a2 a3 a4 a5 a6 a7 a8 a9 a10 a11 a12 : Nat → Int32} {k : Nat} (hk : k < 24) (hp : post (f0, a1, a2, a3, a4, a5, a6, a7, a8, upd a9 k (-1), a10, upd a11 k 0, a12)) : wpX_dropCell post (f0, a1, a2, a3, a4, a5, a6, a7, a8, a9, a10, a11, a12) (nI k) := by
  unfold wpX_dropCell
  dsimp only
  exact ⟨pk_in k 24 hk, nm_r (by rw [nI_clamp (by omega)]) ⟨pk_in k 24 hk, nm_r (by rw [nI_clamp (by omega)]) hp⟩⟩
theorem sd_d59 {post : St2 → Prop} {f0 : Int32} {a1 a2 a3 a4 a5 a6 a7 a8 a9 a10 a11 a12 : Nat → Int32} {n : Nat} (hn : n < 3) (hp : ∀ a8', post (f0, a1, a2, a3, a4, a5, a6, a7, a8', a9, a10, a11, a12)) : ∃ f, wX_die_59 post (nI n) f0 f 0 a1 a2 a3 a4 a5 a6 a7 a8 a9 a10 a11 a12 :=
  pk_loop (fun f i s => wX_die_59 post (nI n) f0 f (nI i) a1 a2 a3 a4 a5 a6 a7 (s) a9 a10 a11 a12) (fun _ _ => True) 16 0 a8 (by omega) trivial
    (fun f s _ => pk_le 16 16 (fun _ => hp s) (fun z => absurd z (by omega)))
    (fun f i s hi _ hw => pk_le 16 i (fun z => absurd z (by omega)) (fun _ => ⟨pk_in (16 * n + i) 48 (by omega) (sd_a16 n i), nm_e (nm_r (nI_1 i) (hw _ trivial))⟩))
/-! the picture's rows -/
theorem sd_uc {post : Int32 → Prop} {a1 a2 a3 a4 a5 a6 a7 a8 a9 a10 a11 a12 : Nat → Int32} {r k m : Nat} {b v : Int32} (hP : sd_P r k b v a2 a3 a7 a9 a10 a11) (hm : m < 3) (hp : post (if k = 8 * m then 1 else 0)) :
    wpX_unsafeCount post (nI r, a1, a2, a3, a4, a5, a6, a7, a8, a9, a10, a11, a12) (nI m) := by
  obtain ⟨p1, p2, p3, p4, p5, p6, p7, p8, p9⟩ := hP
  by_cases e : k = 8 * m
  · rw [if_pos e] at hp
    subst e
    exact sd_u1 hm (by omega) p2 (p6 m hm) (by rw [(p9 (by omega)).2.2]; decide) (fun j g1 g2 => (p8 j (by omega) (by omega)).2) hp
  · rw [if_neg e] at hp
    exact sd_u0 hm p2 (p6 m hm) (fun j g1 g2 => (p8 j (by omega) (by omega)).2) hp
theorem sd_upd0 {f : Nat → Int32} {m : Nat} (h : ∀ j, j < 3 → f j = 0) : ∀ j, j < 3 → upd f m 0 j = 0 := by
  intro j hj
  by_cases e : j = m
  · rw [e, pk_us]
  · rw [pk_un e]
    exact h j hj
theorem sd_drop {r k m : Nat} {b v : Int32} {a2 a3 a7 a9 a10 a11 s t : Nat → Int32} (hP : sd_P r k b v a2 a3 a7 a9 a10 a11)
    (h1 : ∀ j, 8 * m ≤ j → j < 8 * m + 8 → s j = -1 ∧ t j = 0) (h2 : ∀ j, (j < 8 * m ∨ 8 * m + 8 ≤ j) → s j = a9 j ∧ t j = a11 j) :
    sd_P r (if k = 8 * m then 24 else k) b v a2 (upd a3 m 0) (upd a7 m 0) s a10 t := by
  obtain ⟨p1, p2, p3, p4, p5, p6, p7, p8, p9⟩ := hP
  by_cases e : k = 8 * m
  · rw [if_pos e]
    refine ⟨p1, p2, by omega, by omega, p5, sd_upd0 p6, sd_upd0 p7, fun j g1 g2 => ?_, fun z => absurd z (by omega)⟩
    by_cases g : 8 * m ≤ j ∧ j < 8 * m + 8
    · exact h1 j g.1 g.2
    · rw [(h2 j (by omega)).1, (h2 j (by omega)).2]
      exact p8 j g1 (by omega)
  · rw [if_neg e]
    refine ⟨p1, p2, p3, p4, p5, sd_upd0 p6, sd_upd0 p7, fun j g1 g2 => ?_, fun z => ?_⟩
    · by_cases g : 8 * m ≤ j ∧ j < 8 * m + 8
      · exact h1 j g.1 g.2
      · rw [(h2 j (by omega)).1, (h2 j (by omega)).2]
        exact p8 j g1 g2
    · rw [(h2 k (by omega)).1, (h2 k (by omega)).2]
      exact p9 z
theorem sd_die {post : St2 → Prop} {a1 a2 a3 a4 a5 a6 a7 a8 a9 a10 a11 a12 : Nat → Int32} {r k m : Nat} {b v : Int32} (hP : sd_P r k b v a2 a3 a7 a9 a10 a11) (hm : m < 3)
    (hp : ∀ a3' a7' a8' a9' a11', sd_P r (if k = 8 * m then 24 else k) b v a2 a3' a7' a9' a10 a11' → post (nI r, upd a1 m 0, a2, a3', a4, a5, a6, a7', a8', a9', a10, a11', a12)) :
    wpX_die post (nI r, a1, a2, a3, a4, a5, a6, a7, a8, a9, a10, a11, a12) (nI m) := by
  have p7 : ∀ j, j < 3 → a7 j = 0 := hP.2.2.2.2.2.2.1
  unfold wpX_die
  dsimp only
  refine ⟨pk_in m 3 hm, nm_r (by rw [nI_clamp (by omega)]) (nm_r (sd_m8 m) ?_)⟩
  refine pk_loop (σ := (Nat → Int32) × (Nat → Int32)) (fun f i s => wX_die_12 post (nI m) f (nI i) (nI r) (upd a1 m 0) a2 a3 a4 a5 a6 a7 a8 (s.1) a10 (s.2) a12)
    (fun i s => 8 * m ≤ i ∧ (∀ j, 8 * m ≤ j → j < i → s.1 j = -1 ∧ s.2 j = 0) ∧ (∀ j, (j < 8 * m ∨ i ≤ j) → s.1 j = a9 j ∧ s.2 j = a11 j)) (8 * m + 8) (8 * m) (a9, a11) (by omega)
    ⟨Nat.le_refl _, fun j g1 g2 => absurd g2 (by omega), fun j _ => ⟨rfl, rfl⟩⟩ ?_ ?_
  · intro f s hI
    refine pk_le (8 * m + 8) (8 * m + 8) (fun _ => ?_) (fun z => absurd z (by omega)) (hx := sd_a8 m 8)
    exact sd_wh0 hm (p7 m hm) (br_t rfl (sd_ej hm (sd_d59 hm (fun a8' => hp _ _ _ _ _ (sd_drop hP hI.2.1 hI.2.2)))))
  · intro f i s hi hI hw
    obtain ⟨i1, i2, i3⟩ := hI
    refine pk_le (8 * m + 8) i (fun z => absurd z (by omega)) (fun _ => ?_) (hx := sd_a8 m 8)
    refine sd_dc (by omega) (nm_r (nI_1 i) (hw (upd s.1 i (-1), upd s.2 i 0) ⟨by omega, fun j g1 g2 => ?_, fun j g => ?_⟩))
    · by_cases e : j = i
      · rw [e]
        exact ⟨pk_us, pk_us⟩
      · have h := i2 j g1 (by omega)
        exact ⟨(pk_un e).trans h.1, (pk_un e).trans h.2⟩
    · have h := i3 j (by omega)
      have e : j ≠ i := by omega
      exact ⟨(pk_un e).trans h.1, (pk_un e).trans h.2⟩
theorem sd_cr {post : Int32 → St2 → Prop} {a1 a2 a3 a4 a5 a6 a7 a8 a9 a10 a11 a12 : Nat → Int32} {r k m : Nat} {b v : Int32} (hP : sd_P r k b v a2 a3 a7 a9 a10 a11) (hm : m < 3) (h1 : a1 m = 1)
    (hp : ∀ a3' a7' a8' a9' a11', sd_P r (if k = 8 * m then 24 else k) b v a2 a3' a7' a9' a10 a11' → post (if k = 8 * m then 1 else 0) (nI r, upd a1 m 0, a2, a3', a4, a5, a6, a7', a8', a9', a10, a11', a12)) :
    wpX_crash post (nI r, a1, a2, a3, a4, a5, a6, a7, a8, a9, a10, a11, a12) (nI m) := by
  unfold wpX_crash
  dsimp only
  refine sd_bn0 hm (br_t rfl ⟨pk_in m 3 hm, br_f ?_ (sd_uc hP hm (sd_die hP hm hp))⟩)
  rw [nI_clamp (by omega), h1]
  decide
end
section
/-! content -/
theorem sd_ne {r k c i : Nat} {b v : Int32} {a2 a3 a7 a9 a10 a11 : Nat → Int32} (hP : sd_P r k b v a2 a3 a7 a9 a10 a11) (hc : c < 16) (hi : i < 3) (h : ¬ (k = 8 * i ∧ b = nI c)) :
    ∀ j, 8 * i ≤ j → j < 8 * i + r → a9 j ≠ nI c := by
  obtain ⟨p1, p2, p3, p4, p5, p6, p7, p8, p9⟩ := hP
  intro j g1 g2 e
  by_cases g : j = k
  · have hk : k = 8 * i := by omega
    rw [g, (p9 (by omega)).1] at e
    exact h ⟨hk, e⟩
  · rw [(p8 j (by omega) g).1] at e
    exact sd_nm (k := c) (by omega) e.symm
theorem sd_own0 {post : Int32 → Prop} {a1 a2 a3 a4 a5 a6 a7 a8 a9 a10 a11 a12 : Nat → Int32} {r k c : Nat} {b v : Int32} (hP : sd_P r k b v a2 a3 a7 a9 a10 a11) (hc : c < 16) (h : ¬ (k < 24 ∧ b = nI c)) (hp : post (-4)) :
    wpX_ownerOf post (nI r, a1, a2, a3, a4, a5, a6, a7, a8, a9, a10, a11, a12) (nI c) := by
  have p2 := hP.2.1
  have p6 : ∀ j, j < 3 → a3 j = 0 := hP.2.2.2.2.2.1
  unfold wpX_ownerOf
  dsimp only
  exact pk_loop (σ := Unit) (fun f i _ => wX_ownerOf_2 post (nI c) (nI r) a1 a2 a3 a4 a5 a6 a7 a8 a9 a10 a11 a12 f (nI i)) (fun _ _ => True) 3 0 () (by omega) trivial
    (fun f _ _ => pk_le 3 3 (fun _ => hp) (fun z => absurd z (by omega)))
    (fun f i _ hi _ hw => pk_le 3 i (fun z => absurd z (by omega)) (fun _ => sd_i0 hi p2 (p6 i hi) (sd_ne hP hc hi (fun z => h ⟨by omega, z.2⟩)) (br_t rfl (nm_r (nI_1 i) (hw () trivial)))))
theorem sd_own1 {post : Int32 → Prop} {a1 a2 a3 a4 a5 a6 a7 a8 a9 a10 a11 a12 : Nat → Int32} {r n c : Nat} {v : Int32} (hP : sd_P r (8 * n) (nI c) v a2 a3 a7 a9 a10 a11) (hn : n < 3) (hc : c < 16) (hp : post (nI n)) :
    wpX_ownerOf post (nI r, a1, a2, a3, a4, a5, a6, a7, a8, a9, a10, a11, a12) (nI c) := by
  obtain ⟨p1, p2, p3, p4, p5, p6, p7, p8, p9⟩ := id hP
  have q9 := p9 (by omega)
  have hd : ¬ a11 (8 * n) = 0 := by
    rw [q9.2.2]
    decide
  have h10 : ¬ (1 : Int32) = 0 := by decide
  unfold wpX_ownerOf
  dsimp only
  exact pk_loop (σ := Unit) (fun f i _ => wX_ownerOf_2 post (nI c) (nI r) a1 a2 a3 a4 a5 a6 a7 a8 a9 a10 a11 a12 f (nI i)) (fun _ _ => True) n 0 () (by omega) trivial
    (fun f _ _ => pk_le 3 n (fun z => absurd z (by omega)) (fun _ => sd_i1 hn (by omega) p2 (p6 n hn) q9.1 hd (br_f h10 hp)))
    (fun f i _ hi _ hw => pk_le 3 i (fun z => absurd z (by omega)) (fun _ => sd_i0 (by omega) p2 (p6 i (by omega)) (sd_ne hP hc (by omega) (fun z => absurd z.1 (by omega))) (br_t rfl (nm_r (nI_1 i) (hw () trivial)))))
theorem sd_ct0 {post : Int32 → Prop} {a1 a2 a3 a4 a5 a6 a7 a8 a9 a10 a11 a12 : Nat → Int32} {r k c : Nat} {b v : Int32} (hP : sd_P r k b v a2 a3 a7 a9 a10 a11) (hc : c < 16) (h : ¬ (k < 24 ∧ b = nI c)) (hp : post 0) :
    wpX_content post (nI r, a1, a2, a3, a4, a5, a6, a7, a8, a9, a10, a11, a12) (nI c) := by
  have p5 : ∀ j, j < 16 → a2 j = 0 := hP.2.2.2.2.1
  unfold wpX_content
  dsimp only
  refine sd_bb0 hc (br_t rfl (sd_own0 hP hc h (br_f sd_neg4 ⟨pk_in c 16 hc, ?_⟩)))
  rw [nI_clamp (by omega), p5 c hc]
  exact hp
theorem sd_ct1 {post : Int32 → Prop} {a1 a2 a3 a4 a5 a6 a7 a8 a9 a10 a11 a12 : Nat → Int32} {r n c : Nat} {v : Int32} (hP : sd_P r (8 * n) (nI c) v a2 a3 a7 a9 a10 a11) (hn : n < 3) (hc : c < 16) (hp : post v) :
    wpX_content post (nI r, a1, a2, a3, a4, a5, a6, a7, a8, a9, a10, a11, a12) (nI c) := by
  obtain ⟨p1, p2, p3, p4, p5, p6, p7, p8, p9⟩ := id hP
  have q9 := p9 (by omega)
  unfold wpX_content
  dsimp only
  refine sd_bb0 hc (br_t rfl (sd_own1 hP hn hc (br_t (nI_pos' (by omega)) (sd_c1 hn (by omega) p2 q9.1 (br_f (nI_pos (by omega)) ⟨pk_in (8 * n) 24 (by omega), ?_⟩)))))
  rw [nI_clamp (by omega), q9.2.1]
  exact hp
/-! makeSafe -/
theorem sd_fl {post : St2 → Prop} {a1 a2 a3 a4 a5 a6 a7 a8 a9 a10 a11 a12 : Nat → Int32} {n r i0 : Nat} (hn : n < 3) (hr : r ≤ 8) (hi : i0 ≤ 8 * n + r) (h11 : ∀ j, i0 ≤ j → j < 8 * n + r → a11 j = 0) (hp : post (nI r, a1, a2, a3, a4, a5, a6, a7, a8, a9, a10, a11, a12)) :
    ∃ f, wX_fillJournal_5 post (nI n) f (nI i0) (nI r) a1 a2 a3 a4 a5 a6 a7 a8 a9 a10 a11 a12 :=
  pk_loop (σ := Unit) (fun f i _ => wX_fillJournal_5 post (nI n) f (nI i) (nI r) a1 a2 a3 a4 a5 a6 a7 a8 a9 a10 a11 a12) (fun i _ => i0 ≤ i) (8 * n + r) i0 () hi (Nat.le_refl _)
    (fun f _ _ => pk_le (8 * n + r) (8 * n + r) (fun _ => hp) (fun z => absurd z (by omega)) (hx := sd_a8 n r))
    (fun f i _ hi hI hw => pk_le (8 * n + r) i (fun z => absurd z (by omega)) (fun _ => ⟨pk_in i 24 (by omega), br_t (by rw [nI_clamp (by omega)]; exact h11 i hI hi) (nm_r (nI_1 i) (hw () (Nat.le_succ_of_le hI)))⟩) (hx := sd_a8 n r))
theorem sd_f0 {post : St2 → Prop} {a1 a2 a3 a4 a5 a6 a7 a8 a9 a10 a11 a12 : Nat → Int32} {n r : Nat} (hn : n < 3) (hr : r ≤ 8) (h11 : ∀ j, 8 * n ≤ j → j < 8 * n + r → a11 j = 0) (hp : post (nI r, a1, a2, a3, a4, a5, a6, a7, a8, a9, a10, a11, a12)) :
    wpX_fillJournal post (nI r, a1, a2, a3, a4, a5, a6, a7, a8, a9, a10, a11, a12) (nI n) := by
  unfold wpX_fillJournal
  dsimp only
  exact nm_r (sd_m8 n) (sd_fl hn hr (by omega) h11 hp)
theorem sd_wj {post : St2 → Prop} {f0 : Int32} {a1 a2 a3 a4 a5 a6 a7 a8 a9 a10 a11 a12 : Nat → Int32} {n : Nat} {x y : Int32} (hn : n < 3) (h3 : a3 n = 0) (hp : post (f0, a1, a2, upd a3 n (nI 1), upd a4 (16 * n) x, upd a5 (16 * n) y, a6, a7, a8, a9, a10, a11, a12)) :
    wpX_writeJournal post (f0, a1, a2, a3, a4, a5, a6, a7, a8, a9, a10, a11, a12) (nI n) x y := by
  unfold wpX_writeJournal
  dsimp only
  refine sd_j0 hn h3 (br_f sd_neg' ⟨pk_in n 3 hn, nm_r (e' := nI (16 * n)) ?_ ⟨pk_in n 3 hn, pk_in n 3 hn, nm_r (e' := upd a3 n (nI 1)) ?_ ?_⟩⟩)
  · rw [nI_clamp (by omega), h3, ← nI_0, sd_a16]
    rfl
  · rw [nI_clamp (by omega), h3, ← nI_0, nI_1]
  · unfold wX_writeJournal_36
    exact ⟨pk_in (16 * n) 48 (by omega), nm_r (by rw [nI_clamp (by omega)]) ⟨pk_in (16 * n) 48 (by omega), nm_r (by rw [nI_clamp (by omega)]) hp⟩⟩
theorem sd_f1 {post : St2 → Prop} {a1 a2 a3 a4 a5 a6 a7 a8 a9 a10 a11 a12 : Nat → Int32} {n r : Nat} (hn : n < 3) (h0 : 0 < r) (hr : r ≤ 8) (h3 : a3 n = 0) (hd : ¬ a11 (8 * n) = 0) (h11 : ∀ j, 8 * n + 1 ≤ j → j < 8 * n + r → a11 j = 0)
    (hp : post (nI r, a1, a2, upd a3 n (nI 1), upd a4 (16 * n) (a9 (8 * n)), upd a5 (16 * n) (a10 (8 * n)), a6, a7, a8, a9, a10, upd a11 (8 * n) 0, a12)) :
    wpX_fillJournal post (nI r, a1, a2, a3, a4, a5, a6, a7, a8, a9, a10, a11, a12) (nI n) := by
  unfold wpX_fillJournal
  dsimp only
  obtain ⟨f, hf⟩ := sd_fl hn hr (show 8 * n + 1 ≤ 8 * n + r by omega) (fun j g1 g2 => by rw [pk_un (by omega)]; exact h11 j g1 g2) hp
  refine nm_r (sd_m8 n) ⟨f + 1, ?_⟩
  refine pk_le (8 * n + r) (8 * n) (fun z => absurd z (by omega)) (fun _ => ⟨pk_in (8 * n) 24 (by omega), br_f (by rw [nI_clamp (by omega)]; exact hd) ⟨pk_in (8 * n) 24 (by omega), pk_in (8 * n) 24 (by omega), ?_⟩⟩) (hx := sd_a8 n r)
  rw [nI_clamp (by omega)]
  exact sd_wj hn h3 ⟨pk_in (8 * n) 24 (by omega), nm_r rfl (nm_r (nI_1 (8 * n)) hf)⟩
theorem sd_sum {post : Int32 → Prop} {f0 : Int32} {a1 a2 a3 a4 a5 a6 a7 a8 a9 a10 a11 a12 : Nat → Int32} {n q : Nat} (hn : n < 3) (hq : q ≤ 16) (h3 : a3 n = nI q) (hp : ∀ x, post x) : wpX_sumOf post (f0, a1, a2, a3, a4, a5, a6, a7, a8, a9, a10, a11, a12) (nI n) := by
  unfold wpX_sumOf
  dsimp only
  have hx : nI n * 16 + a3 (nI n).toNatClampNeg = nI (16 * n + q) := by
    rw [nI_clamp (by omega), h3, sd_a16]
  refine ⟨pk_in n 3 hn, nm_e (nm_r (sd_m16 n) ?_)⟩
  exact pk_loop (fun f i s => wX_sumOf_15 post (nI n) f0 a1 a2 a3 a4 a5 a6 a7 a8 a9 a10 a11 a12 f s (nI i)) (fun i _ => 16 * n ≤ i) (16 * n + q) (16 * n) _ (by omega) (Nat.le_refl _)
    (fun f s _ => ⟨pk_in n 3 hn, pk_le (16 * n + q) (16 * n + q) (fun _ => hp s) (fun z => absurd z (by omega)) (hx := hx)⟩)
    (fun f i s hi hI hw => ⟨pk_in n 3 hn, pk_le (16 * n + q) i (fun z => absurd z (by omega)) (fun _ => ⟨pk_in i 48 (by omega), nm_e ⟨pk_in i 48 (by omega), nm_e (nm_r (nI_1 i) (hw _ (Nat.le_succ_of_le hI)))⟩⟩) (hx := hx)⟩)
theorem sd_mk {post : St2 → Prop} {f0 : Int32} {a1 a2 a3 a4 a5 a6 a7 a8 a9 a10 a11 a12 : Nat → Int32} {n q : Nat} (hn : n < 3) (hq : q ≤ 16) (h3 : a3 n = nI q) (hp : ∀ a6' a7', post (f0, a1, a2, a3, a4, a5, a6', a7', a8, a9, a10, a11, a12)) : wpX_markJournal post (f0, a1, a2, a3, a4, a5, a6, a7, a8, a9, a10, a11, a12) (nI n) := by
  unfold wpX_markJournal
  dsimp only
  exact sd_sum hn hq h3 (fun x => ⟨pk_in n 3 hn, nm_e ⟨pk_in n 3 hn, nm_e (hp _ _)⟩⟩)
theorem sd_bh {post : St2 → Prop} {f0 : Int32} {a1 a2 a3 a4 a5 a6 a7 a8 a9 a10 a11 a12 : Nat → Int32} {n q : Nat} (hn : n < 3) (hq : q ≤ 16) (h3 : a3 n = nI q) (h4 : ∀ j, 16 * n ≤ j → j < 16 * n + q → vp_in (a4 j) 16) (hp : ∀ a2' a3' a7', post (f0, a1, a2', a3', a4, a5, a6, a7', a8, a9, a10, a11, a12)) :
    wpX_bringHome post (f0, a1, a2, a3, a4, a5, a6, a7, a8, a9, a10, a11, a12) (nI n) := by
  unfold wpX_bringHome
  dsimp only
  have hx : nI n * 16 + a3 (nI n).toNatClampNeg = nI (16 * n + q) := by
    rw [nI_clamp (by omega), h3, sd_a16]
  refine nm_r (sd_m16 n) ?_
  exact pk_loop (fun f i s => wX_bringHome_5 post (nI n) f0 f (nI i) a1 (s) a3 a4 a5 a6 a7 a8 a9 a10 a11 a12) (fun i _ => 16 * n ≤ i) (16 * n + q) (16 * n) a2 (by omega) (Nat.le_refl _)
    (fun f s _ => ⟨pk_in n 3 hn, pk_le (16 * n + q) (16 * n + q) (fun _ => sd_ej hn (hp _ _ _)) (fun z => absurd z (by omega)) (hx := hx)⟩)
    (fun f i s hi hI hw => ⟨pk_in n 3 hn, pk_le (16 * n + q) i (fun z => absurd z (by omega)) (fun _ => ⟨pk_in i 48 (by omega), pk_in i 48 (by omega), by rw [nI_clamp (by omega)]; exact h4 i hI hi, nm_e (nm_r (nI_1 i) (hw _ (Nat.le_succ_of_le hI)))⟩) (hx := hx)⟩)
theorem sd_ms {post : Int32 → St2 → Prop} {a1 a2 a3 a4 a5 a6 a7 a8 a9 a10 a11 a12 : Nat → Int32} {r k n : Nat} {b v : Int32} (hP : sd_P r k b v a2 a3 a7 a9 a10 a11) (hb : k < 24 → vp_in b 16) (hn : n < 3)
    (hp : ∀ a2' a3' a4' a5' a6' a7' a11', post (if k = 8 * n then 1 else 0) (nI r, a1, a2', a3', a4', a5', a6', a7', a8, a9, a10, a11', a12)) :
    wpX_makeSafe post (nI r, a1, a2, a3, a4, a5, a6, a7, a8, a9, a10, a11, a12) (nI n) := by
  unfold wpX_makeSafe
  dsimp only
  refine sd_uc hP hn ?_
  obtain ⟨p1, p2, p3, p4, p5, p6, p7, p8, p9⟩ := hP
  by_cases e : k = 8 * n
  · have hk : k < 24 := by omega
    have q9 := p9 hk
    refine sd_f1 hn (by omega) p2 (p6 n hn) (by rw [← e, q9.2.2]; decide) (fun j g1 g2 => (p8 j (by omega) (by omega)).2) ?_
    refine sd_mk (q := 1) hn (by omega) pk_us (fun a6' a7' => ?_)
    refine sd_bh (q := 1) hn (by omega) pk_us (fun j g1 g2 => ?_) (fun a2' a3' a7' => hp _ _ _ _ _ _ _)
    have ej : j = 16 * n := by omega
    dsimp only
    rw [ej, pk_us, ← e, q9.1]
    exact hb hk
  · refine sd_f0 hn p2 (fun j g1 g2 => (p8 j (by omega) (by omega)).2) ?_
    refine sd_mk (q := 0) hn (by omega) (p6 n hn) (fun a6' a7' => ?_)
    exact sd_bh (q := 0) hn (by omega) (p6 n hn) (fun j g1 g2 => absurd g2 (by omega)) (fun a2' a3' a7' => hp _ _ _ _ _ _ _)
end
section
/-! the law, from its end: what stands ahead of each check -/
theorem sd_10 : ¬ (1 : Int32) = 0 := by decide
theorem sd_n1 {x : Int32} (h : x = 1) : ¬ x = 0 := by
  rw [h]
  decide
theorem sd_15 {x : Int32} (h : ¬ x < 16) : 15 < x := by
  rw [Int32.lt_iff_toInt_lt] at h ⊢
  have h1 : (16 : Int32).toInt = 16 := by decide
  have h2 : (15 : Int32).toInt = 15 := by decide
  omega
theorem sd_15' {x : Int32} (h : ¬ x < 16) : ¬ x ≤ 15 := by
  rw [Int32.lt_iff_toInt_lt] at h
  rw [Int32.le_iff_toInt_le]
  have h1 : (16 : Int32).toInt = 16 := by decide
  have h2 : (15 : Int32).toInt = 15 := by decide
  omega
theorem sd_2 {x : Int32} (h : ¬ x < 3) : 2 < x := by
  rw [Int32.lt_iff_toInt_lt] at h ⊢
  have h1 : (3 : Int32).toInt = 3 := by decide
  have h2 : (2 : Int32).toInt = 2 := by decide
  omega
theorem sd_blk (x : Int32) : (x < 0 ∨ ¬ x < 16) ∨ ∃ c, c < 16 ∧ x = nI c := by
  rcases pk_ix x (n := 16) (by omega) with h | h | h
  · exact Or.inl (Or.inl h)
  · exact Or.inl (Or.inr (Int32.not_lt.mpr h))
  · exact Or.inr h
theorem sd_nod (x : Int32) : (x < 0 ∨ ¬ x < 3) ∨ ∃ c, c < 3 ∧ x = nI c := by
  rcases pk_ix x (n := 3) (by omega) with h | h | h
  · exact Or.inl (Or.inl h)
  · exact Or.inl (Or.inr (Int32.not_lt.mpr h))
  · exact Or.inr h
theorem sd_nbad {n : Nat} {x : Int32} (hn : n < 3) (e : x = nI n) (h : x < 0 ∨ ¬ x < 3) : False := by
  rw [e] at h
  exact h.elim (nI_pos (by omega)) (fun z => z (nI_lt (b := 3) hn (by omega)))
/-- m: no node, or a node that is down -/
def sd_M (x4 x10 : Int32) (a1 : Nat → Int32) : Prop := (x10 = 0 ∧ (x4 < 0 ∨ ¬ x4 < 3)) ∨ (x10 = 1 ∧ ∃ m, m < 3 ∧ x4 = nI m ∧ a1 m = 0)
/-- behind the crash -/
def sd_Q (r k : Nat) (b v x1 x4 x7 x8 x10 : Int32) (a1 a2 a3 a7 a9 a10 a11 : Nat → Int32) : Prop :=
  sd_P r k b v a2 a3 a7 a9 a10 a11 ∧ (k < 24 → vp_in b 16) ∧ sd_M x4 x10 a1 ∧
  ((x7 = 0 ∧ (x1 < 0 ∨ ¬ x1 < 3)) ∨ (x7 = 1 ∧ ∃ n, n < 3 ∧ x1 = nI n ∧ (x4 = x1 → a1 n = 0) ∧ (x4 ≠ x1 → ¬ a1 n = 0 ∧ ((x8 = 0 ∧ k = 24) ∨ (x8 = 1 ∧ k = 8 * n)))))
/-- behind the write -/
def sd_N (k : Nat) (b v x1 x2 x3 x7 x8 x9 : Int32) : Prop :=
  (x7 = 0 ∧ (x1 < 0 ∨ ¬ x1 < 3) ∧ x9 = 0 ∧ k = 24) ∨
  (x7 = 1 ∧ ∃ n, n < 3 ∧ x1 = nI n ∧ ((x8 = 0 ∧ x9 = 0 ∧ k = 24) ∨ (x8 = 1 ∧ x9 = 1 ∧ k = 8 * n ∧ vp_in b 16 ∧ b = x2 ∧ v = x3)))
theorem sd_281 {post : Int32 → St0 → Prop} {mc ms kc ks : Nat} {x4 x10 z0 z1 f0 : Int32} {a1 a2 a3 a4 a5 a6 a7 a8 a9 a10 a11 a12 : Nat → Int32} (hM : sd_M x4 x10 a1) (hz : z1 = z0) (hp : post 1 ()) :
    wL_lawOf_281 post mc ms x4 x10 z0 z1 kc ks f0 a1 a2 a3 a4 a5 a6 a7 a8 a9 a10 a11 a12 := by
  unfold wL_lawOf_281
  refine br_t hz ?_
  unfold wpX_restart
  dsimp only
  rcases hM with ⟨h0, hb⟩ | ⟨h1, m, hm, e, hr⟩
  · exact sd_bn1 hb (br_f sd_10 (br_t h0 (br_t rfl hp)))
  · subst e
    refine sd_bn0 hm (br_t rfl ⟨pk_in m 3 hm, br_t (by rw [nI_clamp (by omega)]; exact hr) ?_⟩)
    exact ⟨pk_in m 3 hm, nm_e (br_f (sd_n1 h1) (br_t rfl hp))⟩
theorem sd_240 {post : Int32 → St0 → Prop} {mc ms kc ks r k : Nat} {b v x1 x4 x7 x8 x10 z0 z1 : Int32} {a1 a2 a3 a4 a5 a6 a7 a8 a9 a10 a11 a12 : Nat → Int32} (hQ : sd_Q r k b v x1 x4 x7 x8 x10 a1 a2 a3 a7 a9 a10 a11) (hz : z1 = z0) (hp : post 1 ()) :
    wL_lawOf_240 post mc ms x1 x4 x7 x8 x10 z0 z1 kc ks (nI r) a1 a2 a3 a4 a5 a6 a7 a8 a9 a10 a11 a12 := by
  obtain ⟨hP, hb, hM, hN⟩ := hQ
  unfold wL_lawOf_240
  refine br_t hz ?_
  unfold wpX_sync
  dsimp only
  rcases hN with ⟨h7, hbad⟩ | ⟨h7, n, hn, e, g1, g2⟩
  · exact sd_bn1 hbad (br_f sd_10 (br_t h7 (sd_281 hM rfl hp)))
  · have h70 : ¬ x7 = 0 := sd_n1 h7
    by_cases e41 : x4 = x1
    · have ha := g1 e41
      subst e
      exact sd_bn0 hn (br_t rfl ⟨pk_in n 3 hn, br_t (by rw [nI_clamp (by omega)]; exact ha) (br_f h70 (br_t e41 (sd_281 hM rfl hp)))⟩)
    · obtain ⟨ha, h8⟩ := g2 e41
      subst e
      refine sd_bn0 hn (br_t rfl ⟨pk_in n 3 hn, br_f (by rw [nI_clamp (by omega)]; exact ha) (sd_ms hP hb hn (fun _ _ _ _ _ _ _ => br_f h70 (br_f e41 ?_)))⟩)
      rcases h8 with ⟨h8, hk⟩ | ⟨h8, hk⟩
      · exact br_t h8 (sd_281 hM (if_neg (by omega)) hp)
      · exact br_f (sd_n1 h8) (sd_281 hM (if_pos hk) hp)
theorem sd_198 {post : Int32 → St0 → Prop} {mc ms kc ks r k : Nat} {b v x1 x4 x5 x7 x8 x10 z0 z1 : Int32} {a1 a2 a3 a4 a5 a6 a7 a8 a9 a10 a11 a12 : Nat → Int32} (hQ : sd_Q r k b v x1 x4 x7 x8 x10 a1 a2 a3 a7 a9 a10 a11) (hz : z1 = z0) (hp : post 1 ()) :
    wL_lawOf_198 post mc ms x1 x4 x5 x7 x8 x10 z0 z1 kc ks (nI r) a1 a2 a3 a4 a5 a6 a7 a8 a9 a10 a11 a12 := by
  have hM := hQ.2.2.1
  unfold wL_lawOf_198 wL_lawOf_233
  refine br_t hz ?_
  unfold wpX_read
  dsimp only
  rcases hM with ⟨h0, hb⟩ | ⟨h1, m, hm, e, hr⟩
  · exact sd_bn1 hb (br_f sd_10 (br_t h0 (sd_240 hQ rfl hp)))
  · have h10 : ¬ x10 = 0 := sd_n1 h1
    rcases sd_blk x5 with hbad | ⟨c, hc, e5⟩
    · subst e
      exact sd_bn0 hm (br_t rfl (sd_bb1 hbad (br_f sd_10 (br_f h10 (br_c (fun _ => sd_240 hQ rfl hp) (fun z => br_f (sd_15' (hbad.resolve_left z)) (sd_240 hQ rfl hp)))))))
    · subst e e5
      exact sd_bn0 hm (br_t rfl (sd_bb0 hc (br_t rfl ⟨pk_in m 3 hm, br_t (by rw [nI_clamp (by omega)]; exact hr) (br_f h10 (br_f (nI_pos (by omega)) (br_t (nI_le (b := 15) (by omega) (by omega)) (sd_240 hQ rfl hp))))⟩)))
theorem sd_170 {post : Int32 → St0 → Prop} {mc ms kc ks r k : Nat} {b v x1 x4 x5 x7 x8 x10 z0 : Int32} {a1 a2 a3 a4 a5 a6 a7 a8 a9 a10 a11 a12 : Nat → Int32} (hQ : sd_Q r k b v x1 x4 x7 x8 x10 a1 a2 a3 a7 a9 a10 a11)
    (hz : ((k < 24 ∧ b = x5) → z0 = v) ∧ (¬ (k < 24 ∧ b = x5) → z0 = 0)) (hp : post 1 ()) :
    wL_lawOf_170 post mc ms x1 x4 x5 x7 x8 x10 z0 kc ks (nI r) a1 a2 a3 a4 a5 a6 a7 a8 a9 a10 a11 a12 := by
  have hP := hQ.1
  unfold wL_lawOf_170 wL_lawOf_191
  rcases sd_blk x5 with hbad | ⟨c, hc, e5⟩
  · unfold wpX_content
    dsimp only
    exact sd_bb1 hbad (br_f sd_10 (br_c (fun _ => sd_198 hQ rfl hp) (fun z => br_f (sd_15' (hbad.resolve_left z)) (sd_198 hQ rfl hp))))
  · subst e5
    by_cases h : k < 24 ∧ b = nI c
    · have hk := h.1
      have hk8 : k = 8 * (k / 8) := by
        have := hP.2.2.1
        omega
      have hP' : sd_P r (8 * (k / 8)) (nI c) v a2 a3 a7 a9 a10 a11 := by
        rw [← hk8, ← h.2]
        exact hP
      exact sd_ct1 hP' (by omega) hc (br_f (nI_pos (by omega)) (br_t (nI_le (b := 15) (by omega) (by omega)) (sd_198 hQ (hz.1 h).symm hp)))
    · exact sd_ct0 hP hc h (br_f (nI_pos (by omega)) (br_t (nI_le (b := 15) (by omega) (by omega)) (sd_198 hQ (hz.2 h).symm hp)))
theorem sd_143 {post : Int32 → St0 → Prop} {mc ms kc ks r k : Nat} {b v x1 x2 x3 x4 x5 x7 x8 x9 x10 z0 z1 : Int32} {a1 a2 a3 a4 a5 a6 a7 a8 a9 a10 a11 a12 : Nat → Int32} (hQ : sd_Q r k b v x1 x4 x7 x8 x10 a1 a2 a3 a7 a9 a10 a11)
    (hV : (x9 = 0 ∧ k = 24) ∨ (x9 = 1 ∧ x4 = x1 ∧ k = 24) ∨ (x9 = 1 ∧ x4 ≠ x1 ∧ k < 24 ∧ b = x2 ∧ v = x3)) (hz : z1 = z0) (hp : post 1 ()) :
    wL_lawOf_143 post mc ms x1 x2 x3 x4 x5 x7 x8 x9 x10 z0 z1 kc ks (nI r) a1 a2 a3 a4 a5 a6 a7 a8 a9 a10 a11 a12 := by
  unfold wL_lawOf_143 wL_lawOf_169
  refine br_t hz ?_
  rcases hV with ⟨h9, hk⟩ | ⟨h9, e, hk⟩ | ⟨h9, e, hk, e2, e3⟩
  · exact br_t h9 (sd_170 hQ ⟨fun z => absurd z.1 (by omega), fun _ => rfl⟩ hp)
  · exact br_f (sd_n1 h9) (br_t e (sd_170 hQ ⟨fun z => absurd z.1 (by omega), fun _ => rfl⟩ hp))
  · exact br_f (sd_n1 h9) (br_f e (br_c (fun g => sd_170 hQ ⟨fun _ => e3.symm, fun z => absurd ⟨hk, e2.trans g.symm⟩ z⟩ hp) (fun g => sd_170 hQ ⟨fun z => absurd (z.2.symm.trans e2) g, fun _ => rfl⟩ hp)))
theorem sd_109 {post : Int32 → St0 → Prop} {mc ms kc ks r k : Nat} {b v x1 x2 x3 x4 x5 x7 x8 x9 z0 : Int32} {a1 a2 a3 a4 a5 a6 a7 a8 a9 a10 a11 a12 : Nat → Int32} (hP : sd_P r k b v a2 a3 a7 a9 a10 a11) (h1 : ∀ j, j < 3 → a1 j = 1)
    (hN : sd_N k b v x1 x2 x3 x7 x8 x9) (hm : (z0 = 0 ∧ (x4 < 0 ∨ ¬ x4 < 3)) ∨ (z0 = 1 ∧ ∃ m, m < 3 ∧ x4 = nI m)) (hp : post 1 ()) :
    wL_lawOf_109 post mc ms x1 x2 x3 x4 x5 x7 x8 x9 z0 kc ks (nI r) a1 a2 a3 a4 a5 a6 a7 a8 a9 a10 a11 a12 := by
  have hup : ∀ n, n < 3 → ¬ a1 n = 0 := fun n hn => sd_n1 (h1 n hn)
  unfold wL_lawOf_109 wL_lawOf_142
  rcases hm with ⟨hz, hbad⟩ | ⟨hz, m, hm, e4⟩
  · unfold wpX_crash
    dsimp only
    have h41 : ∀ n, n < 3 → x1 = nI n → ¬ x4 = x1 := fun n hn e e41 => sd_nbad hn (e41.trans e) hbad
    refine sd_bn1 hbad (br_f sd_10 (br_t hz (sd_143 (r := r) (k := k) (b := b) (v := v) ⟨hP, ?_, Or.inl ⟨hz, hbad⟩, ?_⟩ ?_ rfl hp)))
    · intro hk
      rcases hN with ⟨_, _, _, g⟩ | ⟨_, n, hn, e, ⟨_, _, g⟩ | ⟨_, _, _, hb, _⟩⟩
      · omega
      · omega
      · exact hb
    · rcases hN with ⟨h7, hb1, _, _⟩ | ⟨h7, n, hn, e, h8⟩
      · exact Or.inl ⟨h7, hb1⟩
      · refine Or.inr ⟨h7, n, hn, e, fun e41 => absurd e41 (h41 n hn e), fun _ => ⟨hup n hn, ?_⟩⟩
        rcases h8 with ⟨h8, _, hk⟩ | ⟨h8, _, hk, _⟩
        · exact Or.inl ⟨h8, hk⟩
        · exact Or.inr ⟨h8, hk⟩
    · rcases hN with ⟨_, _, h9, hk⟩ | ⟨h7, n, hn, e, ⟨_, h9, hk⟩ | ⟨_, h9, hk, _, e2, e3⟩⟩
      · exact Or.inl ⟨h9, hk⟩
      · exact Or.inl ⟨h9, hk⟩
      · exact Or.inr (Or.inr ⟨h9, h41 n hn e, by omega, e2, e3⟩)
  · subst e4
    refine sd_cr hP hm (h1 m hm) (fun a3' a7' a8' a9' a11' hP' => br_f (sd_n1 hz) ?_)
    have hM : sd_M (nI m) z0 (upd a1 m 0) := Or.inr ⟨hz, m, hm, rfl, pk_us⟩
    rcases hN with ⟨h7, hb1, h9, hk⟩ | ⟨h7, n, hn, e, h8⟩
    · rw [if_neg (by omega)] at hP'
      exact br_t h9 (sd_143 ⟨hP', fun z => absurd z (by omega), hM, Or.inl ⟨h7, hb1⟩⟩ (Or.inl ⟨h9, hk⟩) (if_neg (by omega)) hp)
    · by_cases hmn : m = n
      · subst hmn
        rcases h8 with ⟨h8, h9, hk⟩ | ⟨h8, h9, hk, _, e2, e3⟩
        · rw [if_neg (by omega)] at hP'
          exact br_t h9 (sd_143 ⟨hP', fun z => absurd z (by omega), hM, Or.inr ⟨h7, m, hm, e, fun _ => pk_us, fun z => absurd e.symm z⟩⟩ (Or.inl ⟨h9, hk⟩) (if_neg (by omega)) hp)
        · rw [if_pos hk] at hP'
          exact br_f (sd_n1 h9) (br_t e.symm (sd_143 ⟨hP', fun z => absurd z (by omega), hM, Or.inr ⟨h7, m, hm, e, fun _ => pk_us, fun z => absurd e.symm z⟩⟩ (Or.inr (Or.inl ⟨h9, e.symm, rfl⟩)) (if_pos hk) hp))
      · have h41 : ¬ nI m = x1 := by
          rw [e, nI_eq (by omega) (by omega)]
          exact hmn
        have hr : ¬ upd a1 m 0 n = 0 := by
          rw [pk_un (fun z => hmn z.symm)]
          exact hup n hn
        rcases h8 with ⟨h8, h9, hk⟩ | ⟨h8, h9, hk, hb, e2, e3⟩
        · rw [if_neg (by omega)] at hP'
          exact br_t h9 (sd_143 ⟨hP', fun z => absurd z (by omega), hM, Or.inr ⟨h7, n, hn, e, fun z => absurd z h41, fun _ => ⟨hr, Or.inl ⟨h8, hk⟩⟩⟩⟩ (Or.inl ⟨h9, hk⟩) (if_neg (by omega)) hp)
        · rw [if_neg (by omega)] at hP'
          exact br_f (sd_n1 h9) (br_f h41 (sd_143 ⟨hP', fun _ => hb, hM, Or.inr ⟨h7, n, hn, e, fun z => absurd z h41, fun _ => ⟨hr, Or.inr ⟨h8, hk⟩⟩⟩⟩ (Or.inr (Or.inr ⟨h9, h41, by omega, e2, e3⟩)) (if_neg (by omega)) hp))
theorem sd_88 {post : Int32 → St0 → Prop} {mc ms kc ks r k : Nat} {b v x1 x2 x3 x4 x5 x7 x8 x9 z0 z1 : Int32} {a1 a2 a3 a4 a5 a6 a7 a8 a9 a10 a11 a12 : Nat → Int32} (hP : sd_P r k b v a2 a3 a7 a9 a10 a11) (h1 : ∀ j, j < 3 → a1 j = 1)
    (hN : sd_N k b v x1 x2 x3 x7 x8 x9) (hz : z1 = z0) (hp : post 1 ()) :
    wL_lawOf_88 post mc ms x1 x2 x3 x4 x5 x7 x8 x9 z0 z1 kc ks (nI r) a1 a2 a3 a4 a5 a6 a7 a8 a9 a10 a11 a12 := by
  unfold wL_lawOf_88 wL_lawOf_108
  refine br_t hz ?_
  rcases sd_nod x4 with hbad | ⟨m, hm, e⟩
  · exact br_c (fun _ => sd_109 hP h1 hN (Or.inl ⟨rfl, hbad⟩) hp) (fun z => br_t (sd_2 (hbad.resolve_left z)) (sd_109 hP h1 hN (Or.inl ⟨rfl, hbad⟩) hp))
  · subst e
    exact br_f (nI_pos (by omega)) (br_f (nI_nlt (a := 2) (b := m) (by omega) (by omega)) (sd_109 hP h1 hN (Or.inr ⟨rfl, m, hm, rfl⟩) hp))
end
section
/-! the law's head -/
theorem sd_58 {post : Int32 → St0 → Prop} {mc ms kc ks r : Nat} {b v x1 x2 x3 x4 x5 x7 x8 z0 : Int32} {a1 a2 a3 a4 a5 a6 a7 a8 a9 a10 a11 a12 : Nat → Int32} (hP : sd_P r 24 b v a2 a3 a7 a9 a10 a11) (h1 : ∀ j, j < 3 → a1 j = 1) (h8 : ∀ j, j < 48 → a8 j = 0)
    (hW : (x7 = 0 ∧ (x1 < 0 ∨ ¬ x1 < 3) ∧ z0 = 0) ∨ (x7 = 1 ∧ ∃ n, n < 3 ∧ x1 = nI n ∧ ((x8 = 0 ∧ (x2 < 0 ∨ ¬ x2 < 16) ∧ z0 = 0) ∨ (x8 = 1 ∧ z0 = 1 ∧ ∃ c, c < 16 ∧ x2 = nI c)))) (hp : post 1 ()) :
    wL_lawOf_58 post mc ms x1 x2 x3 x4 x5 x7 x8 z0 kc ks (nI r) a1 a2 a3 a4 a5 a6 a7 a8 a9 a10 a11 a12 := by
  unfold wL_lawOf_58
  rcases hW with ⟨h7, hbad, hz⟩ | ⟨h7, n, hn, e, ⟨g8, hbad, hz⟩ | ⟨g8, hz, c, hc, e2⟩⟩
  · unfold wpX_write
    dsimp only
    exact sd_bn1 hbad (br_f sd_10 (br_t h7 (sd_88 hP h1 (Or.inl ⟨h7, hbad, hz, rfl⟩) rfl hp)))
  · subst e
    unfold wpX_write
    dsimp only
    exact sd_bn0 hn (br_t rfl (sd_bb1 hbad (br_f sd_10 (br_f (sd_n1 h7) (br_t g8 (sd_88 hP h1 (Or.inr ⟨h7, n, hn, rfl, Or.inl ⟨g8, hz, rfl⟩⟩) rfl hp))))))
  · subst e e2
    exact sd_w hP h1 h8 hn hc (fun a8' a9' a10' a11' hP' => br_f (sd_n1 h7) (br_f (sd_n1 g8) (sd_88 hP' h1 (Or.inr ⟨h7, n, hn, rfl, Or.inr ⟨g8, hz, rfl, pk_in c 16 hc, rfl, rfl⟩⟩) rfl hp)))
theorem sd_41 {post : Int32 → St0 → Prop} {mc ms kc ks r : Nat} {b v x1 x2 x3 x4 x5 x7 z0 : Int32} {a1 a2 a3 a4 a5 a6 a7 a8 a9 a10 a11 a12 : Nat → Int32} (hP : sd_P r 24 b v a2 a3 a7 a9 a10 a11) (h1 : ∀ j, j < 3 → a1 j = 1) (h8 : ∀ j, j < 48 → a8 j = 0)
    (hW : (x7 = 0 ∧ (x1 < 0 ∨ ¬ x1 < 3)) ∨ (x7 = 1 ∧ ∃ n, n < 3 ∧ x1 = nI n)) (hV : (z0 = 0 ∧ (x2 < 0 ∨ ¬ x2 < 16)) ∨ (z0 = 1 ∧ ∃ c, c < 16 ∧ x2 = nI c)) (hp : post 1 ()) :
    wL_lawOf_41 post mc ms x1 x2 x3 x4 x5 x7 z0 kc ks (nI r) a1 a2 a3 a4 a5 a6 a7 a8 a9 a10 a11 a12 := by
  unfold wL_lawOf_41 wL_lawOf_57
  rcases hW with ⟨h7, hbad⟩ | ⟨h7, n, hn, e⟩
  · exact br_t h7 (sd_58 hP h1 h8 (Or.inl ⟨h7, hbad, rfl⟩) hp)
  · rcases hV with ⟨g8, hbad⟩ | ⟨g8, c, hc, e2⟩
    · exact br_f (sd_n1 h7) (br_t g8 (sd_58 hP h1 h8 (Or.inr ⟨h7, n, hn, e, Or.inl ⟨g8, hbad, rfl⟩⟩) hp))
    · exact br_f (sd_n1 h7) (br_f (sd_n1 g8) (sd_58 hP h1 h8 (Or.inr ⟨h7, n, hn, e, Or.inr ⟨g8, rfl, c, hc, e2⟩⟩) hp))
theorem sd_24 {post : Int32 → St0 → Prop} {mc ms kc ks r : Nat} {b v x1 x2 x3 x4 x5 z0 : Int32} {a1 a2 a3 a4 a5 a6 a7 a8 a9 a10 a11 a12 : Nat → Int32} (hP : sd_P r 24 b v a2 a3 a7 a9 a10 a11) (h1 : ∀ j, j < 3 → a1 j = 1) (h8 : ∀ j, j < 48 → a8 j = 0)
    (hW : (z0 = 0 ∧ (x1 < 0 ∨ ¬ x1 < 3)) ∨ (z0 = 1 ∧ ∃ n, n < 3 ∧ x1 = nI n)) (hp : post 1 ()) :
    wL_lawOf_24 post mc ms x1 x2 x3 x4 x5 z0 kc ks (nI r) a1 a2 a3 a4 a5 a6 a7 a8 a9 a10 a11 a12 := by
  unfold wL_lawOf_24 wL_lawOf_40
  rcases sd_blk x2 with hbad | ⟨c, hc, e⟩
  · exact br_c (fun _ => sd_41 hP h1 h8 hW (Or.inl ⟨rfl, hbad⟩) hp) (fun z => br_t (sd_15 (hbad.resolve_left z)) (sd_41 hP h1 h8 hW (Or.inl ⟨rfl, hbad⟩) hp))
  · subst e
    exact br_f (nI_pos (by omega)) (br_f (nI_nlt (a := 15) (b := c) (by omega) (by omega)) (sd_41 hP h1 h8 hW (Or.inr ⟨rfl, c, hc, rfl⟩) hp))
/-! the constructor -/
theorem sd_fill {f s : Nat → Int32} {i k : Nat} {x : Int32} (hk : k = i) (h : ∀ j, j < i → s j = x) : ∀ j, j < i + 1 → upd s k x j = x := by
  intro j hj
  rw [hk]
  by_cases e : j = i
  · rw [e, pk_us]
  · rw [pk_un e]
    exact h j (by omega)
theorem sd_in120 {post : St2 → Prop} {mc ms kc ks : Nat} {f0 : Int32} {a1 a2 a3 a4 a5 a6 a7 a8 a9 a10 a11 a12 : Nat → Int32} (H : ∀ a1' a9', (∀ j, j < 3 → a1' j = 1) → (∀ j, j < 24 → a9' j = -1) → post (f0, a1', a2, a3, a4, a5, a6, a7, a8, a9', a10, a11, a12)) :
    ∃ f, wX_init_120 post mc ms kc ks f0 f 0 a1 a2 a3 a4 a5 a6 a7 a8 a9 a10 a11 a12 :=
  pk_loop (fun f i s => wX_init_120 post mc ms kc ks f0 f (nI i) a1 a2 a3 a4 a5 a6 a7 a8 (s) a10 a11 a12) (fun i s => ∀ j, j < i → s j = -1) 24 0 a9 (by omega) (fun j hj => absurd hj (by omega))
    (fun f s h9 => pk_le 24 24 (fun _ =>
      pk_loop (fun f i t => wX_init_141 post mc ms kc ks f0 f (nI i) (t) a2 a3 a4 a5 a6 a7 a8 (s) a10 a11 a12) (fun i t => ∀ j, j < i → t j = 1) 3 0 a1 (by omega) (fun j hj => absurd hj (by omega))
        (fun f t h1 => pk_le 3 3 (fun _ => H t s h1 h9) (fun z => absurd z (by omega)))
        (fun f i t hi h1 hw => pk_le 3 i (fun z => absurd z (by omega)) (fun _ => ⟨pk_in i 3 hi, nm_e (nm_r (nI_1 i) (hw _ (sd_fill (f := t) (nI_clamp (by omega)) h1)))⟩))) (fun z => absurd z (by omega)))
    (fun f i s hi h9 hw => pk_le 24 i (fun z => absurd z (by omega)) (fun _ => ⟨pk_in i 24 hi, nm_e (nm_r (nI_1 i) (hw _ (sd_fill (f := s) (nI_clamp (by omega)) h9)))⟩))
theorem sd_room {x : Int32} (h2 : 2 ≤ x) (h8 : x ≤ 8) : ∃ r : Nat, 2 ≤ r ∧ r ≤ 8 ∧ x = nI r := by
  have h0 : ¬ x < 0 := by
    rw [Int32.le_iff_toInt_le] at h2
    rw [Int32.lt_iff_toInt_lt]
    have e2 : (2 : Int32).toInt = 2 := by decide
    have e0 : (0 : Int32).toInt = 0 := by decide
    omega
  obtain ⟨j, hj, e⟩ := nI_of2 (M := 8) (n := 8) (by decide) h0 h8
  rw [e] at h2
  exact ⟨j, (nI_leI (a := 2) (by omega) (by omega)).mp h2, hj, e⟩
theorem sd_init {post : St2 → Prop} {mc ms : Nat} {f0 p0 : Int32} (hm : 12 ≤ mc) (hs : 247 ≤ ms)
    (H : ∀ (r : Nat) (a1' a9' : Nat → Int32), 2 ≤ r → r ≤ 8 → (∀ j, j < 3 → a1' j = 1) → (∀ j, j < 24 → a9' j = -1) → post (nI r, a1', (fun _ => 0), (fun _ => 0), (fun _ => 0), (fun _ => 0), (fun _ => 0), (fun _ => 0), (fun _ => 0), a9', (fun _ => 0), (fun _ => 0), (fun _ => 0))) :
    wpX_init post mc ms f0 p0 := by
  have key : ∀ x : Int32, 2 ≤ x → wX_init_104 post mc ms x 12 247 f0 (fun _ => 0) (fun _ => 0) (fun _ => 0) (fun _ => 0) (fun _ => 0) (fun _ => 0) (fun _ => 0) (fun _ => 0) (fun _ => 0) (fun _ => 0) (fun _ => 0) (fun _ => 0) := by
    intro x hx
    unfold wX_init_104
    refine br_c (fun h8 => ?_) (fun _ => ?_)
    · obtain ⟨r, g1, g2, e⟩ := sd_room hx h8
      subst e
      exact sd_in120 (fun a1' a9' q1 q9 => H r a1' a9' g1 g2 q1 q9)
    · exact sd_in120 (fun a1' a9' q1 q9 => H 8 a1' a9' (by omega) (by omega) q1 q9)
  unfold wpX_init
  refine ⟨by omega, by omega, by omega, by omega, by omega, by omega, by omega, by omega, by omega, by omega, by omega, by omega, by omega, by omega, by omega, by omega, by omega, by omega, by omega, by omega, by omega, by omega, by omega, by omega, ?_⟩
  exact br_c (fun h => key p0 h) (fun _ => key 2 (by decide))
theorem sd_lawOf {post : Int32 → St0 → Prop} {mc ms : Nat} {p0 p1 p2 p3 p4 p5 : Int32} (hm : 13 ≤ mc) (hs : 260 ≤ ms) (hp : post 1 ()) : wpL_lawOf post mc ms () p0 p1 p2 p3 p4 p5 := by
  unfold wpL_lawOf wL_lawOf_23
  refine ⟨by omega, by omega, 12, 247, by omega, by omega, sd_init (by omega) (by omega) (fun r a1 a9 r2 r8 h1 h9 => ?_)⟩
  have hP : sd_P r 24 0 0 (fun _ => 0) (fun _ => 0) (fun _ => 0) a9 (fun _ => 0) (fun _ => 0) :=
    ⟨r2, r8, by omega, by omega, fun _ _ => rfl, fun _ _ => rfl, fun _ _ => rfl, fun j hj _ => ⟨h9 j hj, rfl⟩, fun z => absurd z (by omega)⟩
  rcases sd_nod p1 with hbad | ⟨n, hn, e⟩
  · exact br_c (fun _ => sd_24 hP h1 (fun _ _ => rfl) (Or.inl ⟨rfl, hbad⟩) hp) (fun z => br_t (sd_2 (hbad.resolve_left z)) (sd_24 hP h1 (fun _ _ => rfl) (Or.inl ⟨rfl, hbad⟩) hp))
  · subst e
    exact br_f (nI_pos (by omega)) (br_f (nI_nlt (a := 2) (b := n) (by omega) (by omega)) (sd_24 hP h1 (fun _ _ => rfl) (Or.inr ⟨rfl, n, hn, rfl⟩) hp))
end
section
theorem sd_cell {post : Int32 → Prop} {L : Nat} {xs : Nat → Int32} {x : Int32} (k : Nat) (hL : L ≤ 6) (hk : k < 6) (hx : x = nI k) (hp : ∀ y, post y) : wpL_cellAt post L xs () x := by
  unfold wpL_cellAt
  exact pk_le L k (fun _ => hp _) (fun z => ⟨pk_in k L z hx, hp _⟩) (hy := hx)
theorem i_vc (xs : Nat → Int32) (L : Nat) (hL : L ≤ 6) : wpL_law (fun r => r = 1) L xs := by
  unfold wpL_law
  refine sd_cell 0 hL (by omega) rfl (fun y0 => ?_)
  refine sd_cell 1 hL (by omega) rfl (fun y1 => ?_)
  refine sd_cell 2 hL (by omega) rfl (fun y2 => ?_)
  refine sd_cell 3 hL (by omega) rfl (fun y3 => ?_)
  refine sd_cell 4 hL (by omega) rfl (fun y4 => ?_)
  refine sd_cell 5 hL (by omega) rfl (fun y5 => ?_)
  exact ⟨13, 260, by omega, by omega, sd_lawOf (by omega) (by omega) rfl⟩
end
