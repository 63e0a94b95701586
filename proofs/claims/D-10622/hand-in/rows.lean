section
/-! numbers -/
theorem qa_ma (a b : Nat) : nI a * 16 + nI b = nI (a * 16 + b) := by
  rw [show (16 : Int32) = nI 16 from rfl, pk_mul, nI_add]
theorem qa_64 (b : Nat) : 64 + nI b = nI (64 + b) := by
  rw [show (64 : Int32) = nI 64 from rfl, nI_add]
theorem qa_pl : ∀ r, r < 16 → ∀ c, c < 16 → ((nI r >>> ((2 : Int32) &&& 31)) * 4) + (nI c >>> ((2 : Int32) &&& 31)) = nI (r / 4 * 4 + c / 4) := by decide +kernel
theorem qa_wi : ∀ r, r < 16 → ∀ c, c < 16 → ((nI r &&& 3) * 4) + (nI c &&& 3) = nI (r % 4 * 4 + c % 4) := by decide +kernel
theorem qa_lo : ∀ n, n < 256 → nI n &&& 15 = nI (n % 16) := by decide +kernel
theorem qa_hi : ∀ n, n < 256 → nI n >>> ((4 : Int32) &&& 31) = nI (n / 16) := by decide +kernel
theorem qa_d4 : ∀ p, p < 16 → (nI p / 4) * 4 = nI (p / 4 * 4) := by decide +kernel
theorem qa_m4 : ∀ p, p < 16 → (nI p - nI p / 4 * 4) * 4 = nI (p % 4 * 4) := by decide +kernel
theorem qa_rw : ∀ p, p < 16 → ∀ i, i < 16 → ((nI p / 4) * 4) + (nI i / 4) = nI (p / 4 * 4 + i / 4) := by decide +kernel
theorem qa_cw : ∀ p, p < 16 → ∀ i, i < 16 → ((nI p - nI p / 4 * 4) * 4) + (nI i - nI i / 4 * 4) = nI (p % 4 * 4 + i % 4) := by decide +kernel
theorem qa_nm : ∀ k, k < 257 → ¬ nI k = -1 := by decide +kernel
/-! an int is a cell or none -/
def qa_N (x : Int32) : Prop := x < 0 ∨ ∃ n : Nat, 256 ≤ n ∧ n < 2 ^ 31 ∧ x = nI n
theorem qa_cn (x : Int32) : qa_N x ∨ ∃ n : Nat, n < 256 ∧ x = nI n := by
  by_cases h : x < 0
  · exact Or.inl (Or.inl h)
  · obtain ⟨j, hj, rfl⟩ := nI_of h
    by_cases z : j < 256
    · exact Or.inr ⟨j, z, rfl⟩
    · exact Or.inl (Or.inr ⟨j, by omega, hj, rfl⟩)
theorem qa_nc {x : Int32} (h : qa_N x) {n : Nat} (hn : n < 256) (e : x = nI n) : False := by
  subst e
  rcases h with h | ⟨j, h1, h2, h3⟩
  · exact nI_pos (by omega) h
  · have := (nI_eq (by omega) h2).mp h3
    omega
theorem qa_bad0 {post : Int32 → Prop} {u : St0} {n : Nat} (hn : n < 256) (h : post 0) : wpX_bad post u (nI n) := by
  unfold wpX_bad
  exact br_f (nI_pos (by omega)) (pk_le n 255 (fun _ => h) (fun z => absurd z (by omega)))
theorem qa_bad1 {post : Int32 → Prop} {u : St0} {x : Int32} (hx : qa_N x) (h : post 1) : wpX_bad post u x := by
  unfold wpX_bad
  rcases hx with hx | ⟨j, h1, h2, rfl⟩
  · exact br_t hx h
  · exact br_f (nI_pos h2) (pk_le j 255 (fun z => absurd z (by omega)) (fun _ => h))
theorem qa_cell1 {post : Int32 → Prop} {u : St0} {n : Nat} (hn : n < 256) (h : post 1) : wpL_cell post u (nI n) := by
  unfold wpL_cell
  exact br_f (nI_pos (by omega)) (pk_lt 255 n (fun z => absurd z (by omega)) (fun _ => h))
theorem qa_cell0 {post : Int32 → Prop} {u : St0} {x : Int32} (hx : qa_N x) (h : post 0) : wpL_cell post u x := by
  unfold wpL_cell
  rcases hx with hx | ⟨j, h1, h2, rfl⟩
  · exact br_t hx h
  · exact br_f (nI_pos h2) (pk_lt 255 j (fun _ => h) (fun z => absurd z (by omega)))
/-! cells and chunks -/
theorem qa_place {post : Int32 → Prop} {u : St0} {r c : Nat} (hr : r < 16) (hc : c < 16) (h : post (nI (r / 4 * 4 + c / 4))) : wpX_placeOf post u (nI r) (nI c) := by
  unfold wpX_placeOf
  rw [qa_pl r hr c hc]
  exact h
theorem qa_within {post : Int32 → Prop} {u : St0} {r c : Nat} (hr : r < 16) (hc : c < 16) (h : post (nI (r % 4 * 4 + c % 4))) : wpX_within post u (nI r) (nI c) := by
  unfold wpX_within
  rw [qa_wi r hr c hc]
  exact h
theorem qa_read {post : Int32 → Prop} {f0 f1 f2 f3 : Int32} {a1 a2 a3 a4 a5 a6 a7 a8 a9 a10 a11 : Nat → Int32} {v r c k : Nat} (hv : v < 5) (hr : r < 16) (hc : c < 16) (hk : k < 80) (h2 : a2 (v * 16 + (r / 4 * 4 + c / 4)) = nI k) (h : post (a4 (k * 16 + (r % 4 * 4 + c % 4)) * a5 k + a6 k)) : wpX_read post (f0, f1, f2, f3, a1, a2, a3, a4, a5, a6, a7, a8, a9, a10, a11) (nI v) (nI r) (nI c) := by
  unfold wpX_read
  try dsimp only
  refine qa_place hr hc ?_
  rw [qa_ma, nI_clamp (by omega), h2]
  refine ⟨vp_in_nI (by omega) (by decide), nm_e ?_⟩
  refine qa_within hr hc ?_
  rw [qa_ma, nI_clamp (by omega), nI_clamp (by omega)]
  exact ⟨vp_in_nI (by omega) (by decide), vp_in_nI hk (by decide), vp_in_nI hk (by decide), h⟩
theorem qa_free {post : Int32 → Prop} {f0 f1 f2 f3 : Int32} {a1 a2 a3 a4 a5 a6 a7 a8 a9 a10 a11 : Nat → Int32} (h : ∀ d, d < 80 → post (nI d)) : wpX_freeSlot post (f0, f1, f2, f3, a1, a2, a3, a4, a5, a6, a7, a8, a9, a10, a11) := by
  unfold wpX_freeSlot
  exact pk_loop (σ := Unit) (fun n i _ => wX_freeSlot_2 post f0 f1 f2 f3 a1 a2 a3 a4 a5 a6 a7 a8 a9 a10 a11 n (nI i)) (fun _ _ => True) 79 0 () (by omega) trivial
    (fun n _ _ => pk_le 79 79 (fun _ => h 79 (by omega)) (fun z => absurd z (by omega)))
    (fun n i _ hi _ hw => pk_le 79 i (fun z => absurd z (by omega)) (fun _ => ⟨pk_in i 80 (by omega), br_c (fun _ => h i (by omega)) (fun _ => nm_r (nI_1 i) (hw () trivial))⟩))
/-- the weak picture: every place of the present array has a chunk -/
def qa_V (a : Nat → Int32) : Prop := ∀ k, k < 16 → ∃ j, j < 80 ∧ a (64 + k) = nI j
theorem qa_Vu {a : Nat → Int32} {k d : Nat} (h : qa_V a) (hd : d < 80) : qa_V (upd a k (nI d)) := by
  intro j hj
  by_cases e : 64 + j = k
  · exact ⟨d, hd, by rw [e, pk_us]⟩
  · rw [pk_un e]
    exact h j hj
theorem qa_own30 {post : Int32 → St2 → Prop} {f0 f1 f2 f3 : Int32} {a1 a2 a3 a4 a5 a6 a7 a8 a9 a10 a11 : Nat → Int32} {p c d : Nat} (hp : p < 16) (hc : c < 80) (hd : d < 80)
    (h : ∀ b3 b4 b5 b6 b7 b8 b9 b10 : Nat → Int32, post (nI d) (f0, f1, f2, f3, a1, upd a2 (64 + p) (nI d), b3, b4, b5, b6, b7, b8, b9, b10, a11)) :
    ∃ n, wX_own_30 post (nI p) (nI c) (nI d) f0 f1 f2 f3 n 0 a1 a2 a3 a4 a5 a6 a7 a8 a9 a10 a11 := by
  have C : vp_in (nI c) 80 := vp_in_nI hc (by decide)
  have D : vp_in (nI d) 80 := vp_in_nI hd (by decide)
  refine pk_loop (fun n i s => wX_own_30 post (nI p) (nI c) (nI d) f0 f1 f2 f3 n (nI i) a1 a2 a3 s a5 a6 a7 a8 a9 a10 a11) (fun _ _ => True) 16 0 a4 (by omega) trivial ?_ ?_
  · intro n s _
    refine pk_le 16 16 (fun _ => ⟨C, D, fun b5 _ => ⟨C, D, fun b6 _ => ⟨C, D, fun b7 _ => ⟨C, D, fun b8 _ => ⟨C, D, fun b9 _ => ⟨C, D, fun b10 _ => ⟨C, C, fun b3' _ => ⟨D, fun b3 _ => ⟨pk_in (64 + p) 80 (by omega) (qa_64 p), nm_r ?_ (h b3 s b5 b6 b7 b8 b9 b10)⟩⟩⟩⟩⟩⟩⟩⟩⟩) (fun z => absurd z (by omega))
    rw [qa_64, nI_clamp (by omega)]
  · intro n i s hi _ hw
    exact pk_le 16 i (fun z => absurd z (by omega)) (fun _ => ⟨pk_in (c * 16 + i) 1280 (by omega) (qa_ma c i), pk_in (d * 16 + i) 1280 (by omega) (qa_ma d i), nm_e (nm_r (nI_1 i) (hw _ trivial))⟩)
theorem qa_ownW {post : Int32 → St2 → Prop} {f0 f1 f2 f3 : Int32} {a1 a2 a3 a4 a5 a6 a7 a8 a9 a10 a11 : Nat → Int32} {p : Nat} (hp : p < 16) (hV : qa_V a2)
    (h : ∀ (d : Nat) (b2 b3 b4 b5 b6 b7 b8 b9 b10 : Nat → Int32), d < 80 → qa_V b2 → post (nI d) (f0, f1, f2, f3, a1, b2, b3, b4, b5, b6, b7, b8, b9, b10, a11)) :
    wpX_own post (f0, f1, f2, f3, a1, a2, a3, a4, a5, a6, a7, a8, a9, a10, a11) (nI p) := by
  obtain ⟨c, hc, ec⟩ := hV p hp
  unfold wpX_own
  try dsimp only
  rw [qa_64, nI_clamp (by omega), ec]
  exact ⟨vp_in_nI (by omega) (by decide), nm_e ⟨vp_in_nI hc (by decide), br_c (fun _ => h c _ _ _ _ _ _ _ _ _ hc hV) (fun _ => qa_free (fun d hd => qa_own30 hp hc hd (fun _ _ _ _ _ _ _ _ => h d _ _ _ _ _ _ _ _ _ hd (qa_Vu hV hd))))⟩⟩
theorem qa_ownS {post : Int32 → St2 → Prop} {f0 f1 f2 f3 : Int32} {a1 a2 a3 a4 a5 a6 a7 a8 a9 a10 a11 : Nat → Int32} {p : Nat} (hp : p < 16) (e2 : a2 (64 + p) = nI p) (e3 : a3 p = 1) (h : post (nI p) (f0, f1, f2, f3, a1, a2, a3, a4, a5, a6, a7, a8, a9, a10, a11)) : wpX_own post (f0, f1, f2, f3, a1, a2, a3, a4, a5, a6, a7, a8, a9, a10, a11) (nI p) := by
  unfold wpX_own
  try dsimp only
  rw [qa_64, nI_clamp (by omega), e2]
  exact ⟨vp_in_nI (by omega) (by decide), nm_e ⟨vp_in_nI (by omega) (by decide), br_t (by rw [nI_clamp (by omega)]; exact e3) h⟩⟩
theorem qa_settle {post : St2 → Prop} {f0 f1 f2 f3 : Int32} {a1 a2 a3 a4 a5 a6 a7 a8 a9 a10 a11 : Nat → Int32} {c : Nat} (hc : c < 80) (h : ∀ b4 b5 b6 b7 : Nat → Int32, post (f0, f1, f2, f3, a1, a2, a3, b4, b5, b6, b7, a8, a9, a10, a11)) : wpX_settle post (f0, f1, f2, f3, a1, a2, a3, a4, a5, a6, a7, a8, a9, a10, a11) (nI c) := by
  have C : vp_in (nI c) 80 := vp_in_nI hc (by decide)
  unfold wpX_settle
  exact pk_loop (fun n i s => wX_settle_2 post (nI c) f0 f1 f2 f3 n (nI i) a1 a2 a3 s a5 a6 a7 a8 a9 a10 a11) (fun _ _ => True) 16 0 a4 (by omega) trivial
    (fun n s _ => pk_le 16 16 (fun _ => ⟨C, fun b5 _ => ⟨C, fun b6 _ => ⟨C, fun b7 _ => h s b5 b6 b7⟩⟩⟩) (fun z => absurd z (by omega)))
    (fun n i s hi _ hw => pk_le 16 i (fun z => absurd z (by omega)) (fun _ => ⟨pk_in (c * 16 + i) 1280 (by omega) (qa_ma c i), C, C, pk_in (c * 16 + i) 1280 (by omega) (qa_ma c i), nm_e (nm_r (nI_1 i) (hw _ trivial))⟩))
theorem qa_wc42 {post : St2 → Prop} {f0 f1 f2 f3 : Int32} {a1 a2 a3 a4 a5 a6 a7 a8 a9 a10 a11 : Nat → Int32} {r c d : Nat} {x : Int32} (hr : r < 16) (hc : c < 16) (hd : d < 80) (h : post (f0, f1, f2, f3, a1, a2, a3, upd a4 (d * 16 + (r % 4 * 4 + c % 4)) x, a5, a6, upd a7 d 0, a8, upd a9 d 0, a10, a11)) : wX_writeCell_42 post (nI r) (nI c) x (nI d) f0 f1 f2 f3 a1 a2 a3 a4 a5 a6 a7 a8 a9 a10 a11 := by
  unfold wX_writeCell_42
  refine qa_within hr hc ?_
  rw [qa_ma, nI_clamp (by omega), nI_clamp (by omega)]
  exact ⟨vp_in_nI (by omega) (by decide), nm_e ⟨vp_in_nI hd (by decide), nm_e ⟨vp_in_nI hd (by decide), nm_e h⟩⟩⟩
theorem qa_wc36 {post : St2 → Prop} {f0 f1 f2 f3 : Int32} {a1 a2 a3 a4 a5 a6 a7 a8 a9 a10 a11 : Nat → Int32} {r c d : Nat} {x : Int32} (hr : r < 16) (hc : c < 16) (hd : d < 80) (h : ∀ b4 b5 b6 b7 b9 : Nat → Int32, post (f0, f1, f2, f3, a1, a2, a3, b4, b5, b6, b7, a8, b9, a10, a11)) : wX_writeCell_36 post (nI r) (nI c) x (nI d) f0 f1 f2 f3 a1 a2 a3 a4 a5 a6 a7 a8 a9 a10 a11 := by
  unfold wX_writeCell_36
  exact qa_settle hd (fun b4 b5 b6 b7 => qa_wc42 hr hc hd (h _ _ _ _ _))
theorem qa_wcW {post : St2 → Prop} {f0 f1 f2 f3 : Int32} {a1 a2 a3 a4 a5 a6 a7 a8 a9 a10 a11 : Nat → Int32} {r c : Nat} {x : Int32} (hr : r < 16) (hc : c < 16) (hV : qa_V a2)
    (h : ∀ b2 b3 b4 b5 b6 b7 b8 b9 b10 : Nat → Int32, qa_V b2 → post (f0, f1, f2, f3, a1, b2, b3, b4, b5, b6, b7, b8, b9, b10, a11)) :
    wpX_writeCell post (f0, f1, f2, f3, a1, a2, a3, a4, a5, a6, a7, a8, a9, a10, a11) (nI r) (nI c) x := by
  unfold wpX_writeCell
  try dsimp only
  refine qa_place hr hc ?_
  refine qa_ownW (by omega) hV (fun d b2 b3 b4 b5 b6 b7 b8 b9 b10 hd hb => ?_)
  have D : vp_in (nI d) 80 := vp_in_nI hd (by decide)
  exact ⟨D, br_c (fun _ => ⟨D, br_c (fun _ => qa_wc42 hr hc hd (h _ _ _ _ _ _ _ _ _ hb)) (fun _ => qa_wc36 hr hc hd (fun _ _ _ _ _ => h _ _ _ _ _ _ _ _ _ hb))⟩) (fun _ => qa_wc36 hr hc hd (fun _ _ _ _ _ => h _ _ _ _ _ _ _ _ _ hb))⟩
theorem qa_wcS {post : St2 → Prop} {f0 f1 f2 f3 : Int32} {a1 a2 a3 a4 a5 a6 a7 a8 a9 a10 a11 : Nat → Int32} {p i : Nat} {x : Int32} (hp : p < 16) (hi : i < 16) (e2 : a2 (64 + p) = nI p) (e3 : a3 p = 1) (e5 : a5 p = 1) (e6 : a6 p = 0)
    (h : post (f0, f1, f2, f3, a1, a2, a3, upd a4 (p * 16 + i) x, a5, a6, upd a7 p 0, a8, upd a9 p 0, a10, a11)) :
    wpX_writeCell post (f0, f1, f2, f3, a1, a2, a3, a4, a5, a6, a7, a8, a9, a10, a11) (nI (p / 4 * 4 + i / 4)) (nI (p % 4 * 4 + i % 4)) x := by
  have e1 : (p / 4 * 4 + i / 4) / 4 * 4 + (p % 4 * 4 + i % 4) / 4 = p := by omega
  have e1' : (p / 4 * 4 + i / 4) % 4 * 4 + (p % 4 * 4 + i % 4) % 4 = i := by omega
  have D : vp_in (nI p) 80 := vp_in_nI (by omega) (by decide)
  unfold wpX_writeCell
  try dsimp only
  refine qa_place (by omega) (by omega) ?_
  rw [e1]
  refine qa_ownS hp e2 e3 ?_
  refine ⟨D, br_t (by rw [nI_clamp (by omega)]; exact e5) ⟨D, br_t (by rw [nI_clamp (by omega)]; exact e6) ?_⟩⟩
  refine qa_wc42 (by omega) (by omega) (by omega) ?_
  rw [e1']
  exact h
end
section
/-! regions -/
def qa_in (r0 r1 c0 c1 p i : Nat) : Prop := r0 ≤ p / 4 * 4 + i / 4 ∧ p / 4 * 4 + i / 4 ≤ r1 ∧ c0 ≤ p % 4 * 4 + i % 4 ∧ p % 4 * 4 + i % 4 ≤ c1
def qa_ans (c : Prop) (x y : Int32) : Prop := (c → y = x) ∧ (¬ c → y = 0)
theorem qa_inR {post : Int32 → Prop} {a1 a2 a3 a4 a5 a6 a7 a8 a9 a10 a11 : Nat → Int32} {r0 r1 c0 c1 r c : Nat} (b0 : r0 < 16) (b1 : r1 < 16) (b2 : c0 < 16) (b3 : c1 < 16) (hr : r < 16) (hc : c < 16)
    (h1 : (r0 ≤ r ∧ r ≤ r1 ∧ c0 ≤ c ∧ c ≤ c1) → post 1) (h0 : ¬ (r0 ≤ r ∧ r ≤ r1 ∧ c0 ≤ c ∧ c ≤ c1) → post 0) : wpX_inRegion post (nI r0, nI r1, nI c0, nI c1, a1, a2, a3, a4, a5, a6, a7, a8, a9, a10, a11) (nI r) (nI c) := by
  unfold wpX_inRegion
  exact pk_lt r r0 (fun z => h0 (by omega)) (fun z1 => pk_lt r1 r (fun z => h0 (by omega)) (fun z2 => pk_lt c c0 (fun z => h0 (by omega)) (fun z3 => pk_lt c1 c (fun z => h0 (by omega)) (fun z4 => h1 ⟨z1, z2, z3, z4⟩))))
theorem qa_cov {post : Int32 → Prop} {a1 a2 a3 a4 a5 a6 a7 a8 a9 a10 a11 : Nat → Int32} {r0 r1 c0 c1 p : Nat} (b0 : r0 < 16) (b1 : r1 < 16) (b2 : c0 < 16) (b3 : c1 < 16) (hp : p < 16)
    (h1 : (r0 ≤ p / 4 * 4 ∧ p / 4 * 4 + 3 ≤ r1 ∧ c0 ≤ p % 4 * 4 ∧ p % 4 * 4 + 3 ≤ c1) → post 1) (h0 : ¬ (r0 ≤ p / 4 * 4 ∧ p / 4 * 4 + 3 ≤ r1 ∧ c0 ≤ p % 4 * 4 ∧ p % 4 * 4 + 3 ≤ c1) → post 0) : wpX_covers post (nI r0, nI r1, nI c0, nI c1, a1, a2, a3, a4, a5, a6, a7, a8, a9, a10, a11) (nI p) := by
  unfold wpX_covers
  refine ⟨by decide, nm_r (qa_d4 p hp) ⟨by decide, nm_r (qa_m4 p hp) ?_⟩⟩
  exact pk_lt (p / 4 * 4) r0 (fun z => h0 (by omega)) (fun z1 => pk_lt r1 (p / 4 * 4 + 3) (hy := nI_add (p / 4 * 4) 3) (fun z => h0 (by omega)) (fun z2 => pk_lt (p % 4 * 4) c0 (fun z => h0 (by omega)) (fun z3 => pk_lt c1 (p % 4 * 4 + 3) (hy := nI_add (p % 4 * 4) 3) (fun z => h0 (by omega)) (fun z4 => h1 ⟨z1, z2, z3, z4⟩))))
theorem qa_tou {post : Int32 → Prop} {a1 a2 a3 a4 a5 a6 a7 a8 a9 a10 a11 : Nat → Int32} {r0 r1 c0 c1 p : Nat} (b0 : r0 < 16) (b1 : r1 < 16) (b2 : c0 < 16) (b3 : c1 < 16) (hp : p < 16)
    (h1 : (r0 ≤ p / 4 * 4 + 3 ∧ p / 4 * 4 ≤ r1 ∧ c0 ≤ p % 4 * 4 + 3 ∧ p % 4 * 4 ≤ c1) → post 1) (h0 : ¬ (r0 ≤ p / 4 * 4 + 3 ∧ p / 4 * 4 ≤ r1 ∧ c0 ≤ p % 4 * 4 + 3 ∧ p % 4 * 4 ≤ c1) → post 0) : wpX_touches post (nI r0, nI r1, nI c0, nI c1, a1, a2, a3, a4, a5, a6, a7, a8, a9, a10, a11) (nI p) := by
  unfold wpX_touches
  refine ⟨by decide, nm_r (qa_d4 p hp) ⟨by decide, nm_r (qa_m4 p hp) ?_⟩⟩
  exact pk_lt (p / 4 * 4 + 3) r0 (hx := nI_add (p / 4 * 4) 3) (fun z => h0 (by omega)) (fun z1 => pk_lt r1 (p / 4 * 4) (fun z => h0 (by omega)) (fun z2 => pk_lt (p % 4 * 4 + 3) c0 (hx := nI_add (p % 4 * 4) 3) (fun z => h0 (by omega)) (fun z3 => pk_lt c1 (p % 4 * 4) (fun z => h0 (by omega)) (fun z4 => h1 ⟨z1, z2, z3, z4⟩))))
/-! a chunk that is touched in part: its cells one by one -/
theorem qa_part {post : St2 → Prop} {a1 a2 a3 a4 a5 a6 a7 a8 a9 a10 a11 : Nat → Int32} {r0 r1 c0 c1 p : Nat} {x : Int32} (b0 : r0 < 16) (b1 : r1 < 16) (b2 : c0 < 16) (b3 : c1 < 16) (hp : p < 16)
    (e2 : a2 (64 + p) = nI p) (e3 : a3 p = 1) (e5 : a5 p = 1) (e6 : a6 p = 0) (e4 : ∀ i, i < 16 → a4 (p * 16 + i) = 0)
    (h : ∀ b4 b7 b9 : Nat → Int32, (∀ i, i < 16 → qa_ans (qa_in r0 r1 c0 c1 p i) x (b4 (p * 16 + i))) → (∀ j, (j < p * 16 ∨ p * 16 + 16 ≤ j) → b4 j = a4 j) → post (nI r0, nI r1, nI c0, nI c1, a1, a2, a3, b4, a5, a6, b7, a8, b9, a10, a11)) :
    wpX_changePart post (nI r0, nI r1, nI c0, nI c1, a1, a2, a3, a4, a5, a6, a7, a8, a9, a10, a11) (nI p) 0 x := by
  unfold wpX_changePart
  refine pk_loop (σ := (Nat → Int32) × (Nat → Int32) × (Nat → Int32)) (fun n i s => wX_changePart_3 post (nI p) 0 x n (nI i) (nI r0) (nI r1) (nI c0) (nI c1) a1 a2 a3 s.1 a5 a6 s.2.1 a8 s.2.2 a10 a11)
    (fun i s => (∀ j, j < i → qa_ans (qa_in r0 r1 c0 c1 p j) x (s.1 (p * 16 + j))) ∧ (∀ j, i ≤ j → j < 16 → s.1 (p * 16 + j) = 0) ∧ (∀ j, (j < p * 16 ∨ p * 16 + 16 ≤ j) → s.1 j = a4 j))
    16 0 (a4, a7, a9) (by omega) ⟨fun j hj => absurd hj (by omega), fun j _ hj => e4 j hj, fun _ _ => rfl⟩ ?_ ?_
  · intro n s hs
    exact pk_le 16 16 (fun _ => h s.1 s.2.1 s.2.2 hs.1 hs.2.2) (fun z => absurd z (by omega))
  · intro n i s hi hs hw
    obtain ⟨s1, s2, s3⟩ := hs
    have e1 : (p / 4 * 4 + i / 4) / 4 * 4 + (p % 4 * 4 + i % 4) / 4 = p := by omega
    refine pk_le 16 i (fun z => absurd z (by omega)) (fun _ => ⟨by decide, by decide, nm_r (qa_rw p hp i hi) ⟨by decide, by decide, nm_r (qa_cw p hp i hi) ?_⟩⟩)
    refine qa_inR b0 b1 b2 b3 (by omega) (by omega) (fun z => ?_) (fun z => ?_)
    · refine br_f (by decide) ?_
      refine qa_read (v := 4) (k := p) (by omega) (by omega) (by omega) (by omega) (by rw [e1]; exact e2) ?_
      refine br_t rfl ?_
      refine qa_wcS hp hi e2 e3 e5 e6 ?_
      refine nm_r (nI_1 i) (hw (upd s.1 (p * 16 + i) x, upd s.2.1 p 0, upd s.2.2 p 0) ⟨fun j hj => ?_, fun j h1 h2 => ?_, fun j h1 => ?_⟩)
      · by_cases e : j = i
        · subst e
          exact ⟨fun _ => pk_us, fun g => absurd z g⟩
        · show qa_ans _ x (upd s.1 (p * 16 + i) x (p * 16 + j))
          rw [pk_un (by omega)]
          exact s1 j (by omega)
      · show upd s.1 (p * 16 + i) x (p * 16 + j) = 0
        rw [pk_un (by omega)]
        exact s2 j (by omega) h2
      · show upd s.1 (p * 16 + i) x j = a4 j
        rw [pk_un (by omega)]
        exact s3 j h1
    · refine br_t rfl (nm_r (nI_1 i) (hw s ⟨fun j hj => ?_, fun j h1 h2 => s2 j (by omega) h2, s3⟩))
      by_cases e : j = i
      · subst e
        exact ⟨fun g => absurd g z, fun _ => s2 j (Nat.le_refl j) hi⟩
      · exact s1 j (by omega)
theorem qa_whole {post : St2 → Prop} {f0 f1 f2 f3 : Int32} {a1 a2 a3 a4 a5 a6 a7 a8 a9 a10 a11 : Nat → Int32} {p : Nat} {x : Int32} (hp : p < 16) (e2 : a2 (64 + p) = nI p) (e3 : a3 p = 1) (h : post (f0, f1, f2, f3, a1, a2, a3, a4, upd a5 p 0, upd a6 p x, a7, a8, upd a9 p 0, a10, a11)) : wpX_changeWhole post (f0, f1, f2, f3, a1, a2, a3, a4, a5, a6, a7, a8, a9, a10, a11) (nI p) 0 x := by
  have D : vp_in (nI p) 80 := vp_in_nI (by omega) (by decide)
  unfold wpX_changeWhole
  try dsimp only
  refine qa_ownS hp e2 e3 ?_
  refine br_t rfl ?_
  rw [nI_clamp (by omega)]
  exact ⟨D, nm_e ⟨D, nm_e ⟨D, nm_e h⟩⟩⟩
/-! the picture while filling: places below k are done -/
def qa_J (R : Nat → Nat → Prop) (x : Int32) (k : Nat) (a4 a5 a6 : Nat → Int32) : Prop :=
  ∀ p, p < 16 → (k ≤ p → a5 p = 1 ∧ a6 p = 0 ∧ ∀ i, i < 16 → a4 (p * 16 + i) = 0) ∧ (p < k → ∀ i, i < 16 → qa_ans (R p i) x (a4 (p * 16 + i) * a5 p + a6 p))
theorem qa_z0 (y x : Int32) : y * 0 + x = x := by
  rw [Int32.mul_zero, Int32.zero_add]
theorem qa_z1 (y : Int32) : y * 1 + 0 = y := by
  rw [Int32.mul_one, Int32.add_zero]
theorem qa_Jw {R : Nat → Nat → Prop} {x : Int32} {k : Nat} {a4 a5 a6 : Nat → Int32} (h : qa_J R x k a4 a5 a6) (hR : ∀ i, i < 16 → R k i) : qa_J R x (k + 1) a4 (upd a5 k 0) (upd a6 k x) := by
  intro p hp
  by_cases e : p = k
  · subst e
    refine ⟨fun z => absurd z (by omega), fun _ i hi => ?_⟩
    rw [pk_us, pk_us, qa_z0]
    exact ⟨fun _ => rfl, fun g => absurd (hR i hi) g⟩
  · rw [pk_un e, pk_un e]
    exact ⟨fun z => (h p hp).1 (by omega), fun z => (h p hp).2 (by omega)⟩
theorem qa_Jp {R : Nat → Nat → Prop} {x : Int32} {k : Nat} {a4 a5 a6 b4 : Nat → Int32} (h : qa_J R x k a4 a5 a6) (hb : ∀ i, i < 16 → qa_ans (R k i) x (b4 (k * 16 + i))) (ho : ∀ j, (j < k * 16 ∨ k * 16 + 16 ≤ j) → b4 j = a4 j) : qa_J R x (k + 1) b4 a5 a6 := by
  intro p hp
  by_cases e : p = k
  · subst e
    refine ⟨fun z => absurd z (by omega), fun _ i hi => ?_⟩
    obtain ⟨h5, h6, _⟩ := (h p hp).1 (Nat.le_refl p)
    rw [h5, h6, qa_z1]
    exact hb i hi
  · refine ⟨fun z => ?_, fun z i hi => ?_⟩
    · obtain ⟨h5, h6, h4⟩ := (h p hp).1 (by omega)
      exact ⟨h5, h6, fun i hi => by rw [ho _ (by omega)]; exact h4 i hi⟩
    · rw [ho _ (by omega)]
      exact (h p hp).2 (by omega) i hi
theorem qa_Jn {R : Nat → Nat → Prop} {x : Int32} {k : Nat} {a4 a5 a6 : Nat → Int32} (h : qa_J R x k a4 a5 a6) (hk : k < 16) (hR : ∀ i, i < 16 → ¬ R k i) : qa_J R x (k + 1) a4 a5 a6 :=
  qa_Jp h (fun i hi => ⟨fun g => absurd g (hR i hi), fun _ => ((h k hk).1 (Nat.le_refl k)).2.2 i hi⟩) (fun _ _ => rfl)
theorem qa_change {post : Int32 → St2 → Prop} {a1 a2 a3 a4 a5 a6 a7 a8 a9 a10 a11 : Nat → Int32} {r0 r1 c0 c1 : Nat} {x : Int32} (b0 : r0 < 16) (b1 : r1 < 16) (b2 : c0 < 16) (b3 : c1 < 16)
    (e2 : ∀ p, p < 16 → a2 (64 + p) = nI p) (e3 : ∀ p, p < 16 → a3 p = 1) (e0 : qa_J (qa_in r0 r1 c0 c1) x 0 a4 a5 a6)
    (h : ∀ b4 b5 b6 b7 b9 : Nat → Int32, qa_J (qa_in r0 r1 c0 c1) x 16 b4 b5 b6 → post (((nI r1 - nI r0) + 1) * ((nI c1 - nI c0) + 1)) (nI r0, nI r1, nI c0, nI c1, a1, a2, a3, b4, b5, b6, b7, a8, b9, a10, a11)) :
    ∃ n, wX_change_25 post 0 x n 0 (nI r0) (nI r1) (nI c0) (nI c1) a1 a2 a3 a4 a5 a6 a7 a8 a9 a10 a11 := by
  refine pk_loop (σ := (Nat → Int32) × (Nat → Int32) × (Nat → Int32) × (Nat → Int32) × (Nat → Int32)) (fun n k s => wX_change_25 post 0 x n (nI k) (nI r0) (nI r1) (nI c0) (nI c1) a1 a2 a3 s.1 s.2.1 s.2.2.1 s.2.2.2.1 a8 s.2.2.2.2 a10 a11)
    (fun k s => qa_J (qa_in r0 r1 c0 c1) x k s.1 s.2.1 s.2.2.1) 16 0 (a4, a5, a6, a7, a9) (by omega) e0 ?_ ?_
  · intro n s hs
    exact pk_le 16 16 (fun _ => h _ _ _ _ _ hs) (fun z => absurd z (by omega))
  · intro n k s hk hs hw
    obtain ⟨s4, s5, s6, s7, s9⟩ := s
    refine pk_le 16 k (fun z => absurd z (by omega)) (fun _ => ?_)
    obtain ⟨h5, h6, h4⟩ := (hs k hk).1 (Nat.le_refl k)
    refine qa_cov b0 b1 b2 b3 hk (fun z => ?_) (fun z => ?_)
    · refine qa_tou b0 b1 b2 b3 hk (fun _ => ?_) (fun y => absurd (by omega) y)
      refine br_f (by decide) ?_
      refine qa_whole hk (e2 k hk) (e3 k hk) ?_
      refine nm_r (nI_1 k) (hw (s4, upd s5 k 0, upd s6 k x, s7, upd s9 k 0) (qa_Jw hs (fun i hi => ?_)))
      unfold qa_in
      omega
    · refine qa_tou b0 b1 b2 b3 hk (fun y => ?_) (fun y => ?_)
      · refine br_t rfl (br_f (by decide) ?_)
        refine qa_part b0 b1 b2 b3 hk (e2 k hk) (e3 k hk) h5 h6 h4 (fun b4 b7 b9 g1 g2 => ?_)
        exact nm_r (nI_1 k) (hw (b4, s5, s6, b7, b9) (qa_Jp hs g1 g2))
      · refine br_t rfl (br_t rfl (nm_r (nI_1 k) (hw (s4, s5, s6, s7, s9) (qa_Jn hs hk (fun i hi => ?_)))))
        unfold qa_in
        omega
/-! the region of two cells -/
theorem qa_sR50 {post : St2 → Prop} {f0 f1 f2 f3 : Int32} {a1 a2 a3 a4 a5 a6 a7 a8 a9 a10 a11 : Nat → Int32} {a b : Nat} {z : Int32} (ha : a < 16) (hb : b < 16) (h : post (f0, z, nI (min a b), nI (max a b), a1, a2, a3, a4, a5, a6, a7, a8, a9, a10, a11)) : wX_setRegion_50 post (nI a) (nI b) z f0 f1 f2 f3 a1 a2 a3 a4 a5 a6 a7 a8 a9 a10 a11 := by
  unfold wX_setRegion_50
  refine pk_le b a (fun z => pk_le b a (fun _ => ?_) (fun z' => absurd z' (by omega))) (fun z => pk_le b a (fun z' => absurd z' (by omega)) (fun _ => ?_))
  · rw [Nat.min_eq_right z, Nat.max_eq_left z] at h
    exact h
  · rw [Nat.min_eq_left (by omega), Nat.max_eq_right (by omega)] at h
    exact h
theorem qa_setR {post : St2 → Prop} {f0 f1 f2 f3 : Int32} {a1 a2 a3 a4 a5 a6 a7 a8 a9 a10 a11 : Nat → Int32} {m n : Nat} (hm : m < 256) (hn : n < 256)
    (h : post (nI (min (m % 16) (n % 16)), nI (max (m % 16) (n % 16)), nI (min (m / 16) (n / 16)), nI (max (m / 16) (n / 16)), a1, a2, a3, a4, a5, a6, a7, a8, a9, a10, a11)) :
    wpX_setRegion post (f0, f1, f2, f3, a1, a2, a3, a4, a5, a6, a7, a8, a9, a10, a11) (nI m) (nI n) := by
  unfold wpX_setRegion
  try dsimp only
  refine nm_r (qa_lo m hm) (nm_r (qa_lo n hn) (nm_r (qa_hi m hm) (nm_r (qa_hi n hn) ?_)))
  have q1 : m % 16 < 16 := by omega
  have q2 : n % 16 < 16 := by omega
  have q3 : m / 16 < 16 := by omega
  have q4 : n / 16 < 16 := by omega
  refine pk_le (n % 16) (m % 16) (fun z => pk_le (n % 16) (m % 16) (fun _ => qa_sR50 q3 q4 ?_) (fun z' => absurd z' (by omega))) (fun z => pk_le (n % 16) (m % 16) (fun z' => absurd z' (by omega)) (fun _ => qa_sR50 q3 q4 ?_))
  · rw [Nat.min_eq_right z, Nat.max_eq_left z] at h
    exact h
  · rw [Nat.min_eq_left (Nat.le_of_lt z), Nat.max_eq_right (Nat.le_of_lt z)] at h
    exact h
theorem qa_fillG {post : Int32 → St2 → Prop} {f0 f1 f2 f3 : Int32} {a1 a2 a3 a4 a5 a6 a7 a8 a9 a10 a11 : Nat → Int32} {m n : Nat} {x : Int32} (hm : m < 256) (hn : n < 256)
    (e2 : ∀ p, p < 16 → a2 (64 + p) = nI p) (e3 : ∀ p, p < 16 → a3 p = 1) (e0 : ∀ R : Nat → Nat → Prop, qa_J R x 0 a4 a5 a6)
    (h : ∀ b4 b5 b6 b7 b9 : Nat → Int32, qa_J (qa_in (min (m % 16) (n % 16)) (max (m % 16) (n % 16)) (min (m / 16) (n / 16)) (max (m / 16) (n / 16))) x 16 b4 b5 b6 →
      post (((nI (max (m % 16) (n % 16)) - nI (min (m % 16) (n % 16))) + 1) * ((nI (max (m / 16) (n / 16)) - nI (min (m / 16) (n / 16))) + 1)) (nI (min (m % 16) (n % 16)), nI (max (m % 16) (n % 16)), nI (min (m / 16) (n / 16)), nI (max (m / 16) (n / 16)), a1, a2, a3, b4, b5, b6, b7, a8, b9, a10, a11)) :
    wpX_fill post (f0, f1, f2, f3, a1, a2, a3, a4, a5, a6, a7, a8, a9, a10, a11) (nI m) (nI n) x := by
  unfold wpX_fill
  try dsimp only
  unfold wpX_change
  try dsimp only
  refine qa_bad0 hm (br_t rfl (qa_bad0 hn (br_t rfl (qa_setR hm hn ?_))))
  exact qa_change (by omega) (by omega) (by omega) (by omega) e2 e3 (e0 _) (fun b4 b5 b6 b7 b9 g => h b4 b5 b6 b7 b9 g)
theorem qa_fillB {post : Int32 → St2 → Prop} {f0 f1 f2 f3 : Int32} {a1 a2 a3 a4 a5 a6 a7 a8 a9 a10 a11 : Nat → Int32} {x0 x1 x : Int32} (hN : qa_N x0 ∨ qa_N x1) (h : post (-1) (f0, f1, f2, f3, a1, a2, a3, a4, a5, a6, a7, a8, a9, a10, a11)) : wpX_fill post (f0, f1, f2, f3, a1, a2, a3, a4, a5, a6, a7, a8, a9, a10, a11) x0 x1 x := by
  unfold wpX_fill
  try dsimp only
  unfold wpX_change
  try dsimp only
  rcases qa_cn x0 with g | ⟨m, hm, rfl⟩
  · exact qa_bad1 g (br_f (by decide) h)
  · rcases hN with g | g
    · exact (qa_nc g hm rfl).elim
    · exact qa_bad0 hm (br_t rfl (qa_bad1 g (br_f (by decide) h)))
end
section
/-! a fresh array -/
def qa_F (a1 a2 a3 a4 a5 a6 : Nat → Int32) : Prop :=
  (∀ w, w < 4 → a1 w = 0) ∧ (∀ p, p < 16 → a2 (64 + p) = nI p) ∧ (∀ p, p < 16 → a3 p = 1) ∧ (∀ p, p < 16 → a5 p = 1) ∧ (∀ j, a6 j = 0) ∧ (∀ j, a4 j = 0)
theorem qa_init {post : St2 → Prop} {mc ms : Nat} (hc : 11 ≤ mc) (hs : 2181 ≤ ms) (h : ∀ {a1 a2 a3 a4 a5 a6 a7 a8 a9 a10 a11 : Nat → Int32}, qa_F a1 a2 a3 a4 a5 a6 → post (0, 0, 0, 0, a1, a2, a3, a4, a5, a6, a7, a8, a9, a10, a11)) : wpX_init post mc ms (0, 0, 0, 0) := by
  unfold wpX_init
  try dsimp only
  refine ⟨by omega, by omega, by omega, by omega, by omega, by omega, by omega, by omega, by omega, by omega, by omega, by omega, by omega, by omega, by omega, by omega, by omega, by omega, by omega, by omega, by omega, by omega, fun a1 e1 => ?_⟩
  refine pk_loop (σ := (Nat → Int32) × (Nat → Int32) × (Nat → Int32)) (fun n k s => wX_init_102 post mc ms 11 2181 0 0 0 0 n (nI k) a1 s.1 s.2.1 (fun _ => 0) s.2.2 (fun _ => 0) (fun _ => 0) (fun _ => 0) (fun _ => 0) (fun _ => 0) (fun _ => 0))
    (fun k s => (∀ p, p < k → s.1 (64 + p) = nI p) ∧ (∀ p, p < k → s.2.1 p = 1) ∧ (∀ p, p < k → s.2.2 p = 1)) 16 0 (fun _ => 0, fun _ => 0, fun _ => 0) (by omega) ⟨fun j hj => absurd hj (by omega), fun j hj => absurd hj (by omega), fun j hj => absurd hj (by omega)⟩ ?_ ?_
  · intro n s hs
    refine pk_le 16 16 (fun _ => h ⟨fun w hw => ?_, hs.1, hs.2.1, hs.2.2, fun _ => rfl, fun _ => rfl⟩) (fun z => absurd z (by omega))
    rw [e1, pk_un (by omega)]
  · intro n k s hk hs hw
    obtain ⟨s2, s3, s5⟩ := s
    obtain ⟨h2, h3, h5⟩ := hs
    have D : vp_in (nI k) 80 := vp_in_nI (by omega) (by decide)
    refine pk_le 16 k (fun z => absurd z (by omega)) (fun _ => ⟨pk_in (64 + k) 80 (by omega) (qa_64 k), nm_r (by rw [qa_64, nI_clamp (by omega)]) ⟨D, nm_r (by rw [nI_clamp (by omega)]) ⟨D, nm_r (by rw [nI_clamp (by omega)]) (nm_r (nI_1 k) (hw (upd s2 (64 + k) (nI k), upd s3 k 1, upd s5 k 1) ⟨fun j hj => ?_, fun j hj => ?_, fun j hj => ?_⟩))⟩⟩⟩)
    · show upd s2 (64 + k) (nI k) (64 + j) = nI j
      by_cases e : j = k
      · rw [e, pk_us]
      · rw [pk_un (by omega)]
        exact h2 j (by omega)
    · show upd s3 k 1 j = 1
      by_cases e : j = k
      · rw [e, pk_us]
      · rw [pk_un e]
        exact h3 j (by omega)
    · show upd s5 k 1 j = 1
      by_cases e : j = k
      · rw [e, pk_us]
      · rw [pk_un e]
        exact h5 j (by omega)
/-! what a cell holds, its chunk being the one of its place -/
def qa_v (a4 a5 a6 : Nat → Int32) (c : Nat) : Int32 := a4 ((c % 16 / 4 * 4 + c / 16 / 4) * 16 + (c % 16 % 4 * 4 + c / 16 % 4)) * a5 (c % 16 / 4 * 4 + c / 16 / 4) + a6 (c % 16 / 4 * 4 + c / 16 / 4)
theorem qa_rd {post : Int32 → Prop} {f0 f1 f2 f3 : Int32} {a1 a2 a3 a4 a5 a6 a7 a8 a9 a10 a11 : Nat → Int32} {v c : Nat} (hv : v < 5) (hc : c < 256) (e2 : ∀ p, p < 16 → a2 (v * 16 + p) = nI p) (h : post (qa_v a4 a5 a6 c)) : wpX_read post (f0, f1, f2, f3, a1, a2, a3, a4, a5, a6, a7, a8, a9, a10, a11) (nI v) (nI c &&& 15) (nI c >>> ((4 : Int32) &&& 31)) := by
  rw [qa_lo c hc, qa_hi c hc]
  exact qa_read (k := c % 16 / 4 * 4 + c / 16 / 4) hv (by omega) (by omega) (by omega) (e2 _ (by omega)) h
theorem qa_getG {post : Int32 → Prop} {f0 f1 f2 f3 : Int32} {a1 a2 a3 a4 a5 a6 a7 a8 a9 a10 a11 : Nat → Int32} {c : Nat} (hc : c < 256) (e2 : ∀ p, p < 16 → a2 (64 + p) = nI p) (h : post (qa_v a4 a5 a6 c)) : wpX_get post (f0, f1, f2, f3, a1, a2, a3, a4, a5, a6, a7, a8, a9, a10, a11) (nI c) := by
  unfold wpX_get
  try dsimp only
  exact qa_bad0 hc (br_t rfl (qa_rd (v := 4) (by omega) hc e2 h))
theorem qa_getB {post : Int32 → Prop} {f0 f1 f2 f3 : Int32} {a1 a2 a3 a4 a5 a6 a7 a8 a9 a10 a11 : Nat → Int32} {x : Int32} (hx : qa_N x) (h : post (-1)) : wpX_get post (f0, f1, f2, f3, a1, a2, a3, a4, a5, a6, a7, a8, a9, a10, a11) x := by
  unfold wpX_get
  try dsimp only
  exact qa_bad1 hx (br_f (by decide) h)
/-! keep -/
theorem qa_keepG {post : Int32 → St2 → Prop} {f0 f1 f2 f3 : Int32} {a1 a2 a3 a4 a5 a6 a7 a8 a9 a10 a11 : Nat → Int32} {v : Nat} (hv : v < 4) (e1 : a1 v = 0) (e2 : ∀ p, p < 16 → a2 (64 + p) = nI p)
    (h : ∀ b2 b3 : Nat → Int32, (∀ p, p < 16 → b2 (64 + p) = nI p) → (∀ p, p < 16 → b2 (v * 16 + p) = nI p) → post 0 (f0, f1, f2, f3, upd a1 v 1, b2, b3, a4, a5, a6, a7, a8, a9, a10, a11)) : wpX_keep post (f0, f1, f2, f3, a1, a2, a3, a4, a5, a6, a7, a8, a9, a10, a11) (nI v) := by
  have D : vp_in (nI v) 5 := vp_in_nI (by omega) (by decide)
  unfold wpX_keep
  try dsimp only
  rw [nI_clamp (by omega)]
  refine br_f (nI_pos (by omega)) (pk_le v 3 (fun _ => ⟨D, br_t e1 ⟨D, nm_e ?_⟩⟩) (fun z => absurd z (by omega)))
  refine pk_loop (σ := (Nat → Int32) × (Nat → Int32)) (fun n k s => wX_keep_33 post (nI v) f0 f1 f2 f3 n (nI k) (upd a1 v 1) s.1 s.2 a4 a5 a6 a7 a8 a9 a10 a11)
    (fun k s => (∀ p, p < 16 → s.1 (64 + p) = nI p) ∧ (∀ p, p < k → s.1 (v * 16 + p) = nI p)) 16 0 (a2, a3) (by omega) ⟨e2, fun j hj => absurd hj (by omega)⟩ ?_ ?_
  · intro n s hs
    exact pk_le 16 16 (fun _ => h _ _ hs.1 hs.2) (fun z => absurd z (by omega))
  · intro n k s hk hs hw
    obtain ⟨s2, s3⟩ := s
    obtain ⟨h1, h2⟩ := hs
    have K : vp_in (nI k) 80 := vp_in_nI (by omega) (by decide)
    have ek : s2 (64 + nI k).toNatClampNeg = nI k := by
      rw [qa_64, nI_clamp (by omega)]
      exact h1 k hk
    refine pk_le 16 k (fun z => absurd z (by omega)) (fun _ => ⟨pk_in (64 + k) 80 (by omega) (qa_64 k), nm_r ek ⟨pk_in (v * 16 + k) 80 (by omega) (qa_ma v k), nm_r (by rw [qa_ma, nI_clamp (by omega)]) ⟨K, K, nm_e (nm_r (nI_1 k) (hw (upd s2 (v * 16 + k) (nI k), _) ⟨fun j hj => ?_, fun j hj => ?_⟩))⟩⟩⟩)
    · show upd s2 (v * 16 + k) (nI k) (64 + j) = nI j
      rw [pk_un (by omega)]
      exact h1 j hj
    · show upd s2 (v * 16 + k) (nI k) (v * 16 + j) = nI j
      by_cases e : j = k
      · rw [e, pk_us]
      · rw [pk_un (by omega)]
        exact h2 j (by omega)
theorem qa_keepB {post : Int32 → St2 → Prop} {f0 f1 f2 f3 : Int32} {a1 a2 a3 a4 a5 a6 a7 a8 a9 a10 a11 : Nat → Int32} {x : Int32} (hx : x < 0 ∨ ∃ n : Nat, 4 ≤ n ∧ n < 2 ^ 31 ∧ x = nI n) (h : post (-2) (f0, f1, f2, f3, a1, a2, a3, a4, a5, a6, a7, a8, a9, a10, a11)) : wpX_keep post (f0, f1, f2, f3, a1, a2, a3, a4, a5, a6, a7, a8, a9, a10, a11) x := by
  unfold wpX_keep
  try dsimp only
  rcases hx with hx | ⟨j, h1, h2, rfl⟩
  · exact br_t hx h
  · exact br_f (nI_pos h2) (pk_le j 3 (fun z => absurd z (by omega)) (fun _ => h))
/-! the versions behind keep: x10 says whether x4 was kept -/
def qa_K (x4 x10 : Int32) (a1 a2 : Nat → Int32) : Prop :=
  (∀ p, p < 16 → a2 (64 + p) = nI p) ∧ ((x10 = 0 ∧ ∀ w, w < 4 → a1 w = 0) ∨ (x10 = 1 ∧ ∃ v : Nat, v < 4 ∧ x4 = nI v ∧ a1 v = 1 ∧ (∀ w, w < 4 → w ≠ v → a1 w = 0) ∧ ∀ p, p < 16 → a2 (v * 16 + p) = nI p))
theorem qa_nov {post : Int32 → Prop} {f0 f1 f2 f3 : Int32} {a1 a2 a3 a4 a5 a6 a7 a8 a9 a10 a11 : Nat → Int32} {x4 x5 x10 : Int32} (hK : qa_K x4 x10 a1 a2) (h1 : (x10 = 0 ∨ (x10 = 1 ∧ ¬ x5 = x4)) → post 1)
    (h0 : x10 = 1 → x5 = x4 → ∀ v : Nat, v < 4 → x5 = nI v → (∀ p, p < 16 → a2 (v * 16 + p) = nI p) → post 0) : wpX_noVersion post (f0, f1, f2, f3, a1, a2, a3, a4, a5, a6, a7, a8, a9, a10, a11) x5 := by
  unfold wpX_noVersion
  try dsimp only
  by_cases z : x5 < 0
  · refine br_t z (h1 ?_)
    rcases hK.2 with ⟨k, _⟩ | ⟨k, v, hv, e4, _, _, _⟩
    · exact Or.inl k
    · refine Or.inr ⟨k, fun e => ?_⟩
      rw [e, e4] at z
      exact nI_pos (by omega) z
  · obtain ⟨w, hw, rfl⟩ := nI_of z
    refine br_f z (pk_lt 3 w (fun y => h1 ?_) (fun y => ⟨pk_in w 5 (by omega), ?_⟩))
    · rcases hK.2 with ⟨k, _⟩ | ⟨k, v, hv, e4, _, _, _⟩
      · exact Or.inl k
      · refine Or.inr ⟨k, fun e => ?_⟩
        rw [e4] at e
        have := (nI_eq hw (by omega)).mp e
        omega
    · rw [nI_clamp hw]
      rcases hK.2 with ⟨k, k0⟩ | ⟨k, v, hv, e4, k1, k2, k3⟩
      · exact br_t (k0 w (by omega)) (h1 (Or.inl k))
      · by_cases e : w = v
        · subst e
          exact br_f (by rw [k1]; decide) (h0 k e4.symm w hv rfl k3)
        · refine br_t (k2 w (by omega) e) (h1 (Or.inr ⟨k, fun g => ?_⟩))
          rw [e4] at g
          exact e ((nI_eq hw (by omega)).mp g)
theorem qa_getOf {post : Int32 → Prop} {f0 f1 f2 f3 : Int32} {a1 a2 a3 a4 a5 a6 a7 a8 a9 a10 a11 : Nat → Int32} {x4 x5 x10 : Int32} {c : Nat} (hc : c < 256) (hK : qa_K x4 x10 a1 a2) (h1 : (x10 = 0 ∨ (x10 = 1 ∧ ¬ x5 = x4)) → post (-2)) (h0 : x10 = 1 → x5 = x4 → post (qa_v a4 a5 a6 c)) : wpX_getOf post (f0, f1, f2, f3, a1, a2, a3, a4, a5, a6, a7, a8, a9, a10, a11) x5 (nI c) := by
  unfold wpX_getOf
  try dsimp only
  refine qa_bad0 hc (br_t rfl (qa_nov hK (fun g => br_f (by decide) (h1 g)) (fun g1 g2 v hv e k => br_t rfl ?_)))
  subst e
  exact qa_rd (by omega) hc k (h0 g1 g2)
theorem qa_getOfB {post : Int32 → Prop} {f0 f1 f2 f3 : Int32} {a1 a2 a3 a4 a5 a6 a7 a8 a9 a10 a11 : Nat → Int32} {x5 x3 : Int32} (hx : qa_N x3) (h : post (-1)) : wpX_getOf post (f0, f1, f2, f3, a1, a2, a3, a4, a5, a6, a7, a8, a9, a10, a11) x5 x3 := by
  unfold wpX_getOf
  try dsimp only
  exact qa_bad1 hx (br_f (by decide) h)
theorem qa_differAt {post : Int32 → Prop} {f0 f1 f2 f3 : Int32} {a1 a2 a3 a4 a5 a6 a7 a8 a9 a10 a11 : Nat → Int32} {v p : Nat} (hv : v < 4) (hp : p < 16) (e : a2 (v * 16 + p) = a2 (64 + p)) (h : post 0) : wpX_differAt post (f0, f1, f2, f3, a1, a2, a3, a4, a5, a6, a7, a8, a9, a10, a11) (nI v) (nI p) := by
  unfold wpX_differAt
  try dsimp only
  rw [qa_ma, qa_64, nI_clamp (by omega), nI_clamp (by omega)]
  exact ⟨vp_in_nI (by omega) (by decide), vp_in_nI (by omega) (by decide), br_t e h⟩
theorem qa_diffs {post : Int32 → Prop} {f0 f1 f2 f3 : Int32} {a1 a2 a3 a4 a5 a6 a7 a8 a9 a10 a11 : Nat → Int32} {v : Nat} (hv : v < 4) (e2 : ∀ p, p < 16 → a2 (64 + p) = nI p) (e : ∀ p, p < 16 → a2 (v * 16 + p) = nI p) (h : post 0) : wpX_differences post (f0, f1, f2, f3, a1, a2, a3, a4, a5, a6, a7, a8, a9, a10, a11) (nI v) := by
  unfold wpX_differences
  exact pk_loop (σ := Unit) (fun n i _ => wX_differences_4 post (nI v) f0 f1 f2 f3 a1 a2 a3 a4 a5 a6 a7 a8 a9 a10 a11 n 0 (nI i)) (fun _ _ => True) 16 0 () (by omega) trivial
    (fun n _ _ => pk_le 16 16 (fun _ => h) (fun z => absurd z (by omega)))
    (fun n i _ hi _ hw => pk_le 16 i (fun z => absurd z (by omega)) (fun _ => qa_differAt hv hi ((e i hi).trans (e2 i hi).symm) (nm_r (by decide) (nm_r (nI_1 i) (hw () trivial)))))
theorem qa_differ {post : Int32 → Prop} {f0 f1 f2 f3 : Int32} {a1 a2 a3 a4 a5 a6 a7 a8 a9 a10 a11 : Nat → Int32} {x4 x5 x10 : Int32} (hK : qa_K x4 x10 a1 a2) (h1 : (x10 = 0 ∨ (x10 = 1 ∧ ¬ x5 = x4)) → post (-2)) (h0 : x10 = 1 → x5 = x4 → post 0) : wpX_differ post (f0, f1, f2, f3, a1, a2, a3, a4, a5, a6, a7, a8, a9, a10, a11) x5 := by
  unfold wpX_differ
  try dsimp only
  refine qa_nov hK (fun g => br_f (by decide) (h1 g)) (fun g1 g2 v hv e k => br_t rfl ?_)
  subst e
  exact qa_diffs hv hK.1 k (h0 g1 g2)
end
section
/-! copy: the weak picture alone; a count below 257 -/
theorem qa_sh (a t j : Nat) : nI (a + j) + (nI t - nI a) = nI (t + j) := by
  rw [← nI_add, ← nI_add]
  grind
theorem qa_n1 (a j : Nat) : nI (a + j) + 1 = nI (a + (j + 1)) := nI_1 (a + j)
theorem qa_readW {post : Int32 → Prop} {f0 f1 f2 f3 : Int32} {a1 a2 a3 a4 a5 a6 a7 a8 a9 a10 a11 : Nat → Int32} {r c : Nat} (hr : r < 16) (hc : c < 16) (hV : qa_V a2) (h : ∀ y, post y) : wpX_read post (f0, f1, f2, f3, a1, a2, a3, a4, a5, a6, a7, a8, a9, a10, a11) 4 (nI r) (nI c) := by
  obtain ⟨k, hk, e⟩ := hV (r / 4 * 4 + c / 4) (by omega)
  exact qa_read (v := 4) (by omega) hr hc hk e (h _)
theorem qa_c71 {post : Int32 → St2 → Prop} {J : Int32 → (Nat → Int32) → (Nat → Int32) → (Nat → Int32) → (Nat → Int32) → (Nat → Int32) → (Nat → Int32) → (Nat → Int32) → (Nat → Int32) → (Nat → Int32) → (Nat → Int32) → (Nat → Int32) → Prop} {a1 a2 a3 a4 a5 a6 a7 a8 a9 a10 a11 : Nat → Int32} {r0 r1 c0 c1 r : Nat} {x4 x5 : Int32} (b3 : c1 < 16) (hcc : c0 ≤ c1) (hr : r < 16) (hV : qa_V a2)
    (h : ∀ b11 : Nat → Int32, J (nI (r + 1)) a1 a2 a3 a4 a5 a6 a7 a8 a9 a10 b11) : ∃ n, wX_copy_71 post J x4 x5 (nI r) (nI r0) (nI r1) (nI c0) (nI c1) n (nI c0) a1 a2 a3 a4 a5 a6 a7 a8 a9 a10 a11 :=
  pk_loop (fun n i s => wX_copy_71 post J x4 x5 (nI r) (nI r0) (nI r1) (nI c0) (nI c1) n (nI i) a1 a2 a3 a4 a5 a6 a7 a8 a9 a10 s) (fun _ _ => True) (c1 + 1) c0 a11 (by omega) trivial
    (fun n s _ => pk_lt c1 (c1 + 1) (fun _ => nm_r (nI_1 r) (h s)) (fun z => absurd z (by omega)))
    (fun n i s hi _ hw => pk_lt c1 i (fun z => absurd z (by omega)) (fun z => qa_readW hr (by omega) hV (fun y => ⟨pk_in (r * 16 + i) 256 (by omega) (qa_ma r i), nm_e (nm_r (nI_1 i) (hw _ trivial))⟩)))
theorem qa_c56 {post : Int32 → St2 → Prop} {a1 a2 a3 a4 a5 a6 a7 a8 a9 a10 a11 : Nat → Int32} {r0 r1 c0 c1 : Nat} {x4 x5 : Int32} (b1 : r1 < 16) (b3 : c1 < 16) (hrr : r0 ≤ r1) (hcc : c0 ≤ c1) (hV : qa_V a2)
    (h : ∀ b11 : Nat → Int32, ∃ n, wX_copy_123 post x4 x5 n 0 (nI r0) (nI r0) (nI r1) (nI c0) (nI c1) a1 a2 a3 a4 a5 a6 a7 a8 a9 a10 b11) : ∃ n, wX_copy_56 post x4 x5 (nI r0) (nI r1) (nI c0) (nI c1) n (nI r0) a1 a2 a3 a4 a5 a6 a7 a8 a9 a10 a11 :=
  pk_loop (fun n i s => wX_copy_56 post x4 x5 (nI r0) (nI r1) (nI c0) (nI c1) n (nI i) a1 a2 a3 a4 a5 a6 a7 a8 a9 a10 s) (fun _ _ => True) (r1 + 1) r0 a11 (by omega) trivial
    (fun n s _ => pk_lt r1 (r1 + 1) (fun _ => h s) (fun z => absurd z (by omega)))
    (fun n i s hi _ hw => pk_lt r1 i (fun z => absurd z (by omega)) (fun _ => qa_c71 b3 hcc (by omega) hV (fun b11 => hw b11 trivial)))
theorem qa_c148 {post : Int32 → St2 → Prop} {J : Int32 → Int32 → Int32 → Int32 → Int32 → Int32 → (Nat → Int32) → (Nat → Int32) → (Nat → Int32) → (Nat → Int32) → (Nat → Int32) → (Nat → Int32) → (Nat → Int32) → (Nat → Int32) → (Nat → Int32) → (Nat → Int32) → (Nat → Int32) → Prop} {a1 a2 a3 a4 a5 a6 a7 a8 a9 a10 a11 : Nat → Int32} {r0 r1 c0 c1 r k tr tc : Nat} {x4 : Int32} (b3 : c1 < 16) (hcc : c0 ≤ c1) (hr : r < 16) (htr : nI r + x4 = nI tr) (h16 : tr < 16) (htc : tc < 16) (hk : k ≤ 256) (hV : qa_V a2)
    (h : ∀ (k' : Nat) (b2 b3 b4 b5 b6 b7 b8 b9 b10 : Nat → Int32), k' ≤ k + 16 → qa_V b2 → J (nI k') (nI (r + 1)) (nI r0) (nI r1) (nI c0) (nI c1) a1 b2 b3 b4 b5 b6 b7 b8 b9 b10 a11) :
    ∃ n, wX_copy_148 post J x4 (nI tc - nI c0) (nI r) n (nI k) (nI c0) (nI r0) (nI r1) (nI c0) (nI c1) a1 a2 a3 a4 a5 a6 a7 a8 a9 a10 a11 := by
  refine pk_loop (σ := (Nat → Int32) × (Nat → Int32) × (Nat → Int32) × (Nat → Int32) × (Nat → Int32) × (Nat → Int32) × (Nat → Int32) × (Nat → Int32) × (Nat → Int32))
    (fun n j s => wX_copy_148 post J x4 (nI tc - nI c0) (nI r) n (nI (k + j)) (nI (c0 + j)) (nI r0) (nI r1) (nI c0) (nI c1) a1 s.1 s.2.1 s.2.2.1 s.2.2.2.1 s.2.2.2.2.1 s.2.2.2.2.2.1 s.2.2.2.2.2.2.1 s.2.2.2.2.2.2.2.1 s.2.2.2.2.2.2.2.2 a11)
    (fun _ s => qa_V s.1) (min (c1 - c0 + 1) (16 - tc)) 0 (a2, a3, a4, a5, a6, a7, a8, a9, a10) (by omega) hV ?_ ?_
  · intro n s hs
    exact pk_lt c1 (c0 + min (c1 - c0 + 1) (16 - tc)) (fun _ => nm_r (nI_1 r) (h _ _ _ _ _ _ _ _ _ _ (by omega) hs)) (fun z => pk_le 16 (tc + min (c1 - c0 + 1) (16 - tc)) (fun _ => nm_r (nI_1 r) (h _ _ _ _ _ _ _ _ _ _ (by omega) hs)) (fun z' => absurd z' (by omega)) (hy := qa_sh c0 tc _))
  · intro n j s hj hs hw
    refine pk_lt c1 (c0 + j) (fun z => absurd z (by omega)) (fun z => pk_le 16 (tc + j) (fun z' => absurd z' (by omega)) (fun z' => ⟨pk_in (r * 16 + (c0 + j)) 256 (by omega) (qa_ma r (c0 + j)), ?_⟩) (hy := qa_sh c0 tc j))
    rw [htr, qa_sh c0 tc j]
    exact qa_wcW h16 (by omega) hs (fun b2 b3 b4 b5 b6 b7 b8 b9 b10 hb => nm_r (qa_n1 k j) (nm_r (qa_n1 c0 j) (hw (b2, b3, b4, b5, b6, b7, b8, b9, b10) hb)))
theorem qa_c123 {post : Int32 → St2 → Prop} {a1 a2 a3 a4 a5 a6 a7 a8 a9 a10 a11 : Nat → Int32} {r0 r1 c0 c1 tr tc : Nat} (b1 : r1 < 16) (b3 : c1 < 16) (hrr : r0 ≤ r1) (hcc : c0 ≤ c1) (h16 : tr < 16) (htc : tc < 16) (hV : qa_V a2)
    (h : ∀ (k : Nat) (b2 b3 b4 b5 b6 b7 b8 b9 b10 : Nat → Int32), k < 257 → post (nI k) (nI r0, nI r1, nI c0, nI c1, a1, b2, b3, b4, b5, b6, b7, b8, b9, b10, a11)) :
    ∃ n, wX_copy_123 post (nI tr - nI r0) (nI tc - nI c0) n 0 (nI r0) (nI r0) (nI r1) (nI c0) (nI c1) a1 a2 a3 a4 a5 a6 a7 a8 a9 a10 a11 := by
  refine pk_loop (σ := Nat × (Nat → Int32) × (Nat → Int32) × (Nat → Int32) × (Nat → Int32) × (Nat → Int32) × (Nat → Int32) × (Nat → Int32) × (Nat → Int32) × (Nat → Int32))
    (fun n i s => wX_copy_123 post (nI tr - nI r0) (nI tc - nI c0) n (nI s.1) (nI (r0 + i)) (nI r0) (nI r1) (nI c0) (nI c1) a1 s.2.1 s.2.2.1 s.2.2.2.1 s.2.2.2.2.1 s.2.2.2.2.2.1 s.2.2.2.2.2.2.1 s.2.2.2.2.2.2.2.1 s.2.2.2.2.2.2.2.2.1 s.2.2.2.2.2.2.2.2.2 a11)
    (fun i s => s.1 ≤ 16 * i ∧ qa_V s.2.1) (min (r1 - r0 + 1) (16 - tr)) 0 (0, a2, a3, a4, a5, a6, a7, a8, a9, a10) (by omega) ⟨Nat.le_refl 0, hV⟩ ?_ ?_
  · intro n s hs
    have hk : s.1 < 257 := by
      have := hs.1
      omega
    exact pk_lt r1 (r0 + min (r1 - r0 + 1) (16 - tr)) (fun _ => h _ _ _ _ _ _ _ _ _ _ hk) (fun z => pk_le 16 (tr + min (r1 - r0 + 1) (16 - tr)) (fun _ => h _ _ _ _ _ _ _ _ _ _ hk) (fun z' => absurd z' (by omega)) (hy := qa_sh r0 tr _))
  · intro n i s hi hs hw
    obtain ⟨k, s2, s3, s4, s5, s6, s7, s8, s9, s10⟩ := s
    obtain ⟨hk, hs⟩ := hs
    have hk' : k ≤ 16 * i := hk
    exact pk_lt r1 (r0 + i) (fun z => absurd z (by omega)) (fun z => pk_le 16 (tr + i) (fun z' => absurd z' (by omega)) (fun z' => qa_c148 b3 hcc (by omega) (qa_sh r0 tr i) (by omega) htc (by omega) hs (fun k' b2 b3 b4 b5 b6 b7 b8 b9 b10 g1 g2 => hw (k', b2, b3, b4, b5, b6, b7, b8, b9, b10) ⟨by show k' ≤ 16 * (i + 1); omega, g2⟩)) (hy := qa_sh r0 tr i))
theorem qa_copyG {post : Int32 → St2 → Prop} {f0 f1 f2 f3 : Int32} {a1 a2 a3 a4 a5 a6 a7 a8 a9 a10 a11 : Nat → Int32} {m n c : Nat} (hm : m < 256) (hn : n < 256) (hc : c < 256) (hV : qa_V a2)
    (h : ∀ (k : Nat) (g0 g1 g2 g3 : Int32) (b2 b3 b4 b5 b6 b7 b8 b9 b10 b11 : Nat → Int32), k < 257 → post (nI k) (g0, g1, g2, g3, a1, b2, b3, b4, b5, b6, b7, b8, b9, b10, b11)) :
    wpX_copy post (f0, f1, f2, f3, a1, a2, a3, a4, a5, a6, a7, a8, a9, a10, a11) (nI m) (nI n) (nI c) := by
  unfold wpX_copy
  try dsimp only
  refine qa_bad0 hm (br_t rfl (qa_bad0 hn (br_t rfl (qa_bad0 hc (br_t rfl (qa_setR hm hn ?_))))))
  try dsimp only
  rw [qa_lo c hc, qa_hi c hc]
  refine nm_e (nm_e ?_)
  exact qa_c56 (by omega) (by omega) (by omega) (by omega) hV (fun b11 => qa_c123 (by omega) (by omega) (by omega) (by omega) (by omega) (by omega) hV (fun k b2 b3 b4 b5 b6 b7 b8 b9 b10 hk => h k _ _ _ _ b2 b3 b4 b5 b6 b7 b8 b9 b10 b11 hk))
theorem qa_copyB {post : Int32 → St2 → Prop} {f0 f1 f2 f3 : Int32} {a1 a2 a3 a4 a5 a6 a7 a8 a9 a10 a11 : Nat → Int32} {x0 x1 x3 : Int32} (hN : qa_N x0 ∨ qa_N x1 ∨ qa_N x3) (h : post (-1) (f0, f1, f2, f3, a1, a2, a3, a4, a5, a6, a7, a8, a9, a10, a11)) : wpX_copy post (f0, f1, f2, f3, a1, a2, a3, a4, a5, a6, a7, a8, a9, a10, a11) x0 x1 x3 := by
  unfold wpX_copy
  try dsimp only
  rcases qa_cn x0 with g | ⟨m, hm, rfl⟩
  · exact qa_bad1 g (br_f (by decide) h)
  · refine qa_bad0 hm (br_t rfl ?_)
    rcases qa_cn x1 with g | ⟨n, hn, rfl⟩
    · exact qa_bad1 g (br_f (by decide) h)
    · refine qa_bad0 hn (br_t rfl ?_)
      rcases hN with g | g | g
      · exact (qa_nc g hm rfl).elim
      · exact (qa_nc g hn rfl).elim
      · exact qa_bad1 g (br_f (by decide) h)
end
section
/-! the law's joins, from the last to the first -/
def qa_G (x0 x1 x7 : Int32) : Prop := (x7 = 0 ∧ (qa_N x0 ∨ qa_N x1)) ∨ (x7 = 1 ∧ ∃ m n : Nat, m < 256 ∧ n < 256 ∧ x0 = nI m ∧ x1 = nI n)
theorem qa_317 {post : Int32 → St0 → Prop} {mc ms kc ks : Nat} {z : Int32} (hp : post 1 ()) : wL_lawOf_317 post mc ms z z kc ks := by
  unfold wL_lawOf_317
  exact br_t rfl hp
theorem qa_278 {post : Int32 → St0 → Prop} {mc ms kc ks : Nat} {f0 f1 f2 f3 : Int32} {a1 a2 a3 a4 a5 a6 a7 a8 a9 a10 a11 : Nat → Int32} {x0 x1 x3 x7 z0 z1 : Int32} (hp : post 1 ()) (hz : z1 = z0) (h7 : qa_G x0 x1 x7) (hV : qa_V a2) : wL_lawOf_278 post mc ms x0 x1 x3 x7 z0 z1 kc ks f0 f1 f2 f3 a1 a2 a3 a4 a5 a6 a7 a8 a9 a10 a11 := by
  unfold wL_lawOf_278
  refine br_t hz ?_
  rcases h7 with ⟨rfl, g⟩ | ⟨rfl, m, n, hm, hn, rfl, rfl⟩
  · refine qa_copyB (g.elim Or.inl (fun y => Or.inr (Or.inl y))) (br_t rfl ?_)
    unfold wL_lawOf_300
    exact br_t rfl (qa_317 hp)
  · rcases qa_cn x3 with g | ⟨c, hc, rfl⟩
    · refine qa_copyB (Or.inr (Or.inr g)) (br_t rfl ?_)
      unfold wL_lawOf_300
      exact br_f (by decide) (qa_cell0 g (br_t rfl (qa_317 hp)))
    · refine qa_copyG hm hn hc hV (fun k _ _ _ _ _ _ _ _ _ _ _ _ _ _ hk => br_f (qa_nm k hk) ?_)
      unfold wL_lawOf_300
      exact br_f (by decide) (qa_cell1 hc (br_f (by decide) (qa_317 hp)))
theorem qa_248 {post : Int32 → St0 → Prop} {mc ms kc ks : Nat} {f0 f1 f2 f3 : Int32} {a1 a2 a3 a4 a5 a6 a7 a8 a9 a10 a11 : Nat → Int32} {x0 x1 x3 x4 x5 x7 x10 z0 z1 : Int32} (hp : post 1 ()) (hz : z1 = z0) (h7 : qa_G x0 x1 x7) (hK : qa_K x4 x10 a1 a2) : wL_lawOf_248 post mc ms x0 x1 x3 x4 x5 x7 x10 z0 z1 kc ks f0 f1 f2 f3 a1 a2 a3 a4 a5 a6 a7 a8 a9 a10 a11 := by
  have hV : qa_V a2 := fun k hk => ⟨k, by omega, hK.1 k hk⟩
  unfold wL_lawOf_248
  refine br_t hz (qa_differ hK (fun g => ?_) (fun g1 g2 => ?_))
  · rcases g with g | ⟨g1, g2⟩
    · exact br_t g (qa_278 hp rfl h7 hV)
    · exact br_f (by rw [g1]; decide) (br_f g2 (qa_278 hp rfl h7 hV))
  · exact br_f (by rw [g1]; decide) (br_t g2 (qa_278 hp rfl h7 hV))
/-- what the law expects of the cell x3 -/
def qa_X (x2 x3 x9 : Int32) (a4 a5 a6 : Nat → Int32) : Prop := ∀ c, c < 256 → x3 = nI c → (x9 = 0 → qa_v a4 a5 a6 c = 0) ∧ (¬ x9 = 0 → qa_v a4 a5 a6 c = x2)
theorem qa_197 {post : Int32 → St0 → Prop} {mc ms kc ks : Nat} {f0 f1 f2 f3 : Int32} {a1 a2 a3 a4 a5 a6 a7 a8 a9 a10 a11 : Nat → Int32} {x0 x1 x2 x3 x4 x5 x7 x9 x10 z0 z1 : Int32} (hp : post 1 ()) (hz : z1 = z0) (h7 : qa_G x0 x1 x7) (hK : qa_K x4 x10 a1 a2) (hX : qa_X x2 x3 x9 a4 a5 a6) : wL_lawOf_197 post mc ms x0 x1 x2 x3 x4 x5 x7 x9 x10 z0 z1 kc ks f0 f1 f2 f3 a1 a2 a3 a4 a5 a6 a7 a8 a9 a10 a11 := by
  unfold wL_lawOf_197
  refine br_t hz ?_
  rcases qa_cn x3 with g | ⟨c, hc, rfl⟩
  · exact qa_getOfB g (qa_cell0 g (br_t rfl (qa_248 hp rfl h7 hK)))
  · refine qa_getOf hc hK (fun g => qa_cell1 hc (br_f (by decide) ?_)) (fun g1 g2 => qa_cell1 hc (br_f (by decide) ?_))
    · rcases g with g | ⟨g1, g2⟩
      · exact br_t g (qa_248 hp rfl h7 hK)
      · exact br_f (by rw [g1]; decide) (br_f g2 (qa_248 hp rfl h7 hK))
    · exact br_f (by rw [g1]; decide) (br_t g2 (br_c (fun e => qa_248 hp ((hX c hc rfl).1 e) h7 hK) (fun e => qa_248 hp ((hX c hc rfl).2 e) h7 hK)))
theorem qa_177 {post : Int32 → St0 → Prop} {mc ms kc ks : Nat} {f0 f1 f2 f3 : Int32} {a1 a2 a3 a4 a5 a6 a7 a8 a9 a10 a11 : Nat → Int32} {x0 x1 x2 x3 x4 x5 x7 x9 z0 : Int32} (hp : post 1 ()) (h7 : qa_G x0 x1 x7) (hX : qa_X x2 x3 x9 a4 a5 a6) (e1 : ∀ w, w < 4 → a1 w = 0) (e2 : ∀ p, p < 16 → a2 (64 + p) = nI p)
    (hz : (z0 = 0 ∧ (x4 < 0 ∨ ∃ n : Nat, 4 ≤ n ∧ n < 2 ^ 31 ∧ x4 = nI n)) ∨ (z0 = 1 ∧ ∃ v : Nat, v < 4 ∧ x4 = nI v)) : wL_lawOf_177 post mc ms x0 x1 x2 x3 x4 x5 x7 x9 z0 kc ks f0 f1 f2 f3 a1 a2 a3 a4 a5 a6 a7 a8 a9 a10 a11 := by
  unfold wL_lawOf_177
  rcases hz with ⟨rfl, g⟩ | ⟨rfl, v, hv, rfl⟩
  · exact qa_keepB g (br_t rfl (qa_197 hp rfl h7 ⟨e2, Or.inl ⟨rfl, e1⟩⟩ hX))
  · refine qa_keepG hv (e1 v hv) e2 (fun b2 b3 g1 g2 => br_f (by decide) (qa_197 hp rfl h7 ⟨g1, Or.inr ⟨rfl, v, hv, rfl, pk_us, fun w hw hn => ?_, g2⟩⟩ hX))
    rw [pk_un hn]
    exact e1 w hw
theorem qa_156 {post : Int32 → St0 → Prop} {mc ms kc ks : Nat} {f0 f1 f2 f3 : Int32} {a1 a2 a3 a4 a5 a6 a7 a8 a9 a10 a11 : Nat → Int32} {x0 x1 x2 x3 x4 x5 x7 x9 z0 z1 : Int32} (hp : post 1 ()) (hz : z1 = z0) (h7 : qa_G x0 x1 x7) (hX : qa_X x2 x3 x9 a4 a5 a6) (e1 : ∀ w, w < 4 → a1 w = 0) (e2 : ∀ p, p < 16 → a2 (64 + p) = nI p) : wL_lawOf_156 post mc ms x0 x1 x2 x3 x4 x5 x7 x9 z0 z1 kc ks f0 f1 f2 f3 a1 a2 a3 a4 a5 a6 a7 a8 a9 a10 a11 := by
  unfold wL_lawOf_156
  refine br_t hz ?_
  by_cases h : x4 < 0
  · exact br_t h (qa_177 hp h7 hX e1 e2 (Or.inl ⟨rfl, Or.inl h⟩))
  · obtain ⟨j, hj, rfl⟩ := nI_of h
    exact br_f h (pk_lt 3 j (fun z => qa_177 hp h7 hX e1 e2 (Or.inl ⟨rfl, Or.inr ⟨j, z, hj, rfl⟩⟩)) (fun z => qa_177 hp h7 hX e1 e2 (Or.inr ⟨rfl, j, by omega, rfl⟩)))
theorem qa_127 {post : Int32 → St0 → Prop} {mc ms kc ks : Nat} {f0 f1 f2 f3 : Int32} {a1 a2 a3 a4 a5 a6 a7 a8 a9 a10 a11 : Nat → Int32} {x0 x1 x2 x3 x4 x5 x7 z0 : Int32} (hp : post 1 ()) (h7 : qa_G x0 x1 x7) (hX : qa_X x2 x3 z0 a4 a5 a6) (e1 : ∀ w, w < 4 → a1 w = 0) (e2 : ∀ p, p < 16 → a2 (64 + p) = nI p) : wL_lawOf_127 post mc ms x0 x1 x2 x3 x4 x5 x7 z0 kc ks f0 f1 f2 f3 a1 a2 a3 a4 a5 a6 a7 a8 a9 a10 a11 := by
  unfold wL_lawOf_127
  rcases qa_cn x3 with g | ⟨c, hc, rfl⟩
  · exact qa_getB g (qa_cell0 g (br_t rfl (qa_156 hp rfl h7 hX e1 e2)))
  · exact qa_getG hc e2 (qa_cell1 hc (br_f (by decide) (br_c (fun e => qa_156 hp ((hX c hc rfl).1 e) h7 hX e1 e2) (fun e => qa_156 hp ((hX c hc rfl).2 e) h7 hX e1 e2))))
theorem qa_inL {post : Int32 → Prop} {u : St0} {n a b : Nat} (hn : n < 16) (ha : a < 16) (hb : b < 16) (h1 : (min a b ≤ n ∧ n ≤ max a b) → post 1) (h0 : ¬ (min a b ≤ n ∧ n ≤ max a b) → post 0) : wpL_in post u (nI n) (nI a) (nI b) := by
  unfold wpL_in
  exact pk_le b a (fun z => pk_lt n b (fun y => h0 (by omega)) (fun y => pk_lt a n (fun w => h0 (by omega)) (fun w => h1 (by omega)))) (fun z => pk_lt n a (fun y => h0 (by omega)) (fun y => pk_lt b n (fun w => h0 (by omega)) (fun w => h1 (by omega))))
theorem qa_size {post : Int32 → Prop} {u : St0} {a b : Nat} (ha : a < 16) (hb : b < 16) (h : post ((nI (max a b) - nI (min a b)) + 1)) : wpL_size post u (nI a) (nI b) := by
  unfold wpL_size
  refine pk_le a b (fun z => ?_) (fun z => ?_)
  · rw [Nat.min_eq_left z, Nat.max_eq_right z] at h
    exact h
  · rw [Nat.min_eq_right (Nat.le_of_lt z), Nat.max_eq_left (Nat.le_of_lt z)] at h
    exact h
/-! what fill leaves at the cell c -/
theorem qa_q1 : ∀ c, c < 256 → (c % 16 / 4 * 4 + c / 16 / 4) / 4 * 4 + (c % 16 % 4 * 4 + c / 16 % 4) / 4 = c % 16 := by decide +kernel
theorem qa_q2 : ∀ c, c < 256 → (c % 16 / 4 * 4 + c / 16 / 4) % 4 * 4 + (c % 16 % 4 * 4 + c / 16 % 4) % 4 = c / 16 := by decide +kernel
theorem qa_hit {x : Int32} {r0 r1 c0 c1 c : Nat} {a4 a5 a6 : Nat → Int32} (hc : c < 256) (h : qa_J (qa_in r0 r1 c0 c1) x 16 a4 a5 a6) : qa_ans (r0 ≤ c % 16 ∧ c % 16 ≤ r1 ∧ c0 ≤ c / 16 ∧ c / 16 ≤ c1) x (qa_v a4 a5 a6 c) := by
  have g := (h (c % 16 / 4 * 4 + c / 16 / 4) (by omega)).2 (by omega) (c % 16 % 4 * 4 + c / 16 % 4) (by omega)
  have e : qa_in r0 r1 c0 c1 (c % 16 / 4 * 4 + c / 16 / 4) (c % 16 % 4 * 4 + c / 16 % 4) ↔ (r0 ≤ c % 16 ∧ c % 16 ≤ r1 ∧ c0 ≤ c / 16 ∧ c / 16 ≤ c1) := by
    unfold qa_in
    rw [qa_q1 c hc, qa_q2 c hc]
  exact ⟨fun y => g.1 (e.mpr y), fun y => g.2 (fun w => y (e.mp w))⟩
theorem qa_60b {post : Int32 → St0 → Prop} {mc ms kc ks : Nat} {f0 f1 f2 f3 : Int32} {a1 a2 a3 a4 a5 a6 a7 a8 a9 a10 a11 : Nat → Int32} {x0 x1 x2 x3 x4 x5 : Int32} (hp : post 1 ()) (hN : qa_N x0 ∨ qa_N x1) (hF : qa_F a1 a2 a3 a4 a5 a6) : wL_lawOf_60 post mc ms x0 x1 x2 x3 x4 x5 0 (-1) kc ks f0 f1 f2 f3 a1 a2 a3 a4 a5 a6 a7 a8 a9 a10 a11 := by
  obtain ⟨g1, g2, g3, g5, g6, g4⟩ := hF
  unfold wL_lawOf_60
  refine qa_fillB hN (br_t rfl (br_t rfl ?_))
  refine qa_127 hp (Or.inl ⟨rfl, hN⟩) (fun c hc _ => ⟨fun _ => ?_, fun y => absurd rfl y⟩) g1 g2
  unfold qa_v
  rw [g4, g6, g5 _ (by omega), qa_z1]
theorem qa_60g {post : Int32 → St0 → Prop} {mc ms kc ks : Nat} {f0 f1 f2 f3 : Int32} {a1 a2 a3 a4 a5 a6 a7 a8 a9 a10 a11 : Nat → Int32} {x2 x3 x4 x5 z0 : Int32} {m n : Nat} (hp : post 1 ()) (hm : m < 256) (hn : n < 256) (hF : qa_F a1 a2 a3 a4 a5 a6)
    (hz : z0 = ((nI (max (m % 16) (n % 16)) - nI (min (m % 16) (n % 16))) + 1) * ((nI (max (m / 16) (n / 16)) - nI (min (m / 16) (n / 16))) + 1)) : wL_lawOf_60 post mc ms (nI m) (nI n) x2 x3 x4 x5 1 z0 kc ks f0 f1 f2 f3 a1 a2 a3 a4 a5 a6 a7 a8 a9 a10 a11 := by
  obtain ⟨g1, g2, g3, g5, g6, g4⟩ := hF
  have h7 : qa_G (nI m) (nI n) 1 := Or.inr ⟨rfl, m, n, hm, hn, rfl, rfl⟩
  unfold wL_lawOf_60
  refine qa_fillG hm hn g2 g3 (fun R p hp => ⟨fun _ => ⟨g5 p hp, g6 p, fun i _ => g4 _⟩, fun z => absurd z (by omega)⟩) (fun b4 b5 b6 b7 b9 hJ => ?_)
  refine br_t hz.symm (br_f (by decide) ?_)
  rcases qa_cn x3 with g | ⟨c, hc, rfl⟩
  · exact qa_cell0 g (br_t rfl (qa_127 hp h7 (fun c hc e => (qa_nc g hc e).elim) g1 g2))
  · have H := qa_hit hc hJ
    have no : ¬ (min (m % 16) (n % 16) ≤ c % 16 ∧ c % 16 ≤ max (m % 16) (n % 16) ∧ min (m / 16) (n / 16) ≤ c / 16 ∧ c / 16 ≤ max (m / 16) (n / 16)) → qa_X x2 (nI c) 0 b4 b5 b6 := by
      intro y c' hc' e
      have e' : c = c' := (nI_eq (by omega) (by omega)).mp e
      subst e'
      exact ⟨fun _ => H.2 y, fun w => absurd rfl w⟩
    have ye : (min (m % 16) (n % 16) ≤ c % 16 ∧ c % 16 ≤ max (m % 16) (n % 16) ∧ min (m / 16) (n / 16) ≤ c / 16 ∧ c / 16 ≤ max (m / 16) (n / 16)) → qa_X x2 (nI c) 1 b4 b5 b6 := by
      intro y c' hc' e
      have e' : c = c' := (nI_eq (by omega) (by omega)).mp e
      subst e'
      exact ⟨fun w => absurd w (by decide), fun _ => H.1 y⟩
    refine qa_cell1 hc (br_f (by decide) ?_)
    rw [qa_lo c hc, qa_lo m hm, qa_lo n hn, qa_hi c hc, qa_hi m hm, qa_hi n hn]
    refine qa_inL (by omega) (by omega) (by omega) (fun y => br_f (by decide) ?_) (fun y => br_t rfl (qa_127 hp h7 (no (fun w => y ⟨w.1, w.2.1⟩)) g1 g2))
    exact qa_inL (by omega) (by omega) (by omega) (fun w => br_f (by decide) (qa_127 hp h7 (ye ⟨y.1, y.2, w.1, w.2⟩) g1 g2)) (fun w => br_t rfl (qa_127 hp h7 (no (fun v => w ⟨v.2.2.1, v.2.2.2⟩)) g1 g2))
theorem qa_28b {post : Int32 → St0 → Prop} {mc ms kc ks : Nat} {f0 f1 f2 f3 : Int32} {a1 a2 a3 a4 a5 a6 a7 a8 a9 a10 a11 : Nat → Int32} {x0 x1 x2 x3 x4 x5 : Int32} (hp : post 1 ()) (hN : qa_N x0 ∨ qa_N x1) (hF : qa_F a1 a2 a3 a4 a5 a6) : wL_lawOf_28 post mc ms x0 x1 x2 x3 x4 x5 0 kc ks f0 f1 f2 f3 a1 a2 a3 a4 a5 a6 a7 a8 a9 a10 a11 := by
  unfold wL_lawOf_28
  exact br_t rfl (qa_60b hp hN hF)
theorem qa_28g {post : Int32 → St0 → Prop} {mc ms kc ks : Nat} {f0 f1 f2 f3 : Int32} {a1 a2 a3 a4 a5 a6 a7 a8 a9 a10 a11 : Nat → Int32} {x2 x3 x4 x5 : Int32} {m n : Nat} (hp : post 1 ()) (hm : m < 256) (hn : n < 256) (hF : qa_F a1 a2 a3 a4 a5 a6) : wL_lawOf_28 post mc ms (nI m) (nI n) x2 x3 x4 x5 1 kc ks f0 f1 f2 f3 a1 a2 a3 a4 a5 a6 a7 a8 a9 a10 a11 := by
  unfold wL_lawOf_28
  refine br_f (by decide) ?_
  rw [qa_lo m hm, qa_lo n hn, qa_hi m hm, qa_hi n hn]
  exact qa_size (by omega) (by omega) (qa_size (by omega) (by omega) (qa_60g hp hm hn hF rfl))
theorem qa_lawOf {post : Int32 → St0 → Prop} {x0 x1 x2 x3 x4 x5 : Int32} (hp : post 1 ()) : wpL_lawOf post 12 2196 () x0 x1 x2 x3 x4 x5 := by
  unfold wpL_lawOf
  refine ⟨by omega, by omega, 11, 2181, by omega, by omega, qa_init (by omega) (by omega) (fun hF => ?_)⟩
  rcases qa_cn x0 with g | ⟨m, hm, rfl⟩
  · exact qa_cell0 g (br_t rfl (qa_28b hp (Or.inl g) hF))
  · refine qa_cell1 hm (br_f (by decide) ?_)
    rcases qa_cn x1 with g | ⟨n, hn, rfl⟩
    · exact qa_cell0 g (br_t rfl (qa_28b hp (Or.inr g) hF))
    · exact qa_cell1 hn (br_f (by decide) (qa_28g hp hm hn hF))
theorem qa_at {post : Int32 → Prop} {L : Nat} {xs : Nat → Int32} {u : St0} (k : Nat) (hk : k < 2 ^ 31) (hL : L < 2 ^ 31) (h : ∀ x, post x) : wpL_cellAt post L xs u (nI k) := by
  unfold wpL_cellAt
  exact pk_le L k (fun _ => h _) (fun z => ⟨pk_in k L z, h _⟩)
end
section
theorem i_vc (xs : Nat → Int32) (L : Nat) (hL : L ≤ 6) : wpL_law (fun r => r = 1) L xs := by
  have hL' : L < 2 ^ 31 := by omega
  unfold wpL_law
  exact qa_at 0 (by decide) hL' (fun x0 => qa_at 1 (by decide) hL' (fun x1 => qa_at 2 (by decide) hL' (fun x2 => qa_at 3 (by decide) hL' (fun x3 => qa_at 4 (by decide) hL' (fun x4 => qa_at 5 (by decide) hL' (fun x5 => ⟨12, 2196, by omega, by omega, qa_lawOf rfl⟩))))))
end
