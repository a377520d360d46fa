section
section
/-- bit i of a mask, as the code asks for it -/
def rn_bit (m : Int32) (i : Nat) : Prop := ((m >>> (nI i &&& 31)) &&& 1) = 1
theorem be_z : ∀ i, i < 32 → ¬ (((0 : Int32) >>> (nI i &&& 31)) &&& 1) = 1 := by decide +kernel
theorem be_b1 : ∀ t, t < 16 → ∀ i, i < 16 → (((((1 : Int32) <<< (nI t &&& 31)) >>> (nI i &&& 31)) &&& 1) = 1 ↔ i = t) := by decide +kernel
theorem be_8 (i : Nat) : (8 : Int32) * nI i + 0 = nI (8 * i) := by
  rw [show (8 : Int32) = nI 8 from rfl, ← nI_0, pk_mul, nI_add, Nat.add_zero]
theorem be_16 (s i : Nat) : (16 : Int32) * nI s + nI i = nI (16 * s + i) := by
  rw [show (16 : Int32) = nI 16 from rfl, pk_mul, nI_add]
theorem be_4 (s i : Nat) : (4 : Int32) * nI s + nI i = nI (4 * s + i) := by
  rw [show (4 : Int32) = nI 4 from rfl, pk_mul, nI_add]
theorem be_12 (i : Nat) : (12 : Int32) * 0 + nI i = nI i := by
  rw [show (12 : Int32) * 0 = nI 0 from rfl, nI_add, Nat.zero_add]
theorem be_nar {x : Int32} (h : x = 0 ∨ x = 1) : vp_nar .boolean x = x := by
  rcases h with rfl | rfl <;> rfl
theorem be_hi (x : Int32) : ∃ e : Nat, e < 65536 ∧ (x.toUInt32 >>> ((16 : Int32).toUInt32 &&& Int32.toUInt32 31)).toInt32 = nI e := by
  have h := pk_ushr x 16 16 (by decide)
  have hx := x.toBitVec.isLt
  refine ⟨x.toBitVec.toNat / 2 ^ 16, by omega, ?_⟩
  apply Int32.toBitVec_inj.mp
  apply BitVec.eq_of_toNat_eq
  rw [h, pk_tn (by omega)]
theorem be_fill {s : Nat → Int32} {i k : Nat} (hk : k = i) (h : ∀ j, j < i → s j = 0) : ∀ j, j < i + 1 → upd s k 0 j = 0 := by
  intro j hj
  rw [hk]
  by_cases e : j = i
  · rw [e, pk_us]
  · rw [pk_un e]
    exact h j (by omega)
/-- each worker's turn comes within 24 ticks -/
theorem be_hit {N s : Nat} (hN : 1 ≤ N) (hN6 : N ≤ 6) (hs : s < N) (k : Nat) : ∃ d, 1 ≤ d ∧ d ≤ 24 ∧ (k + d) % 4 = 0 ∧ (k + d) / 4 % N = s := by
  have key : ∃ j, 1 ≤ j ∧ j ≤ N ∧ (k / 4 + j) % N = s := by
    have hc : N = 1 ∨ N = 2 ∨ N = 3 ∨ N = 4 ∨ N = 5 ∨ N = 6 := by omega
    rcases hc with rfl | rfl | rfl | rfl | rfl | rfl
    · exact ⟨1, by omega, by omega, by omega⟩
    · exact ⟨(s + 2 - (k / 4 + 1) % 2) % 2 + 1, by omega, by omega, by omega⟩
    · exact ⟨(s + 3 - (k / 4 + 1) % 3) % 3 + 1, by omega, by omega, by omega⟩
    · exact ⟨(s + 4 - (k / 4 + 1) % 4) % 4 + 1, by omega, by omega, by omega⟩
    · exact ⟨(s + 5 - (k / 4 + 1) % 5) % 5 + 1, by omega, by omega, by omega⟩
    · exact ⟨(s + 6 - (k / 4 + 1) % 6) % 6 + 1, by omega, by omega, by omega⟩
  obtain ⟨j, h1, h2, h3⟩ := key
  refine ⟨4 * (k / 4 + j) - k, by omega, by omega, by omega, ?_⟩
  rw [show k + (4 * (k / 4 + j) - k) = 4 * (k / 4 + j) by omega, Nat.mul_div_cancel_left _ (by decide)]
  exact h3
end
section
variable {c ph wk nc nk ch ck wr : Int32} {a1 a2 a3 a4 a5 a6 a7 a8 a9 a10 a11 a12 a13 a14 a15 a16 a17 a18 a19 a20 a21 a22 a23 a24 a25 a26 : Nat → Int32}
theorem be_phase {post : Int32 → Prop} (h : post ph) : wpX_phase post (c, ph, wk, nc, nk, ch, ck, wr, a1, a2, a3, a4, a5, a6, a7, a8, a9, a10, a11, a12, a13, a14, a15, a16, a17, a18, a19, a20, a21, a22, a23, a24, a25, a26) := h
theorem be_trans {post : Int32 → Prop} (h : post c) : wpX_transactions post (c, ph, wk, nc, nk, ch, ck, wr, a1, a2, a3, a4, a5, a6, a7, a8, a9, a10, a11, a12, a13, a14, a15, a16, a17, a18, a19, a20, a21, a22, a23, a24, a25, a26) := h
theorem be_cell {post : Int32 → Prop} {j : Nat} (hj : j < 16) (h : post (a1 j)) : wpX_cell post (c, ph, wk, nc, nk, ch, ck, wr, a1, a2, a3, a4, a5, a6, a7, a8, a9, a10, a11, a12, a13, a14, a15, a16, a17, a18, a19, a20, a21, a22, a23, a24, a25, a26) (nI j) := by
  have e : (nI j).toNatClampNeg = j := nI_clamp (by omega)
  unfold wpX_cell
  rw [e]
  exact br_f (nI_pos (by omega)) (br_f (nI_ge (b := 16) hj (by decide)) (br_f (by decide) ⟨pk_in j 16 hj, h⟩))
theorem be_cellB {post : Int32 → Prop} {x : Int32} (hx : x < 0 ∨ 16 ≤ x) (h : post 0) : wpX_cell post (c, ph, wk, nc, nk, ch, ck, wr, a1, a2, a3, a4, a5, a6, a7, a8, a9, a10, a11, a12, a13, a14, a15, a16, a17, a18, a19, a20, a21, a22, a23, a24, a25, a26) x := by
  unfold wpX_cell
  by_cases h0 : x < 0
  · exact br_t h0 (br_t rfl h)
  · exact br_f h0 (br_t (hx.resolve_left h0) (br_t rfl h))
theorem be_digest {post : Int32 → Prop} {j : Nat} (hj : ∀ i, i < 16 → i ≠ j → a1 i = 0) (h : post (if j < 16 then (nI j + 1) * a1 j else 0)) : wpX_digest post (c, ph, wk, nc, nk, ch, ck, wr, a1, a2, a3, a4, a5, a6, a7, a8, a9, a10, a11, a12, a13, a14, a15, a16, a17, a18, a19, a20, a21, a22, a23, a24, a25, a26) :=
  pk_loop (fun n i x => wX_digest_4 post c ph wk nc nk ch ck wr a1 a2 a3 a4 a5 a6 a7 a8 a9 a10 a11 a12 a13 a14 a15 a16 a17 a18 a19 a20 a21 a22 a23 a24 a25 a26 n x (nI i)) (fun i x => x = if j < i then (nI j + 1) * a1 j else 0) 16 0 0 (by omega) (by rw [if_neg (by omega)])
    (fun n x hx => pk_le 16 16 (fun _ => by rw [hx]; exact h) (fun z => absurd z (by omega)))
    (fun n i x hi hx hw => pk_le 16 i (fun z => absurd z (by omega)) (fun _ => ⟨pk_in i 16 hi, nm_e (nm_r (nI_1 i) (hw _ (by
      rw [nI_clamp (by omega), hx]
      by_cases e : i = j
      · subst e
        rw [if_neg (by omega), if_pos (by omega), Int32.zero_add]
      · rw [hj i hi e, Int32.mul_zero, Int32.add_zero]
        by_cases e2 : j < i
        · rw [if_pos e2, if_pos (by omega)]
        · rw [if_neg e2, if_neg (by omega)])))⟩))
theorem be_secB {post : Int32 → Prop} {x : Int32} (hx : x < 0 ∨ ¬ x < c) (h : post (-1)) : wpX_secret post (c, ph, wk, nc, nk, ch, ck, wr, a1, a2, a3, a4, a5, a6, a7, a8, a9, a10, a11, a12, a13, a14, a15, a16, a17, a18, a19, a20, a21, a22, a23, a24, a25, a26) x := by
  by_cases h0 : x < 0
  · exact br_t h0 h
  · exact br_f h0 (br_f (hx.resolve_left h0) h)
theorem be_sec0 {post : Int32 → Prop} {x : Int32} (h0 : ¬ x < 0) (hc : x < c) (hp : ¬ ph = 2) (h : post (-5)) : wpX_secret post (c, ph, wk, nc, nk, ch, ck, wr, a1, a2, a3, a4, a5, a6, a7, a8, a9, a10, a11, a12, a13, a14, a15, a16, a17, a18, a19, a20, a21, a22, a23, a24, a25, a26) x :=
  br_f h0 (br_t hc (br_f hp h))
theorem be_sec2 {post : Int32 → Prop} {x : Int32} (h0 : ¬ x < 0) (hc : x < c) (hp : ph = 2) (h : post 0) : wpX_secret post (c, ph, wk, nc, nk, ch, ck, wr, a1, a2, a3, a4, a5, a6, a7, a8, a9, a10, a11, a12, a13, a14, a15, a16, a17, a18, a19, a20, a21, a22, a23, a24, a25, a26) x :=
  br_f h0 (br_t hc (br_t hp h))
theorem be_resB {post : Int32 → Prop} {x : Int32} (hx : x < 0 ∨ ¬ x < c) (h : post (-1)) : wpX_result post (c, ph, wk, nc, nk, ch, ck, wr, a1, a2, a3, a4, a5, a6, a7, a8, a9, a10, a11, a12, a13, a14, a15, a16, a17, a18, a19, a20, a21, a22, a23, a24, a25, a26) x :=by
  unfold wpX_result
  exact be_secB hx (br_f (by decide) h)
theorem be_outsB {post : Int32 → Prop} {x : Int32} (hx : x < 0 ∨ ¬ x < c) (h : post (-1)) : wpX_outs post (c, ph, wk, nc, nk, ch, ck, wr, a1, a2, a3, a4, a5, a6, a7, a8, a9, a10, a11, a12, a13, a14, a15, a16, a17, a18, a19, a20, a21, a22, a23, a24, a25, a26) x :=by
  unfold wpX_outs
  exact be_secB hx (br_f (by decide) h)
theorem be_storB {post : Int32 → Prop} {x : Int32} (hx : x < 0 ∨ ¬ x < c) (h : post (-1)) : wpX_stored post (c, ph, wk, nc, nk, ch, ck, wr, a1, a2, a3, a4, a5, a6, a7, a8, a9, a10, a11, a12, a13, a14, a15, a16, a17, a18, a19, a20, a21, a22, a23, a24, a25, a26) x :=by
  unfold wpX_stored
  exact be_secB hx (br_f (by decide) h)
theorem be_outB {post : Int32 → Prop} {x y : Int32} (hx : x < 0 ∨ ¬ x < c) (h : post 0) : wpX_out post (c, ph, wk, nc, nk, ch, ck, wr, a1, a2, a3, a4, a5, a6, a7, a8, a9, a10, a11, a12, a13, a14, a15, a16, a17, a18, a19, a20, a21, a22, a23, a24, a25, a26) x y := by
  by_cases h0 : y < 0
  · exact br_t h0 h
  · refine br_f h0 (be_outsB hx (br_t ?_ h))
    rw [Int32.lt_iff_toInt_lt, show (0 : Int32).toInt = 0 from by decide] at h0
    rw [Int32.le_iff_toInt_le, show (-1 : Int32).toInt = -1 from by decide]
    omega
theorem be_res0 {post : Int32 → Prop} (hc : 0 < c) (hp : ¬ ph = 2) (h : post (-5)) : wpX_result post (c, ph, wk, nc, nk, ch, ck, wr, a1, a2, a3, a4, a5, a6, a7, a8, a9, a10, a11, a12, a13, a14, a15, a16, a17, a18, a19, a20, a21, a22, a23, a24, a25, a26) 0 :=by
  unfold wpX_result
  exact be_sec0 (by decide) hc hp (br_f (by decide) h)
theorem be_outs0 {post : Int32 → Prop} (hc : 0 < c) (hp : ¬ ph = 2) (h : post (-5)) : wpX_outs post (c, ph, wk, nc, nk, ch, ck, wr, a1, a2, a3, a4, a5, a6, a7, a8, a9, a10, a11, a12, a13, a14, a15, a16, a17, a18, a19, a20, a21, a22, a23, a24, a25, a26) 0 :=by
  unfold wpX_outs
  exact be_sec0 (by decide) hc hp (br_f (by decide) h)
theorem be_stor0 {post : Int32 → Prop} (hc : 0 < c) (hp : ¬ ph = 2) (h : post (-5)) : wpX_stored post (c, ph, wk, nc, nk, ch, ck, wr, a1, a2, a3, a4, a5, a6, a7, a8, a9, a10, a11, a12, a13, a14, a15, a16, a17, a18, a19, a20, a21, a22, a23, a24, a25, a26) 0 :=by
  unfold wpX_stored
  exact be_sec0 (by decide) hc hp (br_f (by decide) h)
theorem be_out0 {post : Int32 → Prop} (hc : 0 < c) (hp : ¬ ph = 2) (h : post 0) : wpX_out post (c, ph, wk, nc, nk, ch, ck, wr, a1, a2, a3, a4, a5, a6, a7, a8, a9, a10, a11, a12, a13, a14, a15, a16, a17, a18, a19, a20, a21, a22, a23, a24, a25, a26) 0 0 :=
  br_f (by decide) (be_outs0 hc hp (br_t (by decide) h))
theorem be_res2 {post : Int32 → Prop} (hc : 0 < c) (hp : ph = 2) (h : post (if a16 0 = 0 then 1 else 0)) : wpX_result post (c, ph, wk, nc, nk, ch, ck, wr, a1, a2, a3, a4, a5, a6, a7, a8, a9, a10, a11, a12, a13, a14, a15, a16, a17, a18, a19, a20, a21, a22, a23, a24, a25, a26) 0 := by
  unfold wpX_result
  refine be_sec2 (by decide) hc hp (br_t (by decide) ⟨pk_in 0 8 (by decide), ?_⟩)
  rw [sb_cl0]
  by_cases z : a16 0 = 0
  · rw [if_pos z] at h
    exact br_t z h
  · rw [if_neg z] at h
    exact br_f z h
theorem be_outs2 {post : Int32 → Prop} (hc : 0 < c) (hp : ph = 2) (h : post (if a16 0 = 0 then a17 0 else 0)) : wpX_outs post (c, ph, wk, nc, nk, ch, ck, wr, a1, a2, a3, a4, a5, a6, a7, a8, a9, a10, a11, a12, a13, a14, a15, a16, a17, a18, a19, a20, a21, a22, a23, a24, a25, a26) 0 := by
  unfold wpX_outs
  refine be_sec2 (by decide) hc hp (br_t (by decide) ⟨pk_in 0 8 (by decide), ?_⟩)
  rw [sb_cl0]
  by_cases z : a16 0 = 0
  · rw [if_pos z] at h
    exact br_t z ⟨pk_in 0 8 (by decide), h⟩
  · rw [if_neg z] at h
    exact br_f z h
theorem be_stor2 {post : Int32 → Prop} (hc : 0 < c) (hp : ph = 2) (h : post (a8 0)) : wpX_stored post (c, ph, wk, nc, nk, ch, ck, wr, a1, a2, a3, a4, a5, a6, a7, a8, a9, a10, a11, a12, a13, a14, a15, a16, a17, a18, a19, a20, a21, a22, a23, a24, a25, a26) 0 := by
  unfold wpX_stored
  refine be_sec2 (by decide) hc hp (br_t (by decide) ⟨pk_in 0 8 (by decide), ?_⟩)
  rw [sb_cl0]
  exact h
/-- out(0, k) of a finished block that did not fail -/
theorem be_out2 {post : Int32 → Prop} {k p : Nat} (hc : 0 < c) (hp : ph = 2) (h16 : a16 0 = 0) (h17 : a17 0 = nI p) (hk : k < 96) (hq : p < 96) (h : post (if k < p then a18 k else 0)) : wpX_out post (c, ph, wk, nc, nk, ch, ck, wr, a1, a2, a3, a4, a5, a6, a7, a8, a9, a10, a11, a12, a13, a14, a15, a16, a17, a18, a19, a20, a21, a22, a23, a24, a25, a26) 0 (nI k) := by
  refine br_f (nI_pos (by omega)) (be_outs2 hc hp ?_)
  rw [if_pos h16, h17]
  refine pk_le p k (fun z => ?_) (fun z => ⟨?_, ?_⟩)
  · rw [if_neg (by omega)] at h
    exact h
  · rw [be_12]
    exact pk_in k 96 hk
  · rw [be_12, nI_clamp (by omega)]
    rw [if_pos z] at h
    exact h
theorem be_outM {post : Int32 → Prop} {x : Int32} (h : post 0) : wpX_out post (c, ph, wk, nc, nk, ch, ck, wr, a1, a2, a3, a4, a5, a6, a7, a8, a9, a10, a11, a12, a13, a14, a15, a16, a17, a18, a19, a20, a21, a22, a23, a24, a25, a26) x (-1) :=
  br_t (by decide) h
/-- faults() with no transaction -/
theorem be_faults {post : Int32 → St2 → Prop} (hp : ¬ ph = 1) (h : post 0 (0, ph, wk, nc, nk, ch, ck, 0, a1, a2, a3, a4, a5, a6, a7, a8, a9, a10, a11, a12, a13, a14, a15, a16, a17, a18, a19, a20, a21, a22, a23, a24, a25, a26)) : wpX_faults post (0, ph, wk, nc, nk, ch, ck, wr, a1, a2, a3, a4, a5, a6, a7, a8, a9, a10, a11, a12, a13, a14, a15, a16, a17, a18, a19, a20, a21, a22, a23, a24, a25, a26) :=
  br_f hp ⟨1, br_t (by decide) h⟩
theorem be_ref1 {post : Int32 → Prop} (h : post (-4)) : wpX_refusal post (c, 1, wk, nc, nk, ch, ck, wr, a1, a2, a3, a4, a5, a6, a7, a8, a9, a10, a11, a12, a13, a14, a15, a16, a17, a18, a19, a20, a21, a22, a23, a24, a25, a26) := br_f (by decide) (br_t rfl h)
theorem be_ref2 {post : Int32 → Prop} (h : post (-3)) : wpX_refusal post (c, 2, wk, nc, nk, ch, ck, wr, a1, a2, a3, a4, a5, a6, a7, a8, a9, a10, a11, a12, a13, a14, a15, a16, a17, a18, a19, a20, a21, a22, a23, a24, a25, a26) := br_t rfl h
theorem be_undo1 {post : Int32 → St2 → Prop} (h : post (-4) (c, 1, wk, nc, nk, ch, ck, wr, a1, a2, a3, a4, a5, a6, a7, a8, a9, a10, a11, a12, a13, a14, a15, a16, a17, a18, a19, a20, a21, a22, a23, a24, a25, a26)) : wpX_undo post (c, 1, wk, nc, nk, ch, ck, wr, a1, a2, a3, a4, a5, a6, a7, a8, a9, a10, a11, a12, a13, a14, a15, a16, a17, a18, a19, a20, a21, a22, a23, a24, a25, a26) := br_f (by decide) (be_ref1 h)
theorem be_undo2 {post : Int32 → St2 → Prop} (h : post (-3) (c, 2, wk, nc, nk, ch, ck, wr, a1, a2, a3, a4, a5, a6, a7, a8, a9, a10, a11, a12, a13, a14, a15, a16, a17, a18, a19, a20, a21, a22, a23, a24, a25, a26)) : wpX_undo post (c, 2, wk, nc, nk, ch, ck, wr, a1, a2, a3, a4, a5, a6, a7, a8, a9, a10, a11, a12, a13, a14, a15, a16, a17, a18, a19, a20, a21, a22, a23, a24, a25, a26) := br_f (by decide) (be_ref2 h)
theorem be_undoN {post : Int32 → St2 → Prop} (h : post (-5) (0, 0, wk, nc, nk, ch, ck, wr, a1, a2, a3, a4, a5, a6, a7, a8, a9, a10, a11, a12, a13, a14, a15, a16, a17, a18, a19, a20, a21, a22, a23, a24, a25, a26)) : wpX_undo post (0, 0, wk, nc, nk, ch, ck, wr, a1, a2, a3, a4, a5, a6, a7, a8, a9, a10, a11, a12, a13, a14, a15, a16, a17, a18, a19, a20, a21, a22, a23, a24, a25, a26) := br_t rfl (br_t rfl h)
/-- undo of an empty transaction, the only one -/
theorem be_undoE {post : Int32 → St2 → Prop} (h2 : a2 0 = 0) (h : post 0 (0, 0, wk, nc, nk, ch, ck, wr, a1, a2, a3, a4, a5, a6, a7, a8, a9, a10, a11, a12, a13, a14, a15, a16, a17, a18, a19, a20, a21, a22, a23, a24, a25, a26)) : wpX_undo post (1, 0, wk, nc, nk, ch, ck, wr, a1, a2, a3, a4, a5, a6, a7, a8, a9, a10, a11, a12, a13, a14, a15, a16, a17, a18, a19, a20, a21, a22, a23, a24, a25, a26) := by
  refine br_t rfl (br_f (by decide) ⟨pk_in 0 8 (by decide), ?_⟩)
  rw [show ((1 : Int32) - 1).toNatClampNeg = 0 from rfl, h2]
  exact br_t (by decide) (nm_r (e' := 0) rfl (br_t rfl h))
/-- undo of the last instruction -/
theorem be_undoI {post : Int32 → St2 → Prop} {n : Nat} (hn : n < 100) (h2 : a2 0 = nI (n + 1)) (h : post (nI n) (1, 0, wk, nc, nk, ch, ck, wr, a1, upd a2 0 (nI n), a3, a4, a5, a6, a7, a8, a9, a10, a11, a12, a13, a14, a15, a16, a17, a18, a19, a20, a21, a22, a23, a24, a25, a26)) : wpX_undo post (1, 0, wk, nc, nk, ch, ck, wr, a1, a2, a3, a4, a5, a6, a7, a8, a9, a10, a11, a12, a13, a14, a15, a16, a17, a18, a19, a20, a21, a22, a23, a24, a25, a26) := by
  refine br_t rfl (br_f (by decide) ⟨pk_in 0 8 (by decide), ?_⟩)
  rw [show ((1 : Int32) - 1).toNatClampNeg = 0 from rfl, h2]
  refine br_f (nI_nle (by omega) (by omega)) ⟨pk_in 0 8 (by decide), pk_in 0 8 (by decide), nm_r (e' := upd a2 0 (nI n)) (by rw [nI_pred]) (br_f (by decide) ⟨pk_in 0 8 (by decide), ?_⟩)⟩
  rw [show ((1 : Int32) - 1).toNatClampNeg = 0 from rfl, pk_us]
  exact h
theorem be_begin1 {post : Int32 → St2 → Prop} (h : post (-4) (c, 1, wk, nc, nk, ch, ck, wr, a1, a2, a3, a4, a5, a6, a7, a8, a9, a10, a11, a12, a13, a14, a15, a16, a17, a18, a19, a20, a21, a22, a23, a24, a25, a26)) : wpX_begin post (c, 1, wk, nc, nk, ch, ck, wr, a1, a2, a3, a4, a5, a6, a7, a8, a9, a10, a11, a12, a13, a14, a15, a16, a17, a18, a19, a20, a21, a22, a23, a24, a25, a26) := br_f (by decide) (be_ref1 h)
theorem be_begin2 {post : Int32 → St2 → Prop} (h : post (-3) (c, 2, wk, nc, nk, ch, ck, wr, a1, a2, a3, a4, a5, a6, a7, a8, a9, a10, a11, a12, a13, a14, a15, a16, a17, a18, a19, a20, a21, a22, a23, a24, a25, a26)) : wpX_begin post (c, 2, wk, nc, nk, ch, ck, wr, a1, a2, a3, a4, a5, a6, a7, a8, a9, a10, a11, a12, a13, a14, a15, a16, a17, a18, a19, a20, a21, a22, a23, a24, a25, a26) := br_f (by decide) (be_ref2 h)
theorem be_begin0 {post : Int32 → St2 → Prop} (h : post 0 (1, 0, wk, nc, nk, ch, ck, wr, a1, upd a2 0 0, a3, a4, a5, a6, a7, a8, a9, a10, a11, a12, a13, a14, a15, a16, a17, a18, a19, a20, a21, a22, a23, a24, a25, a26)) : wpX_begin post (0, 0, wk, nc, nk, ch, ck, wr, a1, a2, a3, a4, a5, a6, a7, a8, a9, a10, a11, a12, a13, a14, a15, a16, a17, a18, a19, a20, a21, a22, a23, a24, a25, a26) :=
  br_t rfl (br_t (by decide) ⟨pk_in 0 8 (by decide), nm_e (nm_r (e' := 1) rfl h)⟩)
theorem be_add1 {post : Int32 → St2 → Prop} {x y z : Int32} (h : post (-4) (c, 1, wk, nc, nk, ch, ck, wr, a1, a2, a3, a4, a5, a6, a7, a8, a9, a10, a11, a12, a13, a14, a15, a16, a17, a18, a19, a20, a21, a22, a23, a24, a25, a26)) : wpX_add post (c, 1, wk, nc, nk, ch, ck, wr, a1, a2, a3, a4, a5, a6, a7, a8, a9, a10, a11, a12, a13, a14, a15, a16, a17, a18, a19, a20, a21, a22, a23, a24, a25, a26) x y z := br_f (by decide) (be_ref1 h)
theorem be_add2 {post : Int32 → St2 → Prop} {x y z : Int32} (h : post (-3) (c, 2, wk, nc, nk, ch, ck, wr, a1, a2, a3, a4, a5, a6, a7, a8, a9, a10, a11, a12, a13, a14, a15, a16, a17, a18, a19, a20, a21, a22, a23, a24, a25, a26)) : wpX_add post (c, 2, wk, nc, nk, ch, ck, wr, a1, a2, a3, a4, a5, a6, a7, a8, a9, a10, a11, a12, a13, a14, a15, a16, a17, a18, a19, a20, a21, a22, a23, a24, a25, a26) x y z := br_f (by decide) (be_ref2 h)
/-- an instruction that is none -/
theorem be_addB {post : Int32 → St2 → Prop} {x y z : Int32} (hb : x < 0 ∨ 12 ≤ x ∨ y < 0 ∨ 16 ≤ y) (h : post (-1) (c, 0, wk, nc, nk, ch, ck, wr, a1, a2, a3, a4, a5, a6, a7, a8, a9, a10, a11, a12, a13, a14, a15, a16, a17, a18, a19, a20, a21, a22, a23, a24, a25, a26)) : wpX_add post (c, 0, wk, nc, nk, ch, ck, wr, a1, a2, a3, a4, a5, a6, a7, a8, a9, a10, a11, a12, a13, a14, a15, a16, a17, a18, a19, a20, a21, a22, a23, a24, a25, a26) x y z := by
  refine br_t rfl (br_c (fun _ => h) (fun h0 => br_c (fun _ => h) (fun h1 => br_c (fun _ => h) (fun h2 => br_f (fun h3 => ?_) h))))
  simp only [Int32.lt_iff_toInt_lt, Int32.le_iff_toInt_le, show (0 : Int32).toInt = 0 from by decide, show (11 : Int32).toInt = 11 from by decide, show (12 : Int32).toInt = 12 from by decide, show (15 : Int32).toInt = 15 from by decide, show (16 : Int32).toInt = 16 from by decide] at h0 h1 h2 h3 hb
  omega
theorem be_addN {post : Int32 → St2 → Prop} {o q : Nat} {z : Int32} (ho : o < 12) (hq : q < 16) (h : post (-5) (0, 0, wk, nc, nk, ch, ck, wr, a1, a2, a3, a4, a5, a6, a7, a8, a9, a10, a11, a12, a13, a14, a15, a16, a17, a18, a19, a20, a21, a22, a23, a24, a25, a26)) : wpX_add post (0, 0, wk, nc, nk, ch, ck, wr, a1, a2, a3, a4, a5, a6, a7, a8, a9, a10, a11, a12, a13, a14, a15, a16, a17, a18, a19, a20, a21, a22, a23, a24, a25, a26) (nI o) (nI q) z :=
  br_t rfl (br_f (nI_pos (by omega)) (br_f (nI_nlt (a := 11) (b := o) (by omega) (by omega)) (br_f (nI_pos (by omega)) (br_t (nI_le (b := 15) (by omega) (by omega)) (br_t rfl h)))))
theorem be_addI {post : Int32 → St2 → Prop} {o q n : Nat} {z : Int32} (ho : o < 12) (hq : q < 16) (hn : n < 12) (h2 : a2 0 = nI n) (h : post (nI n) (1, 0, wk, nc, nk, ch, ck, wr, a1, upd a2 0 (nI (n + 1)), upd a3 n (nI o), upd a4 n (nI q), upd a5 n z, a6, a7, a8, a9, a10, a11, a12, a13, a14, a15, a16, a17, a18, a19, a20, a21, a22, a23, a24, a25, a26)) : wpX_add post (1, 0, wk, nc, nk, ch, ck, wr, a1, a2, a3, a4, a5, a6, a7, a8, a9, a10, a11, a12, a13, a14, a15, a16, a17, a18, a19, a20, a21, a22, a23, a24, a25, a26) (nI o) (nI q) z := by
  refine br_t rfl (br_f (nI_pos (by omega)) (br_f ?_ (br_f (nI_pos (by omega)) (br_t (nI_le (b := 15) (by omega) (by omega)) (br_f (by decide) (nm_r (e' := 0) rfl ⟨pk_in 0 8 (by decide), ?_⟩))))))
  · exact nI_nlt (a := 11) (b := o) (by omega) (by omega)
  · rw [sb_cl0, h2]
    refine br_t (nI_lt (b := 12) hn (by decide)) ⟨pk_in 0 8 (by decide), nm_r (e' := nI n) (be_12 n) ?_⟩
    rw [nI_clamp (show n < 2 ^ 31 by omega)]
    refine ⟨pk_in n 96 (by omega), nm_e ⟨pk_in n 96 (by omega), nm_e ⟨pk_in n 96 (by omega), nm_e ⟨pk_in 0 8 (by decide), pk_in 0 8 (by decide), nm_r (e' := upd a2 0 (nI (n + 1))) (by rw [nI_1]) ⟨pk_in 0 8 (by decide), ?_⟩⟩⟩⟩⟩
    rw [pk_us, nI_pred]
    exact h
theorem be_poke1 {post : Int32 → St2 → Prop} {x y : Int32} (h : post (-4) (c, 1, wk, nc, nk, ch, ck, wr, a1, a2, a3, a4, a5, a6, a7, a8, a9, a10, a11, a12, a13, a14, a15, a16, a17, a18, a19, a20, a21, a22, a23, a24, a25, a26)) : wpX_poke post (c, 1, wk, nc, nk, ch, ck, wr, a1, a2, a3, a4, a5, a6, a7, a8, a9, a10, a11, a12, a13, a14, a15, a16, a17, a18, a19, a20, a21, a22, a23, a24, a25, a26) x y := br_t rfl h
theorem be_pokeG {post : Int32 → St2 → Prop} {j : Nat} {y : Int32} (hp : ¬ ph = 1) (hj : j < 16) (h : post 0 (c, ph, wk, nc, nk, ch, ck, wr, upd a1 j y, a2, a3, a4, a5, a6, a7, a8, a9, a10, a11, a12, a13, a14, a15, a16, a17, a18, a19, a20, a21, a22, a23, a24, a25, a26)) : wpX_poke post (c, ph, wk, nc, nk, ch, ck, wr, a1, a2, a3, a4, a5, a6, a7, a8, a9, a10, a11, a12, a13, a14, a15, a16, a17, a18, a19, a20, a21, a22, a23, a24, a25, a26) (nI j) y := by
  have e : (nI j).toNatClampNeg = j := nI_clamp (by omega)
  unfold wpX_poke
  rw [e]
  exact br_f hp (br_f (nI_pos (by omega)) (br_f (nI_ge (b := 16) hj (by decide)) (br_f (by decide) ⟨pk_in j 16 hj, nm_e h⟩)))
theorem be_pokeB {post : Int32 → St2 → Prop} {x y : Int32} (hp : ¬ ph = 1) (hx : x < 0 ∨ 16 ≤ x) (h : post (-1) (c, ph, wk, nc, nk, ch, ck, wr, a1, a2, a3, a4, a5, a6, a7, a8, a9, a10, a11, a12, a13, a14, a15, a16, a17, a18, a19, a20, a21, a22, a23, a24, a25, a26)) : wpX_poke post (c, ph, wk, nc, nk, ch, ck, wr, a1, a2, a3, a4, a5, a6, a7, a8, a9, a10, a11, a12, a13, a14, a15, a16, a17, a18, a19, a20, a21, a22, a23, a24, a25, a26) x y := by
  refine br_f hp ?_
  by_cases h0 : x < 0
  · exact br_t h0 (br_t rfl h)
  · exact br_f h0 (br_t (hx.resolve_left h0) (br_t rfl h))
theorem be_next1 {post : Int32 → St2 → Prop} (h : post (-4) (c, 1, wk, nc, nk, ch, ck, wr, a1, a2, a3, a4, a5, a6, a7, a8, a9, a10, a11, a12, a13, a14, a15, a16, a17, a18, a19, a20, a21, a22, a23, a24, a25, a26)) : wpX_next post (c, 1, wk, nc, nk, ch, ck, wr, a1, a2, a3, a4, a5, a6, a7, a8, a9, a10, a11, a12, a13, a14, a15, a16, a17, a18, a19, a20, a21, a22, a23, a24, a25, a26) := br_t rfl h
theorem be_nextG {post : Int32 → St2 → Prop} (hp : ¬ ph = 1) (h : post 0 (0, 0, wk, nc, nk, ch, ck, wr, a1, a2, a3, a4, a5, a6, a7, a8, a9, a10, a11, a12, a13, a14, a15, a16, a17, a18, a19, a20, a21, a22, a23, a24, a25, a26)) : wpX_next post (c, ph, wk, nc, nk, ch, ck, wr, a1, a2, a3, a4, a5, a6, a7, a8, a9, a10, a11, a12, a13, a14, a15, a16, a17, a18, a19, a20, a21, a22, a23, a24, a25, a26) := br_f hp h
end
end
section
section
/-- what a transaction has read, if anything, was the store -/
def rn_rd (a12 a14 : Nat → Int32) : Prop := a12 0 = 0 ∨ (a12 0 = 1 ∧ a14 0 = -1)
variable {c ph wk nc nk ch ck wr : Int32} {a1 a2 a3 a4 a5 a6 a7 a8 a9 a10 a11 a12 a13 a14 a15 a16 a17 a18 a19 a20 a21 a22 a23 a24 a25 a26 : Nat → Int32}
theorem rn_next {post : Int32 → St2 → Prop} {N k : Nat} (hN : 1 ≤ N) (hN6 : N ≤ 6) (hk : k < 1000000)
    (h : ∀ v ch', v < N → ((k + 1) % 4 = 0 → v = (k + 1) / 4 % N) → post (nI v) (c, ph, nI N, nc, nk, ch', nI (k + 1), wr, a1, a2, a3, a4, a5, a6, a7, a8, a9, a10, a11, a12, a13, a14, a15, a16, a17, a18, a19, a20, a21, a22, a23, a24, a25, a26)) : wpX_nextWorker post (c, ph, nI N, nc, nk, ch, nI k, wr, a1, a2, a3, a4, a5, a6, a7, a8, a9, a10, a11, a12, a13, a14, a15, a16, a17, a18, a19, a20, a21, a22, a23, a24, a25, a26) := by
  have hw : ¬ nI N = 0 := nI_ne0 (by omega) (by omega)
  refine nm_r (nI_1 k) (nm_e ⟨hw, nm_e ?_⟩)
  obtain ⟨e, he, ee⟩ := be_hi (ch * 1103515245 + 12345)
  have h1 : nI (k + 1) &&& 3 = nI ((k + 1) % 4) := pk_andN (by omega) 2 (by decide)
  have h2 : nI (k + 1) >>> ((2 : Int32) &&& 31) = nI ((k + 1) / 4) := pk_shrN (by omega) _ 2 (by decide)
  rw [ee, h1, h2, pk_rem (a := (k + 1) / 4) (by omega) (by omega) (by omega), pk_rem (a := e) (by omega) (by omega) (by omega)]
  exact pk_eq ((k + 1) % 4) 0 (fun z => ⟨hw, h _ _ (Nat.mod_lt _ (by omega)) (fun _ => rfl)⟩) (fun z => h _ _ (Nat.mod_lt _ (by omega)) (fun z' => absurd z' z))
theorem rn_adO {post : Int32 → Prop} {N s : Nat} (hN6 : N ≤ 6) (hs : s < N) (h1 : ¬ a19 s = 0) (ho : ∀ v, v < N → v ≠ s → a19 v = 0) (hc : ¬ nc < c) (hk : c ≤ nk) (h : post 0) : wpX_isAllDone post (c, ph, nI N, nc, nk, ch, ck, wr, a1, a2, a3, a4, a5, a6, a7, a8, a9, a10, a11, a12, a13, a14, a15, a16, a17, a18, a19, a20, a21, a22, a23, a24, a25, a26) :=
  br_f hc (br_t hk (pk_loop (σ := Unit) (fun n i _ => wX_isAllDone_26 post c ph (nI N) nc nk ch ck wr a1 a2 a3 a4 a5 a6 a7 a8 a9 a10 a11 a12 a13 a14 a15 a16 a17 a18 a19 a20 a21 a22 a23 a24 a25 a26 n (nI i)) (fun _ _ => True) s 0 () (by omega) trivial
    (fun n _ _ => pk_le N s (fun z => absurd z (by omega)) (fun _ => ⟨pk_in s 6 (by omega), br_f (by rw [nI_clamp (by omega)]; exact h1) h⟩))
    (fun n i _ hi _ hw => pk_le N i (fun z => absurd z (by omega)) (fun _ => ⟨pk_in i 6 (by omega), br_t (by rw [nI_clamp (by omega)]; exact ho i (by omega) (by omega)) (nm_r (nI_1 i) (hw () trivial))⟩))))
theorem rn_adI {post : Int32 → Prop} {N : Nat} (hN6 : N ≤ 6) (ho : ∀ v, v < N → a19 v = 0) (hc : ¬ nc < c) (hk : c ≤ nk) (h : post 1) : wpX_isAllDone post (c, ph, nI N, nc, nk, ch, ck, wr, a1, a2, a3, a4, a5, a6, a7, a8, a9, a10, a11, a12, a13, a14, a15, a16, a17, a18, a19, a20, a21, a22, a23, a24, a25, a26) :=
  br_f hc (br_t hk (pk_loop (σ := Unit) (fun n i _ => wX_isAllDone_26 post c ph (nI N) nc nk ch ck wr a1 a2 a3 a4 a5 a6 a7 a8 a9 a10 a11 a12 a13 a14 a15 a16 a17 a18 a19 a20 a21 a22 a23 a24 a25 a26 n (nI i)) (fun _ _ => True) N 0 () (by omega) trivial
    (fun n _ _ => pk_le N N (fun _ => h) (fun z => absurd z (by omega)))
    (fun n i _ hi _ hw => pk_le N i (fun z => absurd z (by omega)) (fun _ => ⟨pk_in i 6 (by omega), br_t (by rw [nI_clamp (by omega)]; exact ho i (by omega)) (nm_r (nI_1 i) (hw () trivial))⟩))))
theorem rn_start {post : St2 → Prop} (h : ∀ a8' a9' a10' a11' a12' a16' a17' a19' : Nat → Int32, a8' 0 = 0 → a9' 0 = 0 → a10' 0 = 0 → a11' 0 = 0 → (∀ j, j < 6 → a19' j = 0) → post (c, 1, wk, 0, 0, ch, 0, wr, a1, a2, a3, a4, a5, a6, a7, a8', a9', a10', a11', a12', a13, a14, a15, a16', a17', a18, a19', a20, a21, a22, a23, a24, a25, a26)) : wpX_start post (c, ph, wk, nc, nk, ch, ck, wr, a1, a2, a3, a4, a5, a6, a7, a8, a9, a10, a11, a12, a13, a14, a15, a16, a17, a18, a19, a20, a21, a22, a23, a24, a25, a26) :=
  pk_loop (fun n i (s : (Nat → Int32) × (Nat → Int32) × (Nat → Int32) × (Nat → Int32) × (Nat → Int32) × (Nat → Int32) × (Nat → Int32)) => wX_start_22 post c 1 wk 0 0 ch 0 wr n (nI i) a1 a2 a3 a4 a5 a6 a7 s.1 s.2.1 s.2.2.1 s.2.2.2.1 s.2.2.2.2.1 a13 a14 a15 s.2.2.2.2.2.1 s.2.2.2.2.2.2 a18 a19 a20 a21 a22 a23 a24 a25 a26)
    (fun i s => (∀ j, j < i → s.1 j = 0) ∧ (∀ j, j < i → s.2.1 j = 0) ∧ (∀ j, j < i → s.2.2.1 j = 0) ∧ (∀ j, j < i → s.2.2.2.1 j = 0)) 8 0 (a8, a9, a10, a11, a12, a16, a17) (by omega)
    ⟨fun j hj => absurd hj (by omega), fun j hj => absurd hj (by omega), fun j hj => absurd hj (by omega), fun j hj => absurd hj (by omega)⟩
    (fun n s hs => pk_le 8 8 (fun _ => pk_loop (fun n i b => wX_start_85 post c 1 wk 0 0 ch 0 wr n (nI i) a1 a2 a3 a4 a5 a6 a7 s.1 s.2.1 s.2.2.1 s.2.2.2.1 s.2.2.2.2.1 a13 a14 a15 s.2.2.2.2.2.1 s.2.2.2.2.2.2 a18 b a20 a21 a22 a23 a24 a25 a26)
        (fun i b => ∀ j, j < i → b j = 0) 6 0 a19 (by omega) (fun j hj => absurd hj (by omega))
        (fun n b hb => pk_le 6 6 (fun _ => h s.1 s.2.1 s.2.2.1 s.2.2.2.1 s.2.2.2.2.1 s.2.2.2.2.2.1 s.2.2.2.2.2.2 b (hs.1 0 (by omega)) (hs.2.1 0 (by omega)) (hs.2.2.1 0 (by omega)) (hs.2.2.2 0 (by omega)) hb) (fun z => absurd z (by omega)))
        (fun n i b hi hb hw => pk_le 6 i (fun z => absurd z (by omega)) (fun _ => ⟨pk_in i 6 hi, nm_e (nm_r (nI_1 i) (hw _ (be_fill (nI_clamp (by omega)) hb)))⟩))) (fun z => absurd z (by omega)))
    (fun n i s hi hs hw => pk_le 8 i (fun z => absurd z (by omega)) (fun _ => ⟨pk_in i 8 hi, nm_e ⟨pk_in i 8 hi, nm_e ⟨pk_in i 8 hi, nm_e ⟨pk_in i 8 hi, nm_e ⟨pk_in i 8 hi, nm_e ⟨pk_in i 8 hi, nm_e ⟨pk_in i 8 hi, nm_e (nm_r (nI_1 i)
      (hw (upd s.1 (nI i).toNatClampNeg 0, upd s.2.1 (nI i).toNatClampNeg 0, upd s.2.2.1 (nI i).toNatClampNeg 0, upd s.2.2.2.1 (nI i).toNatClampNeg 0, upd s.2.2.2.2.1 (nI i).toNatClampNeg 0, upd s.2.2.2.2.2.1 (nI i).toNatClampNeg 0, upd s.2.2.2.2.2.2 (nI i).toNatClampNeg 0)
        ⟨be_fill (nI_clamp (by omega)) hs.1, be_fill (nI_clamp (by omega)) hs.2.1, be_fill (nI_clamp (by omega)) hs.2.2.1, be_fill (nI_clamp (by omega)) hs.2.2.2⟩))⟩⟩⟩⟩⟩⟩⟩))
theorem rn_bc {post : St2 → Prop} {v : Nat} (hv : v < 6) (h : ∀ a23' : Nat → Int32, (∀ r, r < 4 → a23' (4 * v + r) = 0) → post (c, ph, wk, nc, nk, ch, ck, wr, a1, a2, a3, a4, a5, a6, a7, a8, upd a9 0 1, a10, a11, upd a12 0 0, a13, a14, a15, a16, upd a17 0 0, a18, upd a19 v 1, upd a20 v 0, upd a21 v (a10 0), upd a22 v 0, a23', upd a24 v 0, a25, upd a26 v 0)) : wpX_beginCarrying post (c, ph, wk, nc, nk, ch, ck, wr, a1, a2, a3, a4, a5, a6, a7, a8, a9, a10, a11, a12, a13, a14, a15, a16, a17, a18, a19, a20, a21, a22, a23, a24, a25, a26) (nI v) 0 := by
  unfold wpX_beginCarrying
  rw [nI_clamp (show v < 2 ^ 31 by omega), sb_cl0]
  refine ⟨pk_in 0 8 (by decide), nm_e ⟨pk_in v 6 hv, nm_e ⟨pk_in v 6 hv, nm_e ⟨pk_in 0 8 (by decide), pk_in v 6 hv, nm_e ⟨pk_in v 6 hv, nm_e ⟨pk_in v 6 hv, nm_e ⟨pk_in v 6 hv, nm_e ⟨pk_in 0 8 (by decide), nm_e ⟨pk_in 0 8 (by decide), nm_e ?_⟩⟩⟩⟩⟩⟩⟩⟩⟩
  exact pk_loop (fun n i s => wX_beginCarrying_70 post (nI v) c ph wk nc nk ch ck wr n (nI i) a1 a2 a3 a4 a5 a6 a7 a8 (upd a9 0 1) a10 a11 (upd a12 0 0) a13 a14 a15 a16 (upd a17 0 0) a18 (upd a19 v 1) (upd a20 v 0) (upd a21 v (a10 0)) (upd a22 v 0) s (upd a24 v 0) a25 (upd a26 v 0)) (fun i s => ∀ r, r < i → s (4 * v + r) = 0) 4 0 a23 (by omega) (fun r hr => absurd hr (by omega))
    (fun n s hs => pk_le 4 4 (fun _ => h s hs) (fun z => absurd z (by omega)))
    (fun n i s hi hs hw => pk_le 4 i (fun z => absurd z (by omega)) (fun _ => ⟨by rw [be_4]; exact pk_in (4 * v + i) 24 (by omega), nm_e (nm_r (nI_1 i) (hw _ (fun r hr => by
      rw [be_4, nI_clamp (by omega)]
      by_cases e : r = i
      · rw [e, pk_us]
      · rw [pk_un (by omega)]
        exact hs r (by omega))))⟩))
theorem rn_bk {post : St2 → Prop} {v : Nat} (hv : v < 6) (h : post (c, ph, wk, nc, nk, ch, ck, wr, a1, a2, a3, a4, a5, a6, a7, a8, a9, a10, a11, a12, a13, a14, a15, a16, a17, a18, upd a19 v 2, upd a20 v 0, upd a21 v (a10 0), a22, a23, a24, a25, a26)) : wpX_beginCheck post (c, ph, wk, nc, nk, ch, ck, wr, a1, a2, a3, a4, a5, a6, a7, a8, a9, a10, a11, a12, a13, a14, a15, a16, a17, a18, a19, a20, a21, a22, a23, a24, a25, a26) (nI v) 0 := by
  unfold wpX_beginCheck
  rw [nI_clamp (show v < 2 ^ 31 by omega), sb_cl0]
  exact ⟨pk_in v 6 hv, nm_e ⟨pk_in v 6 hv, nm_e ⟨pk_in 0 8 (by decide), pk_in v 6 hv, nm_e h⟩⟩⟩
theorem rn_nb {post : Int32 → Prop} {x : Int32} (h : post (-1)) : wpX_newestBefore post (c, ph, wk, nc, nk, ch, ck, wr, a1, a2, a3, a4, a5, a6, a7, a8, a9, a10, a11, a12, a13, a14, a15, a16, a17, a18, a19, a20, a21, a22, a23, a24, a25, a26) x 0 :=
  nm_e ⟨1, br_t (by decide) h⟩
theorem rn_rh {post : Int32 → Prop} (h : rn_rd a12 a14) (hp : post 1) : wpX_readsHold post (c, ph, wk, nc, nk, ch, ck, wr, a1, a2, a3, a4, a5, a6, a7, a8, a9, a10, a11, a12, a13, a14, a15, a16, a17, a18, a19, a20, a21, a22, a23, a24, a25, a26) 0 := by
  rcases h with h | ⟨h, h'⟩
  · refine ⟨1, pk_in 0 8 (by decide), br_t ?_ hp⟩
    rw [sb_cl0, h]
    decide
  · refine ⟨2, pk_in 0 8 (by decide), br_f ?_ (nm_r (e' := 0) rfl ⟨pk_in 0 96 (by decide), rn_nb ⟨pk_in 0 96 (by decide), br_t ?_ (br_t (by decide) (nm_r (e' := 1) rfl ⟨pk_in 0 8 (by decide), br_t ?_ hp⟩))⟩⟩)⟩
    · rw [sb_cl0, h]
      decide
    · rw [sb_cl0, h']
    · rw [sb_cl0, h]
      decide
theorem rn_ck {post : St2 → Prop} {v : Nat} (hv : v < 6) (h20 : a20 v = 0) (h9 : a9 0 = 2) (h10 : a10 0 = a21 v) (hr : rn_rd a12 a14) (h : post (c, ph, wk, nc, nk, ch, ck, wr, a1, a2, a3, a4, a5, a6, a7, a8, a9, a10, a11, a12, a13, a14, a15, a16, a17, a18, upd a19 v 0, a20, a21, a22, a23, a24, a25, a26)) : wpX_checkNow post (c, ph, wk, nc, nk, ch, ck, wr, a1, a2, a3, a4, a5, a6, a7, a8, a9, a10, a11, a12, a13, a14, a15, a16, a17, a18, a19, a20, a21, a22, a23, a24, a25, a26) (nI v) := by
  unfold wpX_checkNow
  rw [nI_clamp (show v < 2 ^ 31 by omega)]
  refine ⟨pk_in v 6 hv, nm_r h20 ⟨pk_in v 6 hv, nm_e ⟨pk_in 0 8 (by decide), ?_⟩⟩⟩
  rw [sb_cl0]
  exact br_t h9 ⟨pk_in 0 8 (by decide), pk_in v 6 hv, br_t h10 (rn_rh hr (br_f (by decide) h))⟩
theorem rn_as43 {post : Int32 → St2 → Prop} {v : Nat} {mask x4 : Int32} (hv : v < 6) (hx : x4 = 0 ∨ x4 = 1) (h25 : ∀ i, i < 16 → rn_bit mask i → a25 (16 * v + i) = 0)
    (h : ∀ (r : Int32) (a6' a7' : Nat → Int32), (r = 0 ∨ r = 1) → (∀ i, i < 16 → rn_bit mask i → a6' (8 * i) = 0) → post r (c, ph, wk, nc, nk, ch, ck, wr, a1, a2, a3, a4, a5, a6', a7', upd a8 0 mask, a9, a10, a11, a12, a13, a14, a15, a16, a17, a18, a19, a20, a21, a22, a23, a24, a25, a26)) : ∃ n, wX_applyStores_43 post (nI v) 0 mask x4 c ph wk nc nk ch ck wr n 0 a1 a2 a3 a4 a5 a6 a7 a8 a9 a10 a11 a12 a13 a14 a15 a16 a17 a18 a19 a20 a21 a22 a23 a24 a25 a26 :=
  pk_loop (fun n i (s : (Nat → Int32) × (Nat → Int32)) => wX_applyStores_43 post (nI v) 0 mask x4 c ph wk nc nk ch ck wr n (nI i) a1 a2 a3 a4 a5 s.1 s.2 a8 a9 a10 a11 a12 a13 a14 a15 a16 a17 a18 a19 a20 a21 a22 a23 a24 a25 a26) (fun i s => ∀ j, j < i → rn_bit mask j → s.1 (8 * j) = 0) 16 0 (a6, a7) (by omega) (fun j hj => absurd hj (by omega))
    (fun n s hs => pk_le 16 16 (fun _ => ⟨pk_in 0 8 (by decide), nm_r (e' := upd a8 0 mask) (by rw [sb_cl0]) ⟨by rcases hx with rfl | rfl <;> rfl, h x4 s.1 s.2 hx hs⟩⟩) (fun z => absurd z (by omega)))
    (fun n i s hi hs hw => pk_le 16 i (fun z => absurd z (by omega)) (fun _ => br_c
      (fun hb => ⟨by rw [be_16]; exact pk_in (16 * v + i) 96 (by omega), by rw [be_8]; exact pk_in (8 * i) 128 (by omega), nm_e ⟨pk_in 0 8 (by decide), by rw [be_8]; exact pk_in (8 * i) 128 (by omega), nm_e (nm_r (nI_1 i) (hw (upd s.1 ((8 : Int32) * nI i + 0).toNatClampNeg (a25 ((16 : Int32) * nI v + nI i).toNatClampNeg), _) (fun j hj hbj => by
        dsimp only
        rw [be_8, nI_clamp (by omega), be_16, nI_clamp (by omega)]
        by_cases e : j = i
        · rw [e, pk_us]
          exact h25 i hi hb
        · rw [pk_un (by omega)]
          exact hs j (by omega) hbj)))⟩⟩)
      (fun hb => nm_r (nI_1 i) (hw s (fun j hj hbj => by
        by_cases e : j = i
        · exact absurd (e ▸ hbj) hb
        · exact hs j (by omega) hbj)))))
theorem rn_as {post : Int32 → St2 → Prop} {v : Nat} {mask fl : Int32} (hv : v < 6) (h26 : a26 v = fl) (h24 : a24 v = mask) (hf : fl = 0 ∨ (fl = 1 ∧ mask = 0)) (h25 : ∀ i, i < 16 → rn_bit mask i → a25 (16 * v + i) = 0)
    (h : ∀ (r : Int32) (a6' a7' : Nat → Int32), (r = 0 ∨ r = 1) → (∀ i, i < 16 → rn_bit mask i → a6' (8 * i) = 0) → post r (c, ph, wk, nc, nk, ch, ck, wr, a1, a2, a3, a4, a5, a6', a7', upd a8 0 mask, a9, a10, a11, a12, a13, a14, a15, a16, a17, a18, a19, a20, a21, a22, a23, a24, a25, a26)) : wpX_applyStores post (c, ph, wk, nc, nk, ch, ck, wr, a1, a2, a3, a4, a5, a6, a7, a8, a9, a10, a11, a12, a13, a14, a15, a16, a17, a18, a19, a20, a21, a22, a23, a24, a25, a26) (nI v) 0 := by
  have key : wX_applyStores_19 post (nI v) 0 mask c ph wk nc nk ch ck wr a1 a2 a3 a4 a5 a6 a7 a8 a9 a10 a11 a12 a13 a14 a15 a16 a17 a18 a19 a20 a21 a22 a23 a24 a25 a26 :=
    ⟨pk_in 0 8 (by decide), br_c (fun _ => rn_as43 hv (Or.inl rfl) h25 h) (fun _ => rn_as43 hv (Or.inr rfl) h25 h)⟩
  unfold wpX_applyStores
  rw [nI_clamp (show v < 2 ^ 31 by omega)]
  refine ⟨pk_in v 6 hv, ?_⟩
  rw [h26, h24]
  rcases hf with hf | ⟨hf, hm⟩
  · exact br_t hf ⟨pk_in v 6 hv, key⟩
  · rw [hm] at key
    exact br_f (by rw [hf]; decide) key
theorem rn_fin {post : St2 → Prop} {v : Nat} {mask fl : Int32} (hv : v < 6) (h20 : a20 v = 0) (h26 : a26 v = fl) (h24 : a24 v = mask) (hf : fl = 0 ∨ (fl = 1 ∧ mask = 0)) (h25 : ∀ i, i < 16 → rn_bit mask i → a25 (16 * v + i) = 0) (h11 : a11 0 = 0) (hk : nk = 0 ∨ nk = 1)
    (h1 : ∀ a6' a7' : Nat → Int32, (∀ i, i < 16 → rn_bit mask i → a6' (8 * i) = 0) → post (c, ph, wk, nc, 0, ch, ck, wr, a1, a2, a3, a4, a5, a6', a7', upd a8 0 mask, upd a9 0 2, a10, upd a11 0 0, a12, a13, a14, a15, upd a16 0 fl, a17, a18, upd a19 v 0, a20, a21, a22, a23, a24, a25, a26))
    (h2 : ∀ a6' a7' : Nat → Int32, (∀ i, i < 16 → rn_bit mask i → a6' (8 * i) = 0) → post (c, ph, wk, nc, 1, ch, ck, wr, a1, a2, a3, a4, a5, a6', a7', upd a8 0 mask, upd a9 0 2, a10, upd a11 0 0, a12, a13, a14, a15, upd a16 0 fl, a17, a18, upd (upd a19 v 0) v 2, upd a20 v 0, upd a21 v (a10 0), a22, a23, a24, a25, a26)) : wpX_finish post (c, ph, wk, nc, nk, ch, ck, wr, a1, a2, a3, a4, a5, a6, a7, a8, a9, a10, a11, a12, a13, a14, a15, a16, a17, a18, a19, a20, a21, a22, a23, a24, a25, a26) (nI v) := by
  have hfl : vp_nar .boolean fl = fl := be_nar (by rcases hf with h | h; exact Or.inl h; exact Or.inr h.1)
  unfold wpX_finish
  rw [nI_clamp (show v < 2 ^ 31 by omega)]
  refine ⟨pk_in v 6 hv, nm_r h20 (rn_as hv h26 h24 hf h25 (fun r a6' a7' hr h6 => ⟨pk_in v 6 hv, pk_in 0 8 (by decide), nm_r (e' := upd a16 0 fl) (by rw [sb_cl0, h26, hfl]) ⟨pk_in 0 8 (by decide), nm_r (e' := upd a9 0 2) (by rw [sb_cl0]) ?_⟩⟩))⟩
  refine pk_loop (σ := Unit) (fun n i _ => wX_finish_36 post (nI v) 0 r n (nI i) c ph wk nc nk ch ck wr a1 a2 a3 a4 a5 a6' a7' (upd a8 0 mask) (upd a9 0 2) a10 a11 a12 a13 a14 a15 (upd a16 0 fl) a17 a18 a19 a20 a21 a22 a23 a24 a25 a26) (fun _ _ => True) 8 0 () (by omega) trivial (fun n _ _ => pk_le 8 8 (fun _ => ?_) (fun z => absurd z (by omega))) (fun n i _ hi _ hw => pk_le 8 i (fun z => absurd z (by omega)) (fun _ => ⟨pk_in 0 8 (by decide), br_f ?_ (nm_r (nI_1 i) (hw () trivial))⟩))
  · refine ⟨pk_in 0 8 (by decide), nm_r (e' := upd a11 0 0) (by rw [sb_cl0]) ⟨pk_in v 6 hv, nm_r (e' := upd a19 v 0) (by rw [nI_clamp (by omega)]) ?_⟩⟩
    rcases hk with rfl | rfl
    · exact br_t (by decide) (br_t (by decide) (h1 a6' a7' h6))
    · exact br_f (by decide) (br_c (fun _ => br_f (by decide) (rn_bk hv (h2 a6' a7' h6))) (fun _ => h1 a6' a7' h6))
  · rw [sb_cl0, h11]
    exact be_z i (by omega)
theorem rn_rd1 {post : Int32 → St2 → Prop} {v j g : Nat} (hv : v < 6) (hj : j < 16) (hg : g < 24) (h20 : a20 v = 0) (h24 : a24 v = 0) (h12 : a12 0 = 0)
    (h : post 1 (c, ph, wk, nc, nk, ch, ck, wr, a1, a2, a3, a4, a5, a6, a7, a8, a9, a10, a11, upd a12 0 1, upd a13 0 (nI j), upd a14 0 (-1), upd a15 0 0, a16, a17, a18, a19, a20, a21, a22, upd a23 g (a1 j), a24, a25, a26)) : wpX_readInto post (c, ph, wk, nc, nk, ch, ck, wr, a1, a2, a3, a4, a5, a6, a7, a8, a9, a10, a11, a12, a13, a14, a15, a16, a17, a18, a19, a20, a21, a22, a23, a24, a25, a26) (nI v) (nI j) (nI g) := by
  unfold wpX_readInto
  rw [nI_clamp (show v < 2 ^ 31 by omega)]
  refine ⟨pk_in v 6 hv, nm_r h20 ⟨pk_in v 6 hv, br_f (by rw [h24]; exact be_z j (by omega)) (rn_nb (br_t (by decide) ⟨pk_in 0 8 (by decide), nm_r (e' := 0) (by rw [sb_cl0, h12]; rfl) ?_⟩))⟩⟩
  refine ⟨pk_in 0 96 (by decide), nm_r (e' := upd a13 0 (nI j)) (by rw [sb_cl0]) ⟨pk_in 0 96 (by decide), nm_r (e' := upd a14 0 (-1)) (by rw [sb_cl0]) (br_f (by decide) ⟨pk_in 0 96 (by decide), nm_r (e' := upd a15 0 0) (by rw [sb_cl0]) ⟨pk_in 0 8 (by decide), pk_in 0 8 (by decide), nm_r (e' := upd a12 0 1) (by rw [sb_cl0, h12]; rfl) (br_f (by decide) ⟨pk_in j 16 hj, pk_in g 24 hg, nm_r (e' := upd a23 g (a1 j)) (by rw [nI_clamp (by omega), nI_clamp (by omega)]) h⟩)⟩⟩)⟩⟩
theorem rn_sf {post : St2 → Prop} {v j : Nat} {x : Int32} (hv : v < 6) (hj : j < 16) (h24 : a24 v = 0) (h : post (c, ph, wk, nc, nk, ch, ck, wr, a1, a2, a3, a4, a5, a6, a7, a8, a9, a10, a11, a12, a13, a14, a15, a16, a17, a18, a19, a20, a21, a22, a23, upd a24 v ((1 : Int32) <<< (nI j &&& 31)), upd a25 (16 * v + j) x, a26)) : wpX_storeFrom post (c, ph, wk, nc, nk, ch, ck, wr, a1, a2, a3, a4, a5, a6, a7, a8, a9, a10, a11, a12, a13, a14, a15, a16, a17, a18, a19, a20, a21, a22, a23, a24, a25, a26) (nI v) (nI j) x := by
  unfold wpX_storeFrom
  rw [nI_clamp (show v < 2 ^ 31 by omega), be_16, nI_clamp (show 16 * v + j < 2 ^ 31 by omega)]
  exact ⟨pk_in v 6 hv, pk_in v 6 hv, nm_r (e' := upd a24 v ((1 : Int32) <<< (nI j &&& 31))) (by rw [h24, Int32.zero_or]) ⟨pk_in (16 * v + j) 96 (by omega), nm_e h⟩⟩
end
end
section
section
/-! what the first instruction (operation o, places q, number w) does over the store S; operation 6 stands for 'there is none' -/
def xm_made (o : Nat) (w : Int32) (S : Nat → Int32) : Int32 := if o = 0 then w else if o = 3 then S (w &&& 15).toNatClampNeg else if o = 9 then S 0 else 0
def xm_m (o q : Nat) (w : Int32) (S : Nat → Int32) (r : Nat) : Int32 := if q / 4 = r then xm_made o w S else 0
def xm_mask (o : Nat) (w : Int32) : Int32 := if o = 4 then (1 : Int32) <<< ((w &&& 15) &&& 31) else if o = 10 then (1 : Int32) <<< (nI 0 &&& 31) else 0
def xm_fl (o : Nat) (w : Int32) : Int32 := if o = 7 then (if w ≤ 0 then 0 else 1) else 0
def xm_en (o : Nat) (w : Int32) : Prop := o = 11 ∨ (o = 7 ∧ ¬ w ≤ 0)
def xm_oc (o : Nat) : Nat := if o = 8 then 1 else 0
theorem xm_hf (o : Nat) (w : Int32) : xm_fl o w = 0 ∨ (xm_fl o w = 1 ∧ xm_mask o w = 0) := by
  unfold xm_fl xm_mask
  by_cases h : o = 7
  · subst h
    by_cases h2 : w ≤ 0
    · left
      rw [if_pos rfl, if_pos h2]
    · right
      rw [if_pos rfl, if_neg h2, if_neg (by decide), if_neg (by decide)]
      exact ⟨rfl, rfl⟩
  · left
    rw [if_neg h]
theorem xm_oc1 (o : Nat) : xm_oc o ≤ 1 := by
  unfold xm_oc
  by_cases h : o = 8
  · rw [if_pos h]
    exact Nat.le_refl 1
  · rw [if_neg h]
    exact Nat.zero_le 1
theorem xm_put {a : Nat → Int32} {v q r : Nat} {x : Int32} (hz : ∀ r, r < 4 → a (4 * v + r) = 0) (hr : r < 4) : upd a (4 * v + q / 4) x (4 * v + r) = if q / 4 = r then x else 0 := by
  by_cases e : q / 4 = r
  · rw [if_pos e, e, pk_us]
  · rw [if_neg e, pk_un (by omega)]
    exact hz r hr
/-- registers, stores and the rest behind the first instruction -/
def xm_After (o q v : Nat) (w : Int32) (a1 a2 a12 a14 a17 a22 a23 a24 a25 a26 : Nat → Int32) : Prop :=
  rn_rd a12 a14 ∧ a24 v = xm_mask o w ∧ a26 v = xm_fl o w ∧ (∀ i, i < 16 → rn_bit (xm_mask o w) i → a25 (16 * v + i) = 0) ∧
  ((xm_en o w ∧ ¬ a22 v < a2 0 ∧ a17 0 = 0) ∨ (¬ xm_en o w ∧ a22 v = nI 1 ∧ a23 (4 * v) = xm_m o q w a1 0 ∧ a23 (4 * v + 1) = xm_m o q w a1 1 ∧ a17 0 = nI (xm_oc o)))
/-- an operation that computes into a register and no more -/
theorem xm_A0 {o q v : Nat} {w x : Int32} {a1 a2 a12 a14 a17 a22 a23 a24 a25 a26 : Nat → Int32} (hr : rn_rd a12 a14) (h24 : a24 v = 0) (h26 : a26 v = 0) (h17 : a17 0 = 0) (hz : ∀ r, r < 4 → a23 (4 * v + r) = 0)
    (e1 : xm_mask o w = 0) (e2 : xm_fl o w = 0) (e3 : ¬ xm_en o w) (e4 : xm_oc o = 0) (e5 : xm_made o w a1 = x) : xm_After o q v w a1 a2 a12 a14 a17 (upd a22 v (nI 1)) (upd a23 (4 * v + q / 4) x) a24 a25 a26 := by
  refine ⟨hr, by rw [h24, e1], by rw [h26, e2], fun i hi hb => ?_, Or.inr ⟨e3, pk_us, ?_, ?_, by rw [h17, e4]; rfl⟩⟩
  · rw [e1] at hb
    exact absurd hb (be_z i (by omega))
  · show upd a23 (4 * v + q / 4) x (4 * v + 0) = _
    rw [xm_put hz (by omega)]
    unfold xm_m
    rw [e5]
  · rw [xm_put hz (by omega)]
    unfold xm_m
    rw [e5]
/-- an operation that leaves the registers as they are -/
theorem xm_A1 {o q v : Nat} {w : Int32} {a1 a2 a12 a14 a17 a22 a23 a24 a25 a26 : Nat → Int32} (hr : rn_rd a12 a14) (h24 : a24 v = xm_mask o w) (h26 : a26 v = 0) (h17 : a17 0 = nI (xm_oc o)) (hz : ∀ r, r < 4 → a23 (4 * v + r) = 0) (h22 : a22 v = nI 1)
    (e1 : ∀ i, i < 16 → rn_bit (xm_mask o w) i → a25 (16 * v + i) = 0) (e2 : xm_fl o w = 0) (e3 : ¬ xm_en o w) (e5 : xm_made o w a1 = 0) : xm_After o q v w a1 a2 a12 a14 a17 a22 a23 a24 a25 a26 := by
  refine ⟨hr, h24, by rw [h26, e2], e1, Or.inr ⟨e3, h22, ?_, ?_, h17⟩⟩
  · rw [show 4 * v = 4 * v + 0 from rfl, hz 0 (by omega)]
    unfold xm_m
    rw [e5, ite_self]
  · rw [hz 1 (by omega)]
    unfold xm_m
    rw [e5, ite_self]
end
section
variable {c ph wk nc nk ch ck wr : Int32} {a1 a2 a3 a4 a5 a6 a7 a8 a9 a10 a11 a12 a13 a14 a15 a16 a17 a18 a19 a20 a21 a22 a23 a24 a25 a26 : Nat → Int32}
theorem rn_cf {post : St2 → Prop} {v : Nat} {mask fl : Int32} (hv : v < 6) (h22 : ¬ a22 v < a2 0) (h20 : a20 v = 0) (h26 : a26 v = fl) (h24 : a24 v = mask) (hf : fl = 0 ∨ (fl = 1 ∧ mask = 0)) (h25 : ∀ i, i < 16 → rn_bit mask i → a25 (16 * v + i) = 0) (h11 : a11 0 = 0) (hk : nk = 0 ∨ nk = 1)
    (h1 : ∀ a6' a7' : Nat → Int32, (∀ i, i < 16 → rn_bit mask i → a6' (8 * i) = 0) → post (c, ph, wk, nc, 0, ch, ck, wr, a1, a2, a3, a4, a5, a6', a7', upd a8 0 mask, upd a9 0 2, a10, upd a11 0 0, a12, a13, a14, a15, upd a16 0 fl, a17, a18, upd a19 v 0, a20, a21, a22, a23, a24, a25, a26))
    (h2 : ∀ a6' a7' : Nat → Int32, (∀ i, i < 16 → rn_bit mask i → a6' (8 * i) = 0) → post (c, ph, wk, nc, 1, ch, ck, wr, a1, a2, a3, a4, a5, a6', a7', upd a8 0 mask, upd a9 0 2, a10, upd a11 0 0, a12, a13, a14, a15, upd a16 0 fl, a17, a18, upd (upd a19 v 0) v 2, upd a20 v 0, upd a21 v (a10 0), a22, a23, a24, a25, a26)) : wpX_carryOn post (c, ph, wk, nc, nk, ch, ck, wr, a1, a2, a3, a4, a5, a6, a7, a8, a9, a10, a11, a12, a13, a14, a15, a16, a17, a18, a19, a20, a21, a22, a23, a24, a25, a26) (nI v) := by
  unfold wpX_carryOn
  rw [nI_clamp (show v < 2 ^ 31 by omega)]
  refine ⟨pk_in v 6 hv, nm_r h20 ⟨pk_in v 6 hv, pk_in 0 8 (by decide), ?_⟩⟩
  rw [sb_cl0]
  exact br_f h22 (rn_fin hv h20 h26 h24 hf h25 h11 hk h1 h2)
/-- PUT -/
theorem rn_put {post : St2 → Prop} {v p l q n : Nat} (hv : v < 6) (h20 : a20 v = 0) (h22 : a22 v = nI p) (h2 : a2 0 = nI l) (hp : p < l) (hl : l ≤ 12) (h3 : a3 p = 8) (h4 : a4 p = nI q) (hq : q < 16) (h17 : a17 0 = nI n) (hn : n < 12)
    (h : post (c, ph, wk, nc, nk, ch, ck, wr, a1, a2, a3, a4, a5, a6, a7, a8, a9, a10, a11, a12, a13, a14, a15, a16, upd a17 0 (nI (n + 1)), upd a18 n (a23 (4 * v + q / 4)), a19, a20, a21, upd a22 v (nI (p + 1)), a23, a24, a25, a26)) : wpX_carryOn post (c, ph, wk, nc, nk, ch, ck, wr, a1, a2, a3, a4, a5, a6, a7, a8, a9, a10, a11, a12, a13, a14, a15, a16, a17, a18, a19, a20, a21, a22, a23, a24, a25, a26) (nI v) := by
  have s1 : nI q >>> ((2 : Int32) &&& 31) = nI (q / 4) := pk_shrN (by omega) _ 2 (by decide)
  have s2 : nI q &&& 3 = nI (q % 4) := pk_andN (by omega) 2 (by decide)
  unfold wpX_carryOn
  rw [nI_clamp (show v < 2 ^ 31 by omega)]
  refine ⟨pk_in v 6 hv, nm_r h20 ⟨pk_in v 6 hv, pk_in 0 8 (by decide), ?_⟩⟩
  rw [sb_cl0, h22, h2]
  refine br_t (nI_lt hp (by omega)) ⟨pk_in v 6 hv, nm_r (be_12 p) ?_⟩
  rw [nI_clamp (show p < 2 ^ 31 by omega), h4, h3, s1, s2]
  refine ⟨pk_in p 96 (by omega), nm_r (be_4 v (q / 4)) ⟨pk_in p 96 (by omega), nm_r (be_4 v (q % 4)) ⟨pk_in p 96 (by omega), nm_r (e' := 8) rfl ⟨pk_in v 6 hv, pk_in v 6 hv, nm_r (e' := upd a22 v (nI (p + 1))) (by rw [nI_1]) ?_⟩⟩⟩⟩
  refine br_f (by decide) (br_f (by decide) (br_f (by decide) (br_f (by decide) (br_f (by decide) (br_f (by decide) (br_t (by decide) ?_))))))
  rw [h17, be_12, nI_clamp (show n < 2 ^ 31 by omega), nI_clamp (show 4 * v + q / 4 < 2 ^ 31 by omega)]
  exact ⟨pk_in 0 8 (by decide), pk_in (4 * v + q / 4) 24 (by omega), pk_in n 96 (by omega), nm_e ⟨pk_in 0 8 (by decide), pk_in 0 8 (by decide), nm_r (e' := upd a17 0 (nI (n + 1))) (by rw [nI_1]) h⟩⟩
/-- the first instruction, by its operation -/
theorem rn_first {post : St2 → Prop} {v l o q : Nat} {w : Int32} (hv : v < 6) (ho : o < 12) (hq : q < 16) (h20 : a20 v = 0) (h22 : a22 v = 0) (h2 : a2 0 = nI l) (hp : 0 < l) (hl : l ≤ 12) (h3 : a3 0 = nI o) (h4 : a4 0 = nI q) (h5 : a5 0 = w)
    (hz : ∀ r, r < 4 → a23 (4 * v + r) = 0) (h24 : a24 v = 0) (h26 : a26 v = 0) (h12 : a12 0 = 0) (h17 : a17 0 = 0)
    (h : ∀ a12' a13' a14' a15' a17' a18' a22' a23' a24' a25' a26' : Nat → Int32, xm_After o q v w a1 a2 a12' a14' a17' a22' a23' a24' a25' a26' → post (c, ph, wk, nc, nk, ch, ck, wr, a1, a2, a3, a4, a5, a6, a7, a8, a9, a10, a11, a12', a13', a14', a15', a16, a17', a18', a19, a20, a21, a22', a23', a24', a25', a26')) : wpX_carryOn post (c, ph, wk, nc, nk, ch, ck, wr, a1, a2, a3, a4, a5, a6, a7, a8, a9, a10, a11, a12, a13, a14, a15, a16, a17, a18, a19, a20, a21, a22, a23, a24, a25, a26) (nI v) := by
  have s1 : nI q >>> ((2 : Int32) &&& 31) = nI (q / 4) := pk_shrN (by omega) _ 2 (by decide)
  have s2 : nI q &&& 3 = nI (q % 4) := pk_andN (by omega) 2 (by decide)
  have hr : rn_rd a12 a14 := Or.inl h12
  have g1 : 4 * v + q / 4 < 24 := by omega
  have g2 : 4 * v + q % 4 < 24 := by omega
  have k1 : (nI (4 * v + q / 4)).toNatClampNeg = 4 * v + q / 4 := nI_clamp (by omega)
  have k2 : (nI (4 * v + q % 4)).toNatClampNeg = 4 * v + q % 4 := nI_clamp (by omega)
  have z1 : a23 (4 * v + q / 4) = 0 := hz _ (by omega)
  have z2 : a23 (4 * v + q % 4) = 0 := hz _ (by omega)
  have i1 : vp_in (nI (4 * v + q / 4)) 24 := pk_in _ 24 g1
  have i2 : vp_in (nI (4 * v + q % 4)) 24 := pk_in _ 24 g2
  have i0 : vp_in 0 96 := pk_in 0 96 (by decide)
  have i8 : vp_in 0 8 := pk_in 0 8 (by decide)
  have iv : vp_in (nI v) 6 := pk_in v 6 hv
  have zb : ∀ i, i < 16 → rn_bit 0 i → a25 (16 * v + i) = 0 := fun i hi hb => absurd hb (be_z i (by omega))
  unfold wpX_carryOn
  rw [nI_clamp (show v < 2 ^ 31 by omega)]
  refine ⟨iv, nm_r h20 ⟨iv, i8, ?_⟩⟩
  rw [sb_cl0, h22, h2]
  refine br_t (nI_lt (a := 0) hp (by omega)) ⟨iv, nm_r (e' := 0) rfl ?_⟩
  rw [sb_cl0, h4, h3, s1, s2]
  refine ⟨i0, nm_r (be_4 v (q / 4)) ⟨i0, nm_r (be_4 v (q % 4)) ⟨i0, nm_r (e' := nI o) rfl ⟨iv, iv, nm_r (e' := upd a22 v (nI 1)) rfl ?_⟩⟩⟩⟩
  have hc : o = 0 ∨ o = 1 ∨ o = 2 ∨ o = 3 ∨ o = 4 ∨ o = 5 ∨ o = 6 ∨ o = 7 ∨ o = 8 ∨ o = 9 ∨ o = 10 ∨ o = 11 := by omega
  rcases hc with rfl | rfl | rfl | rfl | rfl | rfl | rfl | rfl | rfl | rfl | rfl | rfl
  · -- 0
    refine br_t (by decide) ⟨i0, br_t (by decide) ⟨i1, nm_r (e' := upd a23 (4 * v + q / 4) w) (by rw [k1, sb_cl0, h5]) (h _ _ _ _ _ _ _ _ _ _ _ (xm_A0 hr h24 h26 h17 hz rfl rfl (by unfold xm_en; omega) rfl rfl))⟩⟩
  · -- 1
    refine br_t (by decide) ⟨i0, br_f (by decide) (br_t (by decide) ⟨i1, i2, i1, nm_r (e' := upd a23 (4 * v + q / 4) 0) (by rw [k1, k2, z1, z2]; rfl) (h _ _ _ _ _ _ _ _ _ _ _ (xm_A0 hr h24 h26 h17 hz rfl rfl (by unfold xm_en; omega) rfl rfl))⟩)⟩
  · -- 2
    refine br_t (by decide) ⟨i0, br_f (by decide) (br_f (by decide) (br_t (by decide) ⟨i1, i2, i1, nm_r (e' := upd a23 (4 * v + q / 4) 0) (by rw [k1, k2, z1, z2]; rfl) (h _ _ _ _ _ _ _ _ _ _ _ (xm_A0 hr h24 h26 h17 hz rfl rfl (by unfold xm_en; omega) rfl rfl))⟩))⟩
  · -- 3
    obtain ⟨j, hj, ej⟩ := pk_andE w (m := 15) 4 (by decide)
    have e5 : xm_made 3 w a1 = a1 j := by
      show a1 (w &&& 15).toNatClampNeg = a1 j
      rw [ej, nI_clamp (by omega)]
    refine br_f (by decide) (br_f (by decide) (br_t (by decide) ⟨i0, ?_⟩))
    rw [h5, ej]
    exact rn_rd1 hv hj g1 h20 h24 h12 (h _ _ _ _ _ _ _ _ _ _ _ (xm_A0 (Or.inr ⟨pk_us, pk_us⟩) h24 h26 h17 hz rfl rfl (by unfold xm_en; omega) rfl e5))
  · -- 4
    obtain ⟨j, hj, ej⟩ := pk_andE w (m := 15) 4 (by decide)
    have em : xm_mask 4 w = (1 : Int32) <<< (nI j &&& 31) := by
      show (1 : Int32) <<< ((w &&& 15) &&& 31) = _
      rw [ej]
    refine br_f (by decide) (br_f (by decide) (br_f (by decide) (br_f (by decide) (br_t (by decide) ⟨i0, i1, ?_⟩))))
    rw [h5, ej, k1, z1]
    refine rn_sf hv hj h24 (h _ _ _ _ _ _ _ _ _ _ _ (xm_A1 hr (by rw [pk_us, em]) h26 h17 hz pk_us (fun i hi hb => ?_) rfl (by unfold xm_en; omega) rfl))
    rw [em] at hb
    rw [(be_b1 j hj i hi).mp hb, pk_us]
  · -- 5
    refine br_f (by decide) (br_t (by decide) ⟨i0, br_f (by decide) (br_f (by decide) (br_f (by decide) ⟨i1, i2, i1, nm_r (e' := upd a23 (4 * v + q / 4) 0) (by rw [k1, k2, z1, z2]; rfl) (h _ _ _ _ _ _ _ _ _ _ _ (xm_A0 hr h24 h26 h17 hz rfl rfl (by unfold xm_en; omega) rfl rfl))⟩))⟩)
  · -- 6
    refine br_f (by decide) (br_f (by decide) (br_f (by decide) (br_f (by decide) (br_f (by decide) (br_f (by decide) (br_f (by decide) ⟨i0, br_t (by decide) ⟨iv, i1, i2, ?_⟩⟩))))))
    rw [k1, k2, z1, z2, nI_clamp (show v < 2 ^ 31 by omega), pk_us]
    exact br_t (by decide) ⟨iv, nm_r (e' := upd (upd a22 v (nI 1)) v (nI 1)) rfl (h _ _ _ _ _ _ _ _ _ _ _ (xm_A1 hr h24 h26 h17 hz pk_us zb rfl (by unfold xm_en; omega) rfl))⟩
  · -- 7
    refine br_f (by decide) (br_f (by decide) (br_f (by decide) (br_f (by decide) (br_f (by decide) (br_f (by decide) (br_f (by decide) ⟨i0, br_f (by decide) (br_t (by decide) ⟨i1, ?_⟩)⟩))))))
    rw [k1, z1, h5]
    refine br_c (fun hw => br_f (by decide) (h _ _ _ _ _ _ _ _ _ _ _ (xm_A1 hr h24 h26 h17 hz pk_us zb (if_pos hw) (fun z => z.elim (fun z => absurd z (by decide)) (fun z => z.2 hw)) rfl))) (fun hw => ⟨iv, nm_r (e' := upd a26 v 1) (by rw [nI_clamp (by omega)]) ⟨iv, nm_r (e' := upd (upd a22 v (nI 1)) v 12) (by rw [nI_clamp (by omega)]) (h _ _ _ _ _ _ _ _ _ _ _ ⟨hr, h24, ?_, zb, Or.inl ⟨Or.inr ⟨rfl, hw⟩, ?_, h17⟩⟩)⟩⟩)
    · rw [pk_us]
      exact (if_neg hw).symm
    · rw [pk_us, h2]
      exact nI_nlt (a := 12) hl (by decide)
  · -- 8
    refine br_f (by decide) (br_f (by decide) (br_f (by decide) (br_f (by decide) (br_f (by decide) (br_f (by decide) (br_t (by decide) ?_))))))
    rw [k1, z1, h17]
    exact ⟨i8, i1, i0, nm_e ⟨i8, i8, nm_r (e' := upd a17 0 1) rfl (h _ _ _ _ _ _ _ _ _ _ _ (xm_A1 hr h24 h26 pk_us hz pk_us zb rfl (by unfold xm_en; omega) rfl))⟩⟩
  · -- 9
    refine br_f (by decide) (br_f (by decide) (br_f (by decide) (br_t (by decide) ⟨i2, ?_⟩)))
    rw [k2, z2]
    exact rn_rd1 (j := 0) hv (by decide) g1 h20 h24 h12 (h _ _ _ _ _ _ _ _ _ _ _ (xm_A0 (Or.inr ⟨pk_us, pk_us⟩) h24 h26 h17 hz rfl rfl (by unfold xm_en; omega) rfl rfl))
  · -- 10
    refine br_f (by decide) (br_f (by decide) (br_f (by decide) (br_f (by decide) (br_f (by decide) (br_t (by decide) ⟨i2, i1, ?_⟩)))))
    rw [k2, z2, k1, z1]
    refine rn_sf (j := 0) hv (by decide) h24 (h _ _ _ _ _ _ _ _ _ _ _ (xm_A1 hr (by rw [pk_us]; rfl) h26 h17 hz pk_us (fun i hi hb => ?_) rfl (by unfold xm_en; omega) rfl))
    rw [(be_b1 0 (by decide) i hi).mp hb, pk_us]
  · -- 11
    refine br_f (by decide) (br_f (by decide) (br_f (by decide) (br_f (by decide) (br_f (by decide) (br_f (by decide) (br_f (by decide) ⟨i0, br_f (by decide) (br_f (by decide) (br_t (by decide) ⟨iv, nm_r (e' := upd (upd a22 v (nI 1)) v 12) (by rw [nI_clamp (by omega)]) (h _ _ _ _ _ _ _ _ _ _ _ ⟨hr, h24, h26, zb, Or.inl ⟨Or.inl rfl, ?_, h17⟩⟩)⟩))⟩))))))
    rw [pk_us, h2]
    exact nI_nlt (a := 12) hl (by decide)
end
end
section
section
/-- worker s's turn comes: b + the ticks until then are within m -/
def rn_wait (N k s b m : Nat) : Prop := ∃ d, 1 ≤ d ∧ d ≤ 24 ∧ (k + d) % 4 = 0 ∧ (k + d) / 4 % N = s ∧ b + d ≤ m
def rn_one (N s : Nat) (x : Int32) (a19 : Nat → Int32) : Prop := s < N ∧ a19 s = x ∧ ∀ v, v < N → v ≠ s → a19 v = 0
def rn_idle (N : Nat) (a19 : Nat → Int32) : Prop := ∀ v, v < N → a19 v = 0
/-- the block: b instructions (none or one), then PUT register 0, PUT register 1 -/
def rn_P (b o q : Nat) (w : Int32) (a2 a3 a4 a5 : Nat → Int32) : Prop :=
  a2 0 = nI (b + 2) ∧ a3 b = 8 ∧ a4 b = 0 ∧ a3 (b + 1) = 8 ∧ a4 (b + 1) = 5 ∧ o < 12 ∧ q < 16 ∧ ((b = 0 ∧ o = 6) ∨ (b = 1 ∧ a3 0 = nI o ∧ a4 0 = nI q ∧ a5 0 = w))
/-- what came out -/
def rn_O (o q : Nat) (w : Int32) (a1 a17 a18 : Nat → Int32) : Prop :=
  (xm_en o w ∧ a17 0 = 0) ∨ (¬ xm_en o w ∧ a17 0 = nI (xm_oc o + 2) ∧ a18 (xm_oc o) = xm_m o q w a1 0 ∧ a18 (xm_oc o + 1) = xm_m o q w a1 1)
/-- what the carrying worker holds -/
def rn_M (o s : Nat) (w : Int32) (a12 a14 a24 a25 a26 : Nat → Int32) : Prop :=
  rn_rd a12 a14 ∧ a24 s = xm_mask o w ∧ a26 s = xm_fl o w ∧ (∀ i, i < 16 → rn_bit (xm_mask o w) i → a25 (16 * s + i) = 0)
def rn_A (N m : Nat) (nc nk : Int32) (a8 a9 a19 : Nat → Int32) : Prop := nc = 0 ∧ nk = 0 ∧ a9 0 = 0 ∧ a8 0 = 0 ∧ rn_idle N a19 ∧ 200 ≤ m
def rn_B0 (N b m k s : Nat) (a12 a17 a22 a23 a24 a26 : Nat → Int32) : Prop :=
  b = 1 ∧ a22 s = 0 ∧ (∀ r, r < 4 → a23 (4 * s + r) = 0) ∧ a24 s = 0 ∧ a26 s = 0 ∧ a12 0 = 0 ∧ a17 0 = 0 ∧ rn_wait N k s 125 m
def rn_B1 (N b o q m k s : Nat) (w : Int32) (a1 a12 a14 a17 a22 a23 a24 a25 a26 : Nat → Int32) : Prop :=
  ¬ xm_en o w ∧ a22 s = nI b ∧ a23 (4 * s) = xm_m o q w a1 0 ∧ a23 (4 * s + 1) = xm_m o q w a1 1 ∧ a17 0 = nI (xm_oc o) ∧ rn_M o s w a12 a14 a24 a25 a26 ∧ rn_wait N k s 100 m
def rn_B2 (N b o q m k s : Nat) (w : Int32) (a1 a12 a14 a17 a18 a22 a23 a24 a25 a26 : Nat → Int32) : Prop :=
  ¬ xm_en o w ∧ a22 s = nI (b + 1) ∧ a23 (4 * s + 1) = xm_m o q w a1 1 ∧ a17 0 = nI (xm_oc o + 1) ∧ a18 (xm_oc o) = xm_m o q w a1 0 ∧ rn_M o s w a12 a14 a24 a25 a26 ∧ rn_wait N k s 75 m
def rn_B3 (N o q m k s : Nat) (w : Int32) (a1 a2 a12 a14 a17 a18 a22 a24 a25 a26 : Nat → Int32) : Prop :=
  ¬ a22 s < a2 0 ∧ rn_O o q w a1 a17 a18 ∧ rn_M o s w a12 a14 a24 a25 a26 ∧ rn_wait N k s 50 m
def rn_B (N b o q m k : Nat) (w : Int32) (a1 a2 : Nat → Int32) (nc nk : Int32) (a8 a9 a12 a14 a17 a18 a19 a20 a22 a23 a24 a25 a26 : Nat → Int32) : Prop :=
  nc = 1 ∧ (nk = 0 ∨ nk = 1) ∧ a9 0 = 1 ∧ ∃ s, rn_one N s 1 a19 ∧ a20 s = 0 ∧
  (rn_B0 N b m k s a12 a17 a22 a23 a24 a26 ∨ rn_B1 N b o q m k s w a1 a12 a14 a17 a22 a23 a24 a25 a26 ∨ rn_B2 N b o q m k s w a1 a12 a14 a17 a18 a22 a23 a24 a25 a26 ∨ rn_B3 N o q m k s w a1 a2 a12 a14 a17 a18 a22 a24 a25 a26)
/-- the transaction is executed -/
def rn_R (o q : Nat) (w : Int32) (a1 : Nat → Int32) (nc : Int32) (a6 a8 a9 a12 a14 a16 a17 a18 : Nat → Int32) : Prop :=
  nc = 1 ∧ a9 0 = 2 ∧ a8 0 = xm_mask o w ∧ a16 0 = xm_fl o w ∧ rn_O o q w a1 a17 a18 ∧ rn_rd a12 a14 ∧ (∀ i, i < 16 → rn_bit (xm_mask o w) i → a6 (8 * i) = 0)
def rn_C (N o q m k : Nat) (w : Int32) (a1 : Nat → Int32) (nc nk : Int32) (a6 a8 a9 a12 a14 a16 a17 a18 a19 a20 a21 : Nat → Int32) : Prop :=
  rn_R o q w a1 nc a6 a8 a9 a12 a14 a16 a17 a18 ∧ ((nk = 0 ∧ rn_idle N a19 ∧ 25 ≤ m) ∨ (nk = 1 ∧ ∃ s, rn_one N s 2 a19 ∧ a20 s = 0 ∧ a21 s = 0 ∧ rn_wait N k s 0 m))
/-- done -/
def rn_D (N o q : Nat) (w : Int32) (a1 : Nat → Int32) (nc nk : Int32) (a6 a8 a9 a12 a14 a16 a17 a18 a19 : Nat → Int32) : Prop :=
  rn_R o q w a1 nc a6 a8 a9 a12 a14 a16 a17 a18 ∧ nk = 1 ∧ rn_idle N a19
/-- the invariant of a running block: at most m steps are left, k is the clock -/
def rn_I (N b o q m k : Nat) (w : Int32) (a1 a2 : Nat → Int32) (nc nk : Int32) (a6 a8 a9 a10 a11 a12 a14 a16 a17 a18 a19 a20 a21 a22 a23 a24 a25 a26 : Nat → Int32) : Prop :=
  a10 0 = 0 ∧ a11 0 = 0 ∧ (rn_A N m nc nk a8 a9 a19 ∨ rn_B N b o q m k w a1 a2 nc nk a8 a9 a12 a14 a17 a18 a19 a20 a22 a23 a24 a25 a26 ∨ rn_C N o q m k w a1 nc nk a6 a8 a9 a12 a14 a16 a17 a18 a19 a20 a21 ∨ rn_D N o q w a1 nc nk a6 a8 a9 a12 a14 a16 a17 a18 a19)
/-- not his turn: the ticks go on -/
theorem rn_waitN {N k s b m v : Nat} (h : rn_wait N k s b (m + 1)) (hv : (k + 1) % 4 = 0 → v = (k + 1) / 4 % N) (hn : v ≠ s) : rn_wait N (k + 1) s b m := by
  obtain ⟨d, h1, h2, h3, h4, h5⟩ := h
  by_cases e : d = 1
  · subst e
    exact absurd ((hv h3).trans h4) hn
  · refine ⟨d - 1, by omega, by omega, ?_, ?_, by omega⟩
    · rw [show k + 1 + (d - 1) = k + d by omega]
      exact h3
    · rw [show k + 1 + (d - 1) = k + d by omega]
      exact h4
/-- his turn: he waits anew for less -/
theorem rn_waitY {N k s b m : Nat} (hN : 1 ≤ N) (hN6 : N ≤ 6) (hs : s < N) (hm : b + 24 ≤ m) : rn_wait N k s b m := by
  obtain ⟨d, h1, h2, h3, h4⟩ := be_hit hN hN6 hs k
  exact ⟨d, h1, h2, h3, h4, by omega⟩
theorem rn_waitB {N k s b m : Nat} (h : rn_wait N k s b (m + 1)) : b ≤ m := by
  obtain ⟨d, h1, h2, h3, h4, h5⟩ := h
  omega
theorem rn_one0 {N v : Nat} {x : Int32} {a19 : Nat → Int32} (h : rn_idle N a19) (hv : v < N) : rn_one N v x (upd a19 v x) :=
  ⟨hv, pk_us, fun j hj hn => by rw [pk_un hn]; exact h j hj⟩
theorem rn_idle1 {N s : Nat} {x : Int32} {a19 : Nat → Int32} (h : rn_one N s x a19) : rn_idle N (upd a19 s 0) := by
  intro v hv
  by_cases e : v = s
  · rw [e, pk_us]
  · rw [pk_un e]
    exact h.2.2 v hv e
end
section
variable {c ph wk nc nk ch ck wr : Int32} {a1 a2 a3 a4 a5 a6 a7 a8 a9 a10 a11 a12 a13 a14 a15 a16 a17 a18 a19 a20 a21 a22 a23 a24 a25 a26 : Nat → Int32}
/-- an idle worker finds nothing to do -/
theorem rn_sN {post : St2 → Prop} {v : Nat} (hv : v < 6) (h19 : a19 v = 0) (h : post (1, ph, wk, 1, 1, ch, ck, wr, a1, a2, a3, a4, a5, a6, a7, a8, a9, a10, a11, a12, a13, a14, a15, a16, a17, a18, a19, a20, a21, a22, a23, a24, a25, a26)) : wpX_step post (1, ph, wk, 1, 1, ch, ck, wr, a1, a2, a3, a4, a5, a6, a7, a8, a9, a10, a11, a12, a13, a14, a15, a16, a17, a18, a19, a20, a21, a22, a23, a24, a25, a26) (nI v) := by
  refine ⟨pk_in v 6 hv, br_t (by rw [nI_clamp (by omega)]; exact h19) (br_t (by decide) (br_t (by decide) h))⟩
/-- an idle worker takes a check of what isn't executed: nothing -/
theorem rn_sS {post : St2 → Prop} {v : Nat} (hv : v < 6) (h19 : a19 v = 0) (h9 : ¬ a9 0 = 2) (h : post (1, ph, wk, 1, 1, ch, ck, wr, a1, a2, a3, a4, a5, a6, a7, a8, a9, a10, a11, a12, a13, a14, a15, a16, a17, a18, a19, a20, a21, a22, a23, a24, a25, a26)) : wpX_step post (1, ph, wk, 1, 0, ch, ck, wr, a1, a2, a3, a4, a5, a6, a7, a8, a9, a10, a11, a12, a13, a14, a15, a16, a17, a18, a19, a20, a21, a22, a23, a24, a25, a26) (nI v) := by
  refine ⟨pk_in v 6 hv, br_t (by rw [nI_clamp (by omega)]; exact h19) (br_f (by decide) (br_f (by decide) (nm_r (e' := 1) rfl ⟨pk_in 0 8 (by decide), br_f (by rw [sb_cl0]; exact h9) h⟩)))⟩
/-- an idle worker takes the check -/
theorem rn_sK {post : St2 → Prop} {v : Nat} (hv : v < 6) (h19 : a19 v = 0) (h9 : a9 0 = 2) (h : post (1, ph, wk, 1, 1, ch, ck, wr, a1, a2, a3, a4, a5, a6, a7, a8, a9, a10, a11, a12, a13, a14, a15, a16, a17, a18, upd a19 v 2, upd a20 v 0, upd a21 v (a10 0), a22, a23, a24, a25, a26)) : wpX_step post (1, ph, wk, 1, 0, ch, ck, wr, a1, a2, a3, a4, a5, a6, a7, a8, a9, a10, a11, a12, a13, a14, a15, a16, a17, a18, a19, a20, a21, a22, a23, a24, a25, a26) (nI v) := by
  refine ⟨pk_in v 6 hv, br_t (by rw [nI_clamp (by omega)]; exact h19) (br_f (by decide) (br_f (by decide) (nm_r (e' := 1) rfl ⟨pk_in 0 8 (by decide), br_t (by rw [sb_cl0]; exact h9) (rn_bk hv h)⟩)))⟩
/-- an idle worker takes the transaction -/
theorem rn_sT {post : St2 → Prop} {v : Nat} (hv : v < 6) (h19 : a19 v = 0) (h9 : a9 0 = 0) (h : ∀ a23' : Nat → Int32, (∀ r, r < 4 → a23' (4 * v + r) = 0) → post (1, ph, wk, 1, 0, ch, ck, wr, a1, a2, a3, a4, a5, a6, a7, a8, upd a9 0 1, a10, a11, upd a12 0 0, a13, a14, a15, a16, upd a17 0 0, a18, upd a19 v 1, upd a20 v 0, upd a21 v (a10 0), upd a22 v 0, a23', upd a24 v 0, a25, upd a26 v 0)) : wpX_step post (1, ph, wk, 0, 0, ch, ck, wr, a1, a2, a3, a4, a5, a6, a7, a8, a9, a10, a11, a12, a13, a14, a15, a16, a17, a18, a19, a20, a21, a22, a23, a24, a25, a26) (nI v) := by
  refine ⟨pk_in v 6 hv, br_t (by rw [nI_clamp (by omega)]; exact h19) (br_t (by decide) (br_f (by decide) (nm_r (e' := 1) rfl ⟨pk_in 0 8 (by decide), br_t (by rw [sb_cl0]; exact h9) (rn_bc hv h)⟩)))⟩
/-- the checking worker checks -/
theorem rn_sC {post : St2 → Prop} {v : Nat} (hv : v < 6) (h19 : a19 v = 2) (h20 : a20 v = 0) (h9 : a9 0 = 2) (h10 : a10 0 = a21 v) (hr : rn_rd a12 a14) (h : post (c, ph, wk, nc, nk, ch, ck, wr, a1, a2, a3, a4, a5, a6, a7, a8, a9, a10, a11, a12, a13, a14, a15, a16, a17, a18, upd a19 v 0, a20, a21, a22, a23, a24, a25, a26)) : wpX_step post (c, ph, wk, nc, nk, ch, ck, wr, a1, a2, a3, a4, a5, a6, a7, a8, a9, a10, a11, a12, a13, a14, a15, a16, a17, a18, a19, a20, a21, a22, a23, a24, a25, a26) (nI v) := by
  refine ⟨pk_in v 6 hv, br_f (by rw [nI_clamp (by omega), h19]; decide) ⟨pk_in v 6 hv, br_t (by rw [nI_clamp (by omega)]; exact h19) (rn_ck hv h20 h9 h10 hr h)⟩⟩
end
section
variable {c ph wk nc nk ch ck wr : Int32} {a1 a2 a3 a4 a5 a6 a7 a8 a9 a10 a11 a12 a13 a14 a15 a16 a17 a18 a19 a20 a21 a22 a23 a24 a25 a26 : Nat → Int32}
/-- one step of any worker, while it isn't done -/
theorem rn_step {post : St2 → Prop} {N b o q m k v : Nat} {w : Int32} (hN : 1 ≤ N) (hN6 : N ≤ 6) (hP : rn_P b o q w a2 a3 a4 a5) (hv : v < N) (hvk : (k + 1) % 4 = 0 → v = (k + 1) / 4 % N)
    (hI : a10 0 = 0 ∧ a11 0 = 0 ∧ (rn_A N (m + 1) nc nk a8 a9 a19 ∨ rn_B N b o q (m + 1) k w a1 a2 nc nk a8 a9 a12 a14 a17 a18 a19 a20 a22 a23 a24 a25 a26 ∨ rn_C N o q (m + 1) k w a1 nc nk a6 a8 a9 a12 a14 a16 a17 a18 a19 a20 a21))
    (h : ∀ (nc' nk' : Int32) (a6' a7' a8' a9' a10' a11' a12' a13' a14' a15' a16' a17' a18' a19' a20' a21' a22' a23' a24' a25' a26' : Nat → Int32), rn_I N b o q m (k + 1) w a1 a2 nc' nk' a6' a8' a9' a10' a11' a12' a14' a16' a17' a18' a19' a20' a21' a22' a23' a24' a25' a26' → post (1, ph, wk, nc', nk', ch, ck, wr, a1, a2, a3, a4, a5, a6', a7', a8', a9', a10', a11', a12', a13', a14', a15', a16', a17', a18', a19', a20', a21', a22', a23', a24', a25', a26')) : wpX_step post (1, ph, wk, nc, nk, ch, ck, wr, a1, a2, a3, a4, a5, a6, a7, a8, a9, a10, a11, a12, a13, a14, a15, a16, a17, a18, a19, a20, a21, a22, a23, a24, a25, a26) (nI v) := by
  have hv6 : v < 6 := by omega
  obtain ⟨h10, h11, hI⟩ := hI
  obtain ⟨p2, p3, p4, p5, p6, po, pq, pb⟩ := hP
  rcases hI with hA | hB | hC
  · obtain ⟨rfl, rfl, h9, h8, hid, hm⟩ := hA
    refine rn_sT hv6 (hid v hv) h9 (fun a23' hz => h _ _ _ _ _ _ _ _ _ _ _ _ _ _ _ _ _ _ _ _ _ _ _ ⟨h10, h11, Or.inr (Or.inl ⟨rfl, Or.inl rfl, pk_us, v, rn_one0 hid hv, pk_us, ?_⟩)⟩)
    rcases pb with ⟨rfl, rfl⟩ | ⟨rfl, _⟩
    · refine Or.inr (Or.inl ⟨by unfold xm_en; omega, pk_us, ?_, ?_, pk_us, ⟨Or.inl pk_us, pk_us, pk_us, fun i hi hb => absurd hb (be_z i (by omega))⟩, rn_waitY hN hN6 hv (by omega)⟩)
      · rw [show 4 * v = 4 * v + 0 from rfl, hz 0 (by omega)]
        exact (ite_self _).symm
      · rw [hz 1 (by omega)]
        exact (ite_self _).symm
    · exact Or.inl ⟨rfl, pk_us, hz, pk_us, pk_us, pk_us, pk_us, rn_waitY hN hN6 hv (by omega)⟩
  · obtain ⟨rfl, hk, h9, s, h19, h20, hB⟩ := hB
    by_cases e : v = s
    · subst e
      refine ⟨pk_in v 6 hv6, br_f (by rw [nI_clamp (by omega), h19.2.1]; decide) ⟨pk_in v 6 hv6, br_f (by rw [nI_clamp (by omega), h19.2.1]; decide) ?_⟩⟩
      rcases hB with hB | hB | hB | hB
      · obtain ⟨rfl, h22, hz, h24, h26, h12, h17, hw⟩ := hB
        have hm := rn_waitB hw
        rcases pb with ⟨pb, _⟩ | ⟨_, q3, q4, q5⟩
        · exact absurd pb (by decide)
        · refine rn_first hv6 po pq h20 h22 p2 (by omega) (by omega) q3 q4 q5 hz h24 h26 h12 h17 (fun a12' a13' a14' a15' a17' a18' a22' a23' a24' a25' a26' ha => h _ _ _ _ _ _ _ _ _ _ _ _ _ _ _ _ _ _ _ _ _ _ _ ⟨h10, h11, Or.inr (Or.inl ⟨rfl, hk, h9, v, h19, h20, ?_⟩)⟩)
          obtain ⟨g1, g2, g3, g4, g5⟩ := ha
          rcases g5 with ⟨u1, u2, u3⟩ | ⟨u1, u2, u3, u4, u5⟩
          · exact Or.inr (Or.inr (Or.inr ⟨u2, Or.inl ⟨u1, u3⟩, ⟨g1, g2, g3, g4⟩, rn_waitY hN hN6 hv (by omega)⟩))
          · exact Or.inr (Or.inl ⟨u1, u2, u3, u4, u5, ⟨g1, g2, g3, g4⟩, rn_waitY hN hN6 hv (by omega)⟩)
      · obtain ⟨he, h22, h0, h1, h17, hM, hw⟩ := hB
        have hm := rn_waitB hw
        have hoc := xm_oc1 o
        have hb : b ≤ 1 := by rcases pb with ⟨e, _⟩ | ⟨e, _⟩ <;> omega
        refine rn_put (q := 0) hv6 h20 h22 p2 (by omega) (by omega) p3 p4 (by omega) h17 (by omega) (h _ _ _ _ _ _ _ _ _ _ _ _ _ _ _ _ _ _ _ _ _ _ _ ⟨h10, h11, Or.inr (Or.inl ⟨rfl, hk, h9, v, h19, h20, Or.inr (Or.inr (Or.inl ⟨he, pk_us, h1, pk_us, ?_, hM, rn_waitY hN hN6 hv (by omega)⟩))⟩)⟩)
        rw [pk_us]
        exact h0
      · obtain ⟨he, h22, h1, h17, h18, hM, hw⟩ := hB
        have hm := rn_waitB hw
        have hoc := xm_oc1 o
        have hb : b ≤ 1 := by rcases pb with ⟨e, _⟩ | ⟨e, _⟩ <;> omega
        refine rn_put (q := 5) hv6 h20 h22 p2 (by omega) (by omega) p5 p6 (by omega) h17 (by omega) (h _ _ _ _ _ _ _ _ _ _ _ _ _ _ _ _ _ _ _ _ _ _ _ ⟨h10, h11, Or.inr (Or.inl ⟨rfl, hk, h9, v, h19, h20, Or.inr (Or.inr (Or.inr ⟨?_, Or.inr ⟨he, pk_us, ?_, ?_⟩, hM, rn_waitY hN hN6 hv (by omega)⟩))⟩)⟩)
        · rw [pk_us, p2]
          exact nI_nlt (by omega) (by omega)
        · rw [pk_un (by omega)]
          exact h18
        · rw [pk_us]
          exact h1
      · obtain ⟨h22, hO, ⟨hr, h24, h26, h25⟩, hw⟩ := hB
        have hm := rn_waitB hw
        refine rn_cf hv6 h22 h20 h26 h24 (xm_hf o w) h25 h11 hk (fun a6' a7' h6 => h _ _ _ _ _ _ _ _ _ _ _ _ _ _ _ _ _ _ _ _ _ _ _ ⟨h10, pk_us, Or.inr (Or.inr (Or.inl ⟨⟨rfl, pk_us, pk_us, pk_us, hO, hr, h6⟩, Or.inl ⟨rfl, rn_idle1 h19, by omega⟩⟩))⟩) (fun a6' a7' h6 => h _ _ _ _ _ _ _ _ _ _ _ _ _ _ _ _ _ _ _ _ _ _ _ ⟨h10, pk_us, Or.inr (Or.inr (Or.inl ⟨⟨rfl, pk_us, pk_us, pk_us, hO, hr, h6⟩, Or.inr ⟨rfl, v, rn_one0 (rn_idle1 h19) hv, pk_us, ?_, rn_waitY hN hN6 hv (by omega)⟩⟩))⟩)
        rw [pk_us]
        exact h10
    · have hB' : rn_B0 N b m (k + 1) s a12 a17 a22 a23 a24 a26 ∨ rn_B1 N b o q m (k + 1) s w a1 a12 a14 a17 a22 a23 a24 a25 a26 ∨ rn_B2 N b o q m (k + 1) s w a1 a12 a14 a17 a18 a22 a23 a24 a25 a26 ∨ rn_B3 N o q m (k + 1) s w a1 a2 a12 a14 a17 a18 a22 a24 a25 a26 := by
        rcases hB with hB | hB | hB | hB
        · obtain ⟨g0, g1, g2, g3, g4, g5, g6, hw⟩ := hB
          exact Or.inl ⟨g0, g1, g2, g3, g4, g5, g6, rn_waitN hw hvk e⟩
        · obtain ⟨g0, g1, g2, g3, g4, g5, hw⟩ := hB
          exact Or.inr (Or.inl ⟨g0, g1, g2, g3, g4, g5, rn_waitN hw hvk e⟩)
        · obtain ⟨g0, g1, g2, g3, g4, g5, hw⟩ := hB
          exact Or.inr (Or.inr (Or.inl ⟨g0, g1, g2, g3, g4, g5, rn_waitN hw hvk e⟩))
        · obtain ⟨g0, g1, g2, hw⟩ := hB
          exact Or.inr (Or.inr (Or.inr ⟨g0, g1, g2, rn_waitN hw hvk e⟩))
      rcases hk with rfl | rfl
      · exact rn_sS hv6 (h19.2.2 v hv e) (by rw [h9]; decide) (h _ _ _ _ _ _ _ _ _ _ _ _ _ _ _ _ _ _ _ _ _ _ _ ⟨h10, h11, Or.inr (Or.inl ⟨rfl, Or.inr rfl, h9, s, h19, h20, hB'⟩)⟩)
      · exact rn_sN hv6 (h19.2.2 v hv e) (h _ _ _ _ _ _ _ _ _ _ _ _ _ _ _ _ _ _ _ _ _ _ _ ⟨h10, h11, Or.inr (Or.inl ⟨rfl, Or.inr rfl, h9, s, h19, h20, hB'⟩)⟩)
  · obtain ⟨hR, hC⟩ := hC
    have hR' := hR
    obtain ⟨rfl, h9, h8, h16, hO, hr, h6⟩ := hR
    rcases hC with ⟨rfl, hid, hm⟩ | ⟨rfl, s, h19, h20, h21, hw⟩
    · exact rn_sK hv6 (hid v hv) h9 (h _ _ _ _ _ _ _ _ _ _ _ _ _ _ _ _ _ _ _ _ _ _ _ ⟨h10, h11, Or.inr (Or.inr (Or.inl ⟨hR', Or.inr ⟨rfl, v, rn_one0 hid hv, pk_us, by rw [pk_us]; exact h10, rn_waitY hN hN6 hv (by omega)⟩⟩))⟩)
    · by_cases e : v = s
      · subst e
        exact rn_sC hv6 h19.2.1 h20 h9 (by rw [h10, h21]) hr (h _ _ _ _ _ _ _ _ _ _ _ _ _ _ _ _ _ _ _ _ _ _ _ ⟨h10, h11, Or.inr (Or.inr (Or.inr ⟨hR', rfl, rn_idle1 h19⟩))⟩)
      · exact rn_sN hv6 (h19.2.2 v hv e) (h _ _ _ _ _ _ _ _ _ _ _ _ _ _ _ _ _ _ _ _ _ _ _ ⟨h10, h11, Or.inr (Or.inr (Or.inl ⟨hR', Or.inr ⟨rfl, s, h19, h20, h21, rn_waitN hw hvk e⟩⟩))⟩)
end
end
section
section
/-- what a finished block left: the store S before, a1 behind -/
def rn_F (o q : Nat) (w : Int32) (S a1 a8 a16 a17 a18 : Nat → Int32) : Prop :=
  a8 0 = xm_mask o w ∧ a16 0 = xm_fl o w ∧ rn_O o q w S a17 a18 ∧ ∀ j, j < 16 → (rn_bit (xm_mask o w) j → a1 j = 0) ∧ (¬ rn_bit (xm_mask o w) j → a1 j = S j)
variable {c ph wk nc nk ch ck wr : Int32} {a1 a2 a3 a4 a5 a6 a7 a8 a9 a10 a11 a12 a13 a14 a15 a16 a17 a18 a19 a20 a21 a22 a23 a24 a25 a26 : Nat → Int32}
theorem rn_nb1 {post : Int32 → Prop} {i : Nat} (ht : rn_bit (a8 0) i → post 0) (hf : ¬ rn_bit (a8 0) i → post (-1)) : wpX_newestBefore post (c, ph, wk, nc, nk, ch, ck, wr, a1, a2, a3, a4, a5, a6, a7, a8, a9, a10, a11, a12, a13, a14, a15, a16, a17, a18, a19, a20, a21, a22, a23, a24, a25, a26) (nI i) 1 := by
  refine nm_r (e' := 0) rfl ⟨2, br_f (by decide) ⟨pk_in 0 8 (by decide), ?_⟩⟩
  rw [sb_cl0]
  exact br_c ht (fun hb => nm_r (e' := -1) rfl (br_t (by decide) (hf hb)))
theorem rn_commit {post : St2 → Prop} (h6 : ∀ i, i < 16 → rn_bit (a8 0) i → a6 (8 * i) = 0)
    (h : ∀ a1' : Nat → Int32, (∀ j, j < 16 → (rn_bit (a8 0) j → a1' j = 0) ∧ (¬ rn_bit (a8 0) j → a1' j = a1 j)) → post (1, 2, wk, nc, nk, ch, ck, wr, a1', a2, a3, a4, a5, a6, a7, a8, a9, a10, a11, a12, a13, a14, a15, a16, a17, a18, a19, a20, a21, a22, a23, a24, a25, a26)) : wpX_commit post (1, ph, wk, nc, nk, ch, ck, wr, a1, a2, a3, a4, a5, a6, a7, a8, a9, a10, a11, a12, a13, a14, a15, a16, a17, a18, a19, a20, a21, a22, a23, a24, a25, a26) :=
  pk_loop (fun n i s => wX_commit_7 post 1 2 wk nc nk ch ck wr n (nI i) s a2 a3 a4 a5 a6 a7 a8 a9 a10 a11 a12 a13 a14 a15 a16 a17 a18 a19 a20 a21 a22 a23 a24 a25 a26) (fun i s => ∀ j, (j < i → (rn_bit (a8 0) j → s j = 0) ∧ (¬ rn_bit (a8 0) j → s j = a1 j)) ∧ (i ≤ j → s j = a1 j)) 16 0 a1 (by omega) (fun j => ⟨fun hj => absurd hj (by omega), fun _ => rfl⟩)
    (fun n s hs => pk_le 16 16 (fun _ => h s (fun j hj => (hs j).1 hj)) (fun z => absurd z (by omega)))
    (fun n i s hi hs hw => pk_le 16 i (fun z => absurd z (by omega)) (fun _ => rn_nb1
      (fun hb => br_f (by decide) ⟨by rw [be_8]; exact pk_in (8 * i) 128 (by omega), pk_in i 16 hi, nm_e (nm_r (nI_1 i) (hw _ (fun j => by
        rw [be_8, nI_clamp (by omega), nI_clamp (by omega), h6 i hi hb]
        by_cases e : j = i
        · subst e
          rw [pk_us]
          exact ⟨fun _ => ⟨fun _ => rfl, fun z => absurd hb z⟩, fun z => absurd z (by omega)⟩
        · rw [pk_un e]
          exact ⟨fun hj => (hs j).1 (by omega), fun hj => (hs j).2 (by omega)⟩)))⟩)
      (fun hb => br_t (by decide) (nm_r (nI_1 i) (hw s (fun j => by
        by_cases e : j = i
        · subst e
          exact ⟨fun _ => ⟨fun z => absurd z hb, fun _ => (hs j).2 (by omega)⟩, fun z => absurd z (by omega)⟩
        · exact ⟨fun hj => (hs j).1 (by omega), fun hj => (hs j).2 (by omega)⟩))))))
theorem rn_63 {post : Int32 → St2 → Prop} (h6 : ∀ i, i < 16 → rn_bit (a8 0) i → a6 (8 * i) = 0)
    (h : ∀ a1' : Nat → Int32, (∀ j, j < 16 → (rn_bit (a8 0) j → a1' j = 0) ∧ (¬ rn_bit (a8 0) j → a1' j = a1 j)) → post (if a16 0 = 0 then 1 else 0) (1, 2, wk, nc, nk, ch, ck, wr, a1', a2, a3, a4, a5, a6, a7, a8, a9, a10, a11, a12, a13, a14, a15, a16, a17, a18, a19, a20, a21, a22, a23, a24, a25, a26)) : wX_run_63 post 1 ph wk nc nk ch ck wr a1 a2 a3 a4 a5 a6 a7 a8 a9 a10 a11 a12 a13 a14 a15 a16 a17 a18 a19 a20 a21 a22 a23 a24 a25 a26 := by
  refine rn_commit h6 (fun a1' ha => ⟨2, br_f (by decide) ⟨pk_in 0 8 (by decide), ?_⟩⟩)
  have h' := h a1' ha
  rw [sb_cl0]
  by_cases z : a16 0 = 0
  · rw [if_pos z] at h'
    exact br_t z (nm_r (e' := 1) rfl (nm_r (e' := 1) rfl (br_t (by decide) h')))
  · rw [if_neg z] at h'
    exact br_f z (nm_r (e' := 0) rfl (nm_r (e' := 1) rfl (br_t (by decide) h')))
theorem rn_ad0 {post : Int32 → Prop} {N b o q m k : Nat} {w : Int32} (hN6 : N ≤ 6)
    (hI : rn_A N m nc nk a8 a9 a19 ∨ rn_B N b o q m k w a1 a2 nc nk a8 a9 a12 a14 a17 a18 a19 a20 a22 a23 a24 a25 a26 ∨ rn_C N o q m k w a1 nc nk a6 a8 a9 a12 a14 a16 a17 a18 a19 a20 a21) (h : post 0) : wpX_isAllDone post (1, ph, nI N, nc, nk, ch, ck, wr, a1, a2, a3, a4, a5, a6, a7, a8, a9, a10, a11, a12, a13, a14, a15, a16, a17, a18, a19, a20, a21, a22, a23, a24, a25, a26) := by
  rcases hI with hA | hB | hC
  · obtain ⟨rfl, _⟩ := hA
    exact br_t (by decide) h
  · obtain ⟨rfl, hk, h9, s, h19, _⟩ := hB
    rcases hk with rfl | rfl
    · exact br_f (by decide) (br_f (by decide) h)
    · exact rn_adO hN6 h19.1 (by rw [h19.2.1]; decide) h19.2.2 (by decide) (by decide) h
  · obtain ⟨⟨rfl, _⟩, hC⟩ := hC
    rcases hC with ⟨rfl, _⟩ | ⟨rfl, s, h19, _⟩
    · exact br_f (by decide) (br_f (by decide) h)
    · exact rn_adO hN6 h19.1 (by rw [h19.2.1]; decide) h19.2.2 (by decide) (by decide) h
theorem rn_m0 {N b o q m k : Nat} {w : Int32} (hI : rn_A N m nc nk a8 a9 a19 ∨ rn_B N b o q m k w a1 a2 nc nk a8 a9 a12 a14 a17 a18 a19 a20 a22 a23 a24 a25 a26 ∨ rn_C N o q m k w a1 nc nk a6 a8 a9 a12 a14 a16 a17 a18 a19 a20 a21) : 0 < m := by
  have hw : ∀ s b, rn_wait N k s b m → 0 < m := fun s b h => by
    obtain ⟨d, h1, _, _, _, h5⟩ := h
    omega
  rcases hI with hA | hB | hC
  · have := hA.2.2.2.2.2
    omega
  · obtain ⟨_, _, _, s, _, _, hB⟩ := hB
    rcases hB with hB | hB | hB | hB
    · exact hw _ _ hB.2.2.2.2.2.2.2
    · exact hw _ _ hB.2.2.2.2.2.2
    · exact hw _ _ hB.2.2.2.2.2.2
    · exact hw _ _ hB.2.2.2
  · rcases hC.2 with hC | ⟨_, s, _, _, _, hC⟩
    · omega
    · exact hw _ _ hC
theorem rn_run34 {post : Int32 → St2 → Prop} {N b o q : Nat} {w : Int32} (hN : 1 ≤ N) (hN6 : N ≤ 6) (hP : rn_P b o q w a2 a3 a4 a5)
    (hD : ∀ (ch ck nc nk : Int32) (a6 a7 a8 a9 a10 a11 a12 a13 a14 a15 a16 a17 a18 a19 a20 a21 a22 a23 a24 a25 a26 : Nat → Int32), rn_D N o q w a1 nc nk a6 a8 a9 a12 a14 a16 a17 a18 a19 → wX_run_63 post 1 ph (nI N) nc nk ch ck wr a1 a2 a3 a4 a5 a6 a7 a8 a9 a10 a11 a12 a13 a14 a15 a16 a17 a18 a19 a20 a21 a22 a23 a24 a25 a26) :
    ∀ (m i k : Nat) (ch nc nk : Int32) (a6 a7 a8 a9 a10 a11 a12 a13 a14 a15 a16 a17 a18 a19 a20 a21 a22 a23 a24 a25 a26 : Nat → Int32), rn_I N b o q m k w a1 a2 nc nk a6 a8 a9 a10 a11 a12 a14 a16 a17 a18 a19 a20 a21 a22 a23 a24 a25 a26 → i + m < 200000 → k ≤ 2000 + i → wX_run_34 post (m + 1) (nI i) 1 ph (nI N) nc nk ch (nI k) wr a1 a2 a3 a4 a5 a6 a7 a8 a9 a10 a11 a12 a13 a14 a15 a16 a17 a18 a19 a20 a21 a22 a23 a24 a25 a26 := by
  intro m
  induction m with
  | zero =>
    intro i k ch nc nk a6 a7 a8 a9 a10 a11 a12 a13 a14 a15 a16 a17 a18 a19 a20 a21 a22 a23 a24 a25 a26 hI hi hk
    obtain ⟨h10, h11, hI⟩ := hI
    have no : ¬ (rn_A N 0 nc nk a8 a9 a19 ∨ rn_B N b o q 0 k w a1 a2 nc nk a8 a9 a12 a14 a17 a18 a19 a20 a22 a23 a24 a25 a26 ∨ rn_C N o q 0 k w a1 nc nk a6 a8 a9 a12 a14 a16 a17 a18 a19 a20 a21) := fun z => absurd (rn_m0 z) (by omega)
    rcases hI with hI | hI | hI | hI
    · exact absurd (Or.inl hI) no
    · exact absurd (Or.inr (Or.inl hI)) no
    · exact absurd (Or.inr (Or.inr hI)) no
    · have hI' := hI
      obtain ⟨⟨rfl, _⟩, rfl, hid⟩ := hI
      exact pk_le 200000 i (fun z => absurd z (by omega)) (fun _ => rn_adI hN6 hid (by decide) (by decide) (br_f (by decide) (hD _ _ _ _ _ _ _ _ _ _ _ _ _ _ _ _ _ _ _ _ _ _ _ _ _ hI')))
  | succ m ih =>
    intro i k ch nc nk a6 a7 a8 a9 a10 a11 a12 a13 a14 a15 a16 a17 a18 a19 a20 a21 a22 a23 a24 a25 a26 hI hi hk
    obtain ⟨h10, h11, hI⟩ := hI
    have go : (rn_A N (m + 1) nc nk a8 a9 a19 ∨ rn_B N b o q (m + 1) k w a1 a2 nc nk a8 a9 a12 a14 a17 a18 a19 a20 a22 a23 a24 a25 a26 ∨ rn_C N o q (m + 1) k w a1 nc nk a6 a8 a9 a12 a14 a16 a17 a18 a19 a20 a21) → wX_run_34 post (m + 1 + 1) (nI i) 1 ph (nI N) nc nk ch (nI k) wr a1 a2 a3 a4 a5 a6 a7 a8 a9 a10 a11 a12 a13 a14 a15 a16 a17 a18 a19 a20 a21 a22 a23 a24 a25 a26 := by
      intro hI
      exact pk_le 200000 i (fun z => absurd z (by omega)) (fun _ => rn_ad0 hN6 hI (br_t rfl (rn_next hN hN6 (by omega) (fun v ch' hv hvk => rn_step hN hN6 hP hv hvk ⟨h10, h11, hI⟩
        (fun nc' nk' a6' a7' a8' a9' a10' a11' a12' a13' a14' a15' a16' a17' a18' a19' a20' a21' a22' a23' a24' a25' a26' hI' => nm_r (nI_1 i) (ih (i + 1) (k + 1) _ _ _ _ _ _ _ _ _ _ _ _ _ _ _ _ _ _ _ _ _ _ _ _ hI' (by omega) (by omega)))))))
    rcases hI with hI | hI | hI | hI
    · exact go (Or.inl hI)
    · exact go (Or.inr (Or.inl hI))
    · exact go (Or.inr (Or.inr hI))
    · have hI' := hI
      obtain ⟨⟨rfl, _⟩, rfl, hid⟩ := hI
      exact pk_le 200000 i (fun z => absurd z (by omega)) (fun _ => rn_adI hN6 hid (by decide) (by decide) (br_f (by decide) (hD _ _ _ _ _ _ _ _ _ _ _ _ _ _ _ _ _ _ _ _ _ _ _ _ _ hI')))
theorem rn_work34 {post : Int32 → St2 → Prop} {N b o q : Nat} {w x : Int32} (hN : 1 ≤ N) (hN6 : N ≤ 6) (hP : rn_P b o q w a2 a3 a4 a5)
    (hD : ∀ (m k : Nat) (ch nc nk : Int32) (a6 a7 a8 a9 a10 a11 a12 a13 a14 a15 a16 a17 a18 a19 a20 a21 a22 a23 a24 a25 a26 : Nat → Int32), rn_I N b o q m k w a1 a2 nc nk a6 a8 a9 a10 a11 a12 a14 a16 a17 a18 a19 a20 a21 a22 a23 a24 a25 a26 → m ≤ 200 → k ≤ 2000 → post 0 (1, ph, nI N, nc, nk, ch, nI k, wr, a1, a2, a3, a4, a5, a6, a7, a8, a9, a10, a11, a12, a13, a14, a15, a16, a17, a18, a19, a20, a21, a22, a23, a24, a25, a26)) :
    ∀ (n m i : Nat) (ch nc nk : Int32) (a6 a7 a8 a9 a10 a11 a12 a13 a14 a15 a16 a17 a18 a19 a20 a21 a22 a23 a24 a25 a26 : Nat → Int32), rn_I N b o q m i w a1 a2 nc nk a6 a8 a9 a10 a11 a12 a14 a16 a17 a18 a19 a20 a21 a22 a23 a24 a25 a26 → m ≤ 200 → i ≤ 2000 → 2000 - i < n → wX_work_34 post x n (nI i) 1 ph (nI N) nc nk ch (nI i) wr a1 a2 a3 a4 a5 a6 a7 a8 a9 a10 a11 a12 a13 a14 a15 a16 a17 a18 a19 a20 a21 a22 a23 a24 a25 a26 := by
  intro n
  induction n with
  | zero =>
    intro m i ch nc nk a6 a7 a8 a9 a10 a11 a12 a13 a14 a15 a16 a17 a18 a19 a20 a21 a22 a23 a24 a25 a26 hI hm hi hn
    exact absurd hn (by omega)
  | succ n ih =>
    intro m i ch nc nk a6 a7 a8 a9 a10 a11 a12 a13 a14 a15 a16 a17 a18 a19 a20 a21 a22 a23 a24 a25 a26 hI hm hi hn
    have hd := hD m i ch nc nk a6 a7 a8 a9 a10 a11 a12 a13 a14 a15 a16 a17 a18 a19 a20 a21 a22 a23 a24 a25 a26 hI hm hi
    refine br_c (fun _ => hd) (fun _ => pk_le 2000 i (fun _ => hd) (fun hlt => ?_))
    obtain ⟨h10, h11, hI⟩ := hI
    have go : (rn_A N m nc nk a8 a9 a19 ∨ rn_B N b o q m i w a1 a2 nc nk a8 a9 a12 a14 a17 a18 a19 a20 a22 a23 a24 a25 a26 ∨ rn_C N o q m i w a1 nc nk a6 a8 a9 a12 a14 a16 a17 a18 a19 a20 a21) → wpX_isAllDone (fun r => (r = 0 → wpX_nextWorker (fun r u => match u with | (c', ph', wk', nc', nk', ch', ck', wr', a1', a2', a3', a4', a5', a6', a7', a8', a9', a10', a11', a12', a13', a14', a15', a16', a17', a18', a19', a20', a21', a22', a23', a24', a25', a26') => wpX_step (fun u => match u with | (c'', ph'', wk'', nc'', nk'', ch'', ck'', wr'', a1'', a2'', a3'', a4'', a5'', a6'', a7'', a8'', a9'', a10'', a11'', a12'', a13'', a14'', a15'', a16'', a17'', a18'', a19'', a20'', a21'', a22'', a23'', a24'', a25'', a26'') => ∀ x3 : Int32, x3 = nI i + 1 → wX_work_34 post x n x3 c'' ph'' wk'' nc'' nk'' ch'' ck'' wr'' a1'' a2'' a3'' a4'' a5'' a6'' a7'' a8'' a9'' a10'' a11'' a12'' a13'' a14'' a15'' a16'' a17'' a18'' a19'' a20'' a21'' a22'' a23'' a24'' a25'' a26'') (c', ph', wk', nc', nk', ch', ck', wr', a1', a2', a3', a4', a5', a6', a7', a8', a9', a10', a11', a12', a13', a14', a15', a16', a17', a18', a19', a20', a21', a22', a23', a24', a25', a26') r) (1, ph, nI N, nc, nk, ch, nI i, wr, a1, a2, a3, a4, a5, a6, a7, a8, a9, a10, a11, a12, a13, a14, a15, a16, a17, a18, a19, a20, a21, a22, a23, a24, a25, a26)) ∧ (¬ r = 0 → post 0 (1, ph, nI N, nc, nk, ch, nI i, wr, a1, a2, a3, a4, a5, a6, a7, a8, a9, a10, a11, a12, a13, a14, a15, a16, a17, a18, a19, a20, a21, a22, a23, a24, a25, a26))) (1, ph, nI N, nc, nk, ch, nI i, wr, a1, a2, a3, a4, a5, a6, a7, a8, a9, a10, a11, a12, a13, a14, a15, a16, a17, a18, a19, a20, a21, a22, a23, a24, a25, a26) := by
      intro hI
      have h0 := rn_m0 hI
      obtain ⟨m', rfl⟩ : ∃ m', m = m' + 1 := ⟨m - 1, by omega⟩
      exact rn_ad0 hN6 hI (br_t rfl (rn_next hN hN6 (by omega) (fun v ch' hv hvk => rn_step hN hN6 hP hv hvk ⟨h10, h11, hI⟩
        (fun nc' nk' a6' a7' a8' a9' a10' a11' a12' a13' a14' a15' a16' a17' a18' a19' a20' a21' a22' a23' a24' a25' a26' hI' => nm_r (nI_1 i) (ih m' (i + 1) _ _ _ _ _ _ _ _ _ _ _ _ _ _ _ _ _ _ _ _ _ _ _ _ hI' (by omega) (by omega) (by omega))))))
    rcases hI with hI | hI | hI | hI
    · exact go (Or.inl hI)
    · exact go (Or.inr (Or.inl hI))
    · exact go (Or.inr (Or.inr hI))
    · obtain ⟨⟨rfl, _⟩, rfl, hid⟩ := hI
      exact rn_adI hN6 hid (by decide) (by decide) (br_f (by decide) hd)
/-- the block is built or runs -/
def rn_Pre (N b o q m k : Nat) (w : Int32) (a1 a2 : Nat → Int32) (ph ck nc nk : Int32) (a6 a8 a9 a10 a11 a12 a14 a16 a17 a18 a19 a20 a21 a22 a23 a24 a25 a26 : Nat → Int32) : Prop :=
  ph = 0 ∨ (ph = 1 ∧ ck = nI k ∧ m ≤ 200 ∧ k ≤ 2000 ∧ rn_I N b o q m k w a1 a2 nc nk a6 a8 a9 a10 a11 a12 a14 a16 a17 a18 a19 a20 a21 a22 a23 a24 a25 a26)
theorem rn_run22 {post : Int32 → St2 → Prop} {N b o q m k : Nat} {w x : Int32} (hN : 1 ≤ N) (hN6 : N ≤ 6) (hP : rn_P b o q w a2 a3 a4 a5) (hI : rn_I N b o q m k w a1 a2 nc nk a6 a8 a9 a10 a11 a12 a14 a16 a17 a18 a19 a20 a21 a22 a23 a24 a25 a26) (hm : m ≤ 200) (hk : k ≤ 2000)
    (h : ∀ (ch ck nc nk : Int32) (a1' a6 a7 a8 a9 a10 a11 a12 a13 a14 a15 a16 a17 a18 a19 a20 a21 a22 a23 a24 a25 a26 : Nat → Int32), rn_F o q w a1 a1' a8 a16 a17 a18 → post (if xm_fl o w = 0 then 1 else 0) (1, 2, nI N, nc, nk, ch, ck, wr, a1', a2, a3, a4, a5, a6, a7, a8, a9, a10, a11, a12, a13, a14, a15, a16, a17, a18, a19, a20, a21, a22, a23, a24, a25, a26)) : wX_run_22 post x 1 ph (nI N) nc nk ch (nI k) wr a1 a2 a3 a4 a5 a6 a7 a8 a9 a10 a11 a12 a13 a14 a15 a16 a17 a18 a19 a20 a21 a22 a23 a24 a25 a26 := by
  refine nm_e ⟨m + 1, rn_run34 hN hN6 hP (fun ch ck nc nk a6 a7 a8 a9 a10 a11 a12 a13 a14 a15 a16 a17 a18 a19 a20 a21 a22 a23 a24 a25 a26 hD => ?_) m 0 k _ _ _ _ _ _ _ _ _ _ _ _ _ _ _ _ _ _ _ _ _ _ _ _ hI (by omega) (by omega)⟩
  obtain ⟨⟨_, h9, h8, h16, hO, hr, h6⟩, _⟩ := hD
  refine rn_63 (fun i hi hb => h6 i hi (by rw [h8] at hb; exact hb)) (fun a1' ha => ?_)
  rw [h8] at ha
  rw [h16]
  exact h _ _ _ _ _ _ _ _ _ _ _ _ _ _ _ _ _ _ _ _ _ _ _ _ _ _ ⟨h8, h16, hO, ha⟩
theorem rn_start1 {post : St2 → Prop} {N b o q : Nat} {w : Int32} (hN6 : N ≤ 6)
    (h : ∀ (nc nk : Int32) (a8 a9 a10 a11 a12 a16 a17 a19 : Nat → Int32), rn_I N b o q 200 0 w a1 a2 nc nk a6 a8 a9 a10 a11 a12 a14 a16 a17 a18 a19 a20 a21 a22 a23 a24 a25 a26 → post (1, 1, wk, nc, nk, ch, nI 0, wr, a1, a2, a3, a4, a5, a6, a7, a8, a9, a10, a11, a12, a13, a14, a15, a16, a17, a18, a19, a20, a21, a22, a23, a24, a25, a26)) : wpX_start post (1, ph, wk, nc, nk, ch, ck, wr, a1, a2, a3, a4, a5, a6, a7, a8, a9, a10, a11, a12, a13, a14, a15, a16, a17, a18, a19, a20, a21, a22, a23, a24, a25, a26) :=
  rn_start (fun a8' a9' a10' a11' a12' a16' a17' a19' h8 h9 h10 h11 h19 => h 0 0 a8' a9' a10' a11' a12' a16' a17' a19' ⟨h10, h11, Or.inl ⟨rfl, rfl, h9, h8, fun v hv => h19 v (by omega), Nat.le_refl 200⟩⟩)
theorem rn_run {post : Int32 → St2 → Prop} {N b o q m k : Nat} {w x : Int32} (hN : 1 ≤ N) (hN6 : N ≤ 6) (hP : rn_P b o q w a2 a3 a4 a5) (hI : rn_Pre N b o q m k w a1 a2 ph ck nc nk a6 a8 a9 a10 a11 a12 a14 a16 a17 a18 a19 a20 a21 a22 a23 a24 a25 a26)
    (h : ∀ (ch ck nc nk : Int32) (a1' a6 a7 a8 a9 a10 a11 a12 a13 a14 a15 a16 a17 a18 a19 a20 a21 a22 a23 a24 a25 a26 : Nat → Int32), rn_F o q w a1 a1' a8 a16 a17 a18 → post (if xm_fl o w = 0 then 1 else 0) (1, 2, nI N, nc, nk, ch, ck, wr, a1', a2, a3, a4, a5, a6, a7, a8, a9, a10, a11, a12, a13, a14, a15, a16, a17, a18, a19, a20, a21, a22, a23, a24, a25, a26)) : wpX_run post (1, ph, nI N, nc, nk, ch, ck, wr, a1, a2, a3, a4, a5, a6, a7, a8, a9, a10, a11, a12, a13, a14, a15, a16, a17, a18, a19, a20, a21, a22, a23, a24, a25, a26) x := by
  rcases hI with rfl | ⟨rfl, rfl, hm, hk, hI⟩
  · exact br_f (by decide) (br_t rfl (rn_start1 (b := b) (o := o) (q := q) (w := w) hN6 (fun nc nk a8 a9 a10 a11 a12 a16 a17 a19 hI => rn_run22 hN hN6 hP hI (by omega) (by omega) h)))
  · exact br_f (by decide) (br_f (by decide) (rn_run22 hN hN6 hP hI hm hk h))
theorem rn_work {post : Int32 → St2 → Prop} {N b o q : Nat} {w x y : Int32} (hN : 1 ≤ N) (hN6 : N ≤ 6) (hP : rn_P b o q w a2 a3 a4 a5)
    (h : ∀ (m k : Nat) (ch nc nk : Int32) (a6 a7 a8 a9 a10 a11 a12 a13 a14 a15 a16 a17 a18 a19 a20 a21 a22 a23 a24 a25 a26 : Nat → Int32), rn_I N b o q m k w a1 a2 nc nk a6 a8 a9 a10 a11 a12 a14 a16 a17 a18 a19 a20 a21 a22 a23 a24 a25 a26 → m ≤ 200 → k ≤ 2000 → post 0 (1, 1, nI N, nc, nk, ch, nI k, wr, a1, a2, a3, a4, a5, a6, a7, a8, a9, a10, a11, a12, a13, a14, a15, a16, a17, a18, a19, a20, a21, a22, a23, a24, a25, a26)) : wpX_work post (1, 0, nI N, nc, nk, ch, ck, wr, a1, a2, a3, a4, a5, a6, a7, a8, a9, a10, a11, a12, a13, a14, a15, a16, a17, a18, a19, a20, a21, a22, a23, a24, a25, a26) x y :=
  br_f (by decide) (br_t rfl (rn_start1 (b := b) (o := o) (q := q) (w := w) hN6 (fun nc nk a8 a9 a10 a11 a12 a16 a17 a19 hI => nm_e ⟨2001, rn_work34 hN hN6 hP h 2001 200 0 _ _ _ _ _ _ _ _ _ _ _ _ _ _ _ _ _ _ _ _ _ _ _ _ hI (by omega) (by omega) (by omega)⟩)))
theorem rn_run2 {post : Int32 → St2 → Prop} {x : Int32} (h : post (-3) (c, 2, wk, nc, nk, ch, ck, wr, a1, a2, a3, a4, a5, a6, a7, a8, a9, a10, a11, a12, a13, a14, a15, a16, a17, a18, a19, a20, a21, a22, a23, a24, a25, a26)) : wpX_run post (c, 2, wk, nc, nk, ch, ck, wr, a1, a2, a3, a4, a5, a6, a7, a8, a9, a10, a11, a12, a13, a14, a15, a16, a17, a18, a19, a20, a21, a22, a23, a24, a25, a26) x := br_t rfl h
theorem rn_work2 {post : Int32 → St2 → Prop} {x y : Int32} (h : post (-3) (c, 2, wk, nc, nk, ch, ck, wr, a1, a2, a3, a4, a5, a6, a7, a8, a9, a10, a11, a12, a13, a14, a15, a16, a17, a18, a19, a20, a21, a22, a23, a24, a25, a26)) : wpX_work post (c, 2, wk, nc, nk, ch, ck, wr, a1, a2, a3, a4, a5, a6, a7, a8, a9, a10, a11, a12, a13, a14, a15, a16, a17, a18, a19, a20, a21, a22, a23, a24, a25, a26) x y := br_t rfl h
/-- a block of no transaction -/
theorem rn_run0 {post : Int32 → St2 → Prop} {N : Nat} {x : Int32} (hN6 : N ≤ 6) (h : ∀ (nc nk ch ck : Int32) (a8 a9 a10 a11 a12 a16 a17 a19 : Nat → Int32), post 0 (0, 2, nI N, nc, nk, ch, ck, wr, a1, a2, a3, a4, a5, a6, a7, a8, a9, a10, a11, a12, a13, a14, a15, a16, a17, a18, a19, a20, a21, a22, a23, a24, a25, a26)) : wpX_run post (0, 0, nI N, nc, nk, ch, ck, wr, a1, a2, a3, a4, a5, a6, a7, a8, a9, a10, a11, a12, a13, a14, a15, a16, a17, a18, a19, a20, a21, a22, a23, a24, a25, a26) x := by
  refine br_f (by decide) (br_t rfl (rn_start (fun a8' a9' a10' a11' a12' a16' a17' a19' h8 h9 h10 h11 h19 => nm_e ⟨1, br_f (by decide) (rn_adI hN6 (fun v hv => h19 v (by omega)) (by decide) (by decide) (br_f (by decide) ?_))⟩)))
  exact pk_loop (σ := Unit) (fun n i _ => wX_commit_7 _ 0 2 (nI N) 0 0 _ 0 wr n (nI i) a1 a2 a3 a4 a5 a6 a7 a8' a9' a10' a11' a12' a13 a14 a15 a16' a17' a18 a19' a20 a21 a22 a23 a24 a25 a26) (fun _ _ => True) 16 0 () (by omega) trivial
    (fun n _ _ => pk_le 16 16 (fun _ => ⟨1, br_t (by decide) (h _ _ _ _ _ _ _ _ _ _ _ _)⟩) (fun z => absurd z (by omega)))
    (fun n i _ hi _ hw => pk_le 16 i (fun z => absurd z (by omega)) (fun _ => rn_nb (br_t (by decide) (nm_r (nI_1 i) (hw () trivial)))))
end
end
section
section
/-- the cell is one (place g), or none -/
def ll_G (x5 x8 : Int32) (g : Nat) : Prop := (x8 = 1 ∧ g < 16 ∧ x5 = nI g) ∨ (x8 = 0 ∧ g = 16 ∧ (x5 < 0 ∨ 16 ≤ x5))
/-- the instruction is one (b = 1: operation o, places q), or none -/
def ll_H (x6 x7 x9 : Int32) (b o q : Nat) : Prop := (x9 = 1 ∧ b = 1 ∧ o < 12 ∧ q < 16 ∧ x6 = nI o ∧ x7 = nI q) ∨ (x9 = 0 ∧ b = 0 ∧ o = 6 ∧ q = 0 ∧ (x6 < 0 ∨ 12 ≤ x6 ∨ x7 < 0 ∨ 16 ≤ x7))
/-- the store: w at g, and nothing else -/
def ll_S (g : Nat) (w : Int32) (S : Nat → Int32) : Prop := (∀ i, i < 16 → i ≠ g → S i = 0) ∧ (g < 16 → S g = w)
/-- the first instruction stands, if there is one -/
def ll_P (b o q : Nat) (w : Int32) (a3 a4 a5 : Nat → Int32) : Prop := (b = 0 ∧ o = 6) ∨ (b = 1 ∧ a3 0 = nI o ∧ a4 0 = nI q ∧ a5 0 = w)
theorem ll_ho {x6 x7 x9 : Int32} {b o q : Nat} (h : ll_H x6 x7 x9 b o q) : o < 12 ∧ q < 16 ∧ b ≤ 1 := by
  rcases h with ⟨_, h1, h2, h3, _⟩ | ⟨_, h1, h2, h3, _⟩
  · exact ⟨h2, h3, by omega⟩
  · exact ⟨by omega, by omega, by omega⟩
variable {c ph wk nc nk ch ck wr : Int32} {a1 a2 a3 a4 a5 a6 a7 a8 a9 a10 a11 a12 a13 a14 a15 a16 a17 a18 a19 a20 a21 a22 a23 a24 a25 a26 : Nat → Int32}
theorem ll_cell {post : Int32 → Prop} {x5 x8 : Int32} {g : Nat} (hG : ll_G x5 x8 g) (h0 : x8 = 0 → post 0) (h1 : ¬ x8 = 0 → g < 16 → x5 = nI g → post (a1 g)) : wpX_cell post (c, ph, wk, nc, nk, ch, ck, wr, a1, a2, a3, a4, a5, a6, a7, a8, a9, a10, a11, a12, a13, a14, a15, a16, a17, a18, a19, a20, a21, a22, a23, a24, a25, a26) x5 := by
  rcases hG with ⟨e, hg, rfl⟩ | ⟨e, _, hx⟩
  · exact be_cell hg (h1 (by rw [e]; decide) hg rfl)
  · exact be_cellB hx (h0 e)
theorem ll_poke {post : Int32 → St2 → Prop} {x5 x8 y : Int32} {g : Nat} (hp : ¬ ph = 1) (hG : ll_G x5 x8 g) (h0 : x8 = 0 → g = 16 → post (-1) (c, ph, wk, nc, nk, ch, ck, wr, a1, a2, a3, a4, a5, a6, a7, a8, a9, a10, a11, a12, a13, a14, a15, a16, a17, a18, a19, a20, a21, a22, a23, a24, a25, a26)) (h1 : ¬ x8 = 0 → g < 16 → post 0 (c, ph, wk, nc, nk, ch, ck, wr, upd a1 g y, a2, a3, a4, a5, a6, a7, a8, a9, a10, a11, a12, a13, a14, a15, a16, a17, a18, a19, a20, a21, a22, a23, a24, a25, a26)) : wpX_poke post (c, ph, wk, nc, nk, ch, ck, wr, a1, a2, a3, a4, a5, a6, a7, a8, a9, a10, a11, a12, a13, a14, a15, a16, a17, a18, a19, a20, a21, a22, a23, a24, a25, a26) x5 y := by
  rcases hG with ⟨e, hg, rfl⟩ | ⟨e, hg, hx⟩
  · exact be_pokeG hp hg (h1 (by rw [e]; decide) hg)
  · exact be_pokeB hp hx (h0 e hg)
variable {post : Int32 → St0 → Prop} {mc ms kc ks N b o q g m k : Nat} {x0 x1 x2 x3 x5 x6 x7 x8 x9 x10 x11 x12 x14 x15 x16 x17 x18 z0 z1 : Int32} {S : Nat → Int32}
theorem ll_1178 (hp : post 1 ()) (hz : z1 = z0) (hN6 : N ≤ 6) : wL_lawOf_1178 post mc ms x3 z0 z1 kc ks 0 0 (nI N) nc nk ch ck wr a1 a2 a3 a4 a5 a6 a7 a8 a9 a10 a11 a12 a13 a14 a15 a16 a17 a18 a19 a20 a21 a22 a23 a24 a25 a26 :=
  br_t hz (be_resB (Or.inr (by decide)) (br_t rfl (rn_run0 hN6 (fun nc nk ch ck a8 a9 a10 a11 a12 a16 a17 a19 => br_t rfl (be_phase (br_t rfl (be_faults (by decide) (br_t rfl hp))))))))
theorem ll_1125 (hp : post 1 ()) (hz : z1 = z0) (hN6 : N ≤ 6) (hx : ¬ x11 < (-3)) (hG : ll_G x5 x8 g) (ha : g < 16 → a1 g = x1) : wL_lawOf_1125 post mc ms x1 x3 x5 x8 x11 z0 z1 kc ks c 2 (nI N) nc nk ch ck wr a1 a2 a3 a4 a5 a6 a7 a8 a9 a10 a11 a12 a13 a14 a15 a16 a17 a18 a19 a20 a21 a22 a23 a24 a25 a26 :=
  br_t hz (br_f hx (be_nextG (by decide) (br_t rfl (be_phase (br_t rfl (be_trans (br_t rfl (ll_cell hG (fun e => br_t e (ll_1178 hp rfl hN6)) (fun e hg _ => br_f e (ll_1178 hp (ha hg) hN6))))))))))
theorem ll_1105 (hp : post 1 ()) (hz : z1 = z0) (hN6 : N ≤ 6) (hx : ¬ x11 < (-3)) (hG : ll_G x5 x8 g) (ha : g < 16 → a1 g = x1) : wL_lawOf_1105 post mc ms x1 x3 x5 x8 x11 z0 z1 kc ks c 2 (nI N) nc nk ch ck wr a1 a2 a3 a4 a5 a6 a7 a8 a9 a10 a11 a12 a13 a14 a15 a16 a17 a18 a19 a20 a21 a22 a23 a24 a25 a26 :=
  br_t hz (ll_cell hG (fun e => br_t e (ll_1125 hp rfl hN6 hx hG ha)) (fun e hg _ => br_f e (ll_1125 hp (ha hg) hN6 hx hG ha)))
theorem ll_1051 (hp : post 1 ()) (hz : z1 = z0) (hN6 : N ≤ 6) (hx : ¬ x11 < (-3)) (hG : ll_G x5 x8 g) : wL_lawOf_1051 post mc ms x1 x3 x5 x8 x11 z0 z1 kc ks c 2 (nI N) nc nk ch ck wr a1 a2 a3 a4 a5 a6 a7 a8 a9 a10 a11 a12 a13 a14 a15 a16 a17 a18 a19 a20 a21 a22 a23 a24 a25 a26 :=
  br_t hz (be_begin2 (br_t rfl (be_add2 (br_t rfl (be_undo2 (br_t rfl (ll_poke (by decide) hG
    (fun e hg => br_t e (ll_1105 hp rfl hN6 hx hG (fun z => absurd z (by omega))))
    (fun e hg => br_f e (ll_1105 hp rfl hN6 hx hG (fun _ => pk_us))))))))))
theorem ll_1024 (hp : post 1 ()) (hz : z1 = z0) (hN6 : N ≤ 6) (hx : ¬ x11 < (-3)) (hG : ll_G x5 x8 g) (h1 : g < 16 → nI g = x18 → a1 g = 0) (h2 : g < 16 → ¬ nI g = x18 → a1 g = x3) : wL_lawOf_1024 post mc ms x1 x3 x5 x8 x11 x18 z0 z1 kc ks c 2 (nI N) nc nk ch ck wr a1 a2 a3 a4 a5 a6 a7 a8 a9 a10 a11 a12 a13 a14 a15 a16 a17 a18 a19 a20 a21 a22 a23 a24 a25 a26 :=
  br_t hz (ll_cell hG (fun e => br_t e (ll_1051 hp rfl hN6 hx hG)) (fun e hg e5 => br_f e (br_c (fun e6 => ll_1051 hp (h1 hg (by rw [← e5]; exact e6)) hN6 hx hG) (fun e6 => ll_1051 hp (h2 hg (by rw [← e5]; exact e6)) hN6 hx hG))))
/-- the store behind the run, and the mask t -/
theorem ll_1003 (hp : post 1 ()) (hN6 : N ≤ 6) (hx : ¬ x11 < (-3)) (hG : ll_G x5 x8 g) (hm : (∃ t : Nat, t < 16 ∧ z0 = nI t ∧ a8 0 = (1 : Int32) <<< (nI t &&& 31)) ∨ (z0 = -1 ∧ a8 0 = 0))
    (ha : g < 16 → (rn_bit (a8 0) g → a1 g = 0) ∧ (¬ rn_bit (a8 0) g → a1 g = x3)) : wL_lawOf_1003 post mc ms x1 x3 x5 x8 x11 z0 kc ks 1 2 (nI N) nc nk ch ck wr a1 a2 a3 a4 a5 a6 a7 a8 a9 a10 a11 a12 a13 a14 a15 a16 a17 a18 a19 a20 a21 a22 a23 a24 a25 a26 := by
  refine be_stor2 (by decide) rfl ?_
  rcases hm with ⟨t, ht, rfl, hm⟩ | ⟨rfl, hm⟩
  · rw [hm] at ha
    refine br_t (nI_pos' (by omega)) (ll_1024 hp hm hN6 hx hG (fun hg e => (ha hg).1 ?_) (fun hg e => (ha hg).2 ?_))
    · exact (be_b1 t ht g hg).mpr ((nI_eq (by omega) (by omega)).mp e)
    · exact fun hb => e (by rw [(be_b1 t ht g hg).mp hb])
  · rw [hm] at ha
    refine br_f (by decide) (ll_1024 hp hm hN6 hx hG (fun hg e => absurd e ?_) (fun hg e => (ha hg).2 (be_z g (by omega))))
    intro e
    have h2 := nI_toInt (n := g) (by omega)
    rw [e, show (-1 : Int32).toInt = -1 from by decide] at h2
    omega
theorem ll_969 (hp : post 1 ()) (hN6 : N ≤ 6) (hx : ¬ x11 < (-3)) (hG : ll_G x5 x8 g) (hH : ll_H x6 x7 x9 b o q) (hS : ll_S g x3 S) (hF : rn_F o q x3 S a1 a8 a16 a17 a18) : wL_lawOf_969 post mc ms x1 x3 x5 x6 x8 x9 x11 kc ks 1 2 (nI N) nc nk ch ck wr a1 a2 a3 a4 a5 a6 a7 a8 a9 a10 a11 a12 a13 a14 a15 a16 a17 a18 a19 a20 a21 a22 a23 a24 a25 a26 := by
  obtain ⟨h8, _, _, h1⟩ := hF
  have ha : g < 16 → (rn_bit (a8 0) g → a1 g = 0) ∧ (¬ rn_bit (a8 0) g → a1 g = x3) := fun hg => by
    rw [h8]
    exact ⟨(h1 g hg).1, fun hb => ((h1 g hg).2 hb).trans (hS.2 hg)⟩
  rcases hH with ⟨rfl, _, ho, _, rfl, _⟩ | ⟨rfl, _, rfl, _⟩
  · refine br_f (by decide) (pk_eq o 4 (fun e => ?_) (fun e => pk_eq o 10 (fun e2 => ?_) (fun e2 => ?_)))
    · subst e
      obtain ⟨j, hj, ej⟩ := pk_andE x3 (m := 15) 4 (by decide)
      refine ll_1003 hp hN6 hx hG (Or.inl ⟨j, hj, ej, ?_⟩) ha
      rw [h8]
      show (1 : Int32) <<< ((x3 &&& 15) &&& 31) = _
      rw [ej]
    · subst e2
      exact ll_1003 hp hN6 hx hG (Or.inl ⟨0, by decide, rfl, h8⟩) ha
    · refine ll_1003 hp hN6 hx hG (Or.inr ⟨rfl, ?_⟩) ha
      rw [h8]
      unfold xm_mask
      rw [if_neg e, if_neg e2]
  · exact br_t rfl (ll_1003 hp hN6 hx hG (Or.inr ⟨rfl, h8⟩) ha)
theorem ll_943 (hp : post 1 ()) (hz : z1 = z0) (hN6 : N ≤ 6) (hx : ¬ x11 < (-3)) (hG : ll_G x5 x8 g) (hH : ll_H x6 x7 x9 b o q) (hS : ll_S g x3 S) (hF : rn_F o q x3 S a1 a8 a16 a17 a18)
    (h16 : a16 0 = 0) (h17 : a17 0 = nI (xm_oc o + 2)) (e16 : x16 = nI (xm_oc o + 2)) : wL_lawOf_943 post mc ms x1 x3 x5 x6 x8 x9 x11 x16 z0 z1 kc ks 1 2 (nI N) nc nk ch ck wr a1 a2 a3 a4 a5 a6 a7 a8 a9 a10 a11 a12 a13 a14 a15 a16 a17 a18 a19 a20 a21 a22 a23 a24 a25 a26 := by
  have hoc := xm_oc1 o
  subst e16
  refine br_t hz (be_out2 (by decide) rfl h16 h17 (by omega) (by omega) ?_)
  rw [if_neg (by omega)]
  exact br_t rfl (be_outM (br_t rfl (ll_969 hp hN6 hx hG hH hS hF)))
theorem ll_913 (hp : post 1 ()) (hz : z1 = z0) (hN6 : N ≤ 6) (hx : ¬ x11 < (-3)) (hG : ll_G x5 x8 g) (hH : ll_H x6 x7 x9 b o q) (hS : ll_S g x3 S) (hF : rn_F o q x3 S a1 a8 a16 a17 a18)
    (h16 : a16 0 = 0) (h17 : a17 0 = nI (xm_oc o + 2)) (e16 : x16 = nI (xm_oc o + 2)) (e17 : x17 = nI (xm_oc o)) (e14 : x14 = xm_made o x3 S) (e10 : x9 = 0 ∨ x10 = nI (q / 4)) (h18 : a18 (xm_oc o + 1) = xm_m o q x3 S 1) : wL_lawOf_913 post mc ms x1 x3 x5 x6 x8 x9 x10 x11 x14 x16 x17 z0 z1 kc ks 1 2 (nI N) nc nk ch ck wr a1 a2 a3 a4 a5 a6 a7 a8 a9 a10 a11 a12 a13 a14 a15 a16 a17 a18 a19 a20 a21 a22 a23 a24 a25 a26 := by
  have hoc := xm_oc1 o
  have hq := (ll_ho hH).2.1
  subst e17
  refine br_t hz ?_
  rw [nI_1]
  refine be_out2 (by decide) rfl h16 h17 (by omega) (by omega) ?_
  rw [if_pos (by omega), h18]
  refine br_c (fun e => ll_943 hp ?_ hN6 hx hG hH hS hF h16 h17 e16) (fun e => br_c (fun e2 => ll_943 hp ?_ hN6 hx hG hH hS hF h16 h17 e16) (fun e2 => ll_943 hp ?_ hN6 hx hG hH hS hF h16 h17 e16))
  · rcases hH with ⟨r, _⟩ | ⟨_, _, rfl, _⟩
    · rw [e] at r
      exact absurd r (by decide)
    · exact ite_self _
  · rw [e10.resolve_left e] at e2
    unfold xm_m
    rw [if_pos ((nI_eq (b := 1) (by omega) (by omega)).mp e2), e14]
  · unfold xm_m
    rw [if_neg (fun e3 => e2 (by rw [e10.resolve_left e, e3]; rfl))]
theorem ll_882 (hp : post 1 ()) (hN6 : N ≤ 6) (hx : ¬ x11 < (-3)) (hG : ll_G x5 x8 g) (hH : ll_H x6 x7 x9 b o q) (hS : ll_S g x3 S) (hF : rn_F o q x3 S a1 a8 a16 a17 a18)
    (e16 : (xm_en o x3 ∧ x16 = 0) ∨ (¬ xm_en o x3 ∧ x16 = nI (xm_oc o + 2) ∧ z0 = nI (xm_oc o))) (e14 : x14 = xm_made o x3 S) (e10 : x9 = 0 ∨ x10 = nI (q / 4)) : wL_lawOf_882 post mc ms x1 x3 x5 x6 x8 x9 x10 x11 x14 x16 z0 kc ks 1 2 (nI N) nc nk ch ck wr a1 a2 a3 a4 a5 a6 a7 a8 a9 a10 a11 a12 a13 a14 a15 a16 a17 a18 a19 a20 a21 a22 a23 a24 a25 a26 := by
  have hoc := xm_oc1 o
  have hq := (ll_ho hH).2.1
  rcases e16 with ⟨_, rfl⟩ | ⟨he, e16, rfl⟩
  · exact br_t (by decide) (ll_969 hp hN6 hx hG hH hS hF)
  · have hF' := hF
    obtain ⟨_, h16, hO, _⟩ := hF'
    rcases hO with ⟨r, _⟩ | ⟨_, h17, h18, h19⟩
    · exact absurd r he
    · have h16' : a16 0 = 0 := by
        rw [h16]
        unfold xm_fl
        by_cases e7 : o = 7
        · rw [if_pos e7]
          by_cases e8 : x3 ≤ 0
          · rw [if_pos e8]
          · exact absurd (Or.inr ⟨e7, e8⟩) he
        · rw [if_neg e7]
      refine br_f (by rw [e16]; exact nI_nle (by omega) (by omega)) (be_out2 (by decide) rfl h16' h17 (by omega) (by omega) ?_)
      rw [if_pos (by omega), h18]
      refine br_c (fun e => ll_913 hp ?_ hN6 hx hG hH hS hF h16' h17 e16 rfl e14 e10 h19) (fun e => br_c (fun e2 => ll_913 hp ?_ hN6 hx hG hH hS hF h16' h17 e16 rfl e14 e10 h19) (fun e2 => ll_913 hp ?_ hN6 hx hG hH hS hF h16' h17 e16 rfl e14 e10 h19))
      · rcases hH with ⟨r, _⟩ | ⟨_, _, rfl, _⟩
        · rw [e] at r
          exact absurd r (by decide)
        · exact ite_self _
      · rw [e10.resolve_left e] at e2
        unfold xm_m
        rw [if_pos ((nI_eq (b := 0) (by omega) (by omega)).mp e2), e14]
      · unfold xm_m
        rw [if_neg (fun e3 => e2 (by rw [e10.resolve_left e, e3]; rfl))]
/-- the answers of run, result and outs -/
theorem ll_832 (hp : post 1 ()) (hz : z1 = z0) (hN6 : N ≤ 6) (hx : ¬ x11 < (-3)) (hG : ll_G x5 x8 g) (hH : ll_H x6 x7 x9 b o q) (hS : ll_S g x3 S) (hF : rn_F o q x3 S a1 a8 a16 a17 a18)
    (e16 : (xm_en o x3 ∧ x16 = 0) ∨ (¬ xm_en o x3 ∧ x16 = nI (xm_oc o + 2))) (e14 : x14 = xm_made o x3 S) (e10 : x9 = 0 ∨ x10 = nI (q / 4)) : wL_lawOf_832 post mc ms x0 x1 x3 x5 x6 x8 x9 x10 x11 x14 x16 z0 z1 kc ks 1 2 (nI N) nc nk ch ck wr a1 a2 a3 a4 a5 a6 a7 a8 a9 a10 a11 a12 a13 a14 a15 a16 a17 a18 a19 a20 a21 a22 a23 a24 a25 a26 := by
  have hoc := xm_oc1 o
  refine br_t hz (be_outs2 (by decide) rfl (br_t ?_ (rn_run2 (br_t rfl (rn_work2 (br_t rfl ?_))))))
  · obtain ⟨_, h16, hO, _⟩ := hF
    rcases hO with ⟨he, h17⟩ | ⟨he, h17, _⟩
    · rcases e16 with ⟨_, rfl⟩ | ⟨r, _⟩
      · rw [h17, ite_self]
      · exact absurd he r
    · rcases e16 with ⟨r, _⟩ | ⟨_, rfl⟩
      · exact absurd r he
      · rw [h16, h17, if_pos]
        unfold xm_fl
        by_cases e7 : o = 7
        · rw [if_pos e7]
          by_cases e8 : x3 ≤ 0
          · rw [if_pos e8]
          · exact absurd (Or.inr ⟨e7, e8⟩) he
        · rw [if_neg e7]
  · have e16' : ∀ z : Int32, (¬ xm_en o x3 → z = nI (xm_oc o)) → ((xm_en o x3 ∧ x16 = 0) ∨ (¬ xm_en o x3 ∧ x16 = nI (xm_oc o + 2) ∧ z = nI (xm_oc o))) := fun z hz => by
      rcases e16 with r | ⟨r1, r2⟩
      · exact Or.inl r
      · exact Or.inr ⟨r1, r2, hz r1⟩
    refine br_c (fun e => ll_882 hp hN6 hx hG hH hS hF (e16' _ (fun he => ?_)) e14 e10) (fun e => ll_882 hp hN6 hx hG hH hS hF (e16' _ (fun he => ?_)) e14 e10)
    · rcases e16 with ⟨r, _⟩ | ⟨_, r⟩
      · exact absurd r he
      · rw [r] at e
        have e2 := (nI_eq (b := 3) (by omega) (by omega)).mp e
        rw [show xm_oc o = 1 by omega]
        rfl
    · rcases e16 with ⟨r, _⟩ | ⟨_, r⟩
      · exact absurd r he
      · by_cases e2 : xm_oc o = 1
        · exact absurd (by rw [r, e2]; rfl) e
        · rw [show xm_oc o = 0 by omega]
          rfl
theorem ll_786 (hp : post 1 ()) (hN : 1 ≤ N) (hN6 : N ≤ 6) (hP : rn_P b o q x3 a2 a3 a4 a5) (hI : rn_Pre N b o q m k x3 a1 a2 ph ck nc nk a6 a8 a9 a10 a11 a12 a14 a16 a17 a18 a19 a20 a21 a22 a23 a24 a25 a26) (hx : ¬ x11 < (-3)) (hG : ll_G x5 x8 g) (hH : ll_H x6 x7 x9 b o q) (hS : ll_S g x3 a1)
    (e15 : x15 = 0 ↔ xm_fl o x3 = 0) (e16 : (xm_en o x3 ∧ z0 = 0) ∨ (¬ xm_en o x3 ∧ z0 = nI (xm_oc o + 2))) (e14 : x14 = xm_made o x3 a1) (e10 : x9 = 0 ∨ x10 = nI (q / 4)) : wL_lawOf_786 post mc ms x0 x1 x2 x3 x5 x6 x8 x9 x10 x11 x14 x15 z0 kc ks 1 ph (nI N) nc nk ch ck wr a1 a2 a3 a4 a5 a6 a7 a8 a9 a10 a11 a12 a13 a14 a15 a16 a17 a18 a19 a20 a21 a22 a23 a24 a25 a26 := by
  refine rn_run hN hN6 hP hI (fun ch ck nc nk a1' a6 a7 a8 a9 a10 a11 a12 a13 a14 a15 a16 a17 a18 a19 a20 a21 a22 a23 a24 a25 a26 hF => ?_)
  have h16 := hF.2.1
  by_cases e : x15 = 0
  · have e' := e15.mp e
    refine br_t e (br_t (if_pos e') (be_phase (br_t rfl (be_res2 (by decide) rfl (br_t e (ll_832 hp ?_ hN6 hx hG hH hS hF e16 e14 e10))))))
    rw [h16, if_pos e']
  · have e' : ¬ xm_fl o x3 = 0 := fun z => e (e15.mpr z)
    refine br_f e (br_t (if_neg e') (be_phase (br_t rfl (be_res2 (by decide) rfl (br_f e (ll_832 hp ?_ hN6 hx hG hH hS hF e16 e14 e10))))))
    rw [h16, if_neg e']
/-- puts -/
theorem ll_743 (hp : post 1 ()) (hN : 1 ≤ N) (hN6 : N ≤ 6) (hP : rn_P b o q x3 a2 a3 a4 a5) (hI : rn_Pre N b o q m k x3 a1 a2 ph ck nc nk a6 a8 a9 a10 a11 a12 a14 a16 a17 a18 a19 a20 a21 a22 a23 a24 a25 a26) (hx : ¬ x11 < (-3)) (hG : ll_G x5 x8 g) (hH : ll_H x6 x7 x9 b o q) (hS : ll_S g x3 a1)
    (e15 : z0 = 0 ↔ xm_fl o x3 = 0) (e14 : x14 = xm_made o x3 a1) (e10 : x9 = 0 ∨ x10 = nI (q / 4)) : wL_lawOf_743 post mc ms x0 x1 x2 x3 x5 x6 x8 x9 x10 x11 x14 z0 kc ks 1 ph (nI N) nc nk ch ck wr a1 a2 a3 a4 a5 a6 a7 a8 a9 a10 a11 a12 a13 a14 a15 a16 a17 a18 a19 a20 a21 a22 a23 a24 a25 a26 := by
  have fin : ∀ z : Int32, ((xm_en o x3 ∧ z = 0) ∨ (¬ xm_en o x3 ∧ z = nI (xm_oc o + 2))) → wL_lawOf_786 post mc ms x0 x1 x2 x3 x5 x6 x8 x9 x10 x11 x14 z0 z kc ks 1 ph (nI N) nc nk ch ck wr a1 a2 a3 a4 a5 a6 a7 a8 a9 a10 a11 a12 a13 a14 a15 a16 a17 a18 a19 a20 a21 a22 a23 a24 a25 a26 :=
    fun z hz => ll_786 hp hN hN6 hP hI hx hG hH hS e15 hz e14 e10
  refine br_c (fun e => ?_) (fun e => fin 0 (Or.inl ⟨?_, rfl⟩))
  · have e' := e15.mp e
    have e7 : ¬ (o = 7 ∧ ¬ x3 ≤ 0) := fun z => by
      unfold xm_fl at e'
      rw [if_pos z.1, if_neg z.2] at e'
      exact absurd e' (by decide)
    rcases hH with ⟨rfl, _, ho, _, rfl, _⟩ | ⟨rfl, _, rfl, _⟩
    · refine br_f (by decide) (pk_eq o 11 (fun e2 => fin 0 (Or.inl ⟨Or.inl e2, rfl⟩)) (fun e2 => pk_eq o 8 (fun e3 => fin 3 (Or.inr ⟨?_, ?_⟩)) (fun e3 => fin 2 (Or.inr ⟨?_, ?_⟩))))
      · unfold xm_en
        omega
      · subst e3
        rfl
      · exact fun z => z.elim e2 e7
      · unfold xm_oc
        rw [if_neg e3]
        rfl
    · exact br_t rfl (fin 2 (Or.inr ⟨by unfold xm_en; omega, rfl⟩))
  · have e' : ¬ xm_fl o x3 = 0 := fun z => e (e15.mpr z)
    unfold xm_fl at e'
    by_cases h7 : o = 7
    · rw [if_pos h7] at e'
      by_cases h3 : x3 ≤ 0
      · exact absurd (if_pos h3) e'
      · exact Or.inr ⟨h7, h3⟩
    · exact absurd (if_neg h7) e'
/-- fails -/
theorem ll_719 (hp : post 1 ()) (hN : 1 ≤ N) (hN6 : N ≤ 6) (hP : rn_P b o q x3 a2 a3 a4 a5) (hI : rn_Pre N b o q m k x3 a1 a2 ph ck nc nk a6 a8 a9 a10 a11 a12 a14 a16 a17 a18 a19 a20 a21 a22 a23 a24 a25 a26) (hx : ¬ x11 < (-3)) (hG : ll_G x5 x8 g) (hH : ll_H x6 x7 x9 b o q) (hS : ll_S g x3 a1)
    (e14 : z0 = xm_made o x3 a1) (e10 : x9 = 0 ∨ x10 = nI (q / 4)) : wL_lawOf_719 post mc ms x0 x1 x2 x3 x5 x6 x8 x9 x10 x11 z0 kc ks 1 ph (nI N) nc nk ch ck wr a1 a2 a3 a4 a5 a6 a7 a8 a9 a10 a11 a12 a13 a14 a15 a16 a17 a18 a19 a20 a21 a22 a23 a24 a25 a26 := by
  have fin : ∀ z : Int32, (z = 0 ↔ xm_fl o x3 = 0) → wL_lawOf_743 post mc ms x0 x1 x2 x3 x5 x6 x8 x9 x10 x11 z0 z kc ks 1 ph (nI N) nc nk ch ck wr a1 a2 a3 a4 a5 a6 a7 a8 a9 a10 a11 a12 a13 a14 a15 a16 a17 a18 a19 a20 a21 a22 a23 a24 a25 a26 :=
    fun z hz => ll_743 hp hN hN6 hP hI hx hG hH hS hz e14 e10
  rcases hH with ⟨rfl, _, ho, _, rfl, _⟩ | ⟨rfl, _, rfl, _⟩
  · refine br_f (by decide) (pk_eq o 7 (fun e => br_c (fun e2 => fin 0 ?_) (fun e2 => fin 1 ?_)) (fun e => fin 0 ?_))
    · unfold xm_fl
      rw [if_pos e, if_pos e2]
    · unfold xm_fl
      rw [if_pos e, if_neg e2]
    · unfold xm_fl
      rw [if_neg e]
  · exact br_t rfl (fin 0 Iff.rfl)
/-- made -/
theorem ll_675 (hp : post 1 ()) (hN : 1 ≤ N) (hN6 : N ≤ 6) (hP : rn_P b o q x3 a2 a3 a4 a5) (hI : rn_Pre N b o q m k x3 a1 a2 ph ck nc nk a6 a8 a9 a10 a11 a12 a14 a16 a17 a18 a19 a20 a21 a22 a23 a24 a25 a26) (hx : ¬ x11 < (-3)) (hG : ll_G x5 x8 g) (hH : ll_H x6 x7 x9 b o q) (hS : ll_S g x3 a1)
    (e12 : x12 = a1 (x3 &&& 15).toNatClampNeg) (e0 : z0 = a1 0) (e10 : x9 = 0 ∨ x10 = nI (q / 4)) : wL_lawOf_675 post mc ms x0 x1 x2 x3 x5 x6 x8 x9 x10 x11 x12 z0 kc ks 1 ph (nI N) nc nk ch ck wr a1 a2 a3 a4 a5 a6 a7 a8 a9 a10 a11 a12 a13 a14 a15 a16 a17 a18 a19 a20 a21 a22 a23 a24 a25 a26 := by
  have fin : ∀ z : Int32, z = xm_made o x3 a1 → wL_lawOf_719 post mc ms x0 x1 x2 x3 x5 x6 x8 x9 x10 x11 z kc ks 1 ph (nI N) nc nk ch ck wr a1 a2 a3 a4 a5 a6 a7 a8 a9 a10 a11 a12 a13 a14 a15 a16 a17 a18 a19 a20 a21 a22 a23 a24 a25 a26 :=
    fun z hz => ll_719 hp hN hN6 hP hI hx hG hH hS hz e10
  rcases hH with ⟨rfl, _, ho, _, rfl, _⟩ | ⟨rfl, _, rfl, _⟩
  · refine br_f (by decide) (pk_eq o 0 (fun e => fin _ ?_) (fun e => pk_eq o 3 (fun e2 => fin _ ?_) (fun e2 => pk_eq o 9 (fun e3 => fin _ ?_) (fun e3 => fin _ ?_))))
    · subst e
      rfl
    · subst e2
      exact e12
    · subst e3
      exact e0
    · unfold xm_made
      rw [if_neg e, if_neg e2, if_neg e3]
  · exact br_t rfl (fin 0 rfl)
theorem ll_658 (hp : post 1 ()) (hN : 1 ≤ N) (hN6 : N ≤ 6) (hP : rn_P b o q x3 a2 a3 a4 a5) (hI : rn_Pre N b o q m k x3 a1 a2 ph ck nc nk a6 a8 a9 a10 a11 a12 a14 a16 a17 a18 a19 a20 a21 a22 a23 a24 a25 a26) (hx : ¬ x11 < (-3)) (hG : ll_G x5 x8 g) (hH : ll_H x6 x7 x9 b o q) (hS : ll_S g x3 a1)
    (e12 : z0 = a1 (x3 &&& 15).toNatClampNeg) (e10 : x9 = 0 ∨ x10 = nI (q / 4)) : wL_lawOf_658 post mc ms x0 x1 x2 x3 x5 x6 x8 x9 x10 x11 z0 kc ks 1 ph (nI N) nc nk ch ck wr a1 a2 a3 a4 a5 a6 a7 a8 a9 a10 a11 a12 a13 a14 a15 a16 a17 a18 a19 a20 a21 a22 a23 a24 a25 a26 := by
  have fin : ∀ z : Int32, z = a1 0 → wL_lawOf_675 post mc ms x0 x1 x2 x3 x5 x6 x8 x9 x10 x11 z0 z kc ks 1 ph (nI N) nc nk ch ck wr a1 a2 a3 a4 a5 a6 a7 a8 a9 a10 a11 a12 a13 a14 a15 a16 a17 a18 a19 a20 a21 a22 a23 a24 a25 a26 :=
    fun z hz => ll_675 hp hN hN6 hP hI hx hG hH hS e12 hz e10
  rcases hG with ⟨rfl, hg, rfl⟩ | ⟨rfl, hg, _⟩
  · refine br_f (by decide) (pk_eq g 0 (fun e => fin _ ?_) (fun e => fin _ ?_))
    · rw [← e]
      exact (hS.2 hg).symm
    · exact (hS.1 0 (by omega) (by omega)).symm
  · exact br_t rfl (fin _ (hS.1 0 (by omega) (by omega)).symm)
theorem ll_x11 (x : Int32) : ¬ x - x / 4 * 4 < (-3) := by
  have h4 : (4 : Int32).toInt = 4 := by decide
  have hd : (x / 4).toInt = x.toInt.tdiv 4 := by rw [Int32.toInt_div_of_ne_right _ _ (by decide), h4]
  have e := Int.mul_tdiv_add_tmod x.toInt 4
  have l := Int.lt_tmod_of_pos x.toInt (show (0 : Int) < 4 by decide)
  have u := Int.tmod_lt_of_pos x.toInt (show (0 : Int) < 4 by decide)
  have n : 0 ≤ x.toInt → 0 ≤ x.toInt.tmod 4 := fun h => Int.tmod_nonneg 4 h
  have b1 := Int32.le_toInt x
  have b2 := Int32.toInt_lt x
  have m : (x / 4 * 4).toInt = x.toInt.tdiv 4 * 4 := by
    rw [Int32.toInt_mul, hd, h4]
    exact Int.bmod_eq_of_le (by omega) (by omega)
  have s : (x - x / 4 * 4).toInt = x.toInt.tmod 4 := by
    rw [Int32.toInt_sub, m, Int.bmod_eq_of_le (by omega) (by omega)]
    omega
  rw [Int32.lt_iff_toInt_lt, s, show (-3 : Int32).toInt = -3 from by decide]
  omega
theorem ll_627 (hp : post 1 ()) (hN : 1 ≤ N) (hN6 : N ≤ 6) (hP : rn_P b o q x3 a2 a3 a4 a5) (hI : rn_Pre N b o q m k x3 a1 a2 ph ck nc nk a6 a8 a9 a10 a11 a12 a14 a16 a17 a18 a19 a20 a21 a22 a23 a24 a25 a26) (hG : ll_G x5 x8 g) (hH : ll_H x6 x7 x9 b o q) (hS : ll_S g x3 a1) : wL_lawOf_627 post mc ms x0 x1 x2 x3 x5 x6 x7 x8 x9 kc ks 1 ph (nI N) nc nk ch ck wr a1 a2 a3 a4 a5 a6 a7 a8 a9 a10 a11 a12 a13 a14 a15 a16 a17 a18 a19 a20 a21 a22 a23 a24 a25 a26 := by
  have hq := (ll_ho hH).2.1
  refine ⟨by decide, nm_e ⟨by decide, nm_e ?_⟩⟩
  have e10 : x9 = 0 ∨ x7 / 4 = nI (q / 4) := by
    rcases hH with ⟨_, _, _, hq, _, rfl⟩ | ⟨rfl, _⟩
    · exact Or.inr (pk_div (d := 4) (by omega) (by omega) (by omega))
    · exact Or.inl rfl
  obtain ⟨j, hj, ej⟩ := pk_andE x3 (m := 15) 4 (by decide)
  have fin : ∀ z : Int32, z = a1 j → wL_lawOf_658 post mc ms x0 x1 x2 x3 x5 x6 x8 x9 (x7 / 4) (x7 - x7 / 4 * 4) z kc ks 1 ph (nI N) nc nk ch ck wr a1 a2 a3 a4 a5 a6 a7 a8 a9 a10 a11 a12 a13 a14 a15 a16 a17 a18 a19 a20 a21 a22 a23 a24 a25 a26 :=
    fun z hz => ll_658 hp hN hN6 hP hI (ll_x11 x7) hG hH hS (by rw [ej, nI_clamp (by omega)]; exact hz) e10
  rcases hG with ⟨rfl, hg, rfl⟩ | ⟨rfl, hg, _⟩
  · refine br_f (by decide) ?_
    rw [ej]
    refine pk_eq j g (fun e => fin _ ?_) (fun e => fin _ (hS.1 j hj e).symm)
    rw [e]
    exact (hS.2 hg).symm
  · exact br_t rfl (fin _ (hS.1 j hj (by omega)).symm)
/-- the block is built: an odd script works on it first -/
theorem ll_495 (hp : post 1 ()) (hz : z1 = z0) (hN : 1 ≤ N) (hN6 : N ≤ 6) (hP : rn_P b o q x3 a2 a3 a4 a5) (hG : ll_G x5 x8 g) (hH : ll_H x6 x7 x9 b o q) (hS : ll_S g x3 a1) : wL_lawOf_495 post mc ms x0 x1 x2 x3 x5 x6 x7 x8 x9 z0 z1 kc ks 1 0 (nI N) nc nk ch ck wr a1 a2 a3 a4 a5 a6 a7 a8 a9 a10 a11 a12 a13 a14 a15 a16 a17 a18 a19 a20 a21 a22 a23 a24 a25 a26 := by
  refine br_t hz (br_c (fun _ => ll_627 (m := 0) (k := 0) hp hN hN6 hP (Or.inl rfl) hG hH hS) (fun _ => rn_work hN hN6 hP (fun m k ch nc nk a6 a7 a8 a9 a10 a11 a12 a13 a14 a15 a16 a17 a18 a19 a20 a21 a22 a23 a24 a25 a26 hI hm hk => ?_)))
  have fin : ∀ z1 z0 : Int32, z1 = z0 → wL_lawOf_612 post mc ms x0 x1 x2 x3 x5 x6 x7 x8 x9 z0 z1 kc ks 1 1 (nI N) nc nk ch (nI k) wr a1 a2 a3 a4 a5 a6 a7 a8 a9 a10 a11 a12 a13 a14 a15 a16 a17 a18 a19 a20 a21 a22 a23 a24 a25 a26 :=
    fun z1 z0 hz => br_t hz (be_out0 (by decide) (by decide) (br_t rfl (ll_627 hp hN hN6 hP (Or.inr ⟨rfl, rfl, hm, hk, hI⟩) hG hH hS)))
  exact br_t rfl (be_phase (br_t rfl (be_begin1 (br_t rfl (be_add1 (br_t rfl (be_add1 (br_t rfl (be_undo1 (br_t rfl (be_poke1 (br_t rfl (be_next1 (br_t rfl
    (ll_cell hG (fun e => br_t e (fin _ _ rfl)) (fun e hg _ => br_f e (fin _ _ (hS.2 hg))))))))))))))))))
theorem ll_b {x6 x7 x9 : Int32} {b o q : Nat} {A B : Prop} (hH : ll_H x6 x7 x9 b o q) (h0 : b = 0 → A) (h1 : b = 1 → B) : (x9 = 0 → A) ∧ (¬ x9 = 0 → B) := by
  rcases hH with ⟨rfl, e, _⟩ | ⟨rfl, e, _⟩
  · exact br_f (by decide) (h1 e)
  · exact br_t rfl (h0 e)
theorem ll_477 (hp : post 1 ()) (hz : z1 = z0) (hN : 1 ≤ N) (hN6 : N ≤ 6) (h2 : a2 0 = nI (b + 3)) (h3 : a3 b = 8) (h4 : a4 b = 0) (h5 : a3 (b + 1) = 8) (h6 : a4 (b + 1) = 5) (h7 : ll_P b o q x3 a3 a4 a5) (hG : ll_G x5 x8 g) (hH : ll_H x6 x7 x9 b o q) (hS : ll_S g x3 a1) : wL_lawOf_477 post mc ms x0 x1 x2 x3 x5 x6 x7 x8 x9 z0 z1 kc ks 1 0 (nI N) nc nk ch ck wr a1 a2 a3 a4 a5 a6 a7 a8 a9 a10 a11 a12 a13 a14 a15 a16 a17 a18 a19 a20 a21 a22 a23 a24 a25 a26 := by
  obtain ⟨ho, hq, hb⟩ := ll_ho hH
  refine br_t hz (be_undoI (n := b + 2) (by omega) h2 ?_)
  have hP : rn_P b o q x3 (upd a2 0 (nI (b + 2))) a3 a4 a5 := ⟨pk_us, h3, h4, h5, h6, ho, hq, h7⟩
  exact ll_b hH (fun e => ll_495 hp (by rw [e]; rfl) hN hN6 hP hG hH hS) (fun e => ll_495 hp (by rw [e]; rfl) hN hN6 hP hG hH hS)
theorem ll_Pu {b o q n : Nat} {w x y z : Int32} {a3 a4 a5 : Nat → Int32} (h : ll_P b o q w a3 a4 a5) (hn : b ≤ n) : ll_P b o q w (upd a3 n x) (upd a4 n y) (upd a5 n z) := by
  rcases h with h | ⟨h, h3, h4, h5⟩
  · exact Or.inl h
  · refine Or.inr ⟨h, ?_, ?_, ?_⟩
    · rw [pk_un (by omega), h3]
    · rw [pk_un (by omega), h4]
    · rw [pk_un (by omega), h5]
theorem ll_456 (hp : post 1 ()) (hz : z1 = z0) (hN : 1 ≤ N) (hN6 : N ≤ 6) (h2 : a2 0 = nI (b + 2)) (h3 : a3 b = 8) (h4 : a4 b = 0) (h5 : a3 (b + 1) = 8) (h6 : a4 (b + 1) = 5) (h7 : ll_P b o q x3 a3 a4 a5) (hG : ll_G x5 x8 g) (hH : ll_H x6 x7 x9 b o q) (hS : ll_S g x3 a1) : wL_lawOf_456 post mc ms x0 x1 x2 x3 x5 x6 x7 x8 x9 z0 z1 kc ks 1 0 (nI N) nc nk ch ck wr a1 a2 a3 a4 a5 a6 a7 a8 a9 a10 a11 a12 a13 a14 a15 a16 a17 a18 a19 a20 a21 a22 a23 a24 a25 a26 := by
  obtain ⟨ho, hq, hb⟩ := ll_ho hH
  refine br_t hz (be_addI (o := 4) (q := 4) (n := b + 2) (by omega) (by omega) (by omega) h2 ?_)
  have fin : ∀ z0 : Int32, nI (b + 2) = z0 → wL_lawOf_477 post mc ms x0 x1 x2 x3 x5 x6 x7 x8 x9 z0 (nI (b + 2)) kc ks 1 0 (nI N) nc nk ch ck wr a1 (upd a2 0 (nI (b + 2 + 1))) (upd a3 (b + 2) (nI 4)) (upd a4 (b + 2) (nI 4)) (upd a5 (b + 2) x0) a6 a7 a8 a9 a10 a11 a12 a13 a14 a15 a16 a17 a18 a19 a20 a21 a22 a23 a24 a25 a26 :=
    fun z0 hz => ll_477 hp hz hN hN6 pk_us (by rw [pk_un (by omega)]; exact h3) (by rw [pk_un (by omega)]; exact h4) (by rw [pk_un (by omega)]; exact h5) (by rw [pk_un (by omega)]; exact h6) (ll_Pu h7 (by omega)) hG hH hS
  exact ll_b hH (fun e => fin _ (by rw [e]; rfl)) (fun e => fin _ (by rw [e]; rfl))
theorem ll_434 (hp : post 1 ()) (hz : z1 = z0) (hN : 1 ≤ N) (hN6 : N ≤ 6) (h2 : a2 0 = nI (b + 1)) (h3 : a3 b = 8) (h4 : a4 b = 0) (h7 : ll_P b o q x3 a3 a4 a5) (hG : ll_G x5 x8 g) (hH : ll_H x6 x7 x9 b o q) (hS : ll_S g x3 a1) : wL_lawOf_434 post mc ms x0 x1 x2 x3 x5 x6 x7 x8 x9 z0 z1 kc ks 1 0 (nI N) nc nk ch ck wr a1 a2 a3 a4 a5 a6 a7 a8 a9 a10 a11 a12 a13 a14 a15 a16 a17 a18 a19 a20 a21 a22 a23 a24 a25 a26 := by
  obtain ⟨ho, hq, hb⟩ := ll_ho hH
  refine br_t hz (be_addI (o := 8) (q := 5) (n := b + 1) (by omega) (by omega) (by omega) h2 ?_)
  have fin : ∀ z0 : Int32, nI (b + 1) = z0 → wL_lawOf_456 post mc ms x0 x1 x2 x3 x5 x6 x7 x8 x9 z0 (nI (b + 1)) kc ks 1 0 (nI N) nc nk ch ck wr a1 (upd a2 0 (nI (b + 1 + 1))) (upd a3 (b + 1) (nI 8)) (upd a4 (b + 1) (nI 5)) (upd a5 (b + 1) 0) a6 a7 a8 a9 a10 a11 a12 a13 a14 a15 a16 a17 a18 a19 a20 a21 a22 a23 a24 a25 a26 :=
    fun z0 hz => ll_456 hp hz hN hN6 pk_us (by rw [pk_un (by omega)]; exact h3) (by rw [pk_un (by omega)]; exact h4) pk_us pk_us (ll_Pu h7 (by omega)) hG hH hS
  exact ll_b hH (fun e => fin _ (by rw [e]; rfl)) (fun e => fin _ (by rw [e]; rfl))
theorem ll_412 (hp : post 1 ()) (hz : z1 = z0) (hN : 1 ≤ N) (hN6 : N ≤ 6) (h2 : a2 0 = nI b) (h7 : ll_P b o q x3 a3 a4 a5) (hG : ll_G x5 x8 g) (hH : ll_H x6 x7 x9 b o q) (hS : ll_S g x3 a1) : wL_lawOf_412 post mc ms x0 x1 x2 x3 x5 x6 x7 x8 x9 z0 z1 kc ks 1 0 (nI N) nc nk ch ck wr a1 a2 a3 a4 a5 a6 a7 a8 a9 a10 a11 a12 a13 a14 a15 a16 a17 a18 a19 a20 a21 a22 a23 a24 a25 a26 := by
  obtain ⟨ho, hq, hb⟩ := ll_ho hH
  refine br_t hz (be_addI (o := 8) (q := 0) (n := b) (by omega) (by omega) (by omega) h2 ?_)
  have fin : ∀ z0 : Int32, nI b = z0 → wL_lawOf_434 post mc ms x0 x1 x2 x3 x5 x6 x7 x8 x9 z0 (nI b) kc ks 1 0 (nI N) nc nk ch ck wr a1 (upd a2 0 (nI (b + 1))) (upd a3 b (nI 8)) (upd a4 b (nI 0)) (upd a5 b 0) a6 a7 a8 a9 a10 a11 a12 a13 a14 a15 a16 a17 a18 a19 a20 a21 a22 a23 a24 a25 a26 :=
    fun z0 hz => ll_434 hp hz hN hN6 pk_us pk_us pk_us (ll_Pu h7 (by omega)) hG hH hS
  exact ll_b hH (fun e => fin _ (by rw [e]; rfl)) (fun e => fin _ (by rw [e]; rfl))
theorem ll_293 (hp : post 1 ()) (hz : z1 = z0) (hN : 1 ≤ N) (hN6 : N ≤ 6) (hG : ll_G x5 x8 g) (hH : ll_H x6 x7 x9 b o q) (hS : ll_S g x3 a1) : wL_lawOf_293 post mc ms x0 x1 x2 x3 x5 x6 x7 x8 x9 z0 z1 kc ks 0 0 (nI N) nc nk ch ck wr a1 a2 a3 a4 a5 a6 a7 a8 a9 a10 a11 a12 a13 a14 a15 a16 a17 a18 a19 a20 a21 a22 a23 a24 a25 a26 := by
  refine br_t hz (be_nextG (by decide) (br_t rfl (be_begin0 (br_t rfl (be_trans (br_t rfl (be_res0 (by decide) (by decide) (br_t rfl (be_outs0 (by decide) (by decide) (br_t rfl (be_stor0 (by decide) (by decide) (br_t rfl (be_resB (Or.inr (by decide)) (br_t rfl (be_undoE pk_us (br_t rfl (be_trans (br_t rfl (be_begin0 (br_t rfl ?_))))))))))))))))))))
  have hH' := hH
  rcases hH' with ⟨rfl, rfl, ho, hq, rfl, rfl⟩ | ⟨rfl, rfl, rfl, rfl, hx⟩
  · exact be_addI (n := 0) ho hq (by omega) pk_us (br_f (by decide) (ll_412 hp rfl hN hN6 pk_us (Or.inr ⟨rfl, pk_us, pk_us, pk_us⟩) hG hH hS))
  · exact be_addB hx (br_t rfl (ll_412 hp rfl hN hN6 pk_us (Or.inl ⟨rfl, rfl⟩) hG hH hS))
theorem ll_250 (hp : post 1 ()) (hz : z1 = z0) (hN : 1 ≤ N) (hN6 : N ≤ 6) (hG : ll_G x5 x8 g) (hH : ll_H x6 x7 x9 b o q) (hS : ll_S g x3 a1) : wL_lawOf_250 post mc ms x0 x1 x2 x3 x5 x6 x7 x8 x9 z0 z1 kc ks 0 0 (nI N) nc nk ch ck wr a1 a2 a3 a4 a5 a6 a7 a8 a9 a10 a11 a12 a13 a14 a15 a16 a17 a18 a19 a20 a21 a22 a23 a24 a25 a26 := by
  refine br_t hz (ll_cell hG (fun e => br_t e (br_t rfl (be_digest hS.1 ?_))) (fun e hg e5 => br_f e (br_t (hS.2 hg) (be_digest hS.1 ?_))))
  · have hg : g = 16 := by
      rcases hG with ⟨r, _⟩ | ⟨_, hg, _⟩
      · rw [e] at r
        exact absurd r (by decide)
      · exact hg
    rw [if_neg (by omega)]
    exact br_t e (ll_293 hp rfl hN hN6 hG hH hS)
  · rw [if_pos hg, hS.2 hg, ← e5]
    exact br_f e (ll_293 hp rfl hN hN6 hG hH hS)
theorem ll_229 (hp : post 1 ()) (hz : z1 = z0) (hN : 1 ≤ N) (hN6 : N ≤ 6) (hG : ll_G x5 x8 g) (hH : ll_H x6 x7 x9 b o q) (h1 : ∀ i, a1 i = 0) : wL_lawOf_229 post mc ms x0 x1 x2 x3 x5 x6 x7 x8 x9 z0 z1 kc ks 0 0 (nI N) nc nk ch ck wr a1 a2 a3 a4 a5 a6 a7 a8 a9 a10 a11 a12 a13 a14 a15 a16 a17 a18 a19 a20 a21 a22 a23 a24 a25 a26 := by
  refine br_t hz (ll_poke (by decide) hG (fun e hg => br_t e (ll_250 hp rfl hN hN6 hG hH ⟨fun i _ _ => h1 i, fun z => absurd z (by omega)⟩)) (fun e hg => br_f e (ll_250 hp rfl hN hN6 hG hH ⟨fun i hi hn => ?_, fun _ => pk_us⟩)))
  rw [pk_un hn]
  exact h1 i
theorem ll_196 (hp : post 1 ()) (hN : 1 ≤ N) (hN6 : N ≤ 6) (hG : ll_G x5 x8 g) (hH : ll_H x6 x7 z0 b o q) (h1 : ∀ i, a1 i = 0) : wL_lawOf_196 post mc ms x0 x1 x2 x3 x5 x6 x7 x8 z0 kc ks 0 0 (nI N) nc nk ch ck wr a1 a2 a3 a4 a5 a6 a7 a8 a9 a10 a11 a12 a13 a14 a15 a16 a17 a18 a19 a20 a21 a22 a23 a24 a25 a26 := by
  refine be_undoN (br_t rfl ?_)
  have hH' := hH
  rcases hH' with ⟨rfl, rfl, ho, hq, rfl, rfl⟩ | ⟨rfl, rfl, rfl, rfl, hx⟩
  · exact be_addN ho hq (br_f (by decide) (ll_229 hp rfl hN hN6 hG hH h1))
  · exact be_addB hx (br_t rfl (ll_229 hp rfl hN hN6 hG hH h1))
theorem ll_81 (hp : post 1 ()) (hN : 1 ≤ N) (hN6 : N ≤ 6) (hG : ll_G x5 z0 g) (h1 : ∀ i, a1 i = 0) : wL_lawOf_81 post mc ms x0 x1 x2 x3 x5 x6 x7 z0 kc ks 0 0 (nI N) nc nk ch ck wr a1 a2 a3 a4 a5 a6 a7 a8 a9 a10 a11 a12 a13 a14 a15 a16 a17 a18 a19 a20 a21 a22 a23 a24 a25 a26 := by
  have hc : x0 < 0 ∨ ¬ x0 < 0 := Decidable.em _
  refine be_phase (br_t rfl (ll_cell hG (fun _ => br_t rfl ?_) (fun _ hg _ => br_t (h1 g) ?_)))
  all_goals
    refine be_digest (j := 16) (fun i _ _ => h1 i) (br_t rfl (be_trans (br_t rfl (be_resB hc (br_t rfl (be_outsB hc (br_t rfl (be_outB hc (br_t rfl (be_storB hc (br_t rfl (be_faults (by decide) (br_t rfl ?_)))))))))))))
    refine br_c (fun e => ll_196 hp hN hN6 hG (Or.inr ⟨rfl, rfl, rfl, rfl, Or.inl e⟩) h1) (fun e0 => br_c (fun e => ll_196 hp hN hN6 hG (Or.inr ⟨rfl, rfl, rfl, rfl, Or.inr (Or.inl e)⟩) h1) (fun e1 => br_c (fun e => ll_196 hp hN hN6 hG (Or.inr ⟨rfl, rfl, rfl, rfl, Or.inr (Or.inr (Or.inl e))⟩) h1) (fun e2 => br_c (fun e => ll_196 hp hN hN6 hG (Or.inr ⟨rfl, rfl, rfl, rfl, Or.inr (Or.inr (Or.inr e))⟩) h1) (fun e3 => ?_))))
    obtain ⟨o, ho, rfl⟩ := ((pk_ix x6 (n := 12) (by decide)).resolve_left e0).resolve_left e1
    obtain ⟨q, hq, rfl⟩ := ((pk_ix x7 (n := 16) (by decide)).resolve_left e2).resolve_left e3
    exact ll_196 hp hN hN6 hG (Or.inl ⟨rfl, rfl, ho, hq, rfl, rfl⟩) h1
theorem ll_62 (hp : post 1 ()) (hN : 1 ≤ N) (hN6 : N ≤ 6) (h1 : ∀ i, a1 i = 0) : wL_lawOf_62 post mc ms x0 x1 x2 x3 x5 x6 z0 kc ks 0 0 (nI N) nc nk ch ck wr a1 a2 a3 a4 a5 a6 a7 a8 a9 a10 a11 a12 a13 a14 a15 a16 a17 a18 a19 a20 a21 a22 a23 a24 a25 a26 := by
  refine br_c (fun e => ll_81 hp hN hN6 (Or.inr ⟨rfl, rfl, Or.inl e⟩) h1) (fun e0 => br_c (fun e => ll_81 hp hN hN6 (Or.inr ⟨rfl, rfl, Or.inr e⟩) h1) (fun e1 => ?_))
  obtain ⟨g, hg, rfl⟩ := ((pk_ix x5 (n := 16) (by decide)).resolve_left e0).resolve_left e1
  exact ll_81 hp hN hN6 (Or.inl ⟨rfl, hg, rfl⟩) h1
theorem ll_26 (hp : post 1 ()) (hN : 1 ≤ N) (hN6 : N ≤ 6) (h1 : ∀ i, a1 i = 0) : wL_lawOf_26 post mc ms x0 x1 x2 x3 z0 kc ks 0 0 (nI N) nc nk ch ck wr a1 a2 a3 a4 a5 a6 a7 a8 a9 a10 a11 a12 a13 a14 a15 a16 a17 a18 a19 a20 a21 a22 a23 a24 a25 a26 :=
  br_c (fun _ => br_c (fun _ => ll_62 hp hN hN6 h1) (fun _ => ll_62 hp hN hN6 h1)) (fun _ => br_c (fun _ => ll_62 hp hN hN6 h1) (fun _ => ll_62 hp hN hN6 h1))
theorem ll_init {post : St2 → Prop} {p : Int32} (h : ∀ N : Nat, 1 ≤ N → N ≤ 6 → post (0, 0, nI N, 0, 0, 0, 0, 0, (fun _ => 0), (fun _ => 0), (fun _ => 0), (fun _ => 0), (fun _ => 0), (fun _ => 0), (fun _ => 0), (fun _ => 0), (fun _ => 0), (fun _ => 0), (fun _ => 0), (fun _ => 0), (fun _ => 0), (fun _ => 0), (fun _ => 0), (fun _ => 0), (fun _ => 0), (fun _ => 0), (fun _ => 0), (fun _ => 0), (fun _ => 0), (fun _ => 0), (fun _ => 0), (fun _ => 0), (fun _ => 0), (fun _ => 0))) : wpX_init post 26 1164 (0, 0, 0, 0, 0, 0, 0, 0) p := by
  have key : 1 ≤ p → p ≤ 6 → ∃ N : Nat, 1 ≤ N ∧ N ≤ 6 ∧ p = nI N := fun h1 h6 => by
    rw [Int32.le_iff_toInt_le, show (1 : Int32).toInt = 1 from by decide] at h1
    rw [Int32.le_iff_toInt_le, show (6 : Int32).toInt = 6 from by decide] at h6
    refine ⟨p.toInt.toNat, by omega, by omega, ?_⟩
    apply Int32.toInt_inj.mp
    rw [nI_toInt (by omega)]
    omega
  refine ⟨by omega, by omega, by omega, by omega, by omega, by omega, by omega, by omega, by omega, by omega, by omega, by omega, by omega, by omega, by omega, by omega, by omega, by omega, by omega, by omega, by omega, by omega, by omega, by omega, by omega, by omega, by omega, by omega, by omega, by omega, by omega, by omega, by omega, by omega, by omega, by omega, by omega, by omega, by omega, by omega, by omega, by omega, by omega, by omega, by omega, by omega, by omega, by omega, by omega, by omega, by omega, by omega, br_c (fun h1 => br_c (fun h6 => ?_) (fun _ => h 6 (by omega) (by omega))) (fun _ => h 1 (by omega) (by omega))⟩
  obtain ⟨N, g1, g2, rfl⟩ := key h1 h6
  exact h N g1 g2
theorem ll_lawOf {p0 p1 p2 p3 : Int32} (hp : post 1 ()) : wpL_lawOf post 27 1198 () p0 p1 p2 p3 :=
  ⟨by omega, by omega, 26, 1164, by omega, by omega, ll_init (fun N hN hN6 => br_c (fun _ => ll_26 hp hN hN6 (fun _ => rfl)) (fun _ => ll_26 hp hN hN6 (fun _ => rfl)))⟩
theorem ll_at {post : Int32 → Prop} {L : Nat} {xs : Nat → Int32} {i : Nat} (hi : i < 4) (hL : L ≤ 4) (h : ∀ x, post x) : wpL_cellAt post L xs () (nI i) :=
  pk_le L i (fun _ => h 0) (fun z => ⟨pk_in i L z, h _⟩)
end
end
section
theorem i_vc (xs : Nat → Int32) (L : Nat) (hL : L ≤ 4) : wpL_law (fun r => r = 1) L xs :=
  ll_at (i := 0) (by decide) hL (fun x => ll_at (i := 1) (by decide) hL (fun y => ll_at (i := 2) (by decide) hL (fun z => ll_at (i := 3) (by decide) hL (fun w => ⟨27, 1198, by decide, by decide, ll_lawOf rfl⟩))))
end
