section
/-! bits of an int as a value: 4 x + 1 -/
def zq_iv (x : Int32) : Int64 := (x.toInt64 <<< ((2 : Int32).toInt64 &&& 63)) ||| 1
theorem zq_sh : ((2 : Int32).toInt64 &&& 63) = (2 : Int64) := by decide
theorem zq_sm : ((2 : Int64).toBitVec.smod 64) = 2#64 := by decide
theorem zq_ivb (x : Int32) (i : Nat) (hi : i < 64) : (zq_iv x).toBitVec.getLsbD i = if i < 2 then decide (i = 0) else (x.toBitVec.signExtend 64).getLsbD (i - 2) := by
  unfold zq_iv
  rw [zq_sh, Int64.toBitVec_or, Int64.toBitVec_shiftLeft, zq_sm, Int32.toBitVec_toInt64, BitVec.getLsbD_or]
  show ((x.toBitVec.signExtend 64 <<< 2).getLsbD i || (1#64).getLsbD i) = _
  rw [BitVec.getLsbD_shiftLeft, BitVec.getLsbD_one]
  rcases Nat.lt_or_ge i 2 with h | h
  · simp [h]
  · have h1 : ¬ i < 2 := by omega
    have h2 : ¬ i = 0 := by omega
    simp [h1, h2, hi]
theorem zq_3b : ∀ i, i < 64 → (3 : Int64).toBitVec.getLsbD i = decide (i < 2) := by decide +kernel
theorem zq_1b : ∀ i, i < 64 → (1 : Int64).toBitVec.getLsbD i = decide (i = 0) := by decide +kernel
theorem zq_iv3 (x : Int32) : zq_iv x &&& 3 = 1 := by
  apply Int64.toBitVec_inj.mp
  rw [Int64.toBitVec_and]
  apply BitVec.eq_of_getLsbD_eq
  intro i hi
  rw [BitVec.getLsbD_and, zq_ivb x i hi, zq_3b i hi, zq_1b i hi]
  rcases Nat.lt_or_ge i 2 with h | h
  · simp [h]
  · have h1 : ¬ i < 2 := by omega
    have h2 : ¬ i = 0 := by omega
    simp [h1, h2]
theorem zq_iv0 (x : Int32) : ¬ zq_iv x = 0 := by
  intro h
  have h3 := zq_iv3 x
  rw [h] at h3
  exact absurd h3 (by decide)
theorem zq_ivn (x : Int32) : (zq_iv x >>> ((2 : Int32).toInt64 &&& 63)).toInt32 = x := by
  apply Int32.toBitVec_inj.mp
  rw [zq_sh, Int64.toBitVec_toInt32, Int64.toBitVec_shiftRight, zq_sm]
  apply BitVec.eq_of_getLsbD_eq
  intro i hi
  have h64 : 2 + i < 64 := by omega
  rw [BitVec.getLsbD_signExtend]
  show (decide (i < 32) && if i < 64 then ((zq_iv x).toBitVec.sshiftRight 2).getLsbD i else _) = _
  rw [if_pos (show i < 64 by omega), BitVec.getLsbD_sshiftRight, if_pos h64, zq_ivb x (2 + i) h64, if_neg (show ¬ 2 + i < 2 by omega), BitVec.getLsbD_signExtend]
  have e : 2 + i - 2 = i := by omega
  have e2 : i < 64 := by omega
  have e3 : ¬ 64 ≤ i := by omega
  simp [e, hi, e2, e3]
/-! the kinds with two parts that the law makes -/
def zq_two (k : Int32) : Prop := k = 9 ∨ k = 12 ∨ k = 13
theorem zq_10 : ¬ (1 : Int32) = 0 := by decide
theorem zq_f {k : Int32} (h : zq_two k) : ¬ k < 0 ∧ ¬ 19 < k ∧ ¬ k = 0 ∧ ¬ k = 1 ∧ ¬ k = 2 ∧ ¬ k < 3 ∧ ¬ k = 8 ∧ ¬ k = 10 ∧ ¬ k = 11 ∧ ¬ k = 14 ∧ ¬ k = 15 ∧ ¬ k = 16 ∧ ¬ k = 17 ∧ ¬ k = 18 ∧ ¬ k = 19 ∧ 6 ≤ k ∧ k.toInt8.toInt32 = k := by
  rcases h with rfl | rfl | rfl <;> decide
theorem zq_e {x y v : Int32} {A B : Prop} (e : x = v) (n : ¬ v = y) (b : B) : (x = y → A) ∧ (¬ x = y → B) := br_f (fun z => n (e.symm.trans z)) b
theorem zq_b0 : vp_nar .boolean 0 = 0 := rfl
theorem zq_b1 : vp_nar .boolean 1 = 1 := rfl
/-! the small questions -/
section
variable {ec fc ce dp lc ht hs uc mg wc tp fr pc oc sc rs rn lv : Int32} {mk : Int64} {a1 a2 a3 a4 a5 a6 a7 a8 a9 a10 a11 a12 a13 a14 a15 a16 a17 a18 a19 a20 a22 a25 a26 : Nat → Int32} {a21 a23 a24 : Nat → Int64}
theorem zq_hx1 {post : Int32 → Prop} {k : Int32} (h : zq_two k) (hp : post 1) : wpX_hasX post (ec, fc, ce, dp, lc, ht, hs, uc, mk, mg, wc, tp, fr, pc, oc, sc, rs, rn, lv, a1, a2, a3, a4, a5, a6, a7, a8, a9, a10, a11, a12, a13, a14, a15, a16, a17, a18, a19, a20, a21, a22, a23, a24, a25, a26) k := by
  obtain ⟨_, _, _, _, _, n3, _, _, _, _, _, _, e17, e18, _⟩ := zq_f h
  exact br_f n3 (br_f e17 (br_f e18 hp))
theorem zq_hy1 {post : Int32 → Prop} {k : Int32} (h : zq_two k) (hp : post 1) : wpX_hasY post (ec, fc, ce, dp, lc, ht, hs, uc, mk, mg, wc, tp, fr, pc, oc, sc, rs, rn, lv, a1, a2, a3, a4, a5, a6, a7, a8, a9, a10, a11, a12, a13, a14, a15, a16, a17, a18, a19, a20, a21, a22, a23, a24, a25, a26) k := by
  obtain ⟨_, _, _, _, _, n3, _, e10, e11, _, e15, _, e17, _⟩ := zq_f h
  exact br_f e10 (br_f e11 (br_f e15 (br_f e17 (br_f n3 hp))))
theorem zq_hx18 {post : Int32 → Prop} (hp : post 0) : wpX_hasX post (ec, fc, ce, dp, lc, ht, hs, uc, mk, mg, wc, tp, fr, pc, oc, sc, rs, rn, lv, a1, a2, a3, a4, a5, a6, a7, a8, a9, a10, a11, a12, a13, a14, a15, a16, a17, a18, a19, a20, a21, a22, a23, a24, a25, a26) 18 := br_f (by decide) (br_f (by decide) (br_t rfl hp))
theorem zq_hy18 {post : Int32 → Prop} (hp : post 1) : wpX_hasY post (ec, fc, ce, dp, lc, ht, hs, uc, mk, mg, wc, tp, fr, pc, oc, sc, rs, rn, lv, a1, a2, a3, a4, a5, a6, a7, a8, a9, a10, a11, a12, a13, a14, a15, a16, a17, a18, a19, a20, a21, a22, a23, a24, a25, a26) 18 := br_f (by decide) (br_f (by decide) (br_f (by decide) (br_f (by decide) (br_f (by decide) hp))))
theorem zq_hx0 {post : Int32 → Prop} (hp : post 0) : wpX_hasX post (ec, fc, ce, dp, lc, ht, hs, uc, mk, mg, wc, tp, fr, pc, oc, sc, rs, rn, lv, a1, a2, a3, a4, a5, a6, a7, a8, a9, a10, a11, a12, a13, a14, a15, a16, a17, a18, a19, a20, a21, a22, a23, a24, a25, a26) 0 := br_t (by decide) hp
theorem zq_hy0 {post : Int32 → Prop} (hp : post 0) : wpX_hasY post (ec, fc, ce, dp, lc, ht, hs, uc, mk, mg, wc, tp, fr, pc, oc, sc, rs, rn, lv, a1, a2, a3, a4, a5, a6, a7, a8, a9, a10, a11, a12, a13, a14, a15, a16, a17, a18, a19, a20, a21, a22, a23, a24, a25, a26) 0 := br_f (by decide) (br_f (by decide) (br_f (by decide) (br_f (by decide) (br_t (by decide) hp))))
theorem zq_ise {post : Int32 → Prop} {n x : Nat} (hx : x < n) (hn : n < 2 ^ 31) (hp : post 1) : wpX_isExpression post (nI n, fc, ce, dp, lc, ht, hs, uc, mk, mg, wc, tp, fr, pc, oc, sc, rs, rn, lv, a1, a2, a3, a4, a5, a6, a7, a8, a9, a10, a11, a12, a13, a14, a15, a16, a17, a18, a19, a20, a21, a22, a23, a24, a25, a26) (nI x) := br_f (nI_pos (by omega)) (br_f (nI_ge hx hn) hp)
theorem zq_gr0 {post : Int32 → Prop} (hp : post 0) : wpX_greater post (ec, fc, ce, dp, lc, ht, hs, uc, mk, mg, wc, tp, fr, pc, oc, sc, rs, rn, lv, a1, a2, a3, a4, a5, a6, a7, a8, a9, a10, a11, a12, a13, a14, a15, a16, a17, a18, a19, a20, a21, a22, a23, a24, a25, a26) 0 0 := br_t (by decide) hp
end
end
section
/-! express: a number, a kind with two parts, an assignment to a global -/
section
variable {ec fc ce dp lc ht hs uc mg wc tp fr pc oc sc rs rn lv : Int32} {mk : Int64} {a1 a2 a3 a4 a5 a6 a7 a8 a9 a10 a11 a12 a13 a14 a15 a16 a17 a18 a19 a20 a22 a25 a26 : Nat → Int32} {a21 a23 a24 : Nat → Int64}
theorem zq_of2 {post : Int32 → Prop} {k : Int32} (hk : zq_two k) {n x y : Nat} (hx : x < n) (hy : y < n) (hn : n < 2 ^ 31) (hp : post 1) : wpX_operandsFit post (nI n, fc, ce, dp, lc, ht, hs, uc, mk, mg, wc, tp, fr, pc, oc, sc, rs, rn, lv, a1, a2, a3, a4, a5, a6, a7, a8, a9, a10, a11, a12, a13, a14, a15, a16, a17, a18, a19, a20, a21, a22, a23, a24, a25, a26) k (nI x) (nI y) 0 := by
  obtain ⟨_, _, _, e1, _, _, e8, _, _, _, _, _, e17, e18, _⟩ := zq_f hk
  exact br_f e1 (br_f e17 (br_f e18 (zq_hx1 hk (br_f zq_10 (zq_ise hx hn (br_f zq_10 (zq_hy1 hk (br_f zq_10 (zq_ise hy hn (br_f zq_10 (br_f e8 hp)))))))))))
theorem zq_of18 {post : Int32 → Prop} {n y : Nat} (hy : y < n) (hn : n < 2 ^ 31) (hp : post 1) : wpX_operandsFit post (nI n, fc, ce, dp, lc, ht, hs, uc, mk, mg, wc, tp, fr, pc, oc, sc, rs, rn, lv, a1, a2, a3, a4, a5, a6, a7, a8, a9, a10, a11, a12, a13, a14, a15, a16, a17, a18, a19, a20, a21, a22, a23, a24, a25, a26) 18 3 (nI y) 0 :=
  br_f (by decide) (br_f (by decide) (br_t rfl (br_f (by decide) (br_f (by decide) (zq_ise hy hn (br_f zq_10 hp))))))
theorem zq_of0 {post : Int32 → Prop} {x : Int32} (hp : post 1) : wpX_operandsFit post (ec, fc, ce, dp, lc, ht, hs, uc, mk, mg, wc, tp, fr, pc, oc, sc, rs, rn, lv, a1, a2, a3, a4, a5, a6, a7, a8, a9, a10, a11, a12, a13, a14, a15, a16, a17, a18, a19, a20, a21, a22, a23, a24, a25, a26) 0 x 0 0 :=
  br_f (by decide) (br_f (by decide) (br_f (by decide) (zq_hx0 (br_t rfl (zq_hy0 (br_t rfl (br_f (by decide) hp)))))))
theorem zq_nf2 {post : Int32 → Prop} {k : Int32} (hk : zq_two k) {x y : Nat} (hx : x < 60) (hy : y < 60) (h6x : a6 x = 0) (h6y : a6 y = 0) (hp : post 0) : wpX_needFor post (ec, fc, ce, dp, lc, ht, hs, uc, mk, mg, wc, tp, fr, pc, oc, sc, rs, rn, lv, a1, a2, a3, a4, a5, a6, a7, a8, a9, a10, a11, a12, a13, a14, a15, a16, a17, a18, a19, a20, a21, a22, a23, a24, a25, a26) k (nI x) (nI y) 0 := by
  obtain ⟨_, _, _, e1, _, _, e8, _, _, e14, e15, _, e17, e18, _⟩ := zq_f hk
  have cx : a6 (nI x).toNatClampNeg = 0 := by rw [nI_clamp (by omega)]; exact h6x
  have cy : a6 (nI y).toNatClampNeg = 0 := by rw [nI_clamp (by omega)]; exact h6y
  refine br_f e1 (br_f e15 (br_f e18 (zq_hx1 hk (br_f zq_10 ⟨vp_in_nI hx (by decide), nm_r cx (br_f e14 (zq_hy1 hk (br_f zq_10 ⟨vp_in_nI hy (by decide), ?_⟩)))⟩))))
  rw [cy]
  exact zq_gr0 (br_f e8 hp)
theorem zq_nf18 {post : Int32 → Prop} {x : Int32} {y : Nat} (hy : y < 60) (h6y : a6 y = 0) (hp : post 0) : wpX_needFor post (ec, fc, ce, dp, lc, ht, hs, uc, mk, mg, wc, tp, fr, pc, oc, sc, rs, rn, lv, a1, a2, a3, a4, a5, a6, a7, a8, a9, a10, a11, a12, a13, a14, a15, a16, a17, a18, a19, a20, a21, a22, a23, a24, a25, a26) 18 x (nI y) 0 := by
  have cy : a6 (nI y).toNatClampNeg = 0 := by rw [nI_clamp (by omega)]; exact h6y
  refine br_f (by decide) (br_f (by decide) (br_t rfl ⟨vp_in_nI hy (by decide), ?_⟩))
  rw [cy]
  exact hp
theorem zq_nf0 {post : Int32 → Prop} {x : Int32} (hp : post 0) : wpX_needFor post (ec, fc, ce, dp, lc, ht, hs, uc, mk, mg, wc, tp, fr, pc, oc, sc, rs, rn, lv, a1, a2, a3, a4, a5, a6, a7, a8, a9, a10, a11, a12, a13, a14, a15, a16, a17, a18, a19, a20, a21, a22, a23, a24, a25, a26) 0 x 0 0 :=
  br_f (by decide) (br_f (by decide) (br_f (by decide) (zq_hx0 (br_t rfl hp))))
theorem zq_na2 {post : Int32 → Prop} {k : Int32} (hk : zq_two k) {x y : Nat} (hx : x < 60) (hy : y < 60) (h7x : a7 x = 0) (h7y : a7 y = 0) (hp : post 0) : wpX_namesFor post (ec, fc, ce, dp, lc, ht, hs, uc, mk, mg, wc, tp, fr, pc, oc, sc, rs, rn, lv, a1, a2, a3, a4, a5, a6, a7, a8, a9, a10, a11, a12, a13, a14, a15, a16, a17, a18, a19, a20, a21, a22, a23, a24, a25, a26) k (nI x) (nI y) 0 := by
  obtain ⟨_, _, _, e1, _, _, e8, _, _, e14, e15, _, e17, e18, _⟩ := zq_f hk
  have cx : a7 (nI x).toNatClampNeg = 0 := by rw [nI_clamp (by omega)]; exact h7x
  have cy : a7 (nI y).toNatClampNeg = 0 := by rw [nI_clamp (by omega)]; exact h7y
  have cz : (0 : Int32) ||| a7 (nI y).toNatClampNeg = 0 := by rw [cy]; decide
  exact br_f e1 (br_f e15 (br_f e18 (zq_hx1 hk (br_f zq_10 ⟨vp_in_nI hx (by decide), nm_r cx (br_f e14 (zq_hy1 hk (br_f zq_10 ⟨vp_in_nI hy (by decide), nm_r cz (br_f e8 hp)⟩)))⟩))))
theorem zq_na18 {post : Int32 → Prop} {x : Int32} {y : Nat} (hy : y < 60) (h7y : a7 y = 0) (hp : post 0) : wpX_namesFor post (ec, fc, ce, dp, lc, ht, hs, uc, mk, mg, wc, tp, fr, pc, oc, sc, rs, rn, lv, a1, a2, a3, a4, a5, a6, a7, a8, a9, a10, a11, a12, a13, a14, a15, a16, a17, a18, a19, a20, a21, a22, a23, a24, a25, a26) 18 x (nI y) 0 := by
  have cy : a7 (nI y).toNatClampNeg = 0 := by rw [nI_clamp (by omega)]; exact h7y
  refine br_f (by decide) (br_f (by decide) (br_t rfl ⟨vp_in_nI hy (by decide), ?_⟩))
  rw [cy]
  exact hp
theorem zq_na0 {post : Int32 → Prop} {x : Int32} (hp : post 0) : wpX_namesFor post (ec, fc, ce, dp, lc, ht, hs, uc, mk, mg, wc, tp, fr, pc, oc, sc, rs, rn, lv, a1, a2, a3, a4, a5, a6, a7, a8, a9, a10, a11, a12, a13, a14, a15, a16, a17, a18, a19, a20, a21, a22, a23, a24, a25, a26) 0 x 0 0 :=
  br_f (by decide) (br_f (by decide) (br_f (by decide) (zq_hx0 (br_t rfl hp))))
theorem zq_kn {post : St2 → Prop} {n : Nat} (hn : n < 60) {k x y : Int32} (e0 : ¬ k = 0) (n3 : ¬ k < 3) (g6 : 6 ≤ k) (hp : post (ec, fc, ce, dp, lc, ht, hs, uc, mk, mg, wc, tp, fr, pc, oc, sc, rs, rn, 2, a1, a2, a3, a4, a5, a6, a7, upd a8 n 0, a9, a10, a11, a12, a13, a14, a15, a16, a17, a18, a19, a20, a21, a22, a23, a24, a25, a26)) : wpX_know post (ec, fc, ce, dp, lc, ht, hs, uc, mk, mg, wc, tp, fr, pc, oc, sc, rs, rn, 2, a1, a2, a3, a4, a5, a6, a7, a8, a9, a10, a11, a12, a13, a14, a15, a16, a17, a18, a19, a20, a21, a22, a23, a24, a25, a26) (nI n) k x y :=
  br_f e0 ⟨vp_in_nI hn (by decide), nm_r (by rw [nI_clamp (by omega), zq_b0]) (br_f e0 (br_f (by decide) (br_f n3 (br_t g6 hp))))⟩
theorem zq_kn0 {post : St2 → Prop} {n : Nat} (hn : n < 60) {x y : Int32} (hp : post (ec, fc, ce, dp, lc, ht, hs, uc, mk, mg, wc, tp, fr, pc, oc, sc, rs, rn, 2, a1, a2, a3, a4, a5, a6, a7, upd a8 n 1, upd a9 n x, a10, a11, a12, a13, a14, a15, a16, a17, a18, a19, a20, a21, a22, a23, a24, a25, a26)) : wpX_know post (ec, fc, ce, dp, lc, ht, hs, uc, mk, mg, wc, tp, fr, pc, oc, sc, rs, rn, 2, a1, a2, a3, a4, a5, a6, a7, a8, a9, a10, a11, a12, a13, a14, a15, a16, a17, a18, a19, a20, a21, a22, a23, a24, a25, a26) (nI n) 0 x y :=
  br_t rfl ⟨vp_in_nI hn (by decide), nm_r (by rw [nI_clamp (by omega), zq_b1]) (br_t rfl ⟨vp_in_nI hn (by decide), nm_r (by rw [nI_clamp (by omega)]) (br_f (by decide) (br_t (by decide) hp))⟩)⟩
theorem zq_n0 : (0 : Int32).toInt8.toInt32 = 0 := by decide
theorem zq_s0 : (0 : Int32).toInt16.toInt32 = 0 := by decide
theorem zq_n18 : (18 : Int32).toInt8.toInt32 = 18 := by decide
theorem zq_n1 : (1 : Int32).toInt8.toInt32 = 1 := by decide
theorem zq_nb : ∀ n, n < 60 → (nI n).toInt8.toInt32 = nI n := by decide +kernel
theorem zq_138n {post : Int32 → St2 → Prop} {n : Nat} (hn : n < 60) {x : Int32} (hp : post (nI n) (nI (n + 1), fc, ce, dp, lc, ht, hs, uc, mk, mg, wc, tp, fr, pc, oc, sc, rs, rn, 2, upd a1 n 0, upd a2 n x, upd a3 n 0, upd a4 n 0, upd a5 n 1, upd a6 n 0, upd a7 n 0, upd a8 n 1, upd a9 n x, a10, a11, a12, a13, a14, a15, a16, a17, a18, a19, a20, a21, a22, a23, a24, a25, a26)) : wX_express_138 post 0 x 0 0 1 0 (nI n) fc ce dp lc ht hs uc mk mg wc tp fr pc oc sc rs rn 2 a1 a2 a3 a4 a5 a6 a7 a8 a9 a10 a11 a12 a13 a14 a15 a16 a17 a18 a19 a20 a21 a22 a23 a24 a25 a26 :=
  nm_r (nI_1 n) ⟨vp_in_nI hn (by decide), nm_r (by rw [nI_clamp (by omega), zq_n0]) ⟨vp_in_nI hn (by decide), nm_r (by rw [nI_clamp (by omega)]) ⟨vp_in_nI hn (by decide), nm_r (by rw [nI_clamp (by omega), zq_n0]) ⟨vp_in_nI hn (by decide), nm_r (by rw [nI_clamp (by omega), zq_n0]) ⟨vp_in_nI hn (by decide), nm_r (by rw [nI_clamp (by omega), zq_n1]) ⟨vp_in_nI hn (by decide), nm_r (by rw [nI_clamp (by omega), zq_n0]) (zq_na0 ⟨vp_in_nI hn (by decide), nm_r (by rw [nI_clamp (by omega), zq_s0]) (zq_kn0 hn (br_f (by decide) hp))⟩)⟩⟩⟩⟩⟩⟩
theorem zq_ex0 {post : Int32 → St2 → Prop} {n : Nat} (hn : n < 60) {x : Int32} (hp : post (nI n) (nI (n + 1), fc, ce, dp, lc, ht, hs, uc, mk, mg, wc, tp, fr, pc, oc, sc, rs, rn, 2, upd a1 n 0, upd a2 n x, upd a3 n 0, upd a4 n 0, upd a5 n 1, upd a6 n 0, upd a7 n 0, upd a8 n 1, upd a9 n x, a10, a11, a12, a13, a14, a15, a16, a17, a18, a19, a20, a21, a22, a23, a24, a25, a26)) : wpX_express post (nI n, fc, ce, dp, lc, ht, hs, uc, mk, mg, wc, tp, fr, pc, oc, sc, rs, rn, 2, a1, a2, a3, a4, a5, a6, a7, a8, a9, a10, a11, a12, a13, a14, a15, a16, a17, a18, a19, a20, a21, a22, a23, a24, a25, a26) 0 x 0 0 :=
  br_t (nI_lt hn (by decide)) (br_f (by decide) (br_f (by decide) (zq_of0 (br_f zq_10 (zq_hx0 (br_t rfl (zq_hy0 (br_t rfl (br_f (by decide) (zq_nf0 (br_f (by decide) (br_f (by decide) (br_f (by decide) (zq_138n hn hp))))))))))))))
theorem zq_1382 {post : Int32 → St2 → Prop} {k : Int32} (hk : zq_two k) {n x y w : Nat} (hn : n < 60) (hx : x < 60) (hy : y < 60) (hw : w < 60) (h7x : a7 x = 0) (h7y : a7 y = 0) (hp : post (nI n) (nI (n + 1), fc, ce, dp, lc, ht, hs, uc, mk, mg, wc, tp, fr, pc, oc, sc, rs, rn, 2, upd a1 n k, upd a2 n (nI x), upd a3 n (nI y), upd a4 n 0, upd a5 n (nI w), upd a6 n 0, upd a7 n 0, upd a8 n 0, a9, a10, a11, a12, a13, a14, a15, a16, a17, a18, a19, a20, a21, a22, a23, a24, a25, a26)) : wX_express_138 post k (nI x) (nI y) 0 (nI w) 0 (nI n) fc ce dp lc ht hs uc mk mg wc tp fr pc oc sc rs rn 2 a1 a2 a3 a4 a5 a6 a7 a8 a9 a10 a11 a12 a13 a14 a15 a16 a17 a18 a19 a20 a21 a22 a23 a24 a25 a26 := by
  obtain ⟨_, _, e0, _, _, n3, _, _, _, _, e15, _, _, _, _, g6, tb⟩ := zq_f hk
  exact nm_r (nI_1 n) ⟨vp_in_nI hn (by decide), nm_r (by rw [nI_clamp (by omega), tb]) ⟨vp_in_nI hn (by decide), nm_r (by rw [nI_clamp (by omega)]) ⟨vp_in_nI hn (by decide), nm_r (by rw [nI_clamp (by omega), zq_nb y hy]) ⟨vp_in_nI hn (by decide), nm_r (by rw [nI_clamp (by omega), zq_n0]) ⟨vp_in_nI hn (by decide), nm_r (by rw [nI_clamp (by omega), zq_nb w hw]) ⟨vp_in_nI hn (by decide), nm_r (by rw [nI_clamp (by omega), zq_n0]) (zq_na2 hk hx hy h7x h7y ⟨vp_in_nI hn (by decide), nm_r (by rw [nI_clamp (by omega), zq_s0]) (zq_kn hn e0 n3 g6 (br_f e15 hp))⟩)⟩⟩⟩⟩⟩⟩
theorem zq_ex2 {post : Int32 → St2 → Prop} {k : Int32} (hk : zq_two k) {n x y wx wy : Nat} (hn : n < 60) (hx : x < n) (hy : y < n) (h5x : a5 x = nI wx) (h5y : a5 y = nI wy) (hw : 1 + wx + wy ≤ 30) (h6x : a6 x = 0) (h6y : a6 y = 0) (h7x : a7 x = 0) (h7y : a7 y = 0) (hp : post (nI n) (nI (n + 1), fc, ce, dp, lc, ht, hs, uc, mk, mg, wc, tp, fr, pc, oc, sc, rs, rn, 2, upd a1 n k, upd a2 n (nI x), upd a3 n (nI y), upd a4 n 0, upd a5 n (nI (1 + wx + wy)), upd a6 n 0, upd a7 n 0, upd a8 n 0, a9, a10, a11, a12, a13, a14, a15, a16, a17, a18, a19, a20, a21, a22, a23, a24, a25, a26)) : wpX_express post (nI n, fc, ce, dp, lc, ht, hs, uc, mk, mg, wc, tp, fr, pc, oc, sc, rs, rn, 2, a1, a2, a3, a4, a5, a6, a7, a8, a9, a10, a11, a12, a13, a14, a15, a16, a17, a18, a19, a20, a21, a22, a23, a24, a25, a26) k (nI x) (nI y) 0 := by
  obtain ⟨n0, n19, e0, _, _, n3, e8, _, _, _, e15, _, _, _, _, g6, tb⟩ := zq_f hk
  have cx : 1 + a5 (nI x).toNatClampNeg = nI (1 + wx) := by rw [nI_clamp (by omega), h5x]; exact nI_add 1 wx
  have cy : nI (1 + wx) + a5 (nI y).toNatClampNeg = nI (1 + wx + wy) := by rw [nI_clamp (by omega), h5y]; exact nI_add (1 + wx) wy
  exact br_t (nI_lt hn (by decide)) (br_f n0 (br_f n19 (zq_of2 hk hx hy (by omega) (br_f zq_10 (zq_hx1 hk (br_f zq_10 ⟨vp_in_nI (by omega) (by decide), nm_r cx (zq_hy1 hk (br_f zq_10 ⟨vp_in_nI (by omega) (by decide), nm_r cy (br_f e8 (zq_nf2 hk (by omega) (by omega) h6x h6y (br_f (nI_nlt (a := 30) hw (by decide)) (br_f (by decide) (br_f e15 (zq_1382 hk hn (by omega) (by omega) (by omega) h7x h7y hp))))))⟩))⟩))))))
theorem zq_13818 {post : Int32 → St2 → Prop} {n y w : Nat} (hn : n < 60) (hy : y < 60) (hw : w < 60) (h7y : a7 y = 0) (hp : post (nI n) (nI (n + 1), fc, ce, dp, lc, ht, hs, uc, mk, mg, wc, tp, fr, pc, oc, sc, rs, rn, 2, upd a1 n 18, upd a2 n 3, upd a3 n (nI y), upd a4 n 0, upd a5 n (nI w), upd a6 n 0, upd a7 n 0, upd a8 n 0, a9, a10, a11, a12, a13, a14, a15, a16, a17, a18, a19, a20, a21, a22, a23, a24, a25, a26)) : wX_express_138 post 18 3 (nI y) 0 (nI w) 0 (nI n) fc ce dp lc ht hs uc mk mg wc tp fr pc oc sc rs rn 2 a1 a2 a3 a4 a5 a6 a7 a8 a9 a10 a11 a12 a13 a14 a15 a16 a17 a18 a19 a20 a21 a22 a23 a24 a25 a26 :=
  nm_r (nI_1 n) ⟨vp_in_nI hn (by decide), nm_r (by rw [nI_clamp (by omega), zq_n18]) ⟨vp_in_nI hn (by decide), nm_r (by rw [nI_clamp (by omega)]) ⟨vp_in_nI hn (by decide), nm_r (by rw [nI_clamp (by omega), zq_nb y hy]) ⟨vp_in_nI hn (by decide), nm_r (by rw [nI_clamp (by omega), zq_n0]) ⟨vp_in_nI hn (by decide), nm_r (by rw [nI_clamp (by omega), zq_nb w hw]) ⟨vp_in_nI hn (by decide), nm_r (by rw [nI_clamp (by omega), zq_n0]) (zq_na18 hy h7y ⟨vp_in_nI hn (by decide), nm_r (by rw [nI_clamp (by omega), zq_s0]) (zq_kn hn (by decide) (by decide) (by decide) (br_f (by decide) hp))⟩)⟩⟩⟩⟩⟩⟩
theorem zq_ex18 {post : Int32 → St2 → Prop} {n y wy : Nat} (hn : n < 60) (hy : y < n) (h5y : a5 y = nI wy) (hw : 1 + wy ≤ 30) (h6y : a6 y = 0) (h7y : a7 y = 0) (hp : post (nI n) (nI (n + 1), fc, ce, dp, lc, ht, hs, uc, mk, mg, wc, tp, fr, pc, oc, sc, rs, rn, 2, upd a1 n 18, upd a2 n 3, upd a3 n (nI y), upd a4 n 0, upd a5 n (nI (1 + wy)), upd a6 n 0, upd a7 n 0, upd a8 n 0, a9, a10, a11, a12, a13, a14, a15, a16, a17, a18, a19, a20, a21, a22, a23, a24, a25, a26)) : wpX_express post (nI n, fc, ce, dp, lc, ht, hs, uc, mk, mg, wc, tp, fr, pc, oc, sc, rs, rn, 2, a1, a2, a3, a4, a5, a6, a7, a8, a9, a10, a11, a12, a13, a14, a15, a16, a17, a18, a19, a20, a21, a22, a23, a24, a25, a26) 18 3 (nI y) 0 := by
  have cy : 1 + a5 (nI y).toNatClampNeg = nI (1 + wy) := by rw [nI_clamp (by omega), h5y]; exact nI_add 1 wy
  exact br_t (nI_lt hn (by decide)) (br_f (by decide) (br_f (by decide) (zq_of18 hy (by omega) (br_f zq_10 (zq_hx18 (br_t rfl (zq_hy18 (br_f zq_10 ⟨vp_in_nI (by omega) (by decide), nm_r cy (br_f (by decide) (zq_nf18 (by omega) h6y (br_f (nI_nlt (a := 30) hw (by decide)) (br_f (by decide) (br_f (by decide) (zq_13818 hn (by omega) (by omega) h7y hp))))))⟩))))))))
end
end
section
/-! compiling: write, push, a step, the loop's turns -/
section
variable {ec fc ce dp lc ht hs uc mg wc tp fr pc oc sc rs rn lv : Int32} {mk : Int64} {a1 a2 a3 a4 a5 a6 a7 a8 a9 a10 a11 a12 a13 a14 a15 a16 a17 a18 a19 a20 a22 a25 a26 : Nat → Int32} {a21 a23 a24 : Nat → Int64}
theorem zq_wr {post : St2 → Prop} {k : Nat} (hk : k < 1560) {p q : Int32} (hp : post (ec, fc, nI (k + 1), dp, lc, ht, hs, uc, mk, mg, wc, tp, fr, pc, oc, sc, rs, rn, lv, a1, a2, a3, a4, a5, a6, a7, a8, a9, a10, upd a11 k p.toInt8.toInt32, upd a12 k q, a13, a14, a15, a16, a17, a18, a19, a20, a21, a22, a23, a24, a25, a26)) : wpX_write post (ec, fc, nI k, dp, lc, ht, hs, uc, mk, mg, wc, tp, fr, pc, oc, sc, rs, rn, lv, a1, a2, a3, a4, a5, a6, a7, a8, a9, a10, a11, a12, a13, a14, a15, a16, a17, a18, a19, a20, a21, a22, a23, a24, a25, a26) p q :=
  ⟨vp_in_nI hk (by decide), nm_r (by rw [nI_clamp (by omega)]) ⟨vp_in_nI hk (by decide), nm_r (by rw [nI_clamp (by omega)]) (nm_r (nI_1 k) hp)⟩⟩
theorem zq_pu {post : St2 → Prop} {d c : Nat} (hd : d < 34) (hc : c < 60) {l l' : Int32} (hq : dp + 1 = nI d) (hl : vp_nar .boolean l = l') (hp : post (ec, fc, ce, nI d, lc, ht, hs, uc, mk, mg, wc, tp, fr, pc, oc, sc, rs, rn, lv, a1, a2, a3, a4, a5, a6, a7, a8, a9, a10, a11, a12, upd a13 d (nI c), upd a14 d 0, upd a15 d l', a16, a17, a18, a19, a20, a21, a22, a23, a24, a25, a26)) : wpX_push post (ec, fc, ce, dp, lc, ht, hs, uc, mk, mg, wc, tp, fr, pc, oc, sc, rs, rn, lv, a1, a2, a3, a4, a5, a6, a7, a8, a9, a10, a11, a12, a13, a14, a15, a16, a17, a18, a19, a20, a21, a22, a23, a24, a25, a26) (nI c) l :=
  nm_r hq ⟨vp_in_nI hd (by decide), nm_r (by rw [nI_clamp (by omega), zq_nb c hc]) ⟨vp_in_nI hd (by decide), nm_r (by rw [nI_clamp (by omega)]) ⟨vp_in_nI hd (by decide), nm_r (by rw [nI_clamp (by omega), hl]) hp⟩⟩⟩
theorem zq_nr0 : narrow .boolean (.int 0) = .int 0 := rfl
theorem zq_nr1 : narrow .boolean (.int 1) = .int 1 := rfl
/-- a step at a known number -/
theorem zq_csK {post : Int32 → St2 → Prop} {d e k : Nat} {ph x : Int32} (hd : d < 34) (he : e < 60) (hk : k < 1560) (h13 : a13 d = nI e) (h8 : a8 e = 1) (h9 : a9 e = x) (hp : post 1 (ec, fc, nI (k + 1), dp, lc, ht + 1, hs, uc, mk, mg, wc, tp, fr, pc, oc, sc, rs, rn, lv, a1, a2, a3, a4, a5, a6, a7, a8, a9, a10, upd a11 k 0, upd a12 k x, a13, a14, a15, a16, a17, a18, a19, a20, a21, a22, a23, a24, a25, a26)) : wpX_compileStep post (ec, fc, nI k, dp, lc, ht, hs, uc, mk, mg, wc, tp, fr, pc, oc, sc, rs, rn, lv, a1, a2, a3, a4, a5, a6, a7, a8, a9, a10, a11, a12, a13, a14, a15, a16, a17, a18, a19, a20, a21, a22, a23, a24, a25, a26) (nI d) ph := by
  have c8 : a8 (nI e).toNatClampNeg = 1 := by rw [nI_clamp (by omega)]; exact h8
  have c9 : a9 (nI e).toNatClampNeg = x := by rw [nI_clamp (by omega)]; exact h9
  refine ⟨vp_in_nI hd (by decide), nm_r (e' := nI e) (by rw [nI_clamp (by omega)]; exact h13) ⟨vp_in_nI he (by decide), nm_e ⟨vp_in_nI he (by decide), zq_e c8 zq_10 ⟨vp_in_nI he (by decide), ?_⟩⟩⟩⟩
  rw [c9]
  exact zq_wr hk (nm_e hp)
theorem zq_pl20 {post : Int32 → St2 → Prop} {k : Int32} (hk : zq_two k) {d d' e c : Nat} (hd' : d' < 34) (he : e < 60) (hc : c < 60) (hq : dp + 1 = nI d') (h2 : a2 e = nI c) (hp : post 0 (ec, fc, ce, nI d', lc, ht, hs, uc, mk, mg, wc, tp, fr, pc, oc, sc, rs, rn, lv, a1, a2, a3, a4, a5, a6, a7, a8, a9, a10, a11, a12, upd a13 d' (nI c), upd a14 d' 0, upd a15 d' 0, a16, a17, a18, a19, a20, a21, a22, a23, a24, a25, a26)) : wpX_compilePlain post (ec, fc, ce, dp, lc, ht, hs, uc, mk, mg, wc, tp, fr, pc, oc, sc, rs, rn, lv, a1, a2, a3, a4, a5, a6, a7, a8, a9, a10, a11, a12, a13, a14, a15, a16, a17, a18, a19, a20, a21, a22, a23, a24, a25, a26) (nI d) (nI e) k 0 := by
  have cc : a2 (nI e).toNatClampNeg = nI c := by rw [nI_clamp (by omega)]; exact h2
  unfold wpX_compilePlain
  refine zq_hx1 hk (br_f zq_10 (zq_hy1 hk (br_f zq_10 (br_t rfl (zq_hx1 hk (br_f zq_10 ⟨vp_in_nI he (by decide), ?_⟩))))))
  unfold wX_compilePlain_51
  rw [cc]
  exact zq_pu hd' hc hq zq_b0 hp
theorem zq_cs20 {post : Int32 → St2 → Prop} {k : Int32} (hk : zq_two k) {d d' e c : Nat} (hd : d < 34) (hd' : d' < 34) (he : e < 60) (hc : c < 60) (hq : dp + 1 = nI d') (h2 : a2 e = nI c) (h13 : a13 d = nI e) (h1 : a1 e = k) (h8 : a8 e = 0) (hp : post 0 (ec, fc, ce, nI d', lc, ht, hs, uc, mk, mg, wc, tp, fr, pc, oc, sc, rs, rn, lv, a1, a2, a3, a4, a5, a6, a7, a8, a9, a10, a11, a12, upd a13 d' (nI c), upd a14 d' 0, upd a15 d' 0, a16, a17, a18, a19, a20, a21, a22, a23, a24, a25, a26)) : wpX_compileStep post (ec, fc, ce, dp, lc, ht, hs, uc, mk, mg, wc, tp, fr, pc, oc, sc, rs, rn, lv, a1, a2, a3, a4, a5, a6, a7, a8, a9, a10, a11, a12, a13, a14, a15, a16, a17, a18, a19, a20, a21, a22, a23, a24, a25, a26) (nI d) 0 := by
  obtain ⟨_, _, _, e1, e2, _, e8, _, _, e14, e15, e16, e17, _, e19, _, tb⟩ := zq_f hk
  have c8 : a8 (nI e).toNatClampNeg = 0 := by rw [nI_clamp (by omega)]; exact h8
  exact ⟨vp_in_nI hd (by decide), nm_r (e' := nI e) (by rw [nI_clamp (by omega)]; exact h13) ⟨vp_in_nI he (by decide), nm_r (e' := k) (by rw [nI_clamp (by omega)]; exact h1) ⟨vp_in_nI he (by decide), br_t c8 (br_f e1 (br_f e2 (br_f e17 (br_f e15 (br_f e8 (br_f e14 (br_f e19 (zq_pl20 hk hd' he hc hq h2 ⟨zq_nr0, hp⟩))))))))⟩⟩⟩
theorem zq_pl21 {post : Int32 → St2 → Prop} {k : Int32} (hk : zq_two k) {d d' e c : Nat} (hd' : d' < 34) (he : e < 60) (hc : c < 60) (hq : dp + 1 = nI d') (h3 : a3 e = nI c) (hp : post 0 (ec, fc, ce, nI d', lc, ht, hs, uc, mk, mg, wc, tp, fr, pc, oc, sc, rs, rn, lv, a1, a2, a3, a4, a5, a6, a7, a8, a9, a10, a11, a12, upd a13 d' (nI c), upd a14 d' 0, upd a15 d' 0, a16, a17, a18, a19, a20, a21, a22, a23, a24, a25, a26)) : wpX_compilePlain post (ec, fc, ce, dp, lc, ht, hs, uc, mk, mg, wc, tp, fr, pc, oc, sc, rs, rn, lv, a1, a2, a3, a4, a5, a6, a7, a8, a9, a10, a11, a12, a13, a14, a15, a16, a17, a18, a19, a20, a21, a22, a23, a24, a25, a26) (nI d) (nI e) k 1 := by
  have cc : a3 (nI e).toNatClampNeg = nI c := by rw [nI_clamp (by omega)]; exact h3
  unfold wpX_compilePlain
  refine zq_hx1 hk (br_f zq_10 (zq_hy1 hk (br_f zq_10 (br_f zq_10 (br_t rfl (br_f zq_10 ⟨vp_in_nI he (by decide), ?_⟩))))))
  rw [cc]
  exact zq_pu hd' hc hq zq_b0 hp
theorem zq_cs21 {post : Int32 → St2 → Prop} {k : Int32} (hk : zq_two k) {d d' e c : Nat} (hd : d < 34) (hd' : d' < 34) (he : e < 60) (hc : c < 60) (hq : dp + 1 = nI d') (h3 : a3 e = nI c) (h13 : a13 d = nI e) (h1 : a1 e = k) (h8 : a8 e = 0) (hp : post 0 (ec, fc, ce, nI d', lc, ht, hs, uc, mk, mg, wc, tp, fr, pc, oc, sc, rs, rn, lv, a1, a2, a3, a4, a5, a6, a7, a8, a9, a10, a11, a12, upd a13 d' (nI c), upd a14 d' 0, upd a15 d' 0, a16, a17, a18, a19, a20, a21, a22, a23, a24, a25, a26)) : wpX_compileStep post (ec, fc, ce, dp, lc, ht, hs, uc, mk, mg, wc, tp, fr, pc, oc, sc, rs, rn, lv, a1, a2, a3, a4, a5, a6, a7, a8, a9, a10, a11, a12, a13, a14, a15, a16, a17, a18, a19, a20, a21, a22, a23, a24, a25, a26) (nI d) 1 := by
  obtain ⟨_, _, _, e1, e2, _, e8, _, _, e14, e15, e16, e17, _, e19, _, tb⟩ := zq_f hk
  have c8 : a8 (nI e).toNatClampNeg = 0 := by rw [nI_clamp (by omega)]; exact h8
  exact ⟨vp_in_nI hd (by decide), nm_r (e' := nI e) (by rw [nI_clamp (by omega)]; exact h13) ⟨vp_in_nI he (by decide), nm_r (e' := k) (by rw [nI_clamp (by omega)]; exact h1) ⟨vp_in_nI he (by decide), br_t c8 (br_f e1 (br_f e2 (br_f e17 (br_f e15 (br_f e8 (br_f e14 (br_f e19 (zq_pl21 hk hd' he hc hq h3 ⟨zq_nr0, hp⟩))))))))⟩⟩⟩
theorem zq_pl22 {post : Int32 → St2 → Prop} {k x : Int32} (hk : zq_two k) {d e p : Nat} (he : e < 60) (hp' : p < 1560) (h2 : a2 e = x) (hp : post 1 (ec, fc, nI (p + 1), dp, lc, ht - 1, hs, uc, mk, mg, wc, tp, fr, pc, oc, sc, rs, rn, lv, a1, a2, a3, a4, a5, a6, a7, a8, a9, a10, upd a11 p k, upd a12 p x, a13, a14, a15, a16, a17, a18, a19, a20, a21, a22, a23, a24, a25, a26)) : wpX_compilePlain post (ec, fc, nI p, dp, lc, ht, hs, uc, mk, mg, wc, tp, fr, pc, oc, sc, rs, rn, lv, a1, a2, a3, a4, a5, a6, a7, a8, a9, a10, a11, a12, a13, a14, a15, a16, a17, a18, a19, a20, a21, a22, a23, a24, a25, a26) (nI d) (nI e) k 2 := by
  obtain ⟨_, _, _, _, _, _, _, _, _, _, _, e16, _, _, _, _, tb⟩ := zq_f hk
  have cc : a2 (nI e).toNatClampNeg = x := by rw [nI_clamp (by omega)]; exact h2
  have tp' : upd a11 p k = upd a11 p k.toInt8.toInt32 := by rw [tb]
  rw [tp'] at hp
  unfold wpX_compilePlain
  refine zq_hx1 hk (br_f zq_10 (zq_hy1 hk (br_f zq_10 (br_f (by decide) (br_f (by decide) (br_f e16 ⟨vp_in_nI he (by decide), ?_⟩))))))
  rw [cc]
  exact zq_wr hp' (br_f zq_10 (nm_e hp))
theorem zq_cs22 {post : Int32 → St2 → Prop} {k x : Int32} (hk : zq_two k) {d e p : Nat} (hd : d < 34) (he : e < 60) (hp' : p < 1560) (h2 : a2 e = x) (h13 : a13 d = nI e) (h1 : a1 e = k) (h8 : a8 e = 0) (hp : post 1 (ec, fc, nI (p + 1), dp, lc, ht - 1, hs, uc, mk, mg, wc, tp, fr, pc, oc, sc, rs, rn, lv, a1, a2, a3, a4, a5, a6, a7, a8, a9, a10, upd a11 p k, upd a12 p x, a13, a14, a15, a16, a17, a18, a19, a20, a21, a22, a23, a24, a25, a26)) : wpX_compileStep post (ec, fc, nI p, dp, lc, ht, hs, uc, mk, mg, wc, tp, fr, pc, oc, sc, rs, rn, lv, a1, a2, a3, a4, a5, a6, a7, a8, a9, a10, a11, a12, a13, a14, a15, a16, a17, a18, a19, a20, a21, a22, a23, a24, a25, a26) (nI d) 2 := by
  obtain ⟨_, _, _, e1, e2, _, e8, _, _, e14, e15, e16, e17, _, e19, _, tb⟩ := zq_f hk
  have c8 : a8 (nI e).toNatClampNeg = 0 := by rw [nI_clamp (by omega)]; exact h8
  exact ⟨vp_in_nI hd (by decide), nm_r (e' := nI e) (by rw [nI_clamp (by omega)]; exact h13) ⟨vp_in_nI he (by decide), nm_r (e' := k) (by rw [nI_clamp (by omega)]; exact h1) ⟨vp_in_nI he (by decide), br_t c8 (br_f e1 (br_f e2 (br_f e17 (br_f e15 (br_f e8 (br_f e14 (br_f e19 (zq_pl22 hk he hp' h2 ⟨zq_nr1, hp⟩))))))))⟩⟩⟩
theorem zq_pl180 {post : Int32 → St2 → Prop} {d d' e c : Nat} (hd' : d' < 34) (he : e < 60) (hc : c < 60) (hq : dp + 1 = nI d') (h3 : a3 e = nI c) (hp : post 0 (ec, fc, ce, nI d', lc, ht, hs, uc, mk, mg, wc, tp, fr, pc, oc, sc, rs, rn, lv, a1, a2, a3, a4, a5, a6, a7, a8, a9, a10, a11, a12, upd a13 d' (nI c), upd a14 d' 0, upd a15 d' 0, a16, a17, a18, a19, a20, a21, a22, a23, a24, a25, a26)) : wpX_compilePlain post (ec, fc, ce, dp, lc, ht, hs, uc, mk, mg, wc, tp, fr, pc, oc, sc, rs, rn, lv, a1, a2, a3, a4, a5, a6, a7, a8, a9, a10, a11, a12, a13, a14, a15, a16, a17, a18, a19, a20, a21, a22, a23, a24, a25, a26) (nI d) (nI e) 18 0 := by
  have cc : a3 (nI e).toNatClampNeg = nI c := by rw [nI_clamp (by omega)]; exact h3
  unfold wpX_compilePlain
  refine zq_hx18 (br_t rfl (br_t rfl (zq_hx18 (br_t rfl ⟨vp_in_nI he (by decide), ?_⟩))))
  unfold wX_compilePlain_51
  rw [cc]
  exact zq_pu hd' hc hq zq_b0 hp
theorem zq_cs180 {post : Int32 → St2 → Prop} {d d' e c : Nat} (hd : d < 34) (hd' : d' < 34) (he : e < 60) (hc : c < 60) (hq : dp + 1 = nI d') (h3 : a3 e = nI c) (h13 : a13 d = nI e) (h1 : a1 e = 18) (h8 : a8 e = 0) (hp : post 0 (ec, fc, ce, nI d', lc, ht, hs, uc, mk, mg, wc, tp, fr, pc, oc, sc, rs, rn, lv, a1, a2, a3, a4, a5, a6, a7, a8, a9, a10, a11, a12, upd a13 d' (nI c), upd a14 d' 0, upd a15 d' 0, a16, a17, a18, a19, a20, a21, a22, a23, a24, a25, a26)) : wpX_compileStep post (ec, fc, ce, dp, lc, ht, hs, uc, mk, mg, wc, tp, fr, pc, oc, sc, rs, rn, lv, a1, a2, a3, a4, a5, a6, a7, a8, a9, a10, a11, a12, a13, a14, a15, a16, a17, a18, a19, a20, a21, a22, a23, a24, a25, a26) (nI d) 0 := by
  have e1 : ¬ (18 : Int32) = 1 := by decide
  have e2 : ¬ (18 : Int32) = 2 := by decide
  have e8 : ¬ (18 : Int32) = 8 := by decide
  have e14 : ¬ (18 : Int32) = 14 := by decide
  have e15 : ¬ (18 : Int32) = 15 := by decide
  have e16 : ¬ (18 : Int32) = 16 := by decide
  have e17 : ¬ (18 : Int32) = 17 := by decide
  have e19 : ¬ (18 : Int32) = 19 := by decide
  have c8 : a8 (nI e).toNatClampNeg = 0 := by rw [nI_clamp (by omega)]; exact h8
  exact ⟨vp_in_nI hd (by decide), nm_r (e' := nI e) (by rw [nI_clamp (by omega)]; exact h13) ⟨vp_in_nI he (by decide), nm_r (e' := 18) (by rw [nI_clamp (by omega)]; exact h1) ⟨vp_in_nI he (by decide), br_t c8 (br_f e1 (br_f e2 (br_f e17 (br_f e15 (br_f e8 (br_f e14 (br_f e19 (zq_pl180 hd' he hc hq h3 ⟨zq_nr0, hp⟩))))))))⟩⟩⟩
theorem zq_pl181 {post : Int32 → St2 → Prop} {x : Int32} {d e p : Nat} (he : e < 60) (hp' : p < 1560) (h2 : a2 e = x) (hp : post 1 (ec, fc, nI (p + 1), dp, lc, ht, hs, uc, mk, mg, wc, tp, fr, pc, oc, sc, rs, rn, lv, a1, a2, a3, a4, a5, a6, a7, a8, a9, a10, upd a11 p 18, upd a12 p x, a13, a14, a15, a16, a17, a18, a19, a20, a21, a22, a23, a24, a25, a26)) : wpX_compilePlain post (ec, fc, nI p, dp, lc, ht, hs, uc, mk, mg, wc, tp, fr, pc, oc, sc, rs, rn, lv, a1, a2, a3, a4, a5, a6, a7, a8, a9, a10, a11, a12, a13, a14, a15, a16, a17, a18, a19, a20, a21, a22, a23, a24, a25, a26) (nI d) (nI e) 18 1 := by
  have cc : a2 (nI e).toNatClampNeg = x := by rw [nI_clamp (by omega)]; exact h2
  unfold wpX_compilePlain
  refine zq_hx18 (br_t rfl (br_f zq_10 (br_t rfl (br_t rfl (br_f (by decide) ⟨vp_in_nI he (by decide), ?_⟩)))))
  rw [cc]
  exact zq_wr hp' (br_t rfl hp)
theorem zq_cs181 {post : Int32 → St2 → Prop} {x : Int32} {d e p : Nat} (hd : d < 34) (he : e < 60) (hp' : p < 1560) (h2 : a2 e = x) (h13 : a13 d = nI e) (h1 : a1 e = 18) (h8 : a8 e = 0) (hp : post 1 (ec, fc, nI (p + 1), dp, lc, ht, hs, uc, mk, mg, wc, tp, fr, pc, oc, sc, rs, rn, lv, a1, a2, a3, a4, a5, a6, a7, a8, a9, a10, upd a11 p 18, upd a12 p x, a13, a14, a15, a16, a17, a18, a19, a20, a21, a22, a23, a24, a25, a26)) : wpX_compileStep post (ec, fc, nI p, dp, lc, ht, hs, uc, mk, mg, wc, tp, fr, pc, oc, sc, rs, rn, lv, a1, a2, a3, a4, a5, a6, a7, a8, a9, a10, a11, a12, a13, a14, a15, a16, a17, a18, a19, a20, a21, a22, a23, a24, a25, a26) (nI d) 1 := by
  have e1 : ¬ (18 : Int32) = 1 := by decide
  have e2 : ¬ (18 : Int32) = 2 := by decide
  have e8 : ¬ (18 : Int32) = 8 := by decide
  have e14 : ¬ (18 : Int32) = 14 := by decide
  have e15 : ¬ (18 : Int32) = 15 := by decide
  have e16 : ¬ (18 : Int32) = 16 := by decide
  have e17 : ¬ (18 : Int32) = 17 := by decide
  have e19 : ¬ (18 : Int32) = 19 := by decide
  have c8 : a8 (nI e).toNatClampNeg = 0 := by rw [nI_clamp (by omega)]; exact h8
  exact ⟨vp_in_nI hd (by decide), nm_r (e' := nI e) (by rw [nI_clamp (by omega)]; exact h13) ⟨vp_in_nI he (by decide), nm_r (e' := 18) (by rw [nI_clamp (by omega)]; exact h1) ⟨vp_in_nI he (by decide), br_t c8 (br_f e1 (br_f e2 (br_f e17 (br_f e15 (br_f e8 (br_f e14 (br_f e19 (zq_pl181 he hp' h2 ⟨zq_nr1, hp⟩))))))))⟩⟩⟩
/-! the turns of the loop -/
theorem zq_tK {post : St2 → Prop} {m d e k : Nat} {ph ph' x q : Int32} (hd : d < 34) (he : e < 60) (hk : k < 1560) (h13 : a13 d = nI e) (h8 : a8 e = 1) (h9 : a9 e = x) (hb : nI d - 1 = q) (h14 : a14 d = ph) (hph : (ph + 1 : Int32).toInt8.toInt32 = ph') (H : wX_compileBody_21 post m ec fc (nI (k + 1)) q lc (ht + 1) hs uc mk mg wc tp fr pc oc sc rs rn lv a1 a2 a3 a4 a5 a6 a7 a8 a9 a10 (upd a11 k 0) (upd a12 k x) a13 (upd a14 d ph') a15 a16 a17 a18 a19 a20 a21 a22 a23 a24 a25 a26) : wX_compileBody_21 post (m + 1) ec fc (nI k) (nI d) lc ht hs uc mk mg wc tp fr pc oc sc rs rn lv a1 a2 a3 a4 a5 a6 a7 a8 a9 a10 a11 a12 a13 a14 a15 a16 a17 a18 a19 a20 a21 a22 a23 a24 a25 a26 :=
  br_f (nI_pos (by omega)) ⟨vp_in_nI hd (by decide), nm_r (e' := ph) (by rw [nI_clamp (by omega)]; exact h14) ⟨vp_in_nI hd (by decide), vp_in_nI hd (by decide), nm_r (e' := upd a14 d ph') (by rw [nI_clamp (by omega), h14, hph]) (zq_csK hd he hk h13 h8 h9 (br_f zq_10 (nm_r hb H)))⟩⟩
theorem zq_t20 {post : St2 → Prop} {k : Int32} {m d d' e c : Nat} {ph' : Int32} (hd : d < 34) (hk : zq_two k) (hd' : d' < 34) (he : e < 60) (hc : c < 60) (hq : nI d + 1 = nI d') (h13 : a13 d = nI e) (h1 : a1 e = k) (h8 : a8 e = 0) (h2 : a2 e = nI c) (h14 : a14 d = 0) (hph : (0 + 1 : Int32).toInt8.toInt32 = ph') (H : wX_compileBody_21 post m ec fc ce (nI d') lc ht hs uc mk mg wc tp fr pc oc sc rs rn lv a1 a2 a3 a4 a5 a6 a7 a8 a9 a10 a11 a12 (upd a13 d' (nI c)) (upd (upd a14 d ph') d' 0) (upd a15 d' 0) a16 a17 a18 a19 a20 a21 a22 a23 a24 a25 a26) : wX_compileBody_21 post (m + 1) ec fc ce (nI d) lc ht hs uc mk mg wc tp fr pc oc sc rs rn lv a1 a2 a3 a4 a5 a6 a7 a8 a9 a10 a11 a12 a13 a14 a15 a16 a17 a18 a19 a20 a21 a22 a23 a24 a25 a26 :=
  br_f (nI_pos (by omega)) ⟨vp_in_nI hd (by decide), nm_r (e' := 0) (by rw [nI_clamp (by omega)]; exact h14) ⟨vp_in_nI hd (by decide), vp_in_nI hd (by decide), nm_r (e' := upd a14 d ph') (by rw [nI_clamp (by omega), h14, hph]) (zq_cs20 hk hd hd' he hc hq h2 h13 h1 h8 (br_t rfl H))⟩⟩
theorem zq_t21 {post : St2 → Prop} {k : Int32} {m d d' e c : Nat} {ph' : Int32} (hd : d < 34) (hk : zq_two k) (hd' : d' < 34) (he : e < 60) (hc : c < 60) (hq : nI d + 1 = nI d') (h13 : a13 d = nI e) (h1 : a1 e = k) (h8 : a8 e = 0) (h3 : a3 e = nI c) (h14 : a14 d = 1) (hph : (1 + 1 : Int32).toInt8.toInt32 = ph') (H : wX_compileBody_21 post m ec fc ce (nI d') lc ht hs uc mk mg wc tp fr pc oc sc rs rn lv a1 a2 a3 a4 a5 a6 a7 a8 a9 a10 a11 a12 (upd a13 d' (nI c)) (upd (upd a14 d ph') d' 0) (upd a15 d' 0) a16 a17 a18 a19 a20 a21 a22 a23 a24 a25 a26) : wX_compileBody_21 post (m + 1) ec fc ce (nI d) lc ht hs uc mk mg wc tp fr pc oc sc rs rn lv a1 a2 a3 a4 a5 a6 a7 a8 a9 a10 a11 a12 a13 a14 a15 a16 a17 a18 a19 a20 a21 a22 a23 a24 a25 a26 :=
  br_f (nI_pos (by omega)) ⟨vp_in_nI hd (by decide), nm_r (e' := 1) (by rw [nI_clamp (by omega)]; exact h14) ⟨vp_in_nI hd (by decide), vp_in_nI hd (by decide), nm_r (e' := upd a14 d ph') (by rw [nI_clamp (by omega), h14, hph]) (zq_cs21 hk hd hd' he hc hq h3 h13 h1 h8 (br_t rfl H))⟩⟩
theorem zq_t22 {post : St2 → Prop} {k x q : Int32} {m d e p : Nat} {ph' : Int32} (hd : d < 34) (hk : zq_two k) (he : e < 60) (hp' : p < 1560) (h13 : a13 d = nI e) (h1 : a1 e = k) (h8 : a8 e = 0) (h2 : a2 e = x) (hb : nI d - 1 = q) (h14 : a14 d = 2) (hph : (2 + 1 : Int32).toInt8.toInt32 = ph') (H : wX_compileBody_21 post m ec fc (nI (p + 1)) q lc (ht - 1) hs uc mk mg wc tp fr pc oc sc rs rn lv a1 a2 a3 a4 a5 a6 a7 a8 a9 a10 (upd a11 p k) (upd a12 p x) a13 (upd a14 d ph') a15 a16 a17 a18 a19 a20 a21 a22 a23 a24 a25 a26) : wX_compileBody_21 post (m + 1) ec fc (nI p) (nI d) lc ht hs uc mk mg wc tp fr pc oc sc rs rn lv a1 a2 a3 a4 a5 a6 a7 a8 a9 a10 a11 a12 a13 a14 a15 a16 a17 a18 a19 a20 a21 a22 a23 a24 a25 a26 :=
  br_f (nI_pos (by omega)) ⟨vp_in_nI hd (by decide), nm_r (e' := 2) (by rw [nI_clamp (by omega)]; exact h14) ⟨vp_in_nI hd (by decide), vp_in_nI hd (by decide), nm_r (e' := upd a14 d ph') (by rw [nI_clamp (by omega), h14, hph]) (zq_cs22 hk hd he hp' h2 h13 h1 h8 (br_f zq_10 (nm_r hb H)))⟩⟩
theorem zq_t180 {post : St2 → Prop} {m d d' e c : Nat} {ph' : Int32} (hd : d < 34) (hd' : d' < 34) (he : e < 60) (hc : c < 60) (hq : nI d + 1 = nI d') (h13 : a13 d = nI e) (h1 : a1 e = 18) (h8 : a8 e = 0) (h3 : a3 e = nI c) (h14 : a14 d = 0) (hph : (0 + 1 : Int32).toInt8.toInt32 = ph') (H : wX_compileBody_21 post m ec fc ce (nI d') lc ht hs uc mk mg wc tp fr pc oc sc rs rn lv a1 a2 a3 a4 a5 a6 a7 a8 a9 a10 a11 a12 (upd a13 d' (nI c)) (upd (upd a14 d ph') d' 0) (upd a15 d' 0) a16 a17 a18 a19 a20 a21 a22 a23 a24 a25 a26) : wX_compileBody_21 post (m + 1) ec fc ce (nI d) lc ht hs uc mk mg wc tp fr pc oc sc rs rn lv a1 a2 a3 a4 a5 a6 a7 a8 a9 a10 a11 a12 a13 a14 a15 a16 a17 a18 a19 a20 a21 a22 a23 a24 a25 a26 :=
  br_f (nI_pos (by omega)) ⟨vp_in_nI hd (by decide), nm_r (e' := 0) (by rw [nI_clamp (by omega)]; exact h14) ⟨vp_in_nI hd (by decide), vp_in_nI hd (by decide), nm_r (e' := upd a14 d ph') (by rw [nI_clamp (by omega), h14, hph]) (zq_cs180 hd hd' he hc hq h3 h13 h1 h8 (br_t rfl H))⟩⟩
theorem zq_t181 {post : St2 → Prop} {x q : Int32} {m d e p : Nat} {ph' : Int32} (hd : d < 34) (he : e < 60) (hp' : p < 1560) (h13 : a13 d = nI e) (h1 : a1 e = 18) (h8 : a8 e = 0) (h2 : a2 e = x) (hb : nI d - 1 = q) (h14 : a14 d = 1) (hph : (1 + 1 : Int32).toInt8.toInt32 = ph') (H : wX_compileBody_21 post m ec fc (nI (p + 1)) q lc ht hs uc mk mg wc tp fr pc oc sc rs rn lv a1 a2 a3 a4 a5 a6 a7 a8 a9 a10 (upd a11 p 18) (upd a12 p x) a13 (upd a14 d ph') a15 a16 a17 a18 a19 a20 a21 a22 a23 a24 a25 a26) : wX_compileBody_21 post (m + 1) ec fc (nI p) (nI d) lc ht hs uc mk mg wc tp fr pc oc sc rs rn lv a1 a2 a3 a4 a5 a6 a7 a8 a9 a10 a11 a12 a13 a14 a15 a16 a17 a18 a19 a20 a21 a22 a23 a24 a25 a26 :=
  br_f (nI_pos (by omega)) ⟨vp_in_nI hd (by decide), nm_r (e' := 1) (by rw [nI_clamp (by omega)]; exact h14) ⟨vp_in_nI hd (by decide), vp_in_nI hd (by decide), nm_r (e' := upd a14 d ph') (by rw [nI_clamp (by omega), h14, hph]) (zq_cs181 hd he hp' h2 h13 h1 h8 (br_f zq_10 (nm_r hb H)))⟩⟩
theorem zq_tX {post : St2 → Prop} {m p : Nat} (hp' : p < 1560) (hd : dp < 0) (H : post (ec, fc, nI (p + 1), dp, lc, ht, hs, uc, mk, mg, wc, tp, fr, pc, oc, sc, rs, rn, lv, a1, a2, a3, a4, a5, a6, a7, a8, a9, a10, upd a11 p 25, upd a12 p 0, a13, a14, a15, a16, a17, a18, a19, a20, a21, a22, a23, a24, a25, a26)) : wX_compileBody_21 post (m + 1) ec fc (nI p) dp lc ht hs uc mk mg wc tp fr pc oc sc rs rn lv a1 a2 a3 a4 a5 a6 a7 a8 a9 a10 a11 a12 a13 a14 a15 a16 a17 a18 a19 a20 a21 a22 a23 a24 a25 a26 := br_t hd (zq_wr hp' H)
/-- the body of expression 5: seven operations -/
theorem zq_body {post : St2 → Prop} {k a b c : Int32} (hk : k = 12 ∨ k = 13) (f12 : a1 2 = 9) (f13 : a1 3 = 18) (f15 : a1 5 = k) (f80 : a8 0 = 1) (f81 : a8 1 = 1) (f82 : a8 2 = 0) (f83 : a8 3 = 0) (f84 : a8 4 = 1) (f85 : a8 5 = 0) (f22 : a2 2 = 0) (f23 : a2 3 = 3) (f25 : a2 5 = 3) (f32 : a3 2 = 1) (f33 : a3 3 = 2) (f35 : a3 5 = 4) (f90 : a9 0 = a) (f91 : a9 1 = b) (f94 : a9 4 = c)
    (H : ∀ (dp ht : Int32) (a13 a14 a15 : Nat → Int32), post (ec, fc, nI 7, dp, 0, ht, hs, uc, mk, mg, wc, tp, fr, pc, oc, sc, rs, rn, lv, a1, a2, a3, a4, a5, a6, a7, a8, a9, a10, upd (upd (upd (upd (upd (upd (upd a11 0 0) 1 0) 2 9) 3 18) 4 0) 5 k) 6 25, upd (upd (upd (upd (upd (upd (upd a12 0 a) 1 b) 2 0) 3 3) 4 c) 5 3) 6 0, a13, a14, a15, a16, a17, a18, a19, a20, a21, a22, a23, a24, a25, a26)) : wpX_compileBody post (ec, fc, 0, dp, lc, ht, hs, uc, mk, mg, wc, tp, fr, pc, oc, sc, rs, rn, lv, a1, a2, a3, a4, a5, a6, a7, a8, a9, a10, a11, a12, a13, a14, a15, a16, a17, a18, a19, a20, a21, a22, a23, a24, a25, a26) 5 := by
  have hk2 : zq_two k := Or.inr hk
  have h9 : zq_two 9 := Or.inl rfl
  unfold wpX_compileBody
  refine zq_pu (d := 0) (c := 5) (by decide) (by decide) (by decide) zq_b1 ⟨12, ?_⟩
  refine zq_t20 (k := k) (d := 0) (d' := 1) (e := 5) (c := 3) (ph' := 1) (by decide) hk2 (by decide) (by decide) (by decide) (by decide) rfl f15 f85 f25 rfl (by decide) ?_
  refine zq_t180 (d := 1) (d' := 2) (e := 3) (c := 2) (ph' := 1) (by decide) (by decide) (by decide) (by decide) (by decide) rfl f13 f83 f33 rfl (by decide) ?_
  refine zq_t20 (k := 9) (d := 2) (d' := 3) (e := 2) (c := 0) (ph' := 1) (by decide) h9 (by decide) (by decide) (by decide) (by decide) rfl f12 f82 f22 rfl (by decide) ?_
  refine zq_tK (d := 3) (e := 0) (k := 0) (ph := 0) (ph' := 1) (x := a) (q := nI 2) (by decide) (by decide) (by decide) rfl f80 f90 (by decide) rfl (by decide) ?_
  refine zq_t21 (k := 9) (d := 2) (d' := 3) (e := 2) (c := 1) (ph' := 2) (by decide) h9 (by decide) (by decide) (by decide) (by decide) rfl f12 f82 f32 rfl (by decide) ?_
  refine zq_tK (d := 3) (e := 1) (k := 1) (ph := 0) (ph' := 1) (x := b) (q := nI 2) (by decide) (by decide) (by decide) rfl f81 f91 (by decide) rfl (by decide) ?_
  refine zq_t22 (k := 9) (x := 0) (d := 2) (e := 2) (p := 2) (ph' := 3) (q := nI 1) (by decide) h9 (by decide) (by decide) rfl f12 f82 f22 (by decide) rfl (by decide) ?_
  refine zq_t181 (x := 3) (d := 1) (e := 3) (p := 3) (ph' := 2) (q := nI 0) (by decide) (by decide) (by decide) rfl f13 f83 f23 (by decide) rfl (by decide) ?_
  refine zq_t21 (k := k) (d := 0) (d' := 1) (e := 5) (c := 4) (ph' := 2) (by decide) hk2 (by decide) (by decide) (by decide) (by decide) rfl f15 f85 f35 rfl (by decide) ?_
  refine zq_tK (d := 1) (e := 4) (k := 4) (ph := 0) (ph' := 1) (x := c) (q := nI 0) (by decide) (by decide) (by decide) rfl f84 f94 (by decide) rfl (by decide) ?_
  refine zq_t22 (k := k) (x := 3) (d := 0) (e := 5) (p := 5) (ph' := 3) (q := -1) (by decide) hk2 (by decide) (by decide) rfl f15 f85 f25 (by decide) rfl (by decide) ?_
  exact zq_tX (p := 6) (by decide) (by decide) (H _ _ _ _ _)
end
end
section
/-! the machine's steps -/
theorem zq_cl0 : (0 : Int32).toNatClampNeg = 0 := by decide
theorem zq_cl1 : (1 : Int32).toNatClampNeg = 1 := by decide
theorem zq_m1 : (-1 : Int32).toInt8.toInt32 = -1 := by decide
theorem zq_m2 : (2 : Int32).toInt8.toInt32 = 2 := by decide
theorem zq_i0 : ((8 * 0 : Int32) + 0).toNatClampNeg = 0 := by decide
theorem zq_i1 : ((8 * 0 : Int32) + 1).toNatClampNeg = 1 := by decide
theorem zq_i2 : ((2 : Int32) + 0).toNatClampNeg = 2 := by decide
theorem zq_i3 : ((2 : Int32) + 1).toNatClampNeg = 3 := by decide
theorem zq_j2 : ((3 : Int32) - 1).toNatClampNeg = 2 := by decide
theorem zq_j3 : (3 : Int32).toNatClampNeg = 3 := by decide
theorem zq_k2 : ((4 : Int32) - 2).toNatClampNeg = 2 := by decide
theorem zq_k3 : ((4 : Int32) - 1).toNatClampNeg = 3 := by decide
theorem zq_c5 : (5 : Int32).toNatClampNeg = 5 := by decide
theorem zq_o2 : (((0 : Int32).toInt64 <<< ((2 : Int32).toInt64 &&& 63)) ||| 2) = (2 : Int64) := by decide
section
variable {ec fc ce dp lc ht hs uc mg wc tp fr pc oc sc rs rn lv : Int32} {mk : Int64} {a1 a2 a3 a4 a5 a6 a7 a8 a9 a10 a11 a12 a13 a14 a15 a16 a17 a18 a19 a20 a22 a25 a26 : Nat → Int32} {a21 a23 a24 : Nat → Int64}
theorem zq_pv {post : Int32 → St2 → Prop} {t : Nat} (ht' : t < 500) {v : Int64} (hp : post (-1) (ec, fc, ce, dp, lc, ht, hs, uc, mk, mg, wc, nI (t + 1), fr, pc, oc, sc, rs, rn, lv, a1, a2, a3, a4, a5, a6, a7, a8, a9, a10, a11, a12, a13, a14, a15, a16, a17, a18, a19, a20, a21, a22, a23, vp_updL a24 t v, a25, a26)) : wpX_pushValue post (ec, fc, ce, dp, lc, ht, hs, uc, mk, mg, wc, nI t, fr, pc, oc, sc, rs, rn, lv, a1, a2, a3, a4, a5, a6, a7, a8, a9, a10, a11, a12, a13, a14, a15, a16, a17, a18, a19, a20, a21, a22, a23, a24, a25, a26) v :=
  ⟨vp_in_nI ht' (by decide), nm_r (by rw [nI_clamp (by omega)]) (nm_r (nI_1 t) hp)⟩
theorem zq_pi {post : Int32 → St2 → Prop} {t : Nat} (ht' : t < 500) {x : Int32} (hp : post (-1) (ec, fc, ce, dp, lc, ht, hs, uc, mk, mg, wc, nI (t + 1), fr, pc, oc, sc, rs, rn, lv, a1, a2, a3, a4, a5, a6, a7, a8, a9, a10, a11, a12, a13, a14, a15, a16, a17, a18, a19, a20, a21, a22, a23, vp_updL a24 t (zq_iv x), a25, a26)) : wpX_pushInt post (ec, fc, ce, dp, lc, ht, hs, uc, mk, mg, wc, nI t, fr, pc, oc, sc, rs, rn, lv, a1, a2, a3, a4, a5, a6, a7, a8, a9, a10, a11, a12, a13, a14, a15, a16, a17, a18, a19, a20, a21, a22, a23, a24, a25, a26) x := by
  unfold wpX_pushInt wpX_intValue
  exact zq_pv ht' hp
theorem zq_p2 : (((2 : Int64) >>> ((2 : Int32).toInt64 &&& 63)).toInt32) = 0 := by decide
theorem zq_po2 {post : Int32 → Prop} (hp : post 0) : wpX_placeOf post (ec, fc, ce, dp, lc, ht, hs, uc, mk, mg, wc, tp, fr, pc, oc, sc, rs, rn, lv, a1, a2, a3, a4, a5, a6, a7, a8, a9, a10, a11, a12, a13, a14, a15, a16, a17, a18, a19, a20, a21, a22, a23, a24, a25, a26) 2 := by
  show post (((2 : Int64) >>> ((2 : Int32).toInt64 &&& 63)).toInt32)
  rw [zq_p2]
  exact hp
theorem zq_so2 {post : Int32 → Prop} (h19 : a19 0 = -1) (hp : post 2) : wpX_sortOf post (ec, fc, ce, dp, lc, ht, hs, uc, mk, mg, wc, tp, fr, pc, oc, sc, rs, rn, lv, a1, a2, a3, a4, a5, a6, a7, a8, a9, a10, a11, a12, a13, a14, a15, a16, a17, a18, a19, a20, a21, a22, a23, a24, a25, a26) 2 :=
  br_f (by decide) (br_f (by decide) (zq_po2 ⟨pk_in 0 48 (by decide), br_f (by rw [zq_cl0, h19]; decide) hp⟩))
theorem zq_so1 {post : Int32 → Prop} {v : Int32} (hp : post 1) : wpX_sortOf post (ec, fc, ce, dp, lc, ht, hs, uc, mk, mg, wc, tp, fr, pc, oc, sc, rs, rn, lv, a1, a2, a3, a4, a5, a6, a7, a8, a9, a10, a11, a12, a13, a14, a15, a16, a17, a18, a19, a20, a21, a22, a23, a24, a25, a26) (zq_iv v) := br_f (zq_iv0 v) (br_t (zq_iv3 v) hp)
/-- a step of the run's loop, at an operation o with operand x -/
theorem zq_r0 {post : Int32 → St2 → Prop} {m p t : Nat} {x : Int32} (hp' : p < 1560) (ho : a11 p = 0) (hx : a12 p = x) (ht' : t < 500) (H : wX_run_85 post m (-1) ec fc ce dp lc ht hs uc mk mg wc (nI (t + 1)) fr (nI (p + 1)) oc sc rs rn lv a1 a2 a3 a4 a5 a6 a7 a8 a9 a10 a11 a12 a13 a14 a15 a16 a17 a18 a19 a20 a21 a22 a23 (vp_updL a24 t (zq_iv x)) a25 a26) : wX_run_85 post (m + 1) (-1) ec fc ce dp lc ht hs uc mk mg wc (nI t) fr (nI p) oc sc rs rn lv a1 a2 a3 a4 a5 a6 a7 a8 a9 a10 a11 a12 a13 a14 a15 a16 a17 a18 a19 a20 a21 a22 a23 a24 a25 a26 :=
  br_t rfl ⟨vp_in_nI hp' (by decide), nm_r (e' := 0) (by rw [nI_clamp (by omega)]; exact ho) ⟨vp_in_nI hp' (by decide), nm_r (e' := x) (by rw [nI_clamp (by omega)]; exact hx) (nm_r (nI_1 p) (br_t rfl (zq_pi ht' H)))⟩⟩
theorem zq_new {post : Int32 → St2 → Prop} (h18 : a18 0 = 0) (hp : post 0 (ec, fc, ce, dp, lc, ht, hs, 1, mk, 0, wc, tp, fr, pc, oc, sc, rs, rn, 2, a1, a2, a3, a4, a5, a6, a7, a8, a9, a10, a11, a12, a13, a14, a15, a16, a17, upd a18 0 1, upd a19 0 (-1), upd a20 0 2, a21, a22, a23, a24, a25, a26)) : wpX_newObject post (ec, fc, ce, dp, lc, ht, hs, 0, mk, 0, wc, tp, fr, pc, oc, sc, rs, rn, 2, a1, a2, a3, a4, a5, a6, a7, a8, a9, a10, a11, a12, a13, a14, a15, a16, a17, a18, a19, a20, a21, a22, a23, a24, a25, a26) (-1) 2 :=
  br_f (by decide) (br_t rfl (br_f (by decide) (br_t (by decide) (br_t (by decide) ⟨1, pk_in 0 48 (by decide), br_t (by rw [zq_cl0]; exact h18) ⟨pk_in 0 48 (by decide), nm_r (by rw [zq_cl0]) (nm_r (by decide) ⟨pk_in 0 48 (by decide), nm_r (by rw [zq_cl0, zq_m1]) ⟨pk_in 0 48 (by decide), nm_r (by rw [zq_cl0, zq_m2]) (br_t rfl hp)⟩⟩)⟩⟩))))
theorem zq_mk {post : Int32 → St2 → Prop} {x : Int32} {v w : Int64} (h18 : a18 0 = 0) (h2 : a24 2 = v) (h3 : a24 3 = w) (hp : post (-1) (ec, fc, ce, dp, lc, ht, hs, 1, mk, 0, wc, 3, fr, pc, oc, 1, rs, rn, 2, a1, a2, a3, a4, a5, a6, a7, a8, a9, a10, a11, a12, a13, a14, a15, a16, a17, upd a18 0 1, upd a19 0 (-1), upd a20 0 2, vp_updL (vp_updL a21 0 v) 1 w, a22, a23, vp_updL a24 2 2, a25, a26)) : wpX_make post (ec, fc, ce, dp, lc, ht, hs, 0, mk, 0, wc, 4, fr, pc, oc, 0, rs, rn, 2, a1, a2, a3, a4, a5, a6, a7, a8, a9, a10, a11, a12, a13, a14, a15, a16, a17, a18, a19, a20, a21, a22, a23, a24, a25, a26) 9 x := by
  refine br_t rfl (br_t rfl (br_f (by decide) (zq_new h18 (br_t (by decide) (nm_r (e' := 1) (by decide) (nm_r (e' := 2) (by decide) ⟨3, ?_⟩))))))
  refine br_f (by decide) ⟨pk_in 2 500 (by decide), pk_in 0 384 (by decide), nm_r (e' := vp_updL a21 0 v) (by rw [zq_i0, zq_i2, h2]) (nm_r (e' := 1) (by decide) ?_)⟩
  refine br_f (by decide) ⟨pk_in 3 500 (by decide), pk_in 1 384 (by decide), nm_r (e' := vp_updL (vp_updL a21 0 v) 1 w) (by rw [zq_i1, zq_i3, h3]) (nm_r (e' := 2) (by decide) ?_)⟩
  refine br_t (by decide) ?_
  rw [zq_o2]
  exact zq_pv (t := 2) (by decide) hp
theorem zq_r9 {post : Int32 → St2 → Prop} {m p : Nat} {x : Int32} {v w : Int64} (hp' : p < 1560) (ho : a11 p = 9) (hx : a12 p = x) (h18 : a18 0 = 0) (h2 : a24 2 = v) (h3 : a24 3 = w) (H : wX_run_85 post m (-1) ec fc ce dp lc ht hs 1 mk 0 wc 3 fr (nI (p + 1)) oc 1 rs rn 2 a1 a2 a3 a4 a5 a6 a7 a8 a9 a10 a11 a12 a13 a14 a15 a16 a17 (upd a18 0 1) (upd a19 0 (-1)) (upd a20 0 2) (vp_updL (vp_updL a21 0 v) 1 w) a22 a23 (vp_updL a24 2 2) a25 a26) : wX_run_85 post (m + 1) (-1) ec fc ce dp lc ht hs 0 mk 0 wc 4 fr (nI p) oc 0 rs rn 2 a1 a2 a3 a4 a5 a6 a7 a8 a9 a10 a11 a12 a13 a14 a15 a16 a17 a18 a19 a20 a21 a22 a23 a24 a25 a26 :=
  br_t rfl ⟨vp_in_nI hp' (by decide), nm_r (e' := 9) (by rw [nI_clamp (by omega)]; exact ho) ⟨vp_in_nI hp' (by decide), nm_r (e' := x) (by rw [nI_clamp (by omega)]; exact hx) (nm_r (nI_1 p) (br_f (by decide) (br_f (by decide) (br_f (by decide) (br_f (by decide) (br_f (by decide) (br_t (by decide) (br_t rfl (zq_mk h18 h2 h3 H)))))))))⟩⟩
theorem zq_mv {post : St2 → Prop} {x : Int32} (hx3 : x = 3) (h2 : a24 2 = 2) (hp : post (ec, fc, ce, dp, lc, ht, hs, uc, mk, 0, wc, 3, fr, pc, oc, sc, rs, rn, lv, a1, a2, a3, a4, a5, a6, a7, a8, a9, a10, a11, a12, a13, a14, a15, a16, a17, a18, a19, a20, a21, a22, vp_updL a23 3 2, a24, a25, a26)) : wpX_moveTop post (ec, fc, ce, dp, lc, ht, hs, uc, mk, 0, wc, 3, fr, pc, oc, sc, rs, rn, lv, a1, a2, a3, a4, a5, a6, a7, a8, a9, a10, a11, a12, a13, a14, a15, a16, a17, a18, a19, a20, a21, a22, a23, a24, a25, a26) 18 x := by
  subst hx3
  exact ⟨pk_in 2 500 (by decide), nm_r (e' := 2) (by rw [zq_j2, h2]) (br_t rfl ⟨pk_in 3 4 (by decide), br_t rfl ⟨pk_in 3 4 (by decide), nm_r (by rw [zq_j3]) hp⟩⟩)⟩
theorem zq_r18 {post : Int32 → St2 → Prop} {m p : Nat} {x : Int32} (hp' : p < 1560) (ho : a11 p = 18) (hx : a12 p = x) (hx3 : x = 3) (h2 : a24 2 = 2) (H : wX_run_85 post m (-1) ec fc ce dp lc ht hs uc mk 0 wc 3 fr (nI (p + 1)) oc sc rs rn lv a1 a2 a3 a4 a5 a6 a7 a8 a9 a10 a11 a12 a13 a14 a15 a16 a17 a18 a19 a20 a21 a22 (vp_updL a23 3 2) a24 a25 a26) : wX_run_85 post (m + 1) (-1) ec fc ce dp lc ht hs uc mk 0 wc 3 fr (nI p) oc sc rs rn lv a1 a2 a3 a4 a5 a6 a7 a8 a9 a10 a11 a12 a13 a14 a15 a16 a17 a18 a19 a20 a21 a22 a23 a24 a25 a26 :=
  br_t rfl ⟨vp_in_nI hp' (by decide), nm_r (e' := 18) (by rw [nI_clamp (by omega)]; exact ho) ⟨vp_in_nI hp' (by decide), nm_r (e' := x) (by rw [nI_clamp (by omega)]; exact hx) (nm_r (nI_1 p) (br_f (by decide) (br_f (by decide) (br_f (by decide) (br_f (by decide) (br_f (by decide) (br_t (by decide) (br_f (by decide) (br_f (by decide) (br_f (by decide) (br_t (by decide) (br_f (by decide) (br_f (by decide) (br_f (by decide) (br_f (by decide) (br_f (by decide) (zq_mv hx3 h2 H)))))))))))))))))⟩⟩
theorem zq_tp12 {post : Int32 → St2 → Prop} {v : Int64} (h19 : a19 0 = -1) (h2 : a24 2 = 2) (h3 : a24 3 = v) (hp : post (-1) (ec, fc, ce, dp, lc, ht, hs, uc, mk, 0, wc, 3, fr, pc, oc, sc, rs, rn, lv, a1, a2, a3, a4, a5, a6, a7, a8, a9, a10, a11, a12, a13, a14, a15, a16, a17, a18, a19, a20, vp_updL a21 0 v, a22, a23, vp_updL a24 2 v, a25, a26)) : wpX_touchPair post (ec, fc, ce, dp, lc, ht, hs, uc, mk, 0, wc, 4, fr, pc, oc, sc, rs, rn, lv, a1, a2, a3, a4, a5, a6, a7, a8, a9, a10, a11, a12, a13, a14, a15, a16, a17, a18, a19, a20, a21, a22, a23, a24, a25, a26) 12 := by
  refine br_t rfl (br_f zq_10 ⟨pk_in 2 500 (by decide), nm_r (e' := 2) (by rw [zq_k2, h2]) (zq_so2 h19 (br_t rfl (zq_po2 (br_f (by decide) (br_t rfl (nm_r (e' := 0) (by decide) (br_f zq_10 ⟨pk_in 0 384 (by decide), br_t rfl ⟨pk_in 3 500 (by decide), pk_in 0 384 (by decide), nm_r (e' := vp_updL a21 0 v) (by rw [zq_cl0, zq_k3, h3]) (nm_r (e' := 3) (by decide) ⟨pk_in 0 384 (by decide), pk_in 2 500 (by decide), nm_r (e' := vp_updL a24 2 v) ?_ hp⟩)⟩⟩)))))))⟩)
  rw [zq_j2, zq_cl0, pk_uLs]
theorem zq_r12 {post : Int32 → St2 → Prop} {m p : Nat} {x : Int32} {v : Int64} (hp' : p < 1560) (ho : a11 p = 12) (hx : a12 p = x) (h19 : a19 0 = -1) (h2 : a24 2 = 2) (h3 : a24 3 = v) (H : wX_run_85 post m (-1) ec fc ce dp lc ht hs uc mk 0 wc 3 fr (nI (p + 1)) oc sc rs rn lv a1 a2 a3 a4 a5 a6 a7 a8 a9 a10 a11 a12 a13 a14 a15 a16 a17 a18 a19 a20 (vp_updL a21 0 v) a22 a23 (vp_updL a24 2 v) a25 a26) : wX_run_85 post (m + 1) (-1) ec fc ce dp lc ht hs uc mk 0 wc 4 fr (nI p) oc sc rs rn lv a1 a2 a3 a4 a5 a6 a7 a8 a9 a10 a11 a12 a13 a14 a15 a16 a17 a18 a19 a20 a21 a22 a23 a24 a25 a26 :=
  br_t rfl ⟨vp_in_nI hp' (by decide), nm_r (e' := 12) (by rw [nI_clamp (by omega)]; exact ho) ⟨vp_in_nI hp' (by decide), nm_r (e' := x) (by rw [nI_clamp (by omega)]; exact hx) (nm_r (nI_1 p) (br_f (by decide) (br_f (by decide) (br_f (by decide) (br_f (by decide) (br_f (by decide) (br_t (by decide) (br_f (by decide) (br_f (by decide) (br_f (by decide) (br_f (by decide) (zq_tp12 h19 h2 h3 H))))))))))))⟩⟩
theorem zq_tp13 {post : Int32 → St2 → Prop} {v : Int64} (h19 : a19 0 = -1) (h2 : a24 2 = 2) (h3 : a24 3 = v) (hp : post (-1) (ec, fc, ce, dp, lc, ht, hs, uc, mk, 0, wc, 3, fr, pc, oc, sc, rs, rn, lv, a1, a2, a3, a4, a5, a6, a7, a8, a9, a10, a11, a12, a13, a14, a15, a16, a17, a18, a19, a20, vp_updL a21 1 v, a22, a23, vp_updL a24 2 v, a25, a26)) : wpX_touchPair post (ec, fc, ce, dp, lc, ht, hs, uc, mk, 0, wc, 4, fr, pc, oc, sc, rs, rn, lv, a1, a2, a3, a4, a5, a6, a7, a8, a9, a10, a11, a12, a13, a14, a15, a16, a17, a18, a19, a20, a21, a22, a23, a24, a25, a26) 13 := by
  refine br_f (by decide) (br_t rfl (br_f zq_10 ⟨pk_in 2 500 (by decide), nm_r (e' := 2) (by rw [zq_k2, h2]) (zq_so2 h19 (br_t rfl (zq_po2 (br_f (by decide) (br_f (by decide) (nm_r (e' := 1) (by decide) (br_f zq_10 ⟨pk_in 1 384 (by decide), br_t rfl ⟨pk_in 3 500 (by decide), pk_in 1 384 (by decide), nm_r (e' := vp_updL a21 1 v) (by rw [zq_cl1, zq_k3, h3]) (nm_r (e' := 3) (by decide) ⟨pk_in 1 384 (by decide), pk_in 2 500 (by decide), nm_r (e' := vp_updL a24 2 v) ?_ hp⟩)⟩⟩)))))))⟩))
  rw [zq_j2, zq_cl1, pk_uLs]
theorem zq_r13 {post : Int32 → St2 → Prop} {m p : Nat} {x : Int32} {v : Int64} (hp' : p < 1560) (ho : a11 p = 13) (hx : a12 p = x) (h19 : a19 0 = -1) (h2 : a24 2 = 2) (h3 : a24 3 = v) (H : wX_run_85 post m (-1) ec fc ce dp lc ht hs uc mk 0 wc 3 fr (nI (p + 1)) oc sc rs rn lv a1 a2 a3 a4 a5 a6 a7 a8 a9 a10 a11 a12 a13 a14 a15 a16 a17 a18 a19 a20 (vp_updL a21 1 v) a22 a23 (vp_updL a24 2 v) a25 a26) : wX_run_85 post (m + 1) (-1) ec fc ce dp lc ht hs uc mk 0 wc 4 fr (nI p) oc sc rs rn lv a1 a2 a3 a4 a5 a6 a7 a8 a9 a10 a11 a12 a13 a14 a15 a16 a17 a18 a19 a20 a21 a22 a23 a24 a25 a26 :=
  br_t rfl ⟨vp_in_nI hp' (by decide), nm_r (e' := 13) (by rw [nI_clamp (by omega)]; exact ho) ⟨vp_in_nI hp' (by decide), nm_r (e' := x) (by rw [nI_clamp (by omega)]; exact hx) (nm_r (nI_1 p) (br_f (by decide) (br_f (by decide) (br_f (by decide) (br_f (by decide) (br_f (by decide) (br_t (by decide) (br_f (by decide) (br_f (by decide) (br_f (by decide) (br_f (by decide) (zq_tp13 h19 h2 h3 H))))))))))))⟩⟩
theorem zq_r25 {post : Int32 → St2 → Prop} {m p : Nat} {x v : Int32} (hp' : p < 1560) (ho : a11 p = 25) (hx : a12 p = x) (h2 : a24 2 = zq_iv v) (H : wX_run_85 post m 0 ec fc ce dp lc ht hs uc mk mg wc 3 fr (nI (p + 1)) 0 sc 1 v lv a1 a2 a3 a4 a5 a6 a7 a8 a9 a10 a11 a12 a13 a14 a15 a16 a17 a18 a19 a20 a21 a22 a23 a24 a25 a26) : wX_run_85 post (m + 1) (-1) ec fc ce dp lc ht hs uc mk mg wc 3 fr (nI p) 0 sc rs rn lv a1 a2 a3 a4 a5 a6 a7 a8 a9 a10 a11 a12 a13 a14 a15 a16 a17 a18 a19 a20 a21 a22 a23 a24 a25 a26 :=
  br_t rfl ⟨vp_in_nI hp' (by decide), nm_r (e' := 25) (by rw [nI_clamp (by omega)]; exact ho) ⟨vp_in_nI hp' (by decide), nm_r (e' := x) (by rw [nI_clamp (by omega)]; exact hx) (nm_r (nI_1 p) (br_f (by decide) (br_f (by decide) (br_f (by decide) (br_f (by decide) (br_f (by decide) (br_t (by decide) (br_f (by decide) (br_f (by decide) (br_f (by decide) (br_t (by decide) (br_f (by decide) (br_f (by decide) (br_t rfl ⟨pk_in 2 500 (by decide), nm_r (e' := zq_iv v) (by rw [zq_j2, h2]) (br_t rfl (zq_so1 (br_t rfl (nm_r (zq_ivn v) H))))⟩))))))))))))))⟩⟩
/-- the run of expression 5 -/
theorem zq_run {post : Int32 → St2 → Prop} {k a b c : Int32} (hk : k = 12 ∨ k = 13) (f12 : a1 2 = 9) (f13 : a1 3 = 18) (f15 : a1 5 = k) (f80 : a8 0 = 1) (f81 : a8 1 = 1) (f82 : a8 2 = 0) (f83 : a8 3 = 0) (f84 : a8 4 = 1) (f85 : a8 5 = 0) (f22 : a2 2 = 0) (f23 : a2 3 = 3) (f25 : a2 5 = 3) (f32 : a3 2 = 1) (f33 : a3 3 = 2) (f35 : a3 5 = 4) (f90 : a9 0 = a) (f91 : a9 1 = b) (f94 : a9 4 = c) (f65 : a6 5 = 0) (f18 : a18 0 = 0)
    (H : ∀ (ce dp lc ht hs uc tp fr pc oc sc rs : Int32) (a11 a12 a13 a14 a15 a18 a19 a20 : Nat → Int32) (a21 a23 a24 : Nat → Int64), a23 3 = 2 → a19 0 = -1 → (k = 12 → a21 0 = zq_iv c ∧ a21 1 = zq_iv b) → (k = 13 → a21 0 = zq_iv a ∧ a21 1 = zq_iv c) → post 0 (nI 6, fc, ce, dp, lc, ht, hs, uc, mk, 0, wc, tp, fr, pc, oc, sc, rs, c, 2, a1, a2, a3, a4, a5, a6, a7, a8, a9, a10, a11, a12, a13, a14, a15, a16, a17, a18, a19, a20, a21, a22, a23, a24, a25, a26)) : wpX_run post (nI 6, fc, ce, dp, lc, ht, hs, 0, mk, 0, wc, tp, fr, pc, oc, sc, rs, rn, 2, a1, a2, a3, a4, a5, a6, a7, a8, a9, a10, a11, a12, a13, a14, a15, a16, a17, a18, a19, a20, a21, a22, a23, a24, a25, a26) 5 := by
  unfold wpX_run
  refine zq_ise (n := 6) (x := 5) (by decide) (by decide) (br_f zq_10 ⟨pk_in 5 60 (by decide), br_t (by rw [zq_c5, f65]; decide) ?_⟩)
  refine zq_body hk f12 f13 f15 f80 f81 f82 f83 f84 f85 f22 f23 f25 f32 f33 f35 f90 f91 f94 (fun dp ht a13 a14 a15 => nm_e (nm_e ⟨8, ?_⟩))
  refine zq_r0 (p := 0) (t := 2) (x := a) (by decide) rfl rfl (by decide) ?_
  refine zq_r0 (p := 1) (t := 3) (x := b) (by decide) rfl rfl (by decide) ?_
  refine zq_r9 (p := 2) (x := 0) (v := zq_iv a) (w := zq_iv b) (by decide) rfl rfl f18 rfl rfl ?_
  refine zq_r18 (p := 3) (x := 3) (by decide) rfl rfl rfl rfl ?_
  refine zq_r0 (p := 4) (t := 3) (x := c) (by decide) rfl rfl (by decide) ?_
  rcases hk with rfl | rfl
  · refine zq_r12 (p := 5) (x := 3) (v := zq_iv c) (by decide) rfl rfl rfl rfl rfl ?_
    refine zq_r25 (p := 6) (x := 0) (v := c) (by decide) rfl rfl rfl ?_
    exact br_f (by decide) (H _ _ _ _ _ _ _ _ _ _ _ _ _ _ _ _ _ _ _ _ _ _ _ rfl rfl (fun _ => ⟨rfl, rfl⟩) (fun z => absurd z (by decide)))
  · refine zq_r13 (p := 5) (x := 3) (v := zq_iv c) (by decide) rfl rfl rfl rfl rfl ?_
    refine zq_r25 (p := 6) (x := 0) (v := c) (by decide) rfl rfl rfl ?_
    exact br_f (by decide) (H _ _ _ _ _ _ _ _ _ _ _ _ _ _ _ _ _ _ _ _ _ _ _ rfl rfl (fun z => absurd z (by decide)) (fun _ => ⟨rfl, rfl⟩))
end
end
section
/-! number: what a global's pair holds -/
section
variable {ec fc ce dp lc ht hs uc mg wc tp fr pc oc sc rs rn lv : Int32} {mk : Int64} {a1 a2 a3 a4 a5 a6 a7 a8 a9 a10 a11 a12 a13 a14 a15 a16 a17 a18 a19 a20 a22 a25 a26 : Nat → Int32} {a21 a23 a24 : Nat → Int64}
theorem zq_c3 : (3 : Int32).toNatClampNeg = 3 := by decide
theorem zq_x8 : ((8 * 0 : Int32) + ((8 : Int32) &&& 3)).toNatClampNeg = 0 := by decide
theorem zq_he8 {post : Int32 → Prop} (hp : post 1) : wpX_hasEnd post (ec, fc, ce, dp, lc, ht, hs, uc, mk, mg, wc, tp, fr, pc, oc, sc, rs, rn, lv, a1, a2, a3, a4, a5, a6, a7, a8, a9, a10, a11, a12, a13, a14, a15, a16, a17, a18, a19, a20, a21, a22, a23, a24, a25, a26) 8 :=
  ⟨2, br_f (by decide) (br_t (by decide) (nm_r (e' := 2) (by decide) (nm_r (e' := 1) (by decide) (br_f (by decide) (br_f (by decide) hp)))))⟩
theorem zq_iw8 {post : Int32 → Prop} {v : Int32} (h23 : a23 3 = 2) (h19 : a19 0 = -1) (h21 : a21 0 = zq_iv v) (hp : post 1) : wpX_isWay post (ec, fc, ce, dp, lc, ht, hs, uc, mk, mg, wc, tp, fr, pc, oc, sc, rs, rn, lv, a1, a2, a3, a4, a5, a6, a7, a8, a9, a10, a11, a12, a13, a14, a15, a16, a17, a18, a19, a20, a21, a22, a23, a24, a25, a26) 3 8 :=
  ⟨pk_in 3 4 (by decide), nm_r (e' := 2) (by rw [zq_c3]; exact h23) ⟨2, br_f (by decide) (zq_so2 h19 (br_t rfl (zq_po2 ⟨pk_in 0 384 (by decide), nm_r (e' := zq_iv v) (by rw [zq_x8]; exact h21) (nm_r (e' := 2) (by decide) (br_t (by decide) hp))⟩)))⟩⟩
theorem zq_fo8 {post : Int64 → Prop} {v : Int32} (h23 : a23 3 = 2) (h21 : a21 0 = zq_iv v) (hp : post (zq_iv v)) : wpX_follow post (ec, fc, ce, dp, lc, ht, hs, uc, mk, mg, wc, tp, fr, pc, oc, sc, rs, rn, lv, a1, a2, a3, a4, a5, a6, a7, a8, a9, a10, a11, a12, a13, a14, a15, a16, a17, a18, a19, a20, a21, a22, a23, a24, a25, a26) 3 8 :=
  ⟨pk_in 3 4 (by decide), nm_r (e' := 2) (by rw [zq_c3]; exact h23) ⟨2, br_f (by decide) (zq_po2 ⟨pk_in 0 384 (by decide), nm_r (e' := zq_iv v) (by rw [zq_x8]; exact h21) (nm_r (e' := 2) (by decide) (br_t (by decide) hp))⟩)⟩⟩
theorem zq_nu8 {post : Int32 → Prop} {v : Int32} (h23 : a23 3 = 2) (h19 : a19 0 = -1) (h21 : a21 0 = zq_iv v) (hp : post v) : wpX_number post (ec, fc, ce, dp, lc, ht, hs, uc, mk, mg, wc, tp, fr, pc, oc, sc, rs, rn, lv, a1, a2, a3, a4, a5, a6, a7, a8, a9, a10, a11, a12, a13, a14, a15, a16, a17, a18, a19, a20, a21, a22, a23, a24, a25, a26) 3 8 := by
  refine br_f (by decide) (br_f (by decide) (br_f (by decide) (br_f (by decide) (zq_he8 (br_f zq_10 (zq_iw8 h23 h19 h21 (br_f zq_10 (zq_fo8 h23 h21 (zq_so1 (br_t rfl (zq_fo8 h23 h21 ?_))))))))))) 
  rw [zq_ivn]
  exact hp
theorem zq_x9 : ((8 * 0 : Int32) + ((9 : Int32) &&& 3)).toNatClampNeg = 1 := by decide
theorem zq_he9 {post : Int32 → Prop} (hp : post 1) : wpX_hasEnd post (ec, fc, ce, dp, lc, ht, hs, uc, mk, mg, wc, tp, fr, pc, oc, sc, rs, rn, lv, a1, a2, a3, a4, a5, a6, a7, a8, a9, a10, a11, a12, a13, a14, a15, a16, a17, a18, a19, a20, a21, a22, a23, a24, a25, a26) 9 :=
  ⟨2, br_f (by decide) (br_t (by decide) (nm_r (e' := 2) (by decide) (nm_r (e' := 1) (by decide) (br_f (by decide) (br_f (by decide) hp)))))⟩
theorem zq_iw9 {post : Int32 → Prop} {v : Int32} (h23 : a23 3 = 2) (h19 : a19 0 = -1) (h21 : a21 1 = zq_iv v) (hp : post 1) : wpX_isWay post (ec, fc, ce, dp, lc, ht, hs, uc, mk, mg, wc, tp, fr, pc, oc, sc, rs, rn, lv, a1, a2, a3, a4, a5, a6, a7, a8, a9, a10, a11, a12, a13, a14, a15, a16, a17, a18, a19, a20, a21, a22, a23, a24, a25, a26) 3 9 :=
  ⟨pk_in 3 4 (by decide), nm_r (e' := 2) (by rw [zq_c3]; exact h23) ⟨2, br_f (by decide) (zq_so2 h19 (br_t rfl (zq_po2 ⟨pk_in 1 384 (by decide), nm_r (e' := zq_iv v) (by rw [zq_x9]; exact h21) (nm_r (e' := 2) (by decide) (br_t (by decide) hp))⟩)))⟩⟩
theorem zq_fo9 {post : Int64 → Prop} {v : Int32} (h23 : a23 3 = 2) (h21 : a21 1 = zq_iv v) (hp : post (zq_iv v)) : wpX_follow post (ec, fc, ce, dp, lc, ht, hs, uc, mk, mg, wc, tp, fr, pc, oc, sc, rs, rn, lv, a1, a2, a3, a4, a5, a6, a7, a8, a9, a10, a11, a12, a13, a14, a15, a16, a17, a18, a19, a20, a21, a22, a23, a24, a25, a26) 3 9 :=
  ⟨pk_in 3 4 (by decide), nm_r (e' := 2) (by rw [zq_c3]; exact h23) ⟨2, br_f (by decide) (zq_po2 ⟨pk_in 1 384 (by decide), nm_r (e' := zq_iv v) (by rw [zq_x9]; exact h21) (nm_r (e' := 2) (by decide) (br_t (by decide) hp))⟩)⟩⟩
theorem zq_nu9 {post : Int32 → Prop} {v : Int32} (h23 : a23 3 = 2) (h19 : a19 0 = -1) (h21 : a21 1 = zq_iv v) (hp : post v) : wpX_number post (ec, fc, ce, dp, lc, ht, hs, uc, mk, mg, wc, tp, fr, pc, oc, sc, rs, rn, lv, a1, a2, a3, a4, a5, a6, a7, a8, a9, a10, a11, a12, a13, a14, a15, a16, a17, a18, a19, a20, a21, a22, a23, a24, a25, a26) 3 9 := by
  refine br_f (by decide) (br_f (by decide) (br_f (by decide) (br_f (by decide) (zq_he9 (br_f zq_10 (zq_iw9 h23 h19 h21 (br_f zq_10 (zq_fo9 h23 h21 (zq_so1 (br_t rfl (zq_fo9 h23 h21 ?_))))))))))) 
  rw [zq_ivn]
  exact hp
end
end
section
/-! the law -/
theorem zq_init {post : St2 → Prop} (hp : post (0, 0, 0, 0, 0, 0, 0, 0, 0, 0, 0, 0, 0, 0, 0, 0, 0, 0, 2, (fun _ => 0), (fun _ => 0), (fun _ => 0), (fun _ => 0), (fun _ => 0), (fun _ => 0), (fun _ => 0), (fun _ => 0), (fun _ => 0), (fun _ => 0), (fun _ => 0), (fun _ => 0), (fun _ => 0), (fun _ => 0), (fun _ => 0), (fun _ => 0), (fun _ => 0), (fun _ => 0), (fun _ => 0), (fun _ => 0), (fun _ => 0), (fun _ => 0), (fun _ => 0), (fun _ => 0), (fun _ => 0), (fun _ => 0))) : wpX_init post 26 4994 (0, 0, 0, 0, 0, 0, 0, 0, 0, 0, 0, 0, 0, 0, 0, 0, 0, 0, 0) :=
  ⟨by decide, by decide, by decide, by decide, by decide, by decide, by decide, by decide, by decide, by decide, by decide, by decide, by decide, by decide, by decide, by decide, by decide, by decide, by decide, by decide, by decide, by decide, by decide, by decide, by decide, by decide, by decide, by decide, by decide, by decide, by decide, by decide, by decide, by decide, by decide, by decide, by decide, by decide, by decide, by decide, by decide, by decide, by decide, by decide, by decide, by decide, by decide, by decide, by decide, by decide, by decide, by decide, hp⟩
theorem zq_law12 {a b c : Int32} : wL_lawOf_12 (fun r _ => r = 1) 27 5039 a b c 0 0 0 := by
  refine ⟨by decide, by decide, 26, 4994, by decide, by decide, zq_init ?_⟩
  refine zq_ex0 (n := 0) (by decide) (br_t rfl ?_)
  refine zq_ex0 (n := 1) (by decide) (br_t rfl ?_)
  refine zq_ex2 (k := 9) (n := 2) (x := 0) (y := 1) (wx := 1) (wy := 1) (Or.inl rfl) (by decide) (by decide) (by decide) rfl rfl (by decide) rfl rfl rfl rfl (br_t rfl ?_)
  refine zq_ex18 (n := 3) (y := 2) (wy := 3) (by decide) (by decide) rfl (by decide) rfl rfl (br_t rfl ?_)
  refine zq_ex0 (n := 4) (by decide) (br_t rfl (br_t rfl ?_))
  refine zq_ex2 (k := 12) (n := 5) (x := 3) (y := 4) (wx := 4) (wy := 1) (Or.inr (Or.inl rfl)) (by decide) (by decide) (by decide) rfl rfl (by decide) rfl rfl rfl rfl (br_t rfl ?_)
  refine zq_run (k := 12) (a := a) (b := b) (c := c) (Or.inl rfl) rfl rfl rfl rfl rfl rfl rfl rfl rfl rfl rfl rfl rfl rfl rfl rfl rfl rfl rfl rfl ?_
  intro ce dp lc ht hs uc tp fr pc oc sc rs a11 a12 a13 a14 a15 a18 a19 a20 a21 a23 a24 h23 h19 g12 g13
  refine br_t rfl (br_t rfl (zq_nu8 (v := c) h23 h19 (g12 rfl).1 (br_t rfl (br_t rfl (zq_nu9 (v := b) h23 h19 (g12 rfl).2 (br_t rfl (br_t rfl rfl)))))))
theorem zq_law13 {a b c : Int32} : wL_lawOf_12 (fun r _ => r = 1) 27 5039 a b c 1 0 0 := by
  refine ⟨by decide, by decide, 26, 4994, by decide, by decide, zq_init ?_⟩
  refine zq_ex0 (n := 0) (by decide) (br_t rfl ?_)
  refine zq_ex0 (n := 1) (by decide) (br_t rfl ?_)
  refine zq_ex2 (k := 9) (n := 2) (x := 0) (y := 1) (wx := 1) (wy := 1) (Or.inl rfl) (by decide) (by decide) (by decide) rfl rfl (by decide) rfl rfl rfl rfl (br_t rfl ?_)
  refine zq_ex18 (n := 3) (y := 2) (wy := 3) (by decide) (by decide) rfl (by decide) rfl rfl (br_t rfl ?_)
  refine zq_ex0 (n := 4) (by decide) (br_t rfl (br_f zq_10 ?_))
  refine zq_ex2 (k := 13) (n := 5) (x := 3) (y := 4) (wx := 4) (wy := 1) (Or.inr (Or.inr rfl)) (by decide) (by decide) (by decide) rfl rfl (by decide) rfl rfl rfl rfl (br_t rfl ?_)
  refine zq_run (k := 13) (a := a) (b := b) (c := c) (Or.inr rfl) rfl rfl rfl rfl rfl rfl rfl rfl rfl rfl rfl rfl rfl rfl rfl rfl rfl rfl rfl rfl ?_
  intro ce dp lc ht hs uc tp fr pc oc sc rs a11 a12 a13 a14 a15 a18 a19 a20 a21 a23 a24 h23 h19 g12 g13
  refine br_t rfl (br_t rfl (zq_nu8 (v := a) h23 h19 (g13 rfl).1 (br_f zq_10 (br_t rfl (zq_nu9 (v := c) h23 h19 (g13 rfl).2 (br_f zq_10 (br_t rfl rfl)))))))
theorem zq_cell {post : Int32 → Prop} {L : Nat} {xs : Nat → Int32} {i : Nat} (hL : L ≤ 4) (hi : i < 4) (hp : ∀ x, post x) : wpL_cellAt post L xs () (nI i) :=
  pk_le L i (fun _ => hp 0) (fun h => ⟨vp_in_nI h (by omega), hp _⟩)
theorem i_vc (xs : Nat → Int32) (L : Nat) (hL : L ≤ 4) : wpL_law (fun r => r = 1) L xs :=
  zq_cell (i := 0) hL (by decide) fun a => zq_cell (i := 1) hL (by decide) fun b => zq_cell (i := 2) hL (by decide) fun c => zq_cell (i := 3) hL (by decide) fun w =>
    ⟨27, 5039, by decide, by decide, br_c (fun _ => zq_law13) (fun _ => zq_law12)⟩
end
