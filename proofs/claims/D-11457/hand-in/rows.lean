section
/-! ===== plain rows: what the law expects, and small helps ===== -/
def qz_clip (z : Int32) : Int32 := if (-32768) ≤ z then (if z ≤ 32767 then z else 32767) else (-32768)
def qz_v (k x y : Int32) : Int32 := if k = 2 then qz_clip (x + y) else if k = 3 then qz_clip (x - y) else if k = 9 then (if x ≤ y then y else x) else qz_clip (((x * y) + 16384) >>> ((15 : Int32) &&& 31))
def qz_k (k : Int32) : Prop := k = 2 ∨ k = 3 ∨ k = 9 ∨ k = 10
def qz_o (o : Int32) : Prop := o = 0 ∨ o = 1 ∨ o = 2 ∨ o = 3
/-! a condition over a place whose content is known -/
theorem qz_eqt {x v w : Int32} {A B : Prop} (e : x = v) (h : v = w) (a : A) : (x = w → A) ∧ (¬ x = w → B) := by subst e; exact br_t h a
theorem qz_eqf {x v w : Int32} {A B : Prop} (e : x = v) (h : ¬ v = w) (b : B) : (x = w → A) ∧ (¬ x = w → B) := by subst e; exact br_f h b
theorem qz_ltt {x v w : Int32} {A B : Prop} (e : x = v) (h : v < w) (a : A) : (x < w → A) ∧ (¬ x < w → B) := by subst e; exact br_t h a
theorem qz_ltf {x v w : Int32} {A B : Prop} (e : x = v) (h : ¬ v < w) (b : B) : (x < w → A) ∧ (¬ x < w → B) := by subst e; exact br_f h b
theorem qz_rlt {x v w : Int32} {A B : Prop} (e : x = v) (h : w < v) (a : A) : (w < x → A) ∧ (¬ w < x → B) := by subst e; exact br_t h a
theorem qz_rlf {x v w : Int32} {A B : Prop} (e : x = v) (h : ¬ w < v) (b : B) : (w < x → A) ∧ (¬ w < x → B) := by subst e; exact br_f h b
theorem qz_let {x v w : Int32} {A B : Prop} (e : x = v) (h : w ≤ v) (a : A) : (w ≤ x → A) ∧ (¬ w ≤ x → B) := by subst e; exact br_t h a
theorem qz_lef {x v w : Int32} {A B : Prop} (e : x = v) (h : ¬ w ≤ v) (b : B) : (w ≤ x → A) ∧ (¬ w ≤ x → B) := by subst e; exact br_f h b
theorem qz_in {x v : Int32} {n : Nat} (e : x = v) (h : 0 ≤ v.toInt ∧ v.toInt < n) : vp_in x n := by subst e; exact vp_in_iff.mpr h
theorem qz_i {x : Int32} {n : Nat} (h : 0 ≤ x.toInt ∧ x.toInt < n) : vp_in x n := vp_in_iff.mpr h
/-! the law's clip, the class's clipped -/
theorem qz_lclip {post : Int32 → Prop} {u : St0} {z : Int32} (h : post (qz_clip z)) : wpL_clip post u z := by
  unfold wpL_clip
  unfold qz_clip at h
  by_cases h1 : (-32768 : Int32) ≤ z
  · rw [if_pos h1] at h
    by_cases h2 : z ≤ 32767
    · rw [if_pos h2] at h
      exact br_t h1 (br_t h2 h)
    · rw [if_neg h2] at h
      exact br_t h1 (br_f h2 h)
  · rw [if_neg h1] at h
    exact br_f h1 h
theorem qz_lo {z : Int32} : ((-32768 : Int64) ≤ z.toInt64) ↔ ((-32768 : Int32) ≤ z) := by
  rw [Int64.le_iff_toInt_le, Int32.le_iff_toInt_le, Int32.toInt_toInt64]
  exact Iff.rfl
theorem qz_hi {z : Int32} : (z.toInt64 ≤ (32767 : Int64)) ↔ (z ≤ (32767 : Int32)) := by
  rw [Int64.le_iff_toInt_le, Int32.le_iff_toInt_le, Int32.toInt_toInt64]
  exact Iff.rfl
section
variable {nc fc lv cp nd pn le wc : Int32} {ac : Int64} {dc sc : Int32} {a1 a2 a3 a4 a5 a6 a7 a8 a9 a10 a11 a12 a13 a14 a15 a16 a17 a18 a19 a20 a21 a22 a23 a24 a25 a26 : Nat → Int32}
theorem qz_clipped {post : Int32 → Prop} {z : Int32} (h : post (qz_clip z)) : wpX_clipped post (nc, fc, lv, cp, nd, pn, le, wc, ac, dc, sc, a1, a2, a3, a4, a5, a6, a7, a8, a9, a10, a11, a12, a13, a14, a15, a16, a17, a18, a19, a20, a21, a22, a23, a24, a25, a26) z.toInt64 := by
  unfold wpX_clipped
  dsimp only
  unfold qz_clip at h
  rw [qz_lo, qz_hi, Int32.toInt32_toInt64]
  by_cases h1 : (-32768 : Int32) ≤ z
  · rw [if_pos h1] at h
    by_cases h2 : z ≤ 32767
    · rw [if_pos h2] at h
      exact br_t h1 (br_t h2 h)
    · rw [if_neg h2] at h
      exact br_t h1 (br_f h2 h)
  · rw [if_neg h1] at h
    exact br_f h1 h
end
theorem qz_short (p : Int32) : ¬ p.toInt16.toInt32 < -32768 ∧ ¬ 32767 < p.toInt16.toInt32 := by
  rw [Int32.lt_iff_toInt_lt, Int32.lt_iff_toInt_lt, Int16.toInt_toInt32]
  have h1 := Int16.le_toInt p.toInt16
  have h2 := Int16.toInt_lt p.toInt16
  have e1 : (-32768 : Int32).toInt = -32768 := by decide
  have e2 : (32767 : Int32).toInt = 32767 := by decide
  rw [e1, e2]
  omega
theorem qz_and3 (c : Int32) : qz_o (c &&& 3) := by
  obtain ⟨j, hj, e⟩ := pk_andE c (m := 3) 2 (by decide)
  rw [e]
  match j, hj with
  | 0, _ => exact Or.inl rfl
  | 1, _ => exact Or.inr (Or.inl rfl)
  | 2, _ => exact Or.inr (Or.inr (Or.inl rfl))
  | 3, _ => exact Or.inr (Or.inr (Or.inr rfl))
/-! the one-line methods -/
section
variable {nc fc lv cp nd pn le wc : Int32} {ac : Int64} {dc sc : Int32} {a1 a2 a3 a4 a5 a6 a7 a8 a9 a10 a11 a12 a13 a14 a15 a16 a17 a18 a19 a20 a21 a22 a23 a24 a25 a26 : Nat → Int32}
theorem qz_hasTwo {post : Int32 → Prop} {k : Int32} (hk : qz_k k) (h : post 1) : wpX_hasTwo post (nc, fc, lv, cp, nd, pn, le, wc, ac, dc, sc, a1, a2, a3, a4, a5, a6, a7, a8, a9, a10, a11, a12, a13, a14, a15, a16, a17, a18, a19, a20, a21, a22, a23, a24, a25, a26) k := by
  rcases hk with rfl | rfl | rfl | rfl
  · exact br_t (by decide) h
  · exact br_f (by decide) (br_t (by decide) h)
  · exact br_f (by decide) (br_f (by decide) (br_f (by decide) h))
  · exact br_f (by decide) (br_f (by decide) (br_f (by decide) h))
theorem qz_hasTwo5 {post : Int32 → Prop} {k : Int32} (hk : k = 5) (h : post 0) : wpX_hasTwo post (nc, fc, lv, cp, nd, pn, le, wc, ac, dc, sc, a1, a2, a3, a4, a5, a6, a7, a8, a9, a10, a11, a12, a13, a14, a15, a16, a17, a18, a19, a20, a21, a22, a23, a24, a25, a26) k := by
  subst hk
  exact br_f (by decide) (br_f (by decide) (br_t (by decide) h))
theorem qz_sample {post : Int32 → Prop} {x : Int32} (h1 : ¬ x < -32768) (h2 : ¬ 32767 < x) (h : post 1) : wpX_isSample post (nc, fc, lv, cp, nd, pn, le, wc, ac, dc, sc, a1, a2, a3, a4, a5, a6, a7, a8, a9, a10, a11, a12, a13, a14, a15, a16, a17, a18, a19, a20, a21, a22, a23, a24, a25, a26) x :=
  br_f h1 (br_f h2 h)
def qz_dl (o : Int32) : Int32 := if o = 16 then 2 else if o = 18 then 2 else if o = 10 then 2 else 1
theorem qz_delayOf {post : Int32 → Prop} {o : Int32} (h : post (qz_dl o)) : wpX_delayOf post (nc, fc, lv, cp, nd, pn, le, wc, ac, dc, sc, a1, a2, a3, a4, a5, a6, a7, a8, a9, a10, a11, a12, a13, a14, a15, a16, a17, a18, a19, a20, a21, a22, a23, a24, a25, a26) o := by
  unfold qz_dl at h
  by_cases h1 : o = 16
  · rw [if_pos h1] at h; exact br_t h1 h
  · rw [if_neg h1] at h
    by_cases h2 : o = 18
    · rw [if_pos h2] at h; exact br_f h1 (br_t h2 h)
    · rw [if_neg h2] at h
      by_cases h3 : o = 10
      · rw [if_pos h3] at h; exact br_f h1 (br_f h2 (br_t h3 h))
      · rw [if_neg h3] at h; exact br_f h1 (br_f h2 (br_f h3 h))
theorem qz_memT {post : Int32 → Prop} {o : Int32} (ho : ¬ o < 16) (h : post 1) : wpX_isMemory post (nc, fc, lv, cp, nd, pn, le, wc, ac, dc, sc, a1, a2, a3, a4, a5, a6, a7, a8, a9, a10, a11, a12, a13, a14, a15, a16, a17, a18, a19, a20, a21, a22, a23, a24, a25, a26) o := br_f ho h
theorem qz_memF {post : Int32 → Prop} {o : Int32} (ho : o < 16) (h : post 0) : wpX_isMemory post (nc, fc, lv, cp, nd, pn, le, wc, ac, dc, sc, a1, a2, a3, a4, a5, a6, a7, a8, a9, a10, a11, a12, a13, a14, a15, a16, a17, a18, a19, a20, a21, a22, a23, a24, a25, a26) o := br_t ho h
end
end
section
/-! ===== making the object, the inputs, the nodes, the output ===== -/
section
variable {nc fc lv cp nd pn le wc : Int32} {ac : Int64} {dc sc : Int32} {a1 a2 a3 a4 a5 a6 a7 a8 a9 a10 a11 a12 a13 a14 a15 a16 a17 a18 a19 a20 a21 a22 a23 a24 a25 a26 : Nat → Int32}
theorem qz_reset23 {post : St2 → Prop} (hp : ∀ b22 : Nat → Int32, post (nc, fc, lv, cp, nd, pn, le, wc, ac, dc, 0, a1, a2, a3, a4, a5, a6, a7, a8, a9, a10, a11, a12, a13, a14, a15, a16, a17, a18, a19, a20, a21, b22, a23, a24, a25, a26)) : ∃ fu, wX_reset_23 post nc fc lv cp nd pn le wc ac dc sc fu 0 a1 a2 a3 a4 a5 a6 a7 a8 a9 a10 a11 a12 a13 a14 a15 a16 a17 a18 a19 a20 a21 a22 a23 a24 a25 a26 :=
  pk_loop (fun n i s => wX_reset_23 post nc fc lv cp nd pn le wc ac dc sc n (nI i) a1 a2 a3 a4 a5 a6 a7 a8 a9 a10 a11 a12 a13 a14 a15 a16 a17 a18 a19 a20 a21 s a23 a24 a25 a26) (fun _ _ => True) 4 0 a22 (by omega) trivial
    (fun n s _ => pk_le 4 4 (fun _ => hp s) (fun z => absurd z (by omega)))
    (fun n i s hi _ hw => pk_le 4 i (fun z => absurd z (by omega)) (fun _ => ⟨pk_in i 4 hi, nm_e (nm_r (nI_1 i) (hw _ trivial))⟩))
theorem qz_reset {post : St2 → Prop} (hp : ∀ b21 b22 : Nat → Int32, b21 0 = a21 0 → b21 1 = a21 1 → post (nc, fc, lv, cp, nd, pn, le, wc, ac, dc, 0, a1, a2, a3, a4, a5, a6, a7, a8, a9, a10, a11, a12, a13, a14, a15, a16, a17, a18, a19, a20, b21, b22, a23, a24, a25, a26)) : wpX_reset post (nc, fc, lv, cp, nd, pn, le, wc, ac, dc, sc, a1, a2, a3, a4, a5, a6, a7, a8, a9, a10, a11, a12, a13, a14, a15, a16, a17, a18, a19, a20, a21, a22, a23, a24, a25, a26) :=
  pk_loop (fun n i s => wX_reset_2 post nc fc lv cp nd pn le wc ac dc sc n (nI i) a1 a2 a3 a4 a5 a6 a7 a8 a9 a10 a11 a12 a13 a14 a15 a16 a17 a18 a19 a20 s a22 a23 a24 a25 a26) (fun i s => 2 ≤ i ∧ s 0 = a21 0 ∧ s 1 = a21 1) 96 2 a21 (by omega) ⟨by omega, rfl, rfl⟩
    (fun n s h => pk_le 96 96 (fun _ => qz_reset23 (fun b22 => hp s b22 h.2.1 h.2.2)) (fun z => absurd z (by omega)))
    (fun n i s hi h hw => pk_le 96 i (fun z => absurd z (by omega)) (fun _ => ⟨pk_in i 96 hi, nm_e (nm_r (nI_1 i) (hw _ ⟨by omega, by rw [nI_clamp (by omega), pk_un (by omega)]; exact h.2.1, by rw [nI_clamp (by omega), pk_un (by omega)]; exact h.2.2⟩))⟩))
theorem qz_change {post : St2 → Prop} (hp : ∀ b21 b22 : Nat → Int32, b21 0 = a21 0 → b21 1 = a21 1 → post (nc, fc, lv, 0, nd, pn, le, wc, ac, dc, 0, a1, a2, a3, a4, a5, a6, a7, a8, a9, a10, a11, a12, a13, a14, a15, a16, a17, a18, a19, a20, b21, b22, a23, a24, a25, a26)) : wpX_change post (nc, fc, lv, cp, nd, pn, le, wc, ac, dc, sc, a1, a2, a3, a4, a5, a6, a7, a8, a9, a10, a11, a12, a13, a14, a15, a16, a17, a18, a19, a20, a21, a22, a23, a24, a25, a26) := by
  unfold wpX_change
  exact qz_reset hp
theorem qz_node {post : Int32 → St2 → Prop} {p0 p1 p2 : Int32} (h1 : ¬ 24 ≤ nc) (h2 : ¬ p0 = 6) (h3 : ¬ p0 < 0) (h4 : ¬ 10 < p0)
    (hf : ∀ q : Int32 → Prop, q 1 → wpX_operandsFit q (nc, fc, lv, cp, nd, pn, le, wc, ac, dc, sc, a1, a2, a3, a4, a5, a6, a7, a8, a9, a10, a11, a12, a13, a14, a15, a16, a17, a18, a19, a20, a21, a22, a23, a24, a25, a26) p0 p1 p2) (hi : vp_in nc 24)
    (hp : ∀ b21 b22 : Nat → Int32, b21 0 = a21 0 → b21 1 = a21 1 → post nc (nc + 1, fc, lv, 0, nd, pn, le, wc, ac, dc, 0, a1, a2, upd a3 nc.toNatClampNeg p0.toInt8.toInt32, upd a4 nc.toNatClampNeg p1, upd a5 nc.toNatClampNeg p2, a6, a7, a8, a9, a10, a11, a12, a13, a14, a15, a16, a17, a18, a19, a20, b21, b22, a23, a24, a25, a26)) : wpX_node post (nc, fc, lv, cp, nd, pn, le, wc, ac, dc, sc, a1, a2, a3, a4, a5, a6, a7, a8, a9, a10, a11, a12, a13, a14, a15, a16, a17, a18, a19, a20, a21, a22, a23, a24, a25, a26) p0 p1 p2 := by
  refine br_f h1 (br_f h2 (br_f h3 (br_f h4 (hf _ (br_f (by decide) (nm_e ⟨hi, nm_e ⟨hi, nm_e ⟨hi, nm_e (br_f h2 (qz_change ?_))⟩⟩⟩))))))
  exact hp
theorem qz_fit00 {q : Int32 → Prop} {y : Int32} (h : q 1) : wpX_operandsFit q (nc, fc, lv, cp, nd, pn, le, wc, ac, dc, sc, a1, a2, a3, a4, a5, a6, a7, a8, a9, a10, a11, a12, a13, a14, a15, a16, a17, a18, a19, a20, a21, a22, a23, a24, a25, a26) 0 0 y := br_t rfl (br_t rfl h)
theorem qz_fit01 {q : Int32 → Prop} {y : Int32} (h : q 1) : wpX_operandsFit q (nc, fc, lv, cp, nd, pn, le, wc, ac, dc, sc, a1, a2, a3, a4, a5, a6, a7, a8, a9, a10, a11, a12, a13, a14, a15, a16, a17, a18, a19, a20, a21, a22, a23, a24, a25, a26) 0 1 y := br_t rfl (br_f (by decide) (br_t rfl h))
theorem qz_fit5 {q : Int32 → Prop} {y : Int32} (h : q 1) : wpX_operandsFit q (nc, fc, lv, cp, nd, pn, le, wc, ac, dc, sc, a1, a2, a3, a4, a5, a6, a7, a8, a9, a10, a11, a12, a13, a14, a15, a16, a17, a18, a19, a20, a21, a22, a23, a24, a25, a26) 5 2 y := br_f (by decide) (br_f (by decide) (br_t rfl (br_f (by decide) (br_f (by decide) h))))
theorem qz_fitk {q : Int32 → Prop} {k : Int32} (hk : qz_k k) (h : q 1) : wpX_operandsFit q (2, fc, lv, cp, nd, pn, le, wc, ac, dc, sc, a1, a2, a3, a4, a5, a6, a7, a8, a9, a10, a11, a12, a13, a14, a15, a16, a17, a18, a19, a20, a21, a22, a23, a24, a25, a26) k 0 1 := by
  rcases hk with rfl | rfl | rfl | rfl
  all_goals exact br_f (by decide) (br_f (by decide) (br_f (by decide) (br_f (by decide) (br_f (by decide) (br_f (by decide) (br_f (by decide) (br_f (by decide) (br_f (by decide) (br_f (by decide) (br_f (by decide) (br_f (by decide) (br_f (by decide) h))))))))))))
theorem qz_output {post : Int32 → St2 → Prop} {o : Int32} (ho : qz_o o)
    (hp : ∀ b21 b22 : Nat → Int32, b21 0 = a21 0 → b21 1 = a21 1 → post 1 (4, fc, lv, 0, nd, pn, le, wc, ac, dc, 0, a1, a2, a3, a4, a5, a6, a7, a8, upd a9 o.toNatClampNeg 3, a10, a11, a12, a13, a14, a15, a16, a17, a18, a19, a20, b21, b22, a23, a24, a25, a26)) : wpX_output post (4, fc, lv, cp, nd, pn, le, wc, ac, dc, sc, a1, a2, a3, a4, a5, a6, a7, a8, a9, a10, a11, a12, a13, a14, a15, a16, a17, a18, a19, a20, a21, a22, a23, a24, a25, a26) o 3 := by
  have h1 : ¬ o < 0 := by rcases ho with rfl | rfl | rfl | rfl <;> decide
  have h2 : ¬ 3 < o := by rcases ho with rfl | rfl | rfl | rfl <;> decide
  have h3 : vp_in o 4 := by rcases ho with rfl | rfl | rfl | rfl <;> exact qz_i (by decide)
  refine br_f h1 (br_f h2 (br_f (by decide) (br_t (by decide) ⟨h3, nm_e (qz_change ?_)⟩)))
  exact hp
theorem qz_input {post : Int32 → St2 → Prop} {i x : Int32} (h1 : ¬ i < 0) (h2 : ¬ 1 < i) (hx : ¬ x < -32768 ∧ ¬ 32767 < x) (hi : vp_in i 96)
    (hp : post 1 (nc, fc, lv, cp, nd, pn, le, wc, ac, dc, sc, a1, a2, a3, a4, a5, a6, a7, a8, a9, a10, a11, a12, a13, a14, a15, a16, a17, a18, a19, a20, upd a21 i.toNatClampNeg x, a22, a23, a24, a25, a26)) : wpX_input post (nc, fc, lv, cp, nd, pn, le, wc, ac, dc, sc, a1, a2, a3, a4, a5, a6, a7, a8, a9, a10, a11, a12, a13, a14, a15, a16, a17, a18, a19, a20, a21, a22, a23, a24, a25, a26) i x :=
  br_f h1 (br_f h2 (qz_sample hx.1 hx.2 (br_f (by decide) ⟨hi, nm_e hp⟩)))
theorem qz_init {post : St2 → Prop} (hp : ∀ b1 b9 : Nat → Int32, b9 0 = -1 → b9 1 = -1 → b9 2 = -1 → b9 3 = -1 → post (0, 0, 2, 0, 0, 0, 0, 0, 0, 0, 0, b1, (fun _ => 0), (fun _ => 0), (fun _ => 0), (fun _ => 0), (fun _ => 0), (fun _ => 0), (fun _ => 0), b9, (fun _ => 0), (fun _ => 0), (fun _ => 0), (fun _ => 0), (fun _ => 0), (fun _ => 0), (fun _ => 0), (fun _ => 0), (fun _ => 0), (fun _ => 0), (fun _ => 0), (fun _ => 0), (fun _ => 0), (fun _ => 0), (fun _ => 0), (fun _ => 0), (fun _ => 0))) :
    wpX_init post 26 3378 (0, 0, 0, 0, 0, 0, 0, 0, 0, 0, 0) := by
  unfold wpX_init
  dsimp only
  iterate 52 refine ⟨by decide, ?_⟩
  refine ⟨5, ?_⟩
  refine br_f (by decide) ⟨qz_i (by decide), nm_e (nm_e ?_)⟩
  refine br_f (by decide) ⟨qz_i (by decide), nm_e (nm_e ?_)⟩
  refine br_f (by decide) ⟨qz_i (by decide), nm_e (nm_e ?_)⟩
  refine br_f (by decide) ⟨qz_i (by decide), nm_e (nm_e ?_)⟩
  refine br_t (by decide) ⟨5, ?_⟩
  refine br_f (by decide) ⟨qz_i (by decide), nm_e (nm_e ?_)⟩
  refine br_f (by decide) ⟨qz_i (by decide), nm_e (nm_e ?_)⟩
  refine br_f (by decide) ⟨qz_i (by decide), nm_e (nm_e ?_)⟩
  refine br_f (by decide) ⟨qz_i (by decide), nm_e (nm_e ?_)⟩
  refine br_t (by decide) (hp _ _ ?_ ?_ ?_ ?_)
  all_goals rfl
end
end
section
/-! ===== valid, findSame, findNeeded, nextUse over the law's graph ===== -/
def qz_K (k : Int32) (a3 : Nat → Int32) : Prop := a3 0 = 0 ∧ a3 1 = 0 ∧ a3 2 = k ∧ a3 3 = 5
def qz_X (a4 : Nat → Int32) : Prop := a4 0 = 0 ∧ a4 1 = 1 ∧ a4 2 = 0 ∧ a4 3 = 2
def qz_S (a10 : Nat → Int32) : Prop := a10 0 = 0 ∧ a10 1 = 1 ∧ a10 2 = 2 ∧ a10 3 = 3
theorem qz_n0 {k : Int32} (hk : qz_k k) : ¬ k = 0 := by rcases hk with rfl | rfl | rfl | rfl <;> decide
theorem qz_n1 {k : Int32} (hk : qz_k k) : ¬ k = 1 := by rcases hk with rfl | rfl | rfl | rfl <;> decide
theorem qz_n4 {k : Int32} (hk : qz_k k) : ¬ k = 4 := by rcases hk with rfl | rfl | rfl | rfl <;> decide
theorem qz_n5 {k : Int32} (hk : qz_k k) : ¬ k = 5 := by rcases hk with rfl | rfl | rfl | rfl <;> decide
theorem qz_n6 {k : Int32} (hk : qz_k k) : ¬ k = 6 := by rcases hk with rfl | rfl | rfl | rfl <;> decide
theorem qz_g2 {k : Int32} (hk : qz_k k) : 2 ≤ k := by rcases hk with rfl | rfl | rfl | rfl <;> decide
theorem qz_l2 {k : Int32} (hk : qz_k k) : ¬ k < 2 := by rcases hk with rfl | rfl | rfl | rfl <;> decide
theorem qz_or {m v w : Int32} {a b : Nat → Int32} {j : Nat} (h1 : a j = v) (h2 : b v.toNatClampNeg = w) : m ||| ((1 : Int32) <<< ((b (a j).toNatClampNeg) &&& 31)) = m ||| ((1 : Int32) <<< (w &&& 31)) := by
  rw [h1, h2]
theorem qz_comp {v w : Int32} {a b : Nat → Int32} {j : Nat} (h1 : a j = v) (h2 : b v.toNatClampNeg = w) : b (a j).toNatClampNeg = w := by
  rw [h1, h2]
section
variable {nc fc lv cp nd pn le wc : Int32} {ac : Int64} {dc sc : Int32} {a1 a2 a3 a4 a5 a6 a7 a8 a9 a10 a11 a12 a13 a14 a15 a16 a17 a18 a19 a20 a21 a22 a23 a24 a25 a26 : Nat → Int32}
variable {k : Int32}
theorem qz_valid {post : Int32 → Prop} (hk : qz_k k) (h3 : qz_K k a3) (h4 : qz_X a4) (hp : post 1) : wpX_valid post (4, fc, lv, cp, nd, pn, le, wc, ac, dc, sc, a1, a2, a3, a4, a5, a6, a7, a8, a9, a10, a11, a12, a13, a14, a15, a16, a17, a18, a19, a20, a21, a22, a23, a24, a25, a26) := by
  obtain ⟨h30, h31, h32, h33⟩ := h3
  obtain ⟨h40, h41, h42, h43⟩ := h4
  refine ⟨5, ?_⟩
  refine br_f (by decide) ⟨qz_i (by decide), qz_eqf h30 (by decide) (nm_r (e' := 1) (by decide) ?_)⟩
  refine br_f (by decide) ⟨qz_i (by decide), qz_eqf h31 (by decide) (nm_r (e' := 2) (by decide) ?_)⟩
  refine br_f (by decide) ⟨qz_i (by decide), qz_eqf h32 (qz_n5 hk) (nm_r (e' := 3) (by decide) ?_)⟩
  refine br_f (by decide) ⟨qz_i (by decide), qz_eqt h33 (by decide) ⟨qz_i (by decide), qz_ltt h43 (by decide) (nm_r (e' := 4) (by decide) ?_)⟩⟩
  exact br_t (by decide) hp
theorem qz_alike {post : Int32 → Prop} {i j : Int32} {v w : Int32} (hi : vp_in i 24) (hj : vp_in j 24) (h1 : a3 i.toNatClampNeg = v) (h2 : a3 j.toNatClampNeg = w) (hn : ¬ v = w) (hp : post 0) : wpX_areAlike post (nc, fc, lv, cp, nd, pn, le, wc, ac, dc, sc, a1, a2, a3, a4, a5, a6, a7, a8, a9, a10, a11, a12, a13, a14, a15, a16, a17, a18, a19, a20, a21, a22, a23, a24, a25, a26) i j :=
  ⟨hj, nm_r h2 ⟨hi, qz_eqf h1 hn hp⟩⟩
theorem qz_findSame {post : St2 → Prop} (hk : qz_k k) (h3 : qz_K k a3) (h4 : qz_X a4) (hp : ∀ b10 : Nat → Int32, qz_S b10 → post (4, fc, 2, cp, nd, pn, le, wc, ac, dc, sc, a1, a2, a3, a4, a5, a6, a7, a8, a9, b10, a11, a12, a13, a14, a15, a16, a17, a18, a19, a20, a21, a22, a23, a24, a25, a26)) : wpX_findSame post (4, fc, 2, cp, nd, pn, le, wc, ac, dc, sc, a1, a2, a3, a4, a5, a6, a7, a8, a9, a10, a11, a12, a13, a14, a15, a16, a17, a18, a19, a20, a21, a22, a23, a24, a25, a26) := by
  obtain ⟨h30, h31, h32, h33⟩ := h3
  obtain ⟨h40, h41, h42, h43⟩ := h4
  refine ⟨5, ?_⟩
  -- node 0
  refine br_f (by decide) ⟨qz_i (by decide), fun b10 e0 => br_f (by decide) ⟨qz_i (by decide), qz_eqf h30 (by decide) ⟨qz_i (by decide), qz_eqf h30 (by decide) ⟨1, br_t (by decide) (nm_r (e' := 1) (by decide) ?_)⟩⟩⟩⟩
  have f00 : b10 0 = 0 := by rw [e0]; rfl
  -- node 1
  refine br_f (by decide) ⟨qz_i (by decide), fun c10 e1 => br_f (by decide) ⟨qz_i (by decide), qz_eqf h31 (by decide) ⟨qz_i (by decide), qz_eqf h31 (by decide) ?_⟩⟩⟩
  have f10 : c10 0 = 0 := by rw [e1]; exact f00
  have f11 : c10 1 = 1 := by rw [e1]; rfl
  refine ⟨2, br_f (by decide) ⟨qz_i (by decide), qz_eqt f10 (by decide) ?_⟩⟩
  refine ⟨qz_i (by decide), nm_r h31 ⟨qz_i (by decide), qz_eqt h30 (by decide) (br_f (by decide) ⟨qz_i (by decide), qz_i (by decide), br_f (fun z => absurd (h40.symm.trans (z.trans h41)) (by decide)) (br_t rfl (nm_r (e' := 1) (by decide) ?_))⟩)⟩⟩
  refine br_t (by decide) (nm_r (e' := 2) (by decide) ?_)
  -- node 2
  refine br_f (by decide) ⟨qz_i (by decide), fun d10 e2 => br_f (by decide) ⟨qz_i (by decide), qz_eqf h32 (qz_n5 hk) ⟨qz_i (by decide), qz_eqf h32 (qz_n6 hk) ?_⟩⟩⟩
  have f20 : d10 0 = 0 := by rw [e2]; exact f10
  have f21 : d10 1 = 1 := by rw [e2]; exact f11
  have f22 : d10 2 = 2 := by rw [e2]; rfl
  refine ⟨3, br_f (by decide) ⟨qz_i (by decide), qz_eqt f20 (by decide) ?_⟩⟩
  refine qz_alike (qz_i (by decide)) (qz_i (by decide)) h30 h32 (fun z => qz_n0 hk z.symm) (br_t rfl (nm_r (e' := 1) (by decide) ?_))
  refine br_f (by decide) ⟨qz_i (by decide), qz_eqt f21 (by decide) ?_⟩
  refine qz_alike (qz_i (by decide)) (qz_i (by decide)) h31 h32 (fun z => qz_n0 hk z.symm) (br_t rfl (nm_r (e' := 2) (by decide) ?_))
  refine br_t (by decide) (nm_r (e' := 3) (by decide) ?_)
  -- node 3
  refine br_f (by decide) ⟨qz_i (by decide), fun g10 e3 => br_f (by decide) ⟨qz_i (by decide), qz_eqt h33 (by decide) (nm_r (e' := 4) (by decide) ?_)⟩⟩
  have f30 : g10 0 = 0 := by rw [e3]; exact f20
  have f31 : g10 1 = 1 := by rw [e3]; exact f21
  have f32 : g10 2 = 2 := by rw [e3]; exact f22
  have f33 : g10 3 = 3 := by rw [e3]; rfl
  exact br_t (by decide) (hp g10 ⟨f30, f31, f32, f33⟩)
theorem qz_need {post : Int32 → Prop} {i m : Int32} (h : ¬ ((m >>> (i &&& 31)) &&& 1) = 0) (hp : post 1) : wpX_isNeeded post (nc, fc, lv, cp, m, pn, le, wc, ac, dc, sc, a1, a2, a3, a4, a5, a6, a7, a8, a9, a10, a11, a12, a13, a14, a15, a16, a17, a18, a19, a20, a21, a22, a23, a24, a25, a26) i := br_f h hp
theorem qz_fn89 {post : St2 → Prop} {J : Int32 → Int32 → Prop} {x1 m : Int32} (hm : m = 8 ∨ m = 15) (hk : qz_k k) (h3 : qz_K k a3) (h4 : qz_X a4) (h5 : a5 2 = 1) (h10 : qz_S a10) (hp : J x1 15) :
    wX_findNeeded_89 post J x1 4 fc 2 cp pn le wc ac dc sc a1 a2 a3 a4 a5 a6 a7 a8 a9 a10 a11 a12 a13 a14 a15 a16 a17 a18 a19 a20 a21 a22 a23 a24 a25 a26 5 3 m := by
  obtain ⟨h30, h31, h32, h33⟩ := h3
  obtain ⟨h40, h41, h42, h43⟩ := h4
  obtain ⟨h100, h101, h102, h103⟩ := h10
  rcases hm with rfl | rfl
  · refine br_f (by decide) (qz_need (by decide) (br_f (by decide) ⟨qz_i (by decide), qz_let h33 (by decide) ⟨qz_i (by decide), ⟨qz_in h43 (by decide), nm_r (e' := 12) ((qz_or h43 h102).trans (by decide)) ⟨qz_i (by decide), qz_hasTwo5 h33 (br_t rfl (nm_r (e' := 2) (by decide) ?_))⟩⟩⟩⟩))
    refine br_f (by decide) (qz_need (by decide) (br_f (by decide) ⟨qz_i (by decide), qz_let h32 (qz_g2 hk) ⟨qz_i (by decide), ⟨qz_in h42 (by decide), nm_r (e' := 13) ((qz_or h42 h100).trans (by decide)) ⟨qz_i (by decide), qz_hasTwo (h32.symm ▸ hk) (br_f (by decide) ⟨qz_i (by decide), ⟨qz_in h5 (by decide), nm_r (e' := 15) ((qz_or h5 h101).trans (by decide)) (nm_r (e' := 1) (by decide) ?_)⟩⟩)⟩⟩⟩⟩))
    refine br_f (by decide) (qz_need (by decide) (br_f (by decide) ⟨qz_i (by decide), qz_lef h31 (by decide) (nm_r (e' := 0) (by decide) ?_)⟩))
    refine br_f (by decide) (qz_need (by decide) (br_f (by decide) ⟨qz_i (by decide), qz_lef h30 (by decide) (nm_r (e' := -1) (by decide) ?_)⟩))
    exact br_t (by decide) hp
  · refine br_f (by decide) (qz_need (by decide) (br_f (by decide) ⟨qz_i (by decide), qz_let h33 (by decide) ⟨qz_i (by decide), ⟨qz_in h43 (by decide), nm_r (e' := 15) ((qz_or h43 h102).trans (by decide)) ⟨qz_i (by decide), qz_hasTwo5 h33 (br_t rfl (nm_r (e' := 2) (by decide) ?_))⟩⟩⟩⟩))
    refine br_f (by decide) (qz_need (by decide) (br_f (by decide) ⟨qz_i (by decide), qz_let h32 (qz_g2 hk) ⟨qz_i (by decide), ⟨qz_in h42 (by decide), nm_r (e' := 15) ((qz_or h42 h100).trans (by decide)) ⟨qz_i (by decide), qz_hasTwo (h32.symm ▸ hk) (br_f (by decide) ⟨qz_i (by decide), ⟨qz_in h5 (by decide), nm_r (e' := 15) ((qz_or h5 h101).trans (by decide)) (nm_r (e' := 1) (by decide) ?_)⟩⟩)⟩⟩⟩⟩))
    refine br_f (by decide) (qz_need (by decide) (br_f (by decide) ⟨qz_i (by decide), qz_lef h31 (by decide) (nm_r (e' := 0) (by decide) ?_)⟩))
    refine br_f (by decide) (qz_need (by decide) (br_f (by decide) ⟨qz_i (by decide), qz_lef h30 (by decide) (nm_r (e' := -1) (by decide) ?_)⟩))
    exact br_t (by decide) hp
theorem qz_fn69 {post : St2 → Prop} (hk : qz_k k) (h3 : qz_K k a3) (h4 : qz_X a4) (h5 : a5 2 = 1) (h10 : qz_S a10) (hp : post (4, fc, 2, cp, 15, pn, le, wc, ac, dc, sc, a1, a2, a3, a4, a5, a6, a7, a8, a9, a10, a11, a12, a13, a14, a15, a16, a17, a18, a19, a20, a21, a22, a23, a24, a25, a26)) :
    ∃ fu, wX_findNeeded_69 post 4 fc 2 cp pn le wc ac dc sc a1 a2 a3 a4 a5 a6 a7 a8 a9 a10 a11 a12 a13 a14 a15 a16 a17 a18 a19 a20 a21 a22 a23 a24 a25 a26 fu (-1) 8 := by
  refine ⟨3, br_f (by decide) (nm_r (e' := 3) (by decide) ⟨5, qz_fn89 (Or.inl rfl) hk h3 h4 h5 h10 ?_⟩)⟩
  refine br_f (by decide) (nm_r (e' := 3) (by decide) ⟨5, qz_fn89 (Or.inr rfl) hk h3 h4 h5 h10 ?_⟩)
  exact br_t rfl hp
theorem qz_findNeeded0 {post : St2 → Prop} (hk : qz_k k) (h3 : qz_K k a3) (h4 : qz_X a4) (h5 : a5 2 = 1) (h10 : qz_S a10) (h90 : a9 0 = 3) (h91 : a9 1 = -1) (h92 : a9 2 = -1) (h93 : a9 3 = -1) (hp : post (4, fc, 2, cp, 15, pn, le, wc, ac, dc, sc, a1, a2, a3, a4, a5, a6, a7, a8, a9, a10, a11, a12, a13, a14, a15, a16, a17, a18, a19, a20, a21, a22, a23, a24, a25, a26)) : wpX_findNeeded post (4, fc, 2, cp, nd, pn, le, wc, ac, dc, sc, a1, a2, a3, a4, a5, a6, a7, a8, a9, a10, a11, a12, a13, a14, a15, a16, a17, a18, a19, a20, a21, a22, a23, a24, a25, a26) := by
  refine br_f (by decide) ⟨5, ?_⟩
  refine br_f (by decide) ⟨qz_i (by decide), qz_ltf h90 (by decide) ⟨qz_i (by decide), ⟨qz_in h90 (by decide), nm_r (e' := 8) ((qz_or h90 h10.2.2.2).trans (by decide)) (nm_r (e' := 1) (by decide) ?_)⟩⟩⟩
  refine br_f (by decide) ⟨qz_i (by decide), qz_ltt h91 (by decide) (nm_r (e' := 2) (by decide) ?_)⟩
  refine br_f (by decide) ⟨qz_i (by decide), qz_ltt h92 (by decide) (nm_r (e' := 3) (by decide) ?_)⟩
  refine br_f (by decide) ⟨qz_i (by decide), qz_ltt h93 (by decide) (nm_r (e' := 4) (by decide) ?_)⟩
  exact br_t (by decide) (qz_fn69 hk h3 h4 h5 h10 hp)
theorem qz_findNeeded1 {post : St2 → Prop} (hk : qz_k k) (h3 : qz_K k a3) (h4 : qz_X a4) (h5 : a5 2 = 1) (h10 : qz_S a10) (h90 : a9 0 = -1) (h91 : a9 1 = 3) (h92 : a9 2 = -1) (h93 : a9 3 = -1) (hp : post (4, fc, 2, cp, 15, pn, le, wc, ac, dc, sc, a1, a2, a3, a4, a5, a6, a7, a8, a9, a10, a11, a12, a13, a14, a15, a16, a17, a18, a19, a20, a21, a22, a23, a24, a25, a26)) : wpX_findNeeded post (4, fc, 2, cp, nd, pn, le, wc, ac, dc, sc, a1, a2, a3, a4, a5, a6, a7, a8, a9, a10, a11, a12, a13, a14, a15, a16, a17, a18, a19, a20, a21, a22, a23, a24, a25, a26) := by
  refine br_f (by decide) ⟨5, ?_⟩
  refine br_f (by decide) ⟨qz_i (by decide), qz_ltt h90 (by decide) (nm_r (e' := 1) (by decide) ?_)⟩
  refine br_f (by decide) ⟨qz_i (by decide), qz_ltf h91 (by decide) ⟨qz_i (by decide), ⟨qz_in h91 (by decide), nm_r (e' := 8) ((qz_or h91 h10.2.2.2).trans (by decide)) (nm_r (e' := 2) (by decide) ?_)⟩⟩⟩
  refine br_f (by decide) ⟨qz_i (by decide), qz_ltt h92 (by decide) (nm_r (e' := 3) (by decide) ?_)⟩
  refine br_f (by decide) ⟨qz_i (by decide), qz_ltt h93 (by decide) (nm_r (e' := 4) (by decide) ?_)⟩
  exact br_t (by decide) (qz_fn69 hk h3 h4 h5 h10 hp)
theorem qz_findNeeded2 {post : St2 → Prop} (hk : qz_k k) (h3 : qz_K k a3) (h4 : qz_X a4) (h5 : a5 2 = 1) (h10 : qz_S a10) (h90 : a9 0 = -1) (h91 : a9 1 = -1) (h92 : a9 2 = 3) (h93 : a9 3 = -1) (hp : post (4, fc, 2, cp, 15, pn, le, wc, ac, dc, sc, a1, a2, a3, a4, a5, a6, a7, a8, a9, a10, a11, a12, a13, a14, a15, a16, a17, a18, a19, a20, a21, a22, a23, a24, a25, a26)) : wpX_findNeeded post (4, fc, 2, cp, nd, pn, le, wc, ac, dc, sc, a1, a2, a3, a4, a5, a6, a7, a8, a9, a10, a11, a12, a13, a14, a15, a16, a17, a18, a19, a20, a21, a22, a23, a24, a25, a26) := by
  refine br_f (by decide) ⟨5, ?_⟩
  refine br_f (by decide) ⟨qz_i (by decide), qz_ltt h90 (by decide) (nm_r (e' := 1) (by decide) ?_)⟩
  refine br_f (by decide) ⟨qz_i (by decide), qz_ltt h91 (by decide) (nm_r (e' := 2) (by decide) ?_)⟩
  refine br_f (by decide) ⟨qz_i (by decide), qz_ltf h92 (by decide) ⟨qz_i (by decide), ⟨qz_in h92 (by decide), nm_r (e' := 8) ((qz_or h92 h10.2.2.2).trans (by decide)) (nm_r (e' := 3) (by decide) ?_)⟩⟩⟩
  refine br_f (by decide) ⟨qz_i (by decide), qz_ltt h93 (by decide) (nm_r (e' := 4) (by decide) ?_)⟩
  exact br_t (by decide) (qz_fn69 hk h3 h4 h5 h10 hp)
theorem qz_findNeeded3 {post : St2 → Prop} (hk : qz_k k) (h3 : qz_K k a3) (h4 : qz_X a4) (h5 : a5 2 = 1) (h10 : qz_S a10) (h90 : a9 0 = -1) (h91 : a9 1 = -1) (h92 : a9 2 = -1) (h93 : a9 3 = 3) (hp : post (4, fc, 2, cp, 15, pn, le, wc, ac, dc, sc, a1, a2, a3, a4, a5, a6, a7, a8, a9, a10, a11, a12, a13, a14, a15, a16, a17, a18, a19, a20, a21, a22, a23, a24, a25, a26)) : wpX_findNeeded post (4, fc, 2, cp, nd, pn, le, wc, ac, dc, sc, a1, a2, a3, a4, a5, a6, a7, a8, a9, a10, a11, a12, a13, a14, a15, a16, a17, a18, a19, a20, a21, a22, a23, a24, a25, a26) := by
  refine br_f (by decide) ⟨5, ?_⟩
  refine br_f (by decide) ⟨qz_i (by decide), qz_ltt h90 (by decide) (nm_r (e' := 1) (by decide) ?_)⟩
  refine br_f (by decide) ⟨qz_i (by decide), qz_ltt h91 (by decide) (nm_r (e' := 2) (by decide) ?_)⟩
  refine br_f (by decide) ⟨qz_i (by decide), qz_ltt h92 (by decide) (nm_r (e' := 3) (by decide) ?_)⟩
  refine br_f (by decide) ⟨qz_i (by decide), qz_ltf h93 (by decide) ⟨qz_i (by decide), ⟨qz_in h93 (by decide), nm_r (e' := 8) ((qz_or h93 h10.2.2.2).trans (by decide)) (nm_r (e' := 4) (by decide) ?_)⟩⟩⟩
  exact br_t (by decide) (qz_fn69 hk h3 h4 h5 h10 hp)
end
end
section
/-! ===== nextUse, freeRegister, emit, keepIn, bring ===== -/
section
variable {nc fc lv cp nd pn le wc : Int32} {ac : Int64} {dc sc : Int32} {a1 a2 a3 a4 a5 a6 a7 a8 a9 a10 a11 a12 a13 a14 a15 a16 a17 a18 a19 a20 a21 a22 a23 a24 a25 a26 : Nat → Int32}
variable {k : Int32}
theorem qz_use02 {post : Int32 → Prop} {p0 : Int32} (e : p0 = 0) (hk : qz_k k) (h3 : qz_K k a3) (h4 : qz_X a4) (h10 : qz_S a10) (hp : post 2) : wpX_nextUse post (4, fc, lv, cp, 15, pn, le, wc, ac, dc, sc, a1, a2, a3, a4, a5, a6, a7, a8, a9, a10, a11, a12, a13, a14, a15, a16, a17, a18, a19, a20, a21, a22, a23, a24, a25, a26) p0 2 := by
  subst e
  refine ⟨1, br_f (by decide) (qz_need (by decide) (br_f (by decide) ⟨qz_i (by decide), qz_ltf h3.2.2.1 (qz_l2 hk) ⟨qz_i (by decide), qz_eqf h3.2.2.1 (qz_n5 hk) ⟨qz_i (by decide), ⟨qz_in h4.2.2.1 (by decide), ?_⟩⟩⟩⟩))⟩
  exact qz_eqt (qz_comp h4.2.2.1 h10.1) (by decide) hp
theorem qz_use110 {post : Int32 → Prop} {x1 v : Int32} (hk : qz_k k) (h3 : qz_K k a3) (h4 : qz_X a4) (h10 : qz_S a10) (hx : (x1 = 2 ∧ v = 103) ∨ (¬ 2 = x1 ∧ v = 200)) (hp : post v) :
    wX_nextUse_110 post x1 4 fc lv cp 15 pn le wc ac dc sc a1 a2 a3 a4 a5 a6 a7 a8 a9 a10 a11 a12 a13 a14 a15 a16 a17 a18 a19 a20 a21 a22 a23 a24 a25 a26 5 0 := by
  obtain ⟨h30, h31, h32, h33⟩ := h3
  refine br_f (by decide) (qz_need (by decide) (br_f (by decide) ⟨qz_i (by decide), qz_eqf h30 (by decide) (nm_r (e' := 1) (by decide) ?_)⟩))
  refine br_f (by decide) (qz_need (by decide) (br_f (by decide) ⟨qz_i (by decide), qz_eqf h31 (by decide) (nm_r (e' := 2) (by decide) ?_)⟩))
  refine br_f (by decide) (qz_need (by decide) (br_f (by decide) ⟨qz_i (by decide), qz_eqf h32 (qz_n5 hk) (nm_r (e' := 3) (by decide) ?_)⟩))
  refine br_f (by decide) (qz_need (by decide) (br_f (by decide) ⟨qz_i (by decide), qz_eqt h33 (by decide) ⟨qz_i (by decide), ⟨qz_in h4.2.2.2 (by decide), ?_⟩⟩⟩))
  rcases hx with ⟨rfl, rfl⟩ | ⟨hn, rfl⟩
  · exact qz_eqt (qz_comp h4.2.2.2 h10.2.2.1) rfl hp
  · exact qz_eqf (qz_comp h4.2.2.2 h10.2.2.1) hn (nm_r (e' := 4) (by decide) (br_t (by decide) hp))
theorem qz_use4 {post : Int32 → Prop} {p0 x1 v : Int32} (e : p0 = x1) (hk : qz_k k) (h3 : qz_K k a3) (h4 : qz_X a4) (h10 : qz_S a10) (hx : (x1 = 2 ∧ v = 103) ∨ (¬ 2 = x1 ∧ v = 200)) (hp : post v) :
    wpX_nextUse post (4, fc, lv, cp, 15, pn, le, wc, ac, dc, sc, a1, a2, a3, a4, a5, a6, a7, a8, a9, a10, a11, a12, a13, a14, a15, a16, a17, a18, a19, a20, a21, a22, a23, a24, a25, a26) p0 4 := by
  subst e
  exact ⟨1, br_t (by decide) (br_f (by decide) ⟨5, qz_use110 hk h3 h4 h10 hx hp⟩)⟩
theorem qz_emit {post : St2 → Prop} {p0 p1 p2 p3 p4 : Int32} (j : Nat) (l q0 q1 q2 q3 q4 : Int32) (hi : vp_in le 300) (hj : le.toNatClampNeg = j) (hl : le + 1 = l) (e0 : p0.toInt8.toInt32 = q0) (e1 : p1.toInt8.toInt32 = q1) (e2 : p2.toInt8.toInt32 = q2) (e3 : p3.toInt8.toInt32 = q3) (e4 : p4 = q4)
    (hp : post (nc, fc, lv, cp, nd, pn, l, wc, ac, dc, sc, a1, a2, a3, a4, a5, a6, a7, a8, a9, a10, a11, a12, a13, upd a14 j q0, upd a15 j q1, upd a16 j q2, upd a17 j q3, upd a18 j q4, a19, a20, a21, a22, a23, a24, a25, a26)) : wpX_emit post (nc, fc, lv, cp, nd, pn, le, wc, ac, dc, sc, a1, a2, a3, a4, a5, a6, a7, a8, a9, a10, a11, a12, a13, a14, a15, a16, a17, a18, a19, a20, a21, a22, a23, a24, a25, a26) p0 p1 p2 p3 p4 := by
  subst hj hl e0 e1 e2 e3 e4
  exact ⟨hi, nm_e ⟨hi, nm_e ⟨hi, nm_e ⟨hi, nm_e ⟨hi, nm_e (nm_e hp)⟩⟩⟩⟩⟩
theorem qz_keep {post : St2 → Prop} {p0 p1 : Int32} (i j : Nat) (q0 q1 : Int32) (h0 : vp_in p0 24) (h1 : vp_in p1 8) (hi : p0.toNatClampNeg = i) (hj : p1.toNatClampNeg = j) (e0 : p0.toInt8.toInt32 = q0) (e1 : p1.toInt8.toInt32 = q1) (hp : post (nc, fc, lv, cp, nd, pn, le, wc, ac, dc, sc, a1, a2, a3, a4, a5, a6, a7, a8, a9, a10, upd a11 j q0, upd a12 i q1, a13, a14, a15, a16, a17, a18, a19, a20, a21, a22, a23, a24, a25, a26)) : wpX_keepIn post (nc, fc, lv, cp, nd, pn, le, wc, ac, dc, sc, a1, a2, a3, a4, a5, a6, a7, a8, a9, a10, a11, a12, a13, a14, a15, a16, a17, a18, a19, a20, a21, a22, a23, a24, a25, a26) p0 p1 := by
  subst hi hj e0 e1
  exact ⟨h1, nm_e ⟨h0, nm_e hp⟩⟩
theorem qz_bring {post : Int32 → St2 → Prop} {p0 p1 m n r : Int32} (q : Int32) (e : p0 = m) (hm : vp_in m 24) (h10 : a10 m.toNatClampNeg = n) (hn : vp_in n 24) (h12 : a12 n.toNatClampNeg = r) (hr : 0 ≤ r) (hq : pn ||| ((1 : Int32) <<< (r &&& 31)) = q) (hp : post r (nc, fc, lv, cp, nd, q, le, wc, ac, dc, sc, a1, a2, a3, a4, a5, a6, a7, a8, a9, a10, a11, a12, a13, a14, a15, a16, a17, a18, a19, a20, a21, a22, a23, a24, a25, a26)) : wpX_bring post (nc, fc, lv, cp, nd, pn, le, wc, ac, dc, sc, a1, a2, a3, a4, a5, a6, a7, a8, a9, a10, a11, a12, a13, a14, a15, a16, a17, a18, a19, a20, a21, a22, a23, a24, a25, a26) p0 p1 := by
  subst e hq
  exact ⟨hm, nm_r h10 ⟨hn, nm_r h12 (br_t hr (nm_e hp))⟩⟩
theorem qz_free0 {post : Int32 → St2 → Prop} {pl : Int32} (el : pl = 1) (hk : qz_k k) (h3 : qz_K k a3) (h4 : qz_X a4) (h10 : qz_S a10) (h110 : a11 0 = -1) (h111 : a11 1 = -1) (h112 : a11 2 = -1) (h113 : a11 3 = -1) (h114 : a11 4 = -1) (h115 : a11 5 = -1) (h116 : a11 6 = -1) (h117 : a11 7 = -1) (hp : post 0 (4, fc, lv, cp, 15, 1, le, wc, ac, dc, sc, a1, a2, a3, a4, a5, a6, a7, a8, a9, a10, a11, a12, a13, a14, a15, a16, a17, a18, a19, a20, a21, a22, a23, a24, a25, a26)) : wpX_freeRegister post (4, fc, lv, cp, 15, 0, le, wc, ac, dc, sc, a1, a2, a3, a4, a5, a6, a7, a8, a9, a10, a11, a12, a13, a14, a15, a16, a17, a18, a19, a20, a21, a22, a23, a24, a25, a26) pl := by
  subst el
  refine ⟨9, ?_⟩
  refine br_f (by decide) (br_t (by decide) ⟨qz_i (by decide), qz_lef h110 (by decide) (br_t (by decide) (nm_r (e' := 1) (by decide) ?_))⟩)
  refine br_f (by decide) (br_t (by decide) ⟨qz_i (by decide), qz_lef h111 (by decide) (br_f (by decide) (nm_r (e' := 2) (by decide) ?_))⟩)
  refine br_f (by decide) (br_t (by decide) ⟨qz_i (by decide), qz_lef h112 (by decide) (br_f (by decide) (nm_r (e' := 3) (by decide) ?_))⟩)
  refine br_f (by decide) (br_t (by decide) ⟨qz_i (by decide), qz_lef h113 (by decide) (br_f (by decide) (nm_r (e' := 4) (by decide) ?_))⟩)
  refine br_f (by decide) (br_t (by decide) ⟨qz_i (by decide), qz_lef h114 (by decide) (br_f (by decide) (nm_r (e' := 5) (by decide) ?_))⟩)
  refine br_f (by decide) (br_t (by decide) ⟨qz_i (by decide), qz_lef h115 (by decide) (br_f (by decide) (nm_r (e' := 6) (by decide) ?_))⟩)
  refine br_f (by decide) (br_t (by decide) ⟨qz_i (by decide), qz_lef h116 (by decide) (br_f (by decide) (nm_r (e' := 7) (by decide) ?_))⟩)
  refine br_f (by decide) (br_t (by decide) ⟨qz_i (by decide), qz_lef h117 (by decide) (br_f (by decide) (nm_r (e' := 8) (by decide) ?_))⟩)
  exact br_t (by decide) ⟨qz_i (by decide), nm_r h110 (br_t (by decide) (nm_r (e' := 1) (by decide) hp))⟩
theorem qz_free1 {post : Int32 → St2 → Prop} {pl : Int32} (el : pl = 2) (hk : qz_k k) (h3 : qz_K k a3) (h4 : qz_X a4) (h10 : qz_S a10) (h110 : a11 0 = 0) (h111 : a11 1 = -1) (h112 : a11 2 = -1) (h113 : a11 3 = -1) (h114 : a11 4 = -1) (h115 : a11 5 = -1) (h116 : a11 6 = -1) (h117 : a11 7 = -1) (hp : post 1 (4, fc, lv, cp, 15, 2, le, wc, ac, dc, sc, a1, a2, a3, a4, a5, a6, a7, a8, a9, a10, a11, a12, a13, a14, a15, a16, a17, a18, a19, a20, a21, a22, a23, a24, a25, a26)) : wpX_freeRegister post (4, fc, lv, cp, 15, 0, le, wc, ac, dc, sc, a1, a2, a3, a4, a5, a6, a7, a8, a9, a10, a11, a12, a13, a14, a15, a16, a17, a18, a19, a20, a21, a22, a23, a24, a25, a26) pl := by
  subst el
  refine ⟨9, ?_⟩
  refine br_f (by decide) (br_t (by decide) ⟨qz_i (by decide), qz_let h110 (by decide) ⟨qz_i (by decide), qz_use02 h110 hk h3 h4 h10 (br_t (by decide) (nm_r (e' := 1) (by decide) ?_))⟩⟩)
  refine br_f (by decide) (br_t (by decide) ⟨qz_i (by decide), qz_lef h111 (by decide) (br_t (by decide) (nm_r (e' := 2) (by decide) ?_))⟩)
  refine br_f (by decide) (br_t (by decide) ⟨qz_i (by decide), qz_lef h112 (by decide) (br_f (by decide) (nm_r (e' := 3) (by decide) ?_))⟩)
  refine br_f (by decide) (br_t (by decide) ⟨qz_i (by decide), qz_lef h113 (by decide) (br_f (by decide) (nm_r (e' := 4) (by decide) ?_))⟩)
  refine br_f (by decide) (br_t (by decide) ⟨qz_i (by decide), qz_lef h114 (by decide) (br_f (by decide) (nm_r (e' := 5) (by decide) ?_))⟩)
  refine br_f (by decide) (br_t (by decide) ⟨qz_i (by decide), qz_lef h115 (by decide) (br_f (by decide) (nm_r (e' := 6) (by decide) ?_))⟩)
  refine br_f (by decide) (br_t (by decide) ⟨qz_i (by decide), qz_lef h116 (by decide) (br_f (by decide) (nm_r (e' := 7) (by decide) ?_))⟩)
  refine br_f (by decide) (br_t (by decide) ⟨qz_i (by decide), qz_lef h117 (by decide) (br_f (by decide) (nm_r (e' := 8) (by decide) ?_))⟩)
  exact br_t (by decide) ⟨qz_i (by decide), nm_r h111 (br_t (by decide) (nm_r (e' := 2) (by decide) hp))⟩
theorem qz_free2 {post : Int32 → St2 → Prop} {pl : Int32} (el : pl = 3) (hk : qz_k k) (h3 : qz_K k a3) (h4 : qz_X a4) (h10 : qz_S a10) (h112 : a11 2 = -1) (h113 : a11 3 = -1) (h114 : a11 4 = -1) (h115 : a11 5 = -1) (h116 : a11 6 = -1) (h117 : a11 7 = -1) (hp : post 2 (4, fc, lv, cp, 15, 7, le, wc, ac, dc, sc, a1, a2, a3, a4, a5, a6, a7, a8, a9, a10, a11, a12, a13, a14, a15, a16, a17, a18, a19, a20, a21, a22, a23, a24, a25, a26)) : wpX_freeRegister post (4, fc, lv, cp, 15, 3, le, wc, ac, dc, sc, a1, a2, a3, a4, a5, a6, a7, a8, a9, a10, a11, a12, a13, a14, a15, a16, a17, a18, a19, a20, a21, a22, a23, a24, a25, a26) pl := by
  subst el
  refine ⟨9, ?_⟩
  refine br_f (by decide) (br_f (by decide) (nm_r (e' := 1) (by decide) ?_))
  refine br_f (by decide) (br_f (by decide) (nm_r (e' := 2) (by decide) ?_))
  refine br_f (by decide) (br_t (by decide) ⟨qz_i (by decide), qz_lef h112 (by decide) (br_t (by decide) (nm_r (e' := 3) (by decide) ?_))⟩)
  refine br_f (by decide) (br_t (by decide) ⟨qz_i (by decide), qz_lef h113 (by decide) (br_f (by decide) (nm_r (e' := 4) (by decide) ?_))⟩)
  refine br_f (by decide) (br_t (by decide) ⟨qz_i (by decide), qz_lef h114 (by decide) (br_f (by decide) (nm_r (e' := 5) (by decide) ?_))⟩)
  refine br_f (by decide) (br_t (by decide) ⟨qz_i (by decide), qz_lef h115 (by decide) (br_f (by decide) (nm_r (e' := 6) (by decide) ?_))⟩)
  refine br_f (by decide) (br_t (by decide) ⟨qz_i (by decide), qz_lef h116 (by decide) (br_f (by decide) (nm_r (e' := 7) (by decide) ?_))⟩)
  refine br_f (by decide) (br_t (by decide) ⟨qz_i (by decide), qz_lef h117 (by decide) (br_f (by decide) (nm_r (e' := 8) (by decide) ?_))⟩)
  exact br_t (by decide) ⟨qz_i (by decide), nm_r h112 (br_t (by decide) (nm_r (e' := 7) (by decide) hp))⟩
theorem qz_free3 {post : Int32 → St2 → Prop} {pl : Int32} (el : pl = 4) (hk : qz_k k) (h3 : qz_K k a3) (h4 : qz_X a4) (h10 : qz_S a10) (h110 : a11 0 = 0) (h111 : a11 1 = 1) (h112 : a11 2 = 2) (h113 : a11 3 = -1) (h114 : a11 4 = -1) (h115 : a11 5 = -1) (h116 : a11 6 = -1) (h117 : a11 7 = -1) (hp : post 3 (4, fc, lv, cp, 15, 8, le, wc, ac, dc, sc, a1, a2, a3, a4, a5, a6, a7, a8, a9, a10, a11, a12, a13, a14, a15, a16, a17, a18, a19, a20, a21, a22, a23, a24, a25, a26)) : wpX_freeRegister post (4, fc, lv, cp, 15, 0, le, wc, ac, dc, sc, a1, a2, a3, a4, a5, a6, a7, a8, a9, a10, a11, a12, a13, a14, a15, a16, a17, a18, a19, a20, a21, a22, a23, a24, a25, a26) pl := by
  subst el
  refine ⟨9, ?_⟩
  refine br_f (by decide) (br_t (by decide) ⟨qz_i (by decide), qz_let h110 (by decide) ⟨qz_i (by decide), qz_use4 h110 hk h3 h4 h10 (Or.inr ⟨by decide, rfl⟩) (br_t (by decide) (nm_r (e' := 1) (by decide) ?_))⟩⟩)
  refine br_f (by decide) (br_t (by decide) ⟨qz_i (by decide), qz_let h111 (by decide) ⟨qz_i (by decide), qz_use4 h111 hk h3 h4 h10 (Or.inr ⟨by decide, rfl⟩) (br_f (by decide) (nm_r (e' := 2) (by decide) ?_))⟩⟩)
  refine br_f (by decide) (br_t (by decide) ⟨qz_i (by decide), qz_let h112 (by decide) ⟨qz_i (by decide), qz_use4 h112 hk h3 h4 h10 (Or.inl ⟨rfl, rfl⟩) (br_f (by decide) (nm_r (e' := 3) (by decide) ?_))⟩⟩)
  refine br_f (by decide) (br_t (by decide) ⟨qz_i (by decide), qz_lef h113 (by decide) (br_t (by decide) (nm_r (e' := 4) (by decide) ?_))⟩)
  refine br_f (by decide) (br_t (by decide) ⟨qz_i (by decide), qz_lef h114 (by decide) (br_f (by decide) (nm_r (e' := 5) (by decide) ?_))⟩)
  refine br_f (by decide) (br_t (by decide) ⟨qz_i (by decide), qz_lef h115 (by decide) (br_f (by decide) (nm_r (e' := 6) (by decide) ?_))⟩)
  refine br_f (by decide) (br_t (by decide) ⟨qz_i (by decide), qz_lef h116 (by decide) (br_f (by decide) (nm_r (e' := 7) (by decide) ?_))⟩)
  refine br_f (by decide) (br_t (by decide) ⟨qz_i (by decide), qz_lef h117 (by decide) (br_f (by decide) (nm_r (e' := 8) (by decide) ?_))⟩)
  exact br_t (by decide) ⟨qz_i (by decide), nm_r h113 (br_t (by decide) (nm_r (e' := 8) (by decide) hp))⟩
end
end
section
/-! ===== emitNode 0, 1, 2, 3 and emitDelay 3 ===== -/
theorem qz_t8 {k : Int32} (hk : qz_k k) : k.toInt8.toInt32 = k := by rcases hk with rfl | rfl | rfl | rfl <;> decide
def qz_N (a9 : Nat → Int32) : Prop := ∀ i, i < 4 → a9 i = -1 ∨ a9 i = 3
section
variable {nc fc lv cp nd pn le wc : Int32} {ac : Int64} {dc sc : Int32} {a1 a2 a3 a4 a5 a6 a7 a8 a9 a10 a11 a12 a13 a14 a15 a16 a17 a18 a19 a20 a21 a22 a23 a24 a25 a26 : Nat → Int32}
variable {k : Int32}
theorem qz_e121 {post : St2 → Prop} {x1 x3 : Int32} (h9 : qz_N a9) (h10 : a10 3 = 3) (hx : ¬ 3 = x1) (hp : post (nc, fc, lv, cp, nd, 0, le, wc, ac, dc, sc, a1, a2, a3, a4, a5, a6, a7, a8, a9, a10, a11, a12, a13, a14, a15, a16, a17, a18, a19, a20, a21, a22, a23, a24, a25, a26)) : ∃ fu, wX_emitNode_121 post x1 x3 fu 0 nc fc lv cp nd pn le wc ac dc sc a1 a2 a3 a4 a5 a6 a7 a8 a9 a10 a11 a12 a13 a14 a15 a16 a17 a18 a19 a20 a21 a22 a23 a24 a25 a26 :=
  pk_loop (σ := Unit) (fun n i _ => wX_emitNode_121 post x1 x3 n (nI i) nc fc lv cp nd pn le wc ac dc sc a1 a2 a3 a4 a5 a6 a7 a8 a9 a10 a11 a12 a13 a14 a15 a16 a17 a18 a19 a20 a21 a22 a23 a24 a25 a26) (fun _ _ => True) 4 0 () (by omega) trivial
    (fun n _ _ => pk_le 4 4 (fun _ => hp) (fun z => absurd z (by omega)))
    (fun n i _ hi _ hw => pk_le 4 i (fun z => absurd z (by omega)) (fun _ => ⟨pk_in i 4 hi, by
      have hc : (nI i).toNatClampNeg = i := nI_clamp (by omega)
      rcases h9 i hi with h | h
      · exact qz_ltt (v := -1) (by rw [hc]; exact h) (by decide) (nm_r (nI_1 i) (hw () trivial))
      · exact qz_ltf (v := 3) (by rw [hc]; exact h) (by decide) ⟨pk_in i 4 hi, ⟨qz_in (v := 3) (by rw [hc]; exact h) (by decide), qz_eqf (v := 3) (by rw [hc, h]; exact h10) hx (nm_r (nI_1 i) (hw () trivial))⟩⟩⟩))
theorem qz_s121_0 {post : St2 → Prop} (h90 : a9 0 = 3) (h91 : a9 1 = -1) (h92 : a9 2 = -1) (h93 : a9 3 = -1) (h10 : a10 3 = 3) (hp : post (nc, fc, lv, cp, nd, 0, 5, wc, ac, dc, sc, a1, a2, a3, a4, a5, a6, a7, a8, a9, a10, a11, a12, a13, upd a14 4 17, upd a15 4 (-1), upd a16 4 3, upd a17 4 (-1), upd a18 4 2, a19, a20, a21, a22, a23, a24, a25, a26)) : ∃ fu, wX_emitNode_121 post 3 3 fu 0 nc fc lv cp nd pn 4 wc ac dc sc a1 a2 a3 a4 a5 a6 a7 a8 a9 a10 a11 a12 a13 a14 a15 a16 a17 a18 a19 a20 a21 a22 a23 a24 a25 a26 := by
  refine ⟨5, ?_⟩
  refine br_f (by decide) ⟨qz_i (by decide), qz_ltf h90 (by decide) ⟨qz_i (by decide), ⟨qz_in h90 (by decide), qz_eqt (qz_comp h90 h10) rfl (qz_emit 4 5 17 (-1) 3 (-1) 2 (qz_i (by decide)) (by decide) (by decide) (by decide) (by decide) (by decide) (by decide) (by decide) (nm_r (e' := 1) (by decide) ?_))⟩⟩⟩
  refine br_f (by decide) ⟨qz_i (by decide), qz_ltt h91 (by decide) (nm_r (e' := 2) (by decide) ?_)⟩
  refine br_f (by decide) ⟨qz_i (by decide), qz_ltt h92 (by decide) (nm_r (e' := 3) (by decide) ?_)⟩
  refine br_f (by decide) ⟨qz_i (by decide), qz_ltt h93 (by decide) (nm_r (e' := 4) (by decide) ?_)⟩
  exact br_t (by decide) hp
theorem qz_s121_1 {post : St2 → Prop} (h90 : a9 0 = -1) (h91 : a9 1 = 3) (h92 : a9 2 = -1) (h93 : a9 3 = -1) (h10 : a10 3 = 3) (hp : post (nc, fc, lv, cp, nd, 0, 5, wc, ac, dc, sc, a1, a2, a3, a4, a5, a6, a7, a8, a9, a10, a11, a12, a13, upd a14 4 17, upd a15 4 (-1), upd a16 4 3, upd a17 4 (-1), upd a18 4 3, a19, a20, a21, a22, a23, a24, a25, a26)) : ∃ fu, wX_emitNode_121 post 3 3 fu 0 nc fc lv cp nd pn 4 wc ac dc sc a1 a2 a3 a4 a5 a6 a7 a8 a9 a10 a11 a12 a13 a14 a15 a16 a17 a18 a19 a20 a21 a22 a23 a24 a25 a26 := by
  refine ⟨5, ?_⟩
  refine br_f (by decide) ⟨qz_i (by decide), qz_ltt h90 (by decide) (nm_r (e' := 1) (by decide) ?_)⟩
  refine br_f (by decide) ⟨qz_i (by decide), qz_ltf h91 (by decide) ⟨qz_i (by decide), ⟨qz_in h91 (by decide), qz_eqt (qz_comp h91 h10) rfl (qz_emit 4 5 17 (-1) 3 (-1) 3 (qz_i (by decide)) (by decide) (by decide) (by decide) (by decide) (by decide) (by decide) (by decide) (nm_r (e' := 2) (by decide) ?_))⟩⟩⟩
  refine br_f (by decide) ⟨qz_i (by decide), qz_ltt h92 (by decide) (nm_r (e' := 3) (by decide) ?_)⟩
  refine br_f (by decide) ⟨qz_i (by decide), qz_ltt h93 (by decide) (nm_r (e' := 4) (by decide) ?_)⟩
  exact br_t (by decide) hp
theorem qz_s121_2 {post : St2 → Prop} (h90 : a9 0 = -1) (h91 : a9 1 = -1) (h92 : a9 2 = 3) (h93 : a9 3 = -1) (h10 : a10 3 = 3) (hp : post (nc, fc, lv, cp, nd, 0, 5, wc, ac, dc, sc, a1, a2, a3, a4, a5, a6, a7, a8, a9, a10, a11, a12, a13, upd a14 4 17, upd a15 4 (-1), upd a16 4 3, upd a17 4 (-1), upd a18 4 4, a19, a20, a21, a22, a23, a24, a25, a26)) : ∃ fu, wX_emitNode_121 post 3 3 fu 0 nc fc lv cp nd pn 4 wc ac dc sc a1 a2 a3 a4 a5 a6 a7 a8 a9 a10 a11 a12 a13 a14 a15 a16 a17 a18 a19 a20 a21 a22 a23 a24 a25 a26 := by
  refine ⟨5, ?_⟩
  refine br_f (by decide) ⟨qz_i (by decide), qz_ltt h90 (by decide) (nm_r (e' := 1) (by decide) ?_)⟩
  refine br_f (by decide) ⟨qz_i (by decide), qz_ltt h91 (by decide) (nm_r (e' := 2) (by decide) ?_)⟩
  refine br_f (by decide) ⟨qz_i (by decide), qz_ltf h92 (by decide) ⟨qz_i (by decide), ⟨qz_in h92 (by decide), qz_eqt (qz_comp h92 h10) rfl (qz_emit 4 5 17 (-1) 3 (-1) 4 (qz_i (by decide)) (by decide) (by decide) (by decide) (by decide) (by decide) (by decide) (by decide) (nm_r (e' := 3) (by decide) ?_))⟩⟩⟩
  refine br_f (by decide) ⟨qz_i (by decide), qz_ltt h93 (by decide) (nm_r (e' := 4) (by decide) ?_)⟩
  exact br_t (by decide) hp
theorem qz_s121_3 {post : St2 → Prop} (h90 : a9 0 = -1) (h91 : a9 1 = -1) (h92 : a9 2 = -1) (h93 : a9 3 = 3) (h10 : a10 3 = 3) (hp : post (nc, fc, lv, cp, nd, 0, 5, wc, ac, dc, sc, a1, a2, a3, a4, a5, a6, a7, a8, a9, a10, a11, a12, a13, upd a14 4 17, upd a15 4 (-1), upd a16 4 3, upd a17 4 (-1), upd a18 4 5, a19, a20, a21, a22, a23, a24, a25, a26)) : ∃ fu, wX_emitNode_121 post 3 3 fu 0 nc fc lv cp nd pn 4 wc ac dc sc a1 a2 a3 a4 a5 a6 a7 a8 a9 a10 a11 a12 a13 a14 a15 a16 a17 a18 a19 a20 a21 a22 a23 a24 a25 a26 := by
  refine ⟨5, ?_⟩
  refine br_f (by decide) ⟨qz_i (by decide), qz_ltt h90 (by decide) (nm_r (e' := 1) (by decide) ?_)⟩
  refine br_f (by decide) ⟨qz_i (by decide), qz_ltt h91 (by decide) (nm_r (e' := 2) (by decide) ?_)⟩
  refine br_f (by decide) ⟨qz_i (by decide), qz_ltt h92 (by decide) (nm_r (e' := 3) (by decide) ?_)⟩
  refine br_f (by decide) ⟨qz_i (by decide), qz_ltf h93 (by decide) ⟨qz_i (by decide), ⟨qz_in h93 (by decide), qz_eqt (qz_comp h93 h10) rfl (qz_emit 4 5 17 (-1) 3 (-1) 5 (qz_i (by decide)) (by decide) (by decide) (by decide) (by decide) (by decide) (by decide) (by decide) (nm_r (e' := 4) (by decide) ?_))⟩⟩⟩
  exact br_t (by decide) hp
theorem qz_node0 {post : St2 → Prop} (hk : qz_k k) (h3 : qz_K k a3) (h4 : qz_X a4) (h10 : qz_S a10) (h9 : qz_N a9) (h110 : a11 0 = -1) (h111 : a11 1 = -1) (h112 : a11 2 = -1) (h113 : a11 3 = -1) (h114 : a11 4 = -1) (h115 : a11 5 = -1) (h116 : a11 6 = -1) (h117 : a11 7 = -1) (hp : post (4, fc, lv, cp, 15, 0, 1, wc, ac, dc, sc, a1, a2, a3, a4, a5, a6, a7, a8, a9, a10, upd a11 0 0, upd a12 0 0, a13, upd a14 0 16, upd a15 0 0, upd a16 0 (-1), upd a17 0 (-1), upd a18 0 0, a19, a20, a21, a22, a23, a24, a25, a26)) : wpX_emitNode post (4, fc, lv, cp, 15, 0, 0, wc, ac, dc, sc, a1, a2, a3, a4, a5, a6, a7, a8, a9, a10, a11, a12, a13, a14, a15, a16, a17, a18, a19, a20, a21, a22, a23, a24, a25, a26) 0 := by
  refine ⟨qz_i (by decide), nm_r h3.1 ⟨qz_i (by decide), qz_eqt h10.1 (by decide) (br_f (by decide) (br_t rfl ?_))⟩⟩
  refine qz_free0 (by decide) hk h3 h4 h10 h110 h111 h112 h113 h114 h115 h116 h117 (br_t rfl ⟨qz_i (by decide), ?_⟩)
  refine qz_emit 0 1 16 0 (-1) (-1) 0 (qz_i (by decide)) (by decide) (by decide) (by decide) (by decide) (by decide) (by decide) h4.1 ?_
  refine qz_keep 0 0 0 0 (qz_i (by decide)) (qz_i (by decide)) (by decide) (by decide) (by decide) (by decide) ?_
  exact qz_e121 h9 h10.2.2.2 (by decide) hp
theorem qz_node1 {post : St2 → Prop} (hk : qz_k k) (h3 : qz_K k a3) (h4 : qz_X a4) (h10 : qz_S a10) (h9 : qz_N a9) (h110 : a11 0 = 0) (h111 : a11 1 = -1) (h112 : a11 2 = -1) (h113 : a11 3 = -1) (h114 : a11 4 = -1) (h115 : a11 5 = -1) (h116 : a11 6 = -1) (h117 : a11 7 = -1) (hp : post (4, fc, lv, cp, 15, 0, 2, wc, ac, dc, sc, a1, a2, a3, a4, a5, a6, a7, a8, a9, a10, upd a11 1 1, upd a12 1 1, a13, upd a14 1 16, upd a15 1 1, upd a16 1 (-1), upd a17 1 (-1), upd a18 1 1, a19, a20, a21, a22, a23, a24, a25, a26)) : wpX_emitNode post (4, fc, lv, cp, 15, 0, 1, wc, ac, dc, sc, a1, a2, a3, a4, a5, a6, a7, a8, a9, a10, a11, a12, a13, a14, a15, a16, a17, a18, a19, a20, a21, a22, a23, a24, a25, a26) 1 := by
  refine ⟨qz_i (by decide), nm_r h3.2.1 ⟨qz_i (by decide), qz_eqt h10.2.1 (by decide) (br_f (by decide) (br_t rfl ?_))⟩⟩
  refine qz_free1 (by decide) hk h3 h4 h10 h110 h111 h112 h113 h114 h115 h116 h117 (br_t rfl ⟨qz_i (by decide), ?_⟩)
  refine qz_emit 1 2 16 1 (-1) (-1) 1 (qz_i (by decide)) (by decide) (by decide) (by decide) (by decide) (by decide) (by decide) h4.2.1 ?_
  refine qz_keep 1 1 1 1 (qz_i (by decide)) (qz_i (by decide)) (by decide) (by decide) (by decide) (by decide) ?_
  exact qz_e121 h9 h10.2.2.2 (by decide) hp
theorem qz_plain {post : Int32 → St2 → Prop} (hk : qz_k k) (h3 : qz_K k a3) (h4 : qz_X a4) (h5 : a5 2 = 1) (h10 : qz_S a10) (h120 : a12 0 = 0) (h121 : a12 1 = 1) (h112 : a11 2 = -1) (h113 : a11 3 = -1) (h114 : a11 4 = -1) (h115 : a11 5 = -1) (h116 : a11 6 = -1) (h117 : a11 7 = -1) (hp : post 2 (4, fc, lv, cp, 15, 7, 3, wc, ac, dc, sc, a1, a2, a3, a4, a5, a6, a7, a8, a9, a10, a11, a12, a13, upd a14 2 k, upd a15 2 2, upd a16 2 0, upd a17 2 1, upd a18 2 1, a19, a20, a21, a22, a23, a24, a25, a26)) : wpX_emitPlain post (4, fc, lv, cp, 15, 0, 2, wc, ac, dc, sc, a1, a2, a3, a4, a5, a6, a7, a8, a9, a10, a11, a12, a13, a14, a15, a16, a17, a18, a19, a20, a21, a22, a23, a24, a25, a26) 2 k := by
  refine ⟨qz_i (by decide), qz_bring 1 h4.2.2.1 (qz_i (by decide)) h10.1 (qz_i (by decide)) h120 (by decide) (by decide) ?_⟩
  refine qz_hasTwo hk (br_f (by decide) ⟨qz_i (by decide), qz_bring 3 h5 (qz_i (by decide)) h10.2.1 (qz_i (by decide)) h121 (by decide) (by decide) ?_⟩)
  refine br_f (qz_n4 hk) ?_
  refine qz_free2 (by decide) hk h3 h4 h10 h112 h113 h114 h115 h116 h117 (br_f (qz_n4 hk) ⟨qz_i (by decide), ?_⟩)
  exact qz_emit 2 3 k 2 0 1 1 (qz_i (by decide)) (by decide) (by decide) (qz_t8 hk) (by decide) (by decide) (by decide) h5 hp
theorem qz_node2 {post : St2 → Prop} (hk : qz_k k) (h3 : qz_K k a3) (h4 : qz_X a4) (h5 : a5 2 = 1) (h10 : qz_S a10) (h9 : qz_N a9) (h120 : a12 0 = 0) (h121 : a12 1 = 1) (h112 : a11 2 = -1) (h113 : a11 3 = -1) (h114 : a11 4 = -1) (h115 : a11 5 = -1) (h116 : a11 6 = -1) (h117 : a11 7 = -1) (hp : post (4, fc, lv, cp, 15, 0, 3, wc, ac, dc, sc, a1, a2, a3, a4, a5, a6, a7, a8, a9, a10, upd a11 2 2, upd a12 2 2, a13, upd a14 2 k, upd a15 2 2, upd a16 2 0, upd a17 2 1, upd a18 2 1, a19, a20, a21, a22, a23, a24, a25, a26)) : wpX_emitNode post (4, fc, lv, cp, 15, 0, 2, wc, ac, dc, sc, a1, a2, a3, a4, a5, a6, a7, a8, a9, a10, a11, a12, a13, a14, a15, a16, a17, a18, a19, a20, a21, a22, a23, a24, a25, a26) 2 := by
  refine ⟨qz_i (by decide), nm_r h3.2.2.1 ⟨qz_i (by decide), qz_eqt h10.2.2.1 (by decide) (br_f (qz_n1 hk) (br_f (qz_n0 hk) (br_f (qz_n5 hk) (br_f (qz_n6 hk) ?_))))⟩⟩
  refine qz_plain hk h3 h4 h5 h10 h120 h121 h112 h113 h114 h115 h116 h117 ?_
  refine qz_keep 2 2 2 2 (qz_i (by decide)) (qz_i (by decide)) (by decide) (by decide) (by decide) (by decide) ?_
  exact qz_e121 h9 h10.2.2.2 (by decide) hp
theorem qz_node3_0 {post : St2 → Prop} (hk : qz_k k) (h3 : qz_K k a3) (h4 : qz_X a4) (h10 : qz_S a10) (h90 : a9 0 = 3) (h91 : a9 1 = -1) (h92 : a9 2 = -1) (h93 : a9 3 = -1) (h110 : a11 0 = 0) (h111 : a11 1 = 1) (h112 : a11 2 = 2) (h113 : a11 3 = -1) (h114 : a11 4 = -1) (h115 : a11 5 = -1) (h116 : a11 6 = -1) (h117 : a11 7 = -1) (hp : post (4, fc, lv, cp, 15, 0, 5, wc, ac, dc, sc, a1, a2, a3, a4, a5, a6, a7, a8, a9, a10, upd a11 3 3, upd a12 3 3, a13, upd (upd a14 3 16) 4 17, upd (upd a15 3 3) 4 (-1), upd (upd a16 3 (-1)) 4 3, upd (upd a17 3 (-1)) 4 (-1), upd (upd a18 3 11) 4 2, a19, a20, a21, a22, a23, a24, a25, a26)) : wpX_emitNode post (4, fc, lv, cp, 15, 0, 3, wc, ac, dc, sc, a1, a2, a3, a4, a5, a6, a7, a8, a9, a10, a11, a12, a13, a14, a15, a16, a17, a18, a19, a20, a21, a22, a23, a24, a25, a26) 3 := by
  refine ⟨qz_i (by decide), nm_r h3.2.2.2 ⟨qz_i (by decide), qz_eqt h10.2.2.2 (by decide) (br_f (by decide) (br_f (by decide) (br_t rfl ?_)))⟩⟩
  refine qz_free3 (by decide) hk h3 h4 h10 h110 h111 h112 h113 h114 h115 h116 h117 (br_f (by decide) ?_)
  refine qz_emit 3 4 16 3 (-1) (-1) 11 (qz_i (by decide)) (by decide) (by decide) (by decide) (by decide) (by decide) (by decide) (by decide) ?_
  refine qz_keep 3 3 3 3 (qz_i (by decide)) (qz_i (by decide)) (by decide) (by decide) (by decide) (by decide) ?_
  exact qz_s121_0 h90 h91 h92 h93 h10.2.2.2 hp
theorem qz_node3_1 {post : St2 → Prop} (hk : qz_k k) (h3 : qz_K k a3) (h4 : qz_X a4) (h10 : qz_S a10) (h90 : a9 0 = -1) (h91 : a9 1 = 3) (h92 : a9 2 = -1) (h93 : a9 3 = -1) (h110 : a11 0 = 0) (h111 : a11 1 = 1) (h112 : a11 2 = 2) (h113 : a11 3 = -1) (h114 : a11 4 = -1) (h115 : a11 5 = -1) (h116 : a11 6 = -1) (h117 : a11 7 = -1) (hp : post (4, fc, lv, cp, 15, 0, 5, wc, ac, dc, sc, a1, a2, a3, a4, a5, a6, a7, a8, a9, a10, upd a11 3 3, upd a12 3 3, a13, upd (upd a14 3 16) 4 17, upd (upd a15 3 3) 4 (-1), upd (upd a16 3 (-1)) 4 3, upd (upd a17 3 (-1)) 4 (-1), upd (upd a18 3 11) 4 3, a19, a20, a21, a22, a23, a24, a25, a26)) : wpX_emitNode post (4, fc, lv, cp, 15, 0, 3, wc, ac, dc, sc, a1, a2, a3, a4, a5, a6, a7, a8, a9, a10, a11, a12, a13, a14, a15, a16, a17, a18, a19, a20, a21, a22, a23, a24, a25, a26) 3 := by
  refine ⟨qz_i (by decide), nm_r h3.2.2.2 ⟨qz_i (by decide), qz_eqt h10.2.2.2 (by decide) (br_f (by decide) (br_f (by decide) (br_t rfl ?_)))⟩⟩
  refine qz_free3 (by decide) hk h3 h4 h10 h110 h111 h112 h113 h114 h115 h116 h117 (br_f (by decide) ?_)
  refine qz_emit 3 4 16 3 (-1) (-1) 11 (qz_i (by decide)) (by decide) (by decide) (by decide) (by decide) (by decide) (by decide) (by decide) ?_
  refine qz_keep 3 3 3 3 (qz_i (by decide)) (qz_i (by decide)) (by decide) (by decide) (by decide) (by decide) ?_
  exact qz_s121_1 h90 h91 h92 h93 h10.2.2.2 hp
theorem qz_node3_2 {post : St2 → Prop} (hk : qz_k k) (h3 : qz_K k a3) (h4 : qz_X a4) (h10 : qz_S a10) (h90 : a9 0 = -1) (h91 : a9 1 = -1) (h92 : a9 2 = 3) (h93 : a9 3 = -1) (h110 : a11 0 = 0) (h111 : a11 1 = 1) (h112 : a11 2 = 2) (h113 : a11 3 = -1) (h114 : a11 4 = -1) (h115 : a11 5 = -1) (h116 : a11 6 = -1) (h117 : a11 7 = -1) (hp : post (4, fc, lv, cp, 15, 0, 5, wc, ac, dc, sc, a1, a2, a3, a4, a5, a6, a7, a8, a9, a10, upd a11 3 3, upd a12 3 3, a13, upd (upd a14 3 16) 4 17, upd (upd a15 3 3) 4 (-1), upd (upd a16 3 (-1)) 4 3, upd (upd a17 3 (-1)) 4 (-1), upd (upd a18 3 11) 4 4, a19, a20, a21, a22, a23, a24, a25, a26)) : wpX_emitNode post (4, fc, lv, cp, 15, 0, 3, wc, ac, dc, sc, a1, a2, a3, a4, a5, a6, a7, a8, a9, a10, a11, a12, a13, a14, a15, a16, a17, a18, a19, a20, a21, a22, a23, a24, a25, a26) 3 := by
  refine ⟨qz_i (by decide), nm_r h3.2.2.2 ⟨qz_i (by decide), qz_eqt h10.2.2.2 (by decide) (br_f (by decide) (br_f (by decide) (br_t rfl ?_)))⟩⟩
  refine qz_free3 (by decide) hk h3 h4 h10 h110 h111 h112 h113 h114 h115 h116 h117 (br_f (by decide) ?_)
  refine qz_emit 3 4 16 3 (-1) (-1) 11 (qz_i (by decide)) (by decide) (by decide) (by decide) (by decide) (by decide) (by decide) (by decide) ?_
  refine qz_keep 3 3 3 3 (qz_i (by decide)) (qz_i (by decide)) (by decide) (by decide) (by decide) (by decide) ?_
  exact qz_s121_2 h90 h91 h92 h93 h10.2.2.2 hp
theorem qz_node3_3 {post : St2 → Prop} (hk : qz_k k) (h3 : qz_K k a3) (h4 : qz_X a4) (h10 : qz_S a10) (h90 : a9 0 = -1) (h91 : a9 1 = -1) (h92 : a9 2 = -1) (h93 : a9 3 = 3) (h110 : a11 0 = 0) (h111 : a11 1 = 1) (h112 : a11 2 = 2) (h113 : a11 3 = -1) (h114 : a11 4 = -1) (h115 : a11 5 = -1) (h116 : a11 6 = -1) (h117 : a11 7 = -1) (hp : post (4, fc, lv, cp, 15, 0, 5, wc, ac, dc, sc, a1, a2, a3, a4, a5, a6, a7, a8, a9, a10, upd a11 3 3, upd a12 3 3, a13, upd (upd a14 3 16) 4 17, upd (upd a15 3 3) 4 (-1), upd (upd a16 3 (-1)) 4 3, upd (upd a17 3 (-1)) 4 (-1), upd (upd a18 3 11) 4 5, a19, a20, a21, a22, a23, a24, a25, a26)) : wpX_emitNode post (4, fc, lv, cp, 15, 0, 3, wc, ac, dc, sc, a1, a2, a3, a4, a5, a6, a7, a8, a9, a10, a11, a12, a13, a14, a15, a16, a17, a18, a19, a20, a21, a22, a23, a24, a25, a26) 3 := by
  refine ⟨qz_i (by decide), nm_r h3.2.2.2 ⟨qz_i (by decide), qz_eqt h10.2.2.2 (by decide) (br_f (by decide) (br_f (by decide) (br_t rfl ?_)))⟩⟩
  refine qz_free3 (by decide) hk h3 h4 h10 h110 h111 h112 h113 h114 h115 h116 h117 (br_f (by decide) ?_)
  refine qz_emit 3 4 16 3 (-1) (-1) 11 (qz_i (by decide)) (by decide) (by decide) (by decide) (by decide) (by decide) (by decide) (by decide) ?_
  refine qz_keep 3 3 3 3 (qz_i (by decide)) (qz_i (by decide)) (by decide) (by decide) (by decide) (by decide) ?_
  exact qz_s121_3 h90 h91 h92 h93 h10.2.2.2 hp
theorem qz_delay {post : St2 → Prop} (h4 : qz_X a4) (h10 : qz_S a10) (h122 : a12 2 = 2) (hp : post (nc, fc, lv, cp, nd, 0, 6, wc, ac, dc, sc, a1, a2, a3, a4, a5, a6, a7, a8, a9, a10, a11, a12, a13, upd a14 5 17, upd a15 5 (-1), upd a16 5 2, upd a17 5 (-1), upd a18 5 11, a19, a20, a21, a22, a23, a24, a25, a26)) : wpX_emitDelay post (nc, fc, lv, cp, nd, 0, 5, wc, ac, dc, sc, a1, a2, a3, a4, a5, a6, a7, a8, a9, a10, a11, a12, a13, a14, a15, a16, a17, a18, a19, a20, a21, a22, a23, a24, a25, a26) 3 := by
  refine ⟨qz_i (by decide), qz_bring 4 h4.2.2.2 (qz_i (by decide)) h10.2.2.1 (qz_i (by decide)) h122 (by decide) (by decide) ?_⟩
  exact qz_emit 5 6 17 (-1) 2 (-1) 11 (qz_i (by decide)) (by decide) (by decide) (by decide) (by decide) (by decide) (by decide) (by decide) hp
end
end
section
/-! ===== distance and schedule ===== -/
def qz_rd (o f s r : Int32) : Int32 := if r < 0 then 0 else if f = r then 1 else if s = r then 1 else if o = 12 then (if r = 8 then 1 else 0) else 0
def qz_d1 (oj ij oi fi si : Int32) : Int32 := if qz_rd oi fi si ij = 0 then (-1000) else qz_dl oj
def qz_d2 (x oj fj sj ii : Int32) : Int32 := if qz_rd oj fj sj ii = 0 then x else if 0 ≤ x then x else 0
def qz_d3 (x oj ij oi ii : Int32) : Int32 := if ii < 0 then x else if ii = ij then (if (qz_dl oj - qz_dl oi) + 1 ≤ x then x else (qz_dl oj - qz_dl oi) + 1) else x
def qz_d4 (x oj nj oi ni : Int32) : Int32 := if oi < 16 then x else if oj < 16 then x else if ni = nj then (if 1 ≤ x then x else 1) else x
def qz_ds (oj ij fj sj nj oi ii fi si ni : Int32) : Int32 := qz_d4 (qz_d3 (qz_d2 (qz_d1 oj ij oi fi si) oj fj sj ii) oj ij oi ii) oj nj oi ni
/-- one instruction's row -/
def qz_row (a14 a15 a16 a17 a18 : Nat → Int32) (i : Nat) (o d f s n : Int32) : Prop := a14 i = o ∧ a15 i = d ∧ a16 i = f ∧ a17 i = s ∧ a18 i = n
theorem qz_uh {a b : Nat → Int32} {j i : Nat} {x v : Int32} (e : b = upd a j x) (hj : j = i) (hx : x = v) : b i = v := by rw [e, hj, hx, pk_us]
theorem qz_un {a b : Nat → Int32} {j i : Nat} {x v : Int32} (e : b = upd a j x) (hj : i ≠ j) (h : a i = v) : b i = v := by rw [e, pk_un hj, h]
theorem qz_add {a : Nat → Int32} {j : Nat} {v d w : Int32} (h : a j = v) (e : v + d = w) : a j + d = w := by rw [h, e]
section
variable {nc fc lv cp nd pn le wc : Int32} {ac : Int64} {dc sc : Int32} {a1 a2 a3 a4 a5 a6 a7 a8 a9 a10 a11 a12 a13 a14 a15 a16 a17 a18 a19 a20 a21 a22 a23 a24 a25 a26 : Nat → Int32}
variable {k : Int32}
theorem qz_reads {post : Int32 → Prop} {p0 p1 : Int32} (hi : vp_in p0 300) (h : post (qz_rd (a14 p0.toNatClampNeg) (a16 p0.toNatClampNeg) (a17 p0.toNatClampNeg) p1)) : wpX_reads post (nc, fc, lv, cp, nd, pn, le, wc, ac, dc, sc, a1, a2, a3, a4, a5, a6, a7, a8, a9, a10, a11, a12, a13, a14, a15, a16, a17, a18, a19, a20, a21, a22, a23, a24, a25, a26) p0 p1 := by
  unfold qz_rd at h
  by_cases c1 : p1 < 0
  · rw [if_pos c1] at h
    exact br_t c1 h
  · rw [if_neg c1] at h
    refine br_f c1 ⟨hi, ?_⟩
    by_cases c2 : a16 p0.toNatClampNeg = p1
    · rw [if_pos c2] at h
      exact br_t c2 h
    · rw [if_neg c2] at h
      refine br_f c2 ⟨hi, ?_⟩
      by_cases c3 : a17 p0.toNatClampNeg = p1
      · rw [if_pos c3] at h
        exact br_t c3 h
      · rw [if_neg c3] at h
        refine br_f c3 ⟨hi, ?_⟩
        by_cases c4 : a14 p0.toNatClampNeg = 12
        · rw [if_pos c4] at h
          refine br_t c4 ?_
          by_cases c5 : p1 = 8
          · rw [if_pos c5] at h
            exact br_t c5 h
          · rw [if_neg c5] at h
            exact br_f c5 h
        · rw [if_neg c4] at h
          exact br_f c4 h
theorem qz_touch {post : Int32 → Prop} {p0 p1 : Int32} (hi : vp_in p0 300) (hj : vp_in p1 300) (ci : a14 p0.toNatClampNeg < 18) (cj : a14 p1.toNatClampNeg < 18) (h : post (if a18 p0.toNatClampNeg = a18 p1.toNatClampNeg then 1 else 0)) : wpX_touchSame post (nc, fc, lv, cp, nd, pn, le, wc, ac, dc, sc, a1, a2, a3, a4, a5, a6, a7, a8, a9, a10, a11, a12, a13, a14, a15, a16, a17, a18, a19, a20, a21, a22, a23, a24, a25, a26) p0 p1 := by
  refine ⟨hi, br_t ci ⟨hj, br_t cj (br_t rfl ⟨hi, br_t ci (br_t rfl ⟨hi, hj, ?_⟩)⟩)⟩⟩
  by_cases c : a18 p0.toNatClampNeg = a18 p1.toNatClampNeg
  · rw [if_pos c] at h
    exact br_t c h
  · rw [if_neg c] at h
    exact br_f c h
theorem qz_107 {post : Int32 → Prop} {j i x : Int32} (hj : vp_in j 300) (hi : vp_in i 300) (cj : a14 j.toNatClampNeg < 18) (ci : a14 i.toNatClampNeg < 18) (h : post (qz_d4 x (a14 j.toNatClampNeg) (a18 j.toNatClampNeg) (a14 i.toNatClampNeg) (a18 i.toNatClampNeg))) : wX_distance_107 post j i x nc fc lv cp nd pn le wc ac dc sc a1 a2 a3 a4 a5 a6 a7 a8 a9 a10 a11 a12 a13 a14 a15 a16 a17 a18 a19 a20 a21 a22 a23 a24 a25 a26 := by
  unfold qz_d4 at h
  refine ⟨hi, ?_⟩
  by_cases c1 : a14 i.toNatClampNeg < 16
  · rw [if_pos c1] at h
    exact qz_memF c1 (br_t rfl h)
  · rw [if_neg c1] at h
    refine qz_memT c1 (br_f (by decide) ⟨hj, ?_⟩)
    by_cases c2 : a14 j.toNatClampNeg < 16
    · rw [if_pos c2] at h
      exact qz_memF c2 (br_t rfl h)
    · rw [if_neg c2] at h
      refine qz_memT c2 (br_f (by decide) (qz_touch hi hj ci cj ?_))
      by_cases c3 : a18 i.toNatClampNeg = a18 j.toNatClampNeg
      · rw [if_pos c3] at h ⊢
        refine br_f (by decide) ?_
        by_cases c4 : 1 ≤ x
        · rw [if_pos c4] at h
          exact br_t c4 h
        · rw [if_neg c4] at h
          exact br_f c4 h
      · rw [if_neg c3] at h ⊢
        exact br_t rfl h
theorem qz_49 {post : Int32 → Prop} {j i x : Int32} (hj : vp_in j 300) (hi : vp_in i 300) (cj : a14 j.toNatClampNeg < 18) (ci : a14 i.toNatClampNeg < 18) (h : post (qz_d4 (qz_d3 x (a14 j.toNatClampNeg) (a15 j.toNatClampNeg) (a14 i.toNatClampNeg) (a15 i.toNatClampNeg)) (a14 j.toNatClampNeg) (a18 j.toNatClampNeg) (a14 i.toNatClampNeg) (a18 i.toNatClampNeg))) : wX_distance_49 post j i x nc fc lv cp nd pn le wc ac dc sc a1 a2 a3 a4 a5 a6 a7 a8 a9 a10 a11 a12 a13 a14 a15 a16 a17 a18 a19 a20 a21 a22 a23 a24 a25 a26 := by
  unfold qz_d3 at h
  refine ⟨hi, ?_⟩
  by_cases c1 : a15 i.toNatClampNeg < 0
  · rw [if_pos c1] at h
    exact br_t c1 (qz_107 hj hi cj ci h)
  · rw [if_neg c1] at h
    refine br_f c1 ⟨hi, hj, ?_⟩
    by_cases c2 : a15 i.toNatClampNeg = a15 j.toNatClampNeg
    · rw [if_pos c2] at h
      refine br_t c2 ⟨hj, qz_delayOf ⟨hi, qz_delayOf (nm_e ?_)⟩⟩
      by_cases c3 : (qz_dl (a14 j.toNatClampNeg) - qz_dl (a14 i.toNatClampNeg)) + 1 ≤ x
      · rw [if_pos c3] at h
        exact br_t c3 (qz_107 hj hi cj ci h)
      · rw [if_neg c3] at h
        exact br_f c3 (qz_107 hj hi cj ci h)
    · rw [if_neg c2] at h
      exact br_f c2 (qz_107 hj hi cj ci h)
theorem qz_29 {post : Int32 → Prop} {j i x : Int32} (hj : vp_in j 300) (hi : vp_in i 300) (cj : a14 j.toNatClampNeg < 18) (ci : a14 i.toNatClampNeg < 18) (h : post (qz_d4 (qz_d3 (qz_d2 x (a14 j.toNatClampNeg) (a16 j.toNatClampNeg) (a17 j.toNatClampNeg) (a15 i.toNatClampNeg)) (a14 j.toNatClampNeg) (a15 j.toNatClampNeg) (a14 i.toNatClampNeg) (a15 i.toNatClampNeg)) (a14 j.toNatClampNeg) (a18 j.toNatClampNeg) (a14 i.toNatClampNeg) (a18 i.toNatClampNeg))) : wX_distance_29 post j i x nc fc lv cp nd pn le wc ac dc sc a1 a2 a3 a4 a5 a6 a7 a8 a9 a10 a11 a12 a13 a14 a15 a16 a17 a18 a19 a20 a21 a22 a23 a24 a25 a26 := by
  unfold qz_d2 at h
  refine ⟨hi, qz_reads hj ?_⟩
  by_cases c1 : qz_rd (a14 j.toNatClampNeg) (a16 j.toNatClampNeg) (a17 j.toNatClampNeg) (a15 i.toNatClampNeg) = 0
  · rw [if_pos c1] at h
    exact br_t c1 (qz_49 hj hi cj ci h)
  · rw [if_neg c1] at h
    refine br_f c1 ?_
    by_cases c2 : 0 ≤ x
    · rw [if_pos c2] at h
      exact br_t c2 (qz_49 hj hi cj ci h)
    · rw [if_neg c2] at h
      exact br_f c2 (qz_49 hj hi cj ci h)
theorem qz_dist0 {post : Int32 → Prop} {j i : Int32} (hj : vp_in j 300) (hi : vp_in i 300) (cj : a14 j.toNatClampNeg < 18) (ci : a14 i.toNatClampNeg < 18) (h : post (qz_ds (a14 j.toNatClampNeg) (a15 j.toNatClampNeg) (a16 j.toNatClampNeg) (a17 j.toNatClampNeg) (a18 j.toNatClampNeg) (a14 i.toNatClampNeg) (a15 i.toNatClampNeg) (a16 i.toNatClampNeg) (a17 i.toNatClampNeg) (a18 i.toNatClampNeg))) : wpX_distance post (nc, fc, lv, cp, nd, pn, le, wc, ac, dc, sc, a1, a2, a3, a4, a5, a6, a7, a8, a9, a10, a11, a12, a13, a14, a15, a16, a17, a18, a19, a20, a21, a22, a23, a24, a25, a26) j i := by
  unfold qz_ds qz_d1 at h
  refine ⟨hj, qz_reads hi ?_⟩
  by_cases c1 : qz_rd (a14 i.toNatClampNeg) (a16 i.toNatClampNeg) (a17 i.toNatClampNeg) (a15 j.toNatClampNeg) = 0
  · rw [if_pos c1] at h
    exact br_t c1 (qz_29 hj hi cj ci h)
  · rw [if_neg c1] at h
    exact br_f c1 ⟨hj, qz_delayOf (qz_29 hj hi cj ci h)⟩
theorem qz_dist {post : Int32 → Prop} {j i oj ij fj sj nj oi ii fi si ni : Int32} (d : Int32) (hj : vp_in j 300) (hi : vp_in i 300) (rj : qz_row a14 a15 a16 a17 a18 j.toNatClampNeg oj ij fj sj nj) (ri : qz_row a14 a15 a16 a17 a18 i.toNatClampNeg oi ii fi si ni) (cj : oj < 18) (ci : oi < 18) (e : qz_ds oj ij fj sj nj oi ii fi si ni = d) (h : post d) : wpX_distance post (nc, fc, lv, cp, nd, pn, le, wc, ac, dc, sc, a1, a2, a3, a4, a5, a6, a7, a8, a9, a10, a11, a12, a13, a14, a15, a16, a17, a18, a19, a20, a21, a22, a23, a24, a25, a26) j i := by
  obtain ⟨e1, e2, e3, e4, e5⟩ := rj
  obtain ⟨f1, f2, f3, f4, f5⟩ := ri
  refine qz_dist0 hj hi (by rw [e1]; exact cj) (by rw [f1]; exact ci) ?_
  rw [e1, e2, e3, e4, e5, f1, f2, f3, f4, f5, e]
  exact h
theorem qz_isMem {post : Int32 → Prop} {o v : Int32} (e : o = v) (hv : ¬ v < 16) (h : post 1) : wpX_isMemory post (nc, fc, lv, cp, nd, pn, le, wc, ac, dc, sc, a1, a2, a3, a4, a5, a6, a7, a8, a9, a10, a11, a12, a13, a14, a15, a16, a17, a18, a19, a20, a21, a22, a23, a24, a25, a26) o := by
  subst e; exact qz_memT hv h
theorem qz_noMem {post : Int32 → Prop} {o v : Int32} (e : o = v) (hv : v < 16) (h : post 0) : wpX_isMemory post (nc, fc, lv, cp, nd, pn, le, wc, ac, dc, sc, a1, a2, a3, a4, a5, a6, a7, a8, a9, a10, a11, a12, a13, a14, a15, a16, a17, a18, a19, a20, a21, a22, a23, a24, a25, a26) o := by
  subst e; exact qz_memF hv h
end
/-- the program that compile lists -/
def qz_P (k n : Int32) (a14 a15 a16 a17 a18 : Nat → Int32) : Prop :=
  qz_row a14 a15 a16 a17 a18 0 16 0 (-1) (-1) 0 ∧ qz_row a14 a15 a16 a17 a18 1 16 1 (-1) (-1) 1 ∧ qz_row a14 a15 a16 a17 a18 2 k 2 0 1 1 ∧ qz_row a14 a15 a16 a17 a18 3 16 3 (-1) (-1) 11 ∧ qz_row a14 a15 a16 a17 a18 4 17 (-1) 3 (-1) n ∧ qz_row a14 a15 a16 a17 a18 5 17 (-1) 2 (-1) 11
/-- its words -/
def qz_W (a20 : Nat → Int32) : Prop := a20 0 = 0 ∧ a20 1 = 1 ∧ a20 2 = 0 ∧ a20 3 = 2 ∧ a20 4 = 0 ∧ a20 5 = 4 ∧ a20 6 = 3 ∧ a20 7 = 0 ∧ a20 8 = 0 ∧ a20 9 = 5 ∧ a20 10 = 0 ∧ a20 11 = 6
def qz_n (n : Int32) : Prop := n = 2 ∨ n = 3 ∨ n = 4 ∨ n = 5
section
variable {nc fc lv cp nd pn le wc : Int32} {ac : Int64} {dc sc : Int32} {a1 a2 a3 a4 a5 a6 a7 a8 a9 a10 a11 a12 a13 a14 a15 a16 a17 a18 a19 a20 a21 a22 a23 a24 a25 a26 : Nat → Int32}
theorem qz_sched29_2 {post : St2 → Prop} {n : Int32} (hn : qz_n n) (hP : qz_P 2 n a14 a15 a16 a17 a18) (h20 : ∀ j, j < 1210 → a20 j = 0) (hp : ∀ b19 b20 : Nat → Int32, qz_W b20 → post (nc, fc, 2, cp, nd, pn, 6, 6, ac, dc, sc, a1, a2, a3, a4, a5, a6, a7, a8, a9, a10, a11, a12, a13, a14, a15, a16, a17, a18, b19, b20, a21, a22, a23, a24, a25, a26)) : ∃ fu, wX_schedule_29 post nc fc 2 cp nd pn 6 ac dc sc fu 0 0 a1 a2 a3 a4 a5 a6 a7 a8 a9 a10 a11 a12 a13 a14 a15 a16 a17 a18 a19 a20 a21 a22 a23 a24 a25 a26 := by
  obtain ⟨r0, r1, r2, r3, r4, r5⟩ := hP
  have w0_0 : a20 0 = 0 := h20 0 (by decide)
  have w0_1 : a20 1 = 0 := h20 1 (by decide)
  have w0_2 : a20 2 = 0 := h20 2 (by decide)
  have w0_3 : a20 3 = 0 := h20 3 (by decide)
  have w0_4 : a20 4 = 0 := h20 4 (by decide)
  have w0_5 : a20 5 = 0 := h20 5 (by decide)
  have w0_6 : a20 6 = 0 := h20 6 (by decide)
  have w0_7 : a20 7 = 0 := h20 7 (by decide)
  have w0_8 : a20 8 = 0 := h20 8 (by decide)
  have w0_9 : a20 9 = 0 := h20 9 (by decide)
  have w0_10 : a20 10 = 0 := h20 10 (by decide)
  have w0_11 : a20 11 = 0 := h20 11 (by decide)
  refine ⟨7, ?_⟩
  -- instruction 0
  refine br_f (by decide) (nm_e (br_f (by decide) ⟨1, ?_⟩))
  refine br_t (by decide) ⟨qz_i (by decide), qz_isMem r0.1 (by decide) (br_f (by decide) ⟨1, ?_⟩)⟩
  refine ⟨qz_i (by decide), qz_eqt w0_1 (by decide) ⟨qz_i (by decide), fun b19_0 e19_0 => ⟨qz_i (by decide), fun b20_0 e20_0 => ?_⟩⟩⟩
  have w1_0 : b20_0 0 = 0 := qz_un e20_0 (by decide) w0_0
  have w1_1 : b20_0 1 = 1 := qz_uh e20_0 (by decide) (by decide)
  have w1_2 : b20_0 2 = 0 := qz_un e20_0 (by decide) w0_2
  have w1_3 : b20_0 3 = 0 := qz_un e20_0 (by decide) w0_3
  have w1_4 : b20_0 4 = 0 := qz_un e20_0 (by decide) w0_4
  have w1_5 : b20_0 5 = 0 := qz_un e20_0 (by decide) w0_5
  have w1_6 : b20_0 6 = 0 := qz_un e20_0 (by decide) w0_6
  have w1_7 : b20_0 7 = 0 := qz_un e20_0 (by decide) w0_7
  have w1_8 : b20_0 8 = 0 := qz_un e20_0 (by decide) w0_8
  have w1_9 : b20_0 9 = 0 := qz_un e20_0 (by decide) w0_9
  have w1_10 : b20_0 10 = 0 := qz_un e20_0 (by decide) w0_10
  have w1_11 : b20_0 11 = 0 := qz_un e20_0 (by decide) w0_11
  have x1_0 : b19_0 0 = 0 := qz_uh e19_0 (by decide) (by decide)
  refine br_f (by decide) (nm_r (e' := 1) (by decide) (nm_r (e' := 1) (by decide) ?_))
  -- instruction 1
  refine br_f (by decide) (nm_e (br_f (by decide) ⟨2, ?_⟩))
  refine br_f (by decide) ⟨qz_i (by decide), qz_dist (-1000) (qz_i (by decide)) (qz_i (by decide)) r0 r1 (by decide) (by decide) (by decide) (nm_r (e' := (-1000)) (qz_add x1_0 (by decide)) (br_t (by decide) (nm_r (e' := 1) (by decide) ?_)))⟩
  refine br_t (by decide) ⟨qz_i (by decide), qz_isMem r1.1 (by decide) (br_f (by decide) ⟨2, ?_⟩)⟩
  refine ⟨qz_i (by decide), qz_eqf w1_1 (by decide) (nm_r (e' := 1) (by decide) ?_)⟩
  refine ⟨qz_i (by decide), qz_eqt w1_3 (by decide) ⟨qz_i (by decide), fun b19_1 e19_1 => ⟨qz_i (by decide), fun b20_1 e20_1 => ?_⟩⟩⟩
  have w2_0 : b20_1 0 = 0 := qz_un e20_1 (by decide) w1_0
  have w2_1 : b20_1 1 = 1 := qz_un e20_1 (by decide) w1_1
  have w2_2 : b20_1 2 = 0 := qz_un e20_1 (by decide) w1_2
  have w2_3 : b20_1 3 = 2 := qz_uh e20_1 (by decide) (by decide)
  have w2_4 : b20_1 4 = 0 := qz_un e20_1 (by decide) w1_4
  have w2_5 : b20_1 5 = 0 := qz_un e20_1 (by decide) w1_5
  have w2_6 : b20_1 6 = 0 := qz_un e20_1 (by decide) w1_6
  have w2_7 : b20_1 7 = 0 := qz_un e20_1 (by decide) w1_7
  have w2_8 : b20_1 8 = 0 := qz_un e20_1 (by decide) w1_8
  have w2_9 : b20_1 9 = 0 := qz_un e20_1 (by decide) w1_9
  have w2_10 : b20_1 10 = 0 := qz_un e20_1 (by decide) w1_10
  have w2_11 : b20_1 11 = 0 := qz_un e20_1 (by decide) w1_11
  have x2_0 : b19_1 0 = 0 := qz_un e19_1 (by decide) x1_0
  have x2_1 : b19_1 1 = 1 := qz_uh e19_1 (by decide) (by decide)
  refine br_f (by decide) (nm_r (e' := 2) (by decide) (nm_r (e' := 2) (by decide) ?_))
  -- instruction 2
  refine br_f (by decide) (nm_e (br_f (by decide) ⟨3, ?_⟩))
  refine br_f (by decide) ⟨qz_i (by decide), qz_dist 2 (qz_i (by decide)) (qz_i (by decide)) r0 r2 (by decide) (by decide) (by decide) (nm_r (e' := 2) (qz_add x2_0 (by decide)) (br_f (by decide) (nm_r (e' := 1) (by decide) ?_)))⟩
  refine br_f (by decide) ⟨qz_i (by decide), qz_dist 2 (qz_i (by decide)) (qz_i (by decide)) r1 r2 (by decide) (by decide) (by decide) (nm_r (e' := 3) (qz_add x2_1 (by decide)) (br_f (by decide) (nm_r (e' := 2) (by decide) ?_)))⟩
  refine br_t (by decide) ⟨qz_i (by decide), qz_noMem r2.1 (by decide) (br_t rfl ⟨1, ?_⟩)⟩
  refine ⟨qz_i (by decide), qz_eqt w2_6 (by decide) ⟨qz_i (by decide), fun b19_2 e19_2 => ⟨qz_i (by decide), fun b20_2 e20_2 => ?_⟩⟩⟩
  have w3_0 : b20_2 0 = 0 := qz_un e20_2 (by decide) w2_0
  have w3_1 : b20_2 1 = 1 := qz_un e20_2 (by decide) w2_1
  have w3_2 : b20_2 2 = 0 := qz_un e20_2 (by decide) w2_2
  have w3_3 : b20_2 3 = 2 := qz_un e20_2 (by decide) w2_3
  have w3_4 : b20_2 4 = 0 := qz_un e20_2 (by decide) w2_4
  have w3_5 : b20_2 5 = 0 := qz_un e20_2 (by decide) w2_5
  have w3_6 : b20_2 6 = 3 := qz_uh e20_2 (by decide) (by decide)
  have w3_7 : b20_2 7 = 0 := qz_un e20_2 (by decide) w2_7
  have w3_8 : b20_2 8 = 0 := qz_un e20_2 (by decide) w2_8
  have w3_9 : b20_2 9 = 0 := qz_un e20_2 (by decide) w2_9
  have w3_10 : b20_2 10 = 0 := qz_un e20_2 (by decide) w2_10
  have w3_11 : b20_2 11 = 0 := qz_un e20_2 (by decide) w2_11
  have x3_0 : b19_2 0 = 0 := qz_un e19_2 (by decide) x2_0
  have x3_1 : b19_2 1 = 1 := qz_un e19_2 (by decide) x2_1
  have x3_2 : b19_2 2 = 3 := qz_uh e19_2 (by decide) (by decide)
  refine br_f (by decide) (nm_r (e' := 4) (by decide) (nm_r (e' := 3) (by decide) ?_))
  -- instruction 3
  refine br_f (by decide) (nm_e (br_f (by decide) ⟨4, ?_⟩))
  refine br_f (by decide) ⟨qz_i (by decide), qz_dist (-1000) (qz_i (by decide)) (qz_i (by decide)) r0 r3 (by decide) (by decide) (by decide) (nm_r (e' := (-1000)) (qz_add x3_0 (by decide)) (br_t (by decide) (nm_r (e' := 1) (by decide) ?_)))⟩
  refine br_f (by decide) ⟨qz_i (by decide), qz_dist (-1000) (qz_i (by decide)) (qz_i (by decide)) r1 r3 (by decide) (by decide) (by decide) (nm_r (e' := (-999)) (qz_add x3_1 (by decide)) (br_t (by decide) (nm_r (e' := 2) (by decide) ?_)))⟩
  refine br_f (by decide) ⟨qz_i (by decide), qz_dist (-1000) (qz_i (by decide)) (qz_i (by decide)) r2 r3 (by decide) (by decide) (by decide) (nm_r (e' := (-997)) (qz_add x3_2 (by decide)) (br_t (by decide) (nm_r (e' := 3) (by decide) ?_)))⟩
  refine br_t (by decide) ⟨qz_i (by decide), qz_isMem r3.1 (by decide) (br_f (by decide) ⟨3, ?_⟩)⟩
  refine ⟨qz_i (by decide), qz_eqf w3_1 (by decide) (nm_r (e' := 1) (by decide) ?_)⟩
  refine ⟨qz_i (by decide), qz_eqf w3_3 (by decide) (nm_r (e' := 2) (by decide) ?_)⟩
  refine ⟨qz_i (by decide), qz_eqt w3_5 (by decide) ⟨qz_i (by decide), fun b19_3 e19_3 => ⟨qz_i (by decide), fun b20_3 e20_3 => ?_⟩⟩⟩
  have w4_0 : b20_3 0 = 0 := qz_un e20_3 (by decide) w3_0
  have w4_1 : b20_3 1 = 1 := qz_un e20_3 (by decide) w3_1
  have w4_2 : b20_3 2 = 0 := qz_un e20_3 (by decide) w3_2
  have w4_3 : b20_3 3 = 2 := qz_un e20_3 (by decide) w3_3
  have w4_4 : b20_3 4 = 0 := qz_un e20_3 (by decide) w3_4
  have w4_5 : b20_3 5 = 4 := qz_uh e20_3 (by decide) (by decide)
  have w4_6 : b20_3 6 = 3 := qz_un e20_3 (by decide) w3_6
  have w4_7 : b20_3 7 = 0 := qz_un e20_3 (by decide) w3_7
  have w4_8 : b20_3 8 = 0 := qz_un e20_3 (by decide) w3_8
  have w4_9 : b20_3 9 = 0 := qz_un e20_3 (by decide) w3_9
  have w4_10 : b20_3 10 = 0 := qz_un e20_3 (by decide) w3_10
  have w4_11 : b20_3 11 = 0 := qz_un e20_3 (by decide) w3_11
  have x4_0 : b19_3 0 = 0 := qz_un e19_3 (by decide) x3_0
  have x4_1 : b19_3 1 = 1 := qz_un e19_3 (by decide) x3_1
  have x4_2 : b19_3 2 = 3 := qz_un e19_3 (by decide) x3_2
  have x4_3 : b19_3 3 = 2 := qz_uh e19_3 (by decide) (by decide)
  refine br_t (by decide) (nm_r (e' := 4) (by decide) ?_)
  -- instruction 4
  refine br_f (by decide) (nm_e (br_f (by decide) ⟨5, ?_⟩))
  refine br_f (by decide) ⟨qz_i (by decide), qz_dist (-1000) (qz_i (by decide)) (qz_i (by decide)) r0 r4 (by decide) (by decide) (by rcases hn with rfl | rfl | rfl | rfl <;> decide) (nm_r (e' := (-1000)) (qz_add x4_0 (by decide)) (br_t (by decide) (nm_r (e' := 1) (by decide) ?_)))⟩
  refine br_f (by decide) ⟨qz_i (by decide), qz_dist (-1000) (qz_i (by decide)) (qz_i (by decide)) r1 r4 (by decide) (by decide) (by rcases hn with rfl | rfl | rfl | rfl <;> decide) (nm_r (e' := (-999)) (qz_add x4_1 (by decide)) (br_t (by decide) (nm_r (e' := 2) (by decide) ?_)))⟩
  refine br_f (by decide) ⟨qz_i (by decide), qz_dist (-1000) (qz_i (by decide)) (qz_i (by decide)) r2 r4 (by decide) (by decide) (by rcases hn with rfl | rfl | rfl | rfl <;> decide) (nm_r (e' := (-997)) (qz_add x4_2 (by decide)) (br_t (by decide) (nm_r (e' := 3) (by decide) ?_)))⟩
  refine br_f (by decide) ⟨qz_i (by decide), qz_dist 2 (qz_i (by decide)) (qz_i (by decide)) r3 r4 (by decide) (by decide) (by rcases hn with rfl | rfl | rfl | rfl <;> decide) (nm_r (e' := 4) (qz_add x4_3 (by decide)) (br_f (by decide) (nm_r (e' := 4) (by decide) ?_)))⟩
  refine br_t (by decide) ⟨qz_i (by decide), qz_isMem r4.1 (by decide) (br_f (by decide) ⟨1, ?_⟩)⟩
  refine ⟨qz_i (by decide), qz_eqt w4_9 (by decide) ⟨qz_i (by decide), fun b19_4 e19_4 => ⟨qz_i (by decide), fun b20_4 e20_4 => ?_⟩⟩⟩
  have w5_0 : b20_4 0 = 0 := qz_un e20_4 (by decide) w4_0
  have w5_1 : b20_4 1 = 1 := qz_un e20_4 (by decide) w4_1
  have w5_2 : b20_4 2 = 0 := qz_un e20_4 (by decide) w4_2
  have w5_3 : b20_4 3 = 2 := qz_un e20_4 (by decide) w4_3
  have w5_4 : b20_4 4 = 0 := qz_un e20_4 (by decide) w4_4
  have w5_5 : b20_4 5 = 4 := qz_un e20_4 (by decide) w4_5
  have w5_6 : b20_4 6 = 3 := qz_un e20_4 (by decide) w4_6
  have w5_7 : b20_4 7 = 0 := qz_un e20_4 (by decide) w4_7
  have w5_8 : b20_4 8 = 0 := qz_un e20_4 (by decide) w4_8
  have w5_9 : b20_4 9 = 5 := qz_uh e20_4 (by decide) (by decide)
  have w5_10 : b20_4 10 = 0 := qz_un e20_4 (by decide) w4_10
  have w5_11 : b20_4 11 = 0 := qz_un e20_4 (by decide) w4_11
  have x5_0 : b19_4 0 = 0 := qz_un e19_4 (by decide) x4_0
  have x5_1 : b19_4 1 = 1 := qz_un e19_4 (by decide) x4_1
  have x5_2 : b19_4 2 = 3 := qz_un e19_4 (by decide) x4_2
  have x5_3 : b19_4 3 = 2 := qz_un e19_4 (by decide) x4_3
  have x5_4 : b19_4 4 = 4 := qz_uh e19_4 (by decide) (by decide)
  refine br_f (by decide) (nm_r (e' := 5) (by decide) (nm_r (e' := 5) (by decide) ?_))
  -- instruction 5
  refine br_f (by decide) (nm_e (br_f (by decide) ⟨6, ?_⟩))
  refine br_f (by decide) ⟨qz_i (by decide), qz_dist (-1000) (qz_i (by decide)) (qz_i (by decide)) r0 r5 (by decide) (by decide) (by decide) (nm_r (e' := (-1000)) (qz_add x5_0 (by decide)) (br_t (by decide) (nm_r (e' := 1) (by decide) ?_)))⟩
  refine br_f (by decide) ⟨qz_i (by decide), qz_dist (-1000) (qz_i (by decide)) (qz_i (by decide)) r1 r5 (by decide) (by decide) (by decide) (nm_r (e' := (-999)) (qz_add x5_1 (by decide)) (br_t (by decide) (nm_r (e' := 2) (by decide) ?_)))⟩
  refine br_f (by decide) ⟨qz_i (by decide), qz_dist 1 (qz_i (by decide)) (qz_i (by decide)) r2 r5 (by decide) (by decide) (by decide) (nm_r (e' := 4) (qz_add x5_2 (by decide)) (br_f (by decide) (nm_r (e' := 3) (by decide) ?_)))⟩
  refine br_f (by decide) ⟨qz_i (by decide), qz_dist 1 (qz_i (by decide)) (qz_i (by decide)) r3 r5 (by decide) (by decide) (by decide) (nm_r (e' := 3) (qz_add x5_3 (by decide)) (br_t (by decide) (nm_r (e' := 4) (by decide) ?_)))⟩
  refine br_f (by decide) ⟨qz_i (by decide), qz_dist (-1000) (qz_i (by decide)) (qz_i (by decide)) r4 r5 (by decide) (by decide) (by rcases hn with rfl | rfl | rfl | rfl <;> decide) (nm_r (e' := (-996)) (qz_add x5_4 (by decide)) (br_t (by decide) (nm_r (e' := 5) (by decide) ?_)))⟩
  refine br_t (by decide) ⟨qz_i (by decide), qz_isMem r5.1 (by decide) (br_f (by decide) ⟨2, ?_⟩)⟩
  refine ⟨qz_i (by decide), qz_eqf w5_9 (by decide) (nm_r (e' := 5) (by decide) ?_)⟩
  refine ⟨qz_i (by decide), qz_eqt w5_11 (by decide) ⟨qz_i (by decide), fun b19_5 e19_5 => ⟨qz_i (by decide), fun b20_5 e20_5 => ?_⟩⟩⟩
  have w6_0 : b20_5 0 = 0 := qz_un e20_5 (by decide) w5_0
  have w6_1 : b20_5 1 = 1 := qz_un e20_5 (by decide) w5_1
  have w6_2 : b20_5 2 = 0 := qz_un e20_5 (by decide) w5_2
  have w6_3 : b20_5 3 = 2 := qz_un e20_5 (by decide) w5_3
  have w6_4 : b20_5 4 = 0 := qz_un e20_5 (by decide) w5_4
  have w6_5 : b20_5 5 = 4 := qz_un e20_5 (by decide) w5_5
  have w6_6 : b20_5 6 = 3 := qz_un e20_5 (by decide) w5_6
  have w6_7 : b20_5 7 = 0 := qz_un e20_5 (by decide) w5_7
  have w6_8 : b20_5 8 = 0 := qz_un e20_5 (by decide) w5_8
  have w6_9 : b20_5 9 = 5 := qz_un e20_5 (by decide) w5_9
  have w6_10 : b20_5 10 = 0 := qz_un e20_5 (by decide) w5_10
  have w6_11 : b20_5 11 = 6 := qz_uh e20_5 (by decide) (by decide)
  have x6_0 : b19_5 0 = 0 := qz_un e19_5 (by decide) x5_0
  have x6_1 : b19_5 1 = 1 := qz_un e19_5 (by decide) x5_1
  have x6_2 : b19_5 2 = 3 := qz_un e19_5 (by decide) x5_2
  have x6_3 : b19_5 3 = 2 := qz_un e19_5 (by decide) x5_3
  have x6_4 : b19_5 4 = 4 := qz_un e19_5 (by decide) x5_4
  have x6_5 : b19_5 5 = 5 := qz_uh e19_5 (by decide) (by decide)
  refine br_f (by decide) (nm_r (e' := 6) (by decide) (nm_r (e' := 6) (by decide) ?_))
  exact br_t (by decide) (hp b19_5 b20_5 ⟨w6_0, w6_1, w6_2, w6_3, w6_4, w6_5, w6_6, w6_7, w6_8, w6_9, w6_10, w6_11⟩)
theorem qz_sched29_3 {post : St2 → Prop} {n : Int32} (hn : qz_n n) (hP : qz_P 3 n a14 a15 a16 a17 a18) (h20 : ∀ j, j < 1210 → a20 j = 0) (hp : ∀ b19 b20 : Nat → Int32, qz_W b20 → post (nc, fc, 2, cp, nd, pn, 6, 6, ac, dc, sc, a1, a2, a3, a4, a5, a6, a7, a8, a9, a10, a11, a12, a13, a14, a15, a16, a17, a18, b19, b20, a21, a22, a23, a24, a25, a26)) : ∃ fu, wX_schedule_29 post nc fc 2 cp nd pn 6 ac dc sc fu 0 0 a1 a2 a3 a4 a5 a6 a7 a8 a9 a10 a11 a12 a13 a14 a15 a16 a17 a18 a19 a20 a21 a22 a23 a24 a25 a26 := by
  obtain ⟨r0, r1, r2, r3, r4, r5⟩ := hP
  have w0_0 : a20 0 = 0 := h20 0 (by decide)
  have w0_1 : a20 1 = 0 := h20 1 (by decide)
  have w0_2 : a20 2 = 0 := h20 2 (by decide)
  have w0_3 : a20 3 = 0 := h20 3 (by decide)
  have w0_4 : a20 4 = 0 := h20 4 (by decide)
  have w0_5 : a20 5 = 0 := h20 5 (by decide)
  have w0_6 : a20 6 = 0 := h20 6 (by decide)
  have w0_7 : a20 7 = 0 := h20 7 (by decide)
  have w0_8 : a20 8 = 0 := h20 8 (by decide)
  have w0_9 : a20 9 = 0 := h20 9 (by decide)
  have w0_10 : a20 10 = 0 := h20 10 (by decide)
  have w0_11 : a20 11 = 0 := h20 11 (by decide)
  refine ⟨7, ?_⟩
  -- instruction 0
  refine br_f (by decide) (nm_e (br_f (by decide) ⟨1, ?_⟩))
  refine br_t (by decide) ⟨qz_i (by decide), qz_isMem r0.1 (by decide) (br_f (by decide) ⟨1, ?_⟩)⟩
  refine ⟨qz_i (by decide), qz_eqt w0_1 (by decide) ⟨qz_i (by decide), fun b19_0 e19_0 => ⟨qz_i (by decide), fun b20_0 e20_0 => ?_⟩⟩⟩
  have w1_0 : b20_0 0 = 0 := qz_un e20_0 (by decide) w0_0
  have w1_1 : b20_0 1 = 1 := qz_uh e20_0 (by decide) (by decide)
  have w1_2 : b20_0 2 = 0 := qz_un e20_0 (by decide) w0_2
  have w1_3 : b20_0 3 = 0 := qz_un e20_0 (by decide) w0_3
  have w1_4 : b20_0 4 = 0 := qz_un e20_0 (by decide) w0_4
  have w1_5 : b20_0 5 = 0 := qz_un e20_0 (by decide) w0_5
  have w1_6 : b20_0 6 = 0 := qz_un e20_0 (by decide) w0_6
  have w1_7 : b20_0 7 = 0 := qz_un e20_0 (by decide) w0_7
  have w1_8 : b20_0 8 = 0 := qz_un e20_0 (by decide) w0_8
  have w1_9 : b20_0 9 = 0 := qz_un e20_0 (by decide) w0_9
  have w1_10 : b20_0 10 = 0 := qz_un e20_0 (by decide) w0_10
  have w1_11 : b20_0 11 = 0 := qz_un e20_0 (by decide) w0_11
  have x1_0 : b19_0 0 = 0 := qz_uh e19_0 (by decide) (by decide)
  refine br_f (by decide) (nm_r (e' := 1) (by decide) (nm_r (e' := 1) (by decide) ?_))
  -- instruction 1
  refine br_f (by decide) (nm_e (br_f (by decide) ⟨2, ?_⟩))
  refine br_f (by decide) ⟨qz_i (by decide), qz_dist (-1000) (qz_i (by decide)) (qz_i (by decide)) r0 r1 (by decide) (by decide) (by decide) (nm_r (e' := (-1000)) (qz_add x1_0 (by decide)) (br_t (by decide) (nm_r (e' := 1) (by decide) ?_)))⟩
  refine br_t (by decide) ⟨qz_i (by decide), qz_isMem r1.1 (by decide) (br_f (by decide) ⟨2, ?_⟩)⟩
  refine ⟨qz_i (by decide), qz_eqf w1_1 (by decide) (nm_r (e' := 1) (by decide) ?_)⟩
  refine ⟨qz_i (by decide), qz_eqt w1_3 (by decide) ⟨qz_i (by decide), fun b19_1 e19_1 => ⟨qz_i (by decide), fun b20_1 e20_1 => ?_⟩⟩⟩
  have w2_0 : b20_1 0 = 0 := qz_un e20_1 (by decide) w1_0
  have w2_1 : b20_1 1 = 1 := qz_un e20_1 (by decide) w1_1
  have w2_2 : b20_1 2 = 0 := qz_un e20_1 (by decide) w1_2
  have w2_3 : b20_1 3 = 2 := qz_uh e20_1 (by decide) (by decide)
  have w2_4 : b20_1 4 = 0 := qz_un e20_1 (by decide) w1_4
  have w2_5 : b20_1 5 = 0 := qz_un e20_1 (by decide) w1_5
  have w2_6 : b20_1 6 = 0 := qz_un e20_1 (by decide) w1_6
  have w2_7 : b20_1 7 = 0 := qz_un e20_1 (by decide) w1_7
  have w2_8 : b20_1 8 = 0 := qz_un e20_1 (by decide) w1_8
  have w2_9 : b20_1 9 = 0 := qz_un e20_1 (by decide) w1_9
  have w2_10 : b20_1 10 = 0 := qz_un e20_1 (by decide) w1_10
  have w2_11 : b20_1 11 = 0 := qz_un e20_1 (by decide) w1_11
  have x2_0 : b19_1 0 = 0 := qz_un e19_1 (by decide) x1_0
  have x2_1 : b19_1 1 = 1 := qz_uh e19_1 (by decide) (by decide)
  refine br_f (by decide) (nm_r (e' := 2) (by decide) (nm_r (e' := 2) (by decide) ?_))
  -- instruction 2
  refine br_f (by decide) (nm_e (br_f (by decide) ⟨3, ?_⟩))
  refine br_f (by decide) ⟨qz_i (by decide), qz_dist 2 (qz_i (by decide)) (qz_i (by decide)) r0 r2 (by decide) (by decide) (by decide) (nm_r (e' := 2) (qz_add x2_0 (by decide)) (br_f (by decide) (nm_r (e' := 1) (by decide) ?_)))⟩
  refine br_f (by decide) ⟨qz_i (by decide), qz_dist 2 (qz_i (by decide)) (qz_i (by decide)) r1 r2 (by decide) (by decide) (by decide) (nm_r (e' := 3) (qz_add x2_1 (by decide)) (br_f (by decide) (nm_r (e' := 2) (by decide) ?_)))⟩
  refine br_t (by decide) ⟨qz_i (by decide), qz_noMem r2.1 (by decide) (br_t rfl ⟨1, ?_⟩)⟩
  refine ⟨qz_i (by decide), qz_eqt w2_6 (by decide) ⟨qz_i (by decide), fun b19_2 e19_2 => ⟨qz_i (by decide), fun b20_2 e20_2 => ?_⟩⟩⟩
  have w3_0 : b20_2 0 = 0 := qz_un e20_2 (by decide) w2_0
  have w3_1 : b20_2 1 = 1 := qz_un e20_2 (by decide) w2_1
  have w3_2 : b20_2 2 = 0 := qz_un e20_2 (by decide) w2_2
  have w3_3 : b20_2 3 = 2 := qz_un e20_2 (by decide) w2_3
  have w3_4 : b20_2 4 = 0 := qz_un e20_2 (by decide) w2_4
  have w3_5 : b20_2 5 = 0 := qz_un e20_2 (by decide) w2_5
  have w3_6 : b20_2 6 = 3 := qz_uh e20_2 (by decide) (by decide)
  have w3_7 : b20_2 7 = 0 := qz_un e20_2 (by decide) w2_7
  have w3_8 : b20_2 8 = 0 := qz_un e20_2 (by decide) w2_8
  have w3_9 : b20_2 9 = 0 := qz_un e20_2 (by decide) w2_9
  have w3_10 : b20_2 10 = 0 := qz_un e20_2 (by decide) w2_10
  have w3_11 : b20_2 11 = 0 := qz_un e20_2 (by decide) w2_11
  have x3_0 : b19_2 0 = 0 := qz_un e19_2 (by decide) x2_0
  have x3_1 : b19_2 1 = 1 := qz_un e19_2 (by decide) x2_1
  have x3_2 : b19_2 2 = 3 := qz_uh e19_2 (by decide) (by decide)
  refine br_f (by decide) (nm_r (e' := 4) (by decide) (nm_r (e' := 3) (by decide) ?_))
  -- instruction 3
  refine br_f (by decide) (nm_e (br_f (by decide) ⟨4, ?_⟩))
  refine br_f (by decide) ⟨qz_i (by decide), qz_dist (-1000) (qz_i (by decide)) (qz_i (by decide)) r0 r3 (by decide) (by decide) (by decide) (nm_r (e' := (-1000)) (qz_add x3_0 (by decide)) (br_t (by decide) (nm_r (e' := 1) (by decide) ?_)))⟩
  refine br_f (by decide) ⟨qz_i (by decide), qz_dist (-1000) (qz_i (by decide)) (qz_i (by decide)) r1 r3 (by decide) (by decide) (by decide) (nm_r (e' := (-999)) (qz_add x3_1 (by decide)) (br_t (by decide) (nm_r (e' := 2) (by decide) ?_)))⟩
  refine br_f (by decide) ⟨qz_i (by decide), qz_dist (-1000) (qz_i (by decide)) (qz_i (by decide)) r2 r3 (by decide) (by decide) (by decide) (nm_r (e' := (-997)) (qz_add x3_2 (by decide)) (br_t (by decide) (nm_r (e' := 3) (by decide) ?_)))⟩
  refine br_t (by decide) ⟨qz_i (by decide), qz_isMem r3.1 (by decide) (br_f (by decide) ⟨3, ?_⟩)⟩
  refine ⟨qz_i (by decide), qz_eqf w3_1 (by decide) (nm_r (e' := 1) (by decide) ?_)⟩
  refine ⟨qz_i (by decide), qz_eqf w3_3 (by decide) (nm_r (e' := 2) (by decide) ?_)⟩
  refine ⟨qz_i (by decide), qz_eqt w3_5 (by decide) ⟨qz_i (by decide), fun b19_3 e19_3 => ⟨qz_i (by decide), fun b20_3 e20_3 => ?_⟩⟩⟩
  have w4_0 : b20_3 0 = 0 := qz_un e20_3 (by decide) w3_0
  have w4_1 : b20_3 1 = 1 := qz_un e20_3 (by decide) w3_1
  have w4_2 : b20_3 2 = 0 := qz_un e20_3 (by decide) w3_2
  have w4_3 : b20_3 3 = 2 := qz_un e20_3 (by decide) w3_3
  have w4_4 : b20_3 4 = 0 := qz_un e20_3 (by decide) w3_4
  have w4_5 : b20_3 5 = 4 := qz_uh e20_3 (by decide) (by decide)
  have w4_6 : b20_3 6 = 3 := qz_un e20_3 (by decide) w3_6
  have w4_7 : b20_3 7 = 0 := qz_un e20_3 (by decide) w3_7
  have w4_8 : b20_3 8 = 0 := qz_un e20_3 (by decide) w3_8
  have w4_9 : b20_3 9 = 0 := qz_un e20_3 (by decide) w3_9
  have w4_10 : b20_3 10 = 0 := qz_un e20_3 (by decide) w3_10
  have w4_11 : b20_3 11 = 0 := qz_un e20_3 (by decide) w3_11
  have x4_0 : b19_3 0 = 0 := qz_un e19_3 (by decide) x3_0
  have x4_1 : b19_3 1 = 1 := qz_un e19_3 (by decide) x3_1
  have x4_2 : b19_3 2 = 3 := qz_un e19_3 (by decide) x3_2
  have x4_3 : b19_3 3 = 2 := qz_uh e19_3 (by decide) (by decide)
  refine br_t (by decide) (nm_r (e' := 4) (by decide) ?_)
  -- instruction 4
  refine br_f (by decide) (nm_e (br_f (by decide) ⟨5, ?_⟩))
  refine br_f (by decide) ⟨qz_i (by decide), qz_dist (-1000) (qz_i (by decide)) (qz_i (by decide)) r0 r4 (by decide) (by decide) (by rcases hn with rfl | rfl | rfl | rfl <;> decide) (nm_r (e' := (-1000)) (qz_add x4_0 (by decide)) (br_t (by decide) (nm_r (e' := 1) (by decide) ?_)))⟩
  refine br_f (by decide) ⟨qz_i (by decide), qz_dist (-1000) (qz_i (by decide)) (qz_i (by decide)) r1 r4 (by decide) (by decide) (by rcases hn with rfl | rfl | rfl | rfl <;> decide) (nm_r (e' := (-999)) (qz_add x4_1 (by decide)) (br_t (by decide) (nm_r (e' := 2) (by decide) ?_)))⟩
  refine br_f (by decide) ⟨qz_i (by decide), qz_dist (-1000) (qz_i (by decide)) (qz_i (by decide)) r2 r4 (by decide) (by decide) (by rcases hn with rfl | rfl | rfl | rfl <;> decide) (nm_r (e' := (-997)) (qz_add x4_2 (by decide)) (br_t (by decide) (nm_r (e' := 3) (by decide) ?_)))⟩
  refine br_f (by decide) ⟨qz_i (by decide), qz_dist 2 (qz_i (by decide)) (qz_i (by decide)) r3 r4 (by decide) (by decide) (by rcases hn with rfl | rfl | rfl | rfl <;> decide) (nm_r (e' := 4) (qz_add x4_3 (by decide)) (br_f (by decide) (nm_r (e' := 4) (by decide) ?_)))⟩
  refine br_t (by decide) ⟨qz_i (by decide), qz_isMem r4.1 (by decide) (br_f (by decide) ⟨1, ?_⟩)⟩
  refine ⟨qz_i (by decide), qz_eqt w4_9 (by decide) ⟨qz_i (by decide), fun b19_4 e19_4 => ⟨qz_i (by decide), fun b20_4 e20_4 => ?_⟩⟩⟩
  have w5_0 : b20_4 0 = 0 := qz_un e20_4 (by decide) w4_0
  have w5_1 : b20_4 1 = 1 := qz_un e20_4 (by decide) w4_1
  have w5_2 : b20_4 2 = 0 := qz_un e20_4 (by decide) w4_2
  have w5_3 : b20_4 3 = 2 := qz_un e20_4 (by decide) w4_3
  have w5_4 : b20_4 4 = 0 := qz_un e20_4 (by decide) w4_4
  have w5_5 : b20_4 5 = 4 := qz_un e20_4 (by decide) w4_5
  have w5_6 : b20_4 6 = 3 := qz_un e20_4 (by decide) w4_6
  have w5_7 : b20_4 7 = 0 := qz_un e20_4 (by decide) w4_7
  have w5_8 : b20_4 8 = 0 := qz_un e20_4 (by decide) w4_8
  have w5_9 : b20_4 9 = 5 := qz_uh e20_4 (by decide) (by decide)
  have w5_10 : b20_4 10 = 0 := qz_un e20_4 (by decide) w4_10
  have w5_11 : b20_4 11 = 0 := qz_un e20_4 (by decide) w4_11
  have x5_0 : b19_4 0 = 0 := qz_un e19_4 (by decide) x4_0
  have x5_1 : b19_4 1 = 1 := qz_un e19_4 (by decide) x4_1
  have x5_2 : b19_4 2 = 3 := qz_un e19_4 (by decide) x4_2
  have x5_3 : b19_4 3 = 2 := qz_un e19_4 (by decide) x4_3
  have x5_4 : b19_4 4 = 4 := qz_uh e19_4 (by decide) (by decide)
  refine br_f (by decide) (nm_r (e' := 5) (by decide) (nm_r (e' := 5) (by decide) ?_))
  -- instruction 5
  refine br_f (by decide) (nm_e (br_f (by decide) ⟨6, ?_⟩))
  refine br_f (by decide) ⟨qz_i (by decide), qz_dist (-1000) (qz_i (by decide)) (qz_i (by decide)) r0 r5 (by decide) (by decide) (by decide) (nm_r (e' := (-1000)) (qz_add x5_0 (by decide)) (br_t (by decide) (nm_r (e' := 1) (by decide) ?_)))⟩
  refine br_f (by decide) ⟨qz_i (by decide), qz_dist (-1000) (qz_i (by decide)) (qz_i (by decide)) r1 r5 (by decide) (by decide) (by decide) (nm_r (e' := (-999)) (qz_add x5_1 (by decide)) (br_t (by decide) (nm_r (e' := 2) (by decide) ?_)))⟩
  refine br_f (by decide) ⟨qz_i (by decide), qz_dist 1 (qz_i (by decide)) (qz_i (by decide)) r2 r5 (by decide) (by decide) (by decide) (nm_r (e' := 4) (qz_add x5_2 (by decide)) (br_f (by decide) (nm_r (e' := 3) (by decide) ?_)))⟩
  refine br_f (by decide) ⟨qz_i (by decide), qz_dist 1 (qz_i (by decide)) (qz_i (by decide)) r3 r5 (by decide) (by decide) (by decide) (nm_r (e' := 3) (qz_add x5_3 (by decide)) (br_t (by decide) (nm_r (e' := 4) (by decide) ?_)))⟩
  refine br_f (by decide) ⟨qz_i (by decide), qz_dist (-1000) (qz_i (by decide)) (qz_i (by decide)) r4 r5 (by decide) (by decide) (by rcases hn with rfl | rfl | rfl | rfl <;> decide) (nm_r (e' := (-996)) (qz_add x5_4 (by decide)) (br_t (by decide) (nm_r (e' := 5) (by decide) ?_)))⟩
  refine br_t (by decide) ⟨qz_i (by decide), qz_isMem r5.1 (by decide) (br_f (by decide) ⟨2, ?_⟩)⟩
  refine ⟨qz_i (by decide), qz_eqf w5_9 (by decide) (nm_r (e' := 5) (by decide) ?_)⟩
  refine ⟨qz_i (by decide), qz_eqt w5_11 (by decide) ⟨qz_i (by decide), fun b19_5 e19_5 => ⟨qz_i (by decide), fun b20_5 e20_5 => ?_⟩⟩⟩
  have w6_0 : b20_5 0 = 0 := qz_un e20_5 (by decide) w5_0
  have w6_1 : b20_5 1 = 1 := qz_un e20_5 (by decide) w5_1
  have w6_2 : b20_5 2 = 0 := qz_un e20_5 (by decide) w5_2
  have w6_3 : b20_5 3 = 2 := qz_un e20_5 (by decide) w5_3
  have w6_4 : b20_5 4 = 0 := qz_un e20_5 (by decide) w5_4
  have w6_5 : b20_5 5 = 4 := qz_un e20_5 (by decide) w5_5
  have w6_6 : b20_5 6 = 3 := qz_un e20_5 (by decide) w5_6
  have w6_7 : b20_5 7 = 0 := qz_un e20_5 (by decide) w5_7
  have w6_8 : b20_5 8 = 0 := qz_un e20_5 (by decide) w5_8
  have w6_9 : b20_5 9 = 5 := qz_un e20_5 (by decide) w5_9
  have w6_10 : b20_5 10 = 0 := qz_un e20_5 (by decide) w5_10
  have w6_11 : b20_5 11 = 6 := qz_uh e20_5 (by decide) (by decide)
  have x6_0 : b19_5 0 = 0 := qz_un e19_5 (by decide) x5_0
  have x6_1 : b19_5 1 = 1 := qz_un e19_5 (by decide) x5_1
  have x6_2 : b19_5 2 = 3 := qz_un e19_5 (by decide) x5_2
  have x6_3 : b19_5 3 = 2 := qz_un e19_5 (by decide) x5_3
  have x6_4 : b19_5 4 = 4 := qz_un e19_5 (by decide) x5_4
  have x6_5 : b19_5 5 = 5 := qz_uh e19_5 (by decide) (by decide)
  refine br_f (by decide) (nm_r (e' := 6) (by decide) (nm_r (e' := 6) (by decide) ?_))
  exact br_t (by decide) (hp b19_5 b20_5 ⟨w6_0, w6_1, w6_2, w6_3, w6_4, w6_5, w6_6, w6_7, w6_8, w6_9, w6_10, w6_11⟩)
theorem qz_sched29_9 {post : St2 → Prop} {n : Int32} (hn : qz_n n) (hP : qz_P 9 n a14 a15 a16 a17 a18) (h20 : ∀ j, j < 1210 → a20 j = 0) (hp : ∀ b19 b20 : Nat → Int32, qz_W b20 → post (nc, fc, 2, cp, nd, pn, 6, 6, ac, dc, sc, a1, a2, a3, a4, a5, a6, a7, a8, a9, a10, a11, a12, a13, a14, a15, a16, a17, a18, b19, b20, a21, a22, a23, a24, a25, a26)) : ∃ fu, wX_schedule_29 post nc fc 2 cp nd pn 6 ac dc sc fu 0 0 a1 a2 a3 a4 a5 a6 a7 a8 a9 a10 a11 a12 a13 a14 a15 a16 a17 a18 a19 a20 a21 a22 a23 a24 a25 a26 := by
  obtain ⟨r0, r1, r2, r3, r4, r5⟩ := hP
  have w0_0 : a20 0 = 0 := h20 0 (by decide)
  have w0_1 : a20 1 = 0 := h20 1 (by decide)
  have w0_2 : a20 2 = 0 := h20 2 (by decide)
  have w0_3 : a20 3 = 0 := h20 3 (by decide)
  have w0_4 : a20 4 = 0 := h20 4 (by decide)
  have w0_5 : a20 5 = 0 := h20 5 (by decide)
  have w0_6 : a20 6 = 0 := h20 6 (by decide)
  have w0_7 : a20 7 = 0 := h20 7 (by decide)
  have w0_8 : a20 8 = 0 := h20 8 (by decide)
  have w0_9 : a20 9 = 0 := h20 9 (by decide)
  have w0_10 : a20 10 = 0 := h20 10 (by decide)
  have w0_11 : a20 11 = 0 := h20 11 (by decide)
  refine ⟨7, ?_⟩
  -- instruction 0
  refine br_f (by decide) (nm_e (br_f (by decide) ⟨1, ?_⟩))
  refine br_t (by decide) ⟨qz_i (by decide), qz_isMem r0.1 (by decide) (br_f (by decide) ⟨1, ?_⟩)⟩
  refine ⟨qz_i (by decide), qz_eqt w0_1 (by decide) ⟨qz_i (by decide), fun b19_0 e19_0 => ⟨qz_i (by decide), fun b20_0 e20_0 => ?_⟩⟩⟩
  have w1_0 : b20_0 0 = 0 := qz_un e20_0 (by decide) w0_0
  have w1_1 : b20_0 1 = 1 := qz_uh e20_0 (by decide) (by decide)
  have w1_2 : b20_0 2 = 0 := qz_un e20_0 (by decide) w0_2
  have w1_3 : b20_0 3 = 0 := qz_un e20_0 (by decide) w0_3
  have w1_4 : b20_0 4 = 0 := qz_un e20_0 (by decide) w0_4
  have w1_5 : b20_0 5 = 0 := qz_un e20_0 (by decide) w0_5
  have w1_6 : b20_0 6 = 0 := qz_un e20_0 (by decide) w0_6
  have w1_7 : b20_0 7 = 0 := qz_un e20_0 (by decide) w0_7
  have w1_8 : b20_0 8 = 0 := qz_un e20_0 (by decide) w0_8
  have w1_9 : b20_0 9 = 0 := qz_un e20_0 (by decide) w0_9
  have w1_10 : b20_0 10 = 0 := qz_un e20_0 (by decide) w0_10
  have w1_11 : b20_0 11 = 0 := qz_un e20_0 (by decide) w0_11
  have x1_0 : b19_0 0 = 0 := qz_uh e19_0 (by decide) (by decide)
  refine br_f (by decide) (nm_r (e' := 1) (by decide) (nm_r (e' := 1) (by decide) ?_))
  -- instruction 1
  refine br_f (by decide) (nm_e (br_f (by decide) ⟨2, ?_⟩))
  refine br_f (by decide) ⟨qz_i (by decide), qz_dist (-1000) (qz_i (by decide)) (qz_i (by decide)) r0 r1 (by decide) (by decide) (by decide) (nm_r (e' := (-1000)) (qz_add x1_0 (by decide)) (br_t (by decide) (nm_r (e' := 1) (by decide) ?_)))⟩
  refine br_t (by decide) ⟨qz_i (by decide), qz_isMem r1.1 (by decide) (br_f (by decide) ⟨2, ?_⟩)⟩
  refine ⟨qz_i (by decide), qz_eqf w1_1 (by decide) (nm_r (e' := 1) (by decide) ?_)⟩
  refine ⟨qz_i (by decide), qz_eqt w1_3 (by decide) ⟨qz_i (by decide), fun b19_1 e19_1 => ⟨qz_i (by decide), fun b20_1 e20_1 => ?_⟩⟩⟩
  have w2_0 : b20_1 0 = 0 := qz_un e20_1 (by decide) w1_0
  have w2_1 : b20_1 1 = 1 := qz_un e20_1 (by decide) w1_1
  have w2_2 : b20_1 2 = 0 := qz_un e20_1 (by decide) w1_2
  have w2_3 : b20_1 3 = 2 := qz_uh e20_1 (by decide) (by decide)
  have w2_4 : b20_1 4 = 0 := qz_un e20_1 (by decide) w1_4
  have w2_5 : b20_1 5 = 0 := qz_un e20_1 (by decide) w1_5
  have w2_6 : b20_1 6 = 0 := qz_un e20_1 (by decide) w1_6
  have w2_7 : b20_1 7 = 0 := qz_un e20_1 (by decide) w1_7
  have w2_8 : b20_1 8 = 0 := qz_un e20_1 (by decide) w1_8
  have w2_9 : b20_1 9 = 0 := qz_un e20_1 (by decide) w1_9
  have w2_10 : b20_1 10 = 0 := qz_un e20_1 (by decide) w1_10
  have w2_11 : b20_1 11 = 0 := qz_un e20_1 (by decide) w1_11
  have x2_0 : b19_1 0 = 0 := qz_un e19_1 (by decide) x1_0
  have x2_1 : b19_1 1 = 1 := qz_uh e19_1 (by decide) (by decide)
  refine br_f (by decide) (nm_r (e' := 2) (by decide) (nm_r (e' := 2) (by decide) ?_))
  -- instruction 2
  refine br_f (by decide) (nm_e (br_f (by decide) ⟨3, ?_⟩))
  refine br_f (by decide) ⟨qz_i (by decide), qz_dist 2 (qz_i (by decide)) (qz_i (by decide)) r0 r2 (by decide) (by decide) (by decide) (nm_r (e' := 2) (qz_add x2_0 (by decide)) (br_f (by decide) (nm_r (e' := 1) (by decide) ?_)))⟩
  refine br_f (by decide) ⟨qz_i (by decide), qz_dist 2 (qz_i (by decide)) (qz_i (by decide)) r1 r2 (by decide) (by decide) (by decide) (nm_r (e' := 3) (qz_add x2_1 (by decide)) (br_f (by decide) (nm_r (e' := 2) (by decide) ?_)))⟩
  refine br_t (by decide) ⟨qz_i (by decide), qz_noMem r2.1 (by decide) (br_t rfl ⟨1, ?_⟩)⟩
  refine ⟨qz_i (by decide), qz_eqt w2_6 (by decide) ⟨qz_i (by decide), fun b19_2 e19_2 => ⟨qz_i (by decide), fun b20_2 e20_2 => ?_⟩⟩⟩
  have w3_0 : b20_2 0 = 0 := qz_un e20_2 (by decide) w2_0
  have w3_1 : b20_2 1 = 1 := qz_un e20_2 (by decide) w2_1
  have w3_2 : b20_2 2 = 0 := qz_un e20_2 (by decide) w2_2
  have w3_3 : b20_2 3 = 2 := qz_un e20_2 (by decide) w2_3
  have w3_4 : b20_2 4 = 0 := qz_un e20_2 (by decide) w2_4
  have w3_5 : b20_2 5 = 0 := qz_un e20_2 (by decide) w2_5
  have w3_6 : b20_2 6 = 3 := qz_uh e20_2 (by decide) (by decide)
  have w3_7 : b20_2 7 = 0 := qz_un e20_2 (by decide) w2_7
  have w3_8 : b20_2 8 = 0 := qz_un e20_2 (by decide) w2_8
  have w3_9 : b20_2 9 = 0 := qz_un e20_2 (by decide) w2_9
  have w3_10 : b20_2 10 = 0 := qz_un e20_2 (by decide) w2_10
  have w3_11 : b20_2 11 = 0 := qz_un e20_2 (by decide) w2_11
  have x3_0 : b19_2 0 = 0 := qz_un e19_2 (by decide) x2_0
  have x3_1 : b19_2 1 = 1 := qz_un e19_2 (by decide) x2_1
  have x3_2 : b19_2 2 = 3 := qz_uh e19_2 (by decide) (by decide)
  refine br_f (by decide) (nm_r (e' := 4) (by decide) (nm_r (e' := 3) (by decide) ?_))
  -- instruction 3
  refine br_f (by decide) (nm_e (br_f (by decide) ⟨4, ?_⟩))
  refine br_f (by decide) ⟨qz_i (by decide), qz_dist (-1000) (qz_i (by decide)) (qz_i (by decide)) r0 r3 (by decide) (by decide) (by decide) (nm_r (e' := (-1000)) (qz_add x3_0 (by decide)) (br_t (by decide) (nm_r (e' := 1) (by decide) ?_)))⟩
  refine br_f (by decide) ⟨qz_i (by decide), qz_dist (-1000) (qz_i (by decide)) (qz_i (by decide)) r1 r3 (by decide) (by decide) (by decide) (nm_r (e' := (-999)) (qz_add x3_1 (by decide)) (br_t (by decide) (nm_r (e' := 2) (by decide) ?_)))⟩
  refine br_f (by decide) ⟨qz_i (by decide), qz_dist (-1000) (qz_i (by decide)) (qz_i (by decide)) r2 r3 (by decide) (by decide) (by decide) (nm_r (e' := (-997)) (qz_add x3_2 (by decide)) (br_t (by decide) (nm_r (e' := 3) (by decide) ?_)))⟩
  refine br_t (by decide) ⟨qz_i (by decide), qz_isMem r3.1 (by decide) (br_f (by decide) ⟨3, ?_⟩)⟩
  refine ⟨qz_i (by decide), qz_eqf w3_1 (by decide) (nm_r (e' := 1) (by decide) ?_)⟩
  refine ⟨qz_i (by decide), qz_eqf w3_3 (by decide) (nm_r (e' := 2) (by decide) ?_)⟩
  refine ⟨qz_i (by decide), qz_eqt w3_5 (by decide) ⟨qz_i (by decide), fun b19_3 e19_3 => ⟨qz_i (by decide), fun b20_3 e20_3 => ?_⟩⟩⟩
  have w4_0 : b20_3 0 = 0 := qz_un e20_3 (by decide) w3_0
  have w4_1 : b20_3 1 = 1 := qz_un e20_3 (by decide) w3_1
  have w4_2 : b20_3 2 = 0 := qz_un e20_3 (by decide) w3_2
  have w4_3 : b20_3 3 = 2 := qz_un e20_3 (by decide) w3_3
  have w4_4 : b20_3 4 = 0 := qz_un e20_3 (by decide) w3_4
  have w4_5 : b20_3 5 = 4 := qz_uh e20_3 (by decide) (by decide)
  have w4_6 : b20_3 6 = 3 := qz_un e20_3 (by decide) w3_6
  have w4_7 : b20_3 7 = 0 := qz_un e20_3 (by decide) w3_7
  have w4_8 : b20_3 8 = 0 := qz_un e20_3 (by decide) w3_8
  have w4_9 : b20_3 9 = 0 := qz_un e20_3 (by decide) w3_9
  have w4_10 : b20_3 10 = 0 := qz_un e20_3 (by decide) w3_10
  have w4_11 : b20_3 11 = 0 := qz_un e20_3 (by decide) w3_11
  have x4_0 : b19_3 0 = 0 := qz_un e19_3 (by decide) x3_0
  have x4_1 : b19_3 1 = 1 := qz_un e19_3 (by decide) x3_1
  have x4_2 : b19_3 2 = 3 := qz_un e19_3 (by decide) x3_2
  have x4_3 : b19_3 3 = 2 := qz_uh e19_3 (by decide) (by decide)
  refine br_t (by decide) (nm_r (e' := 4) (by decide) ?_)
  -- instruction 4
  refine br_f (by decide) (nm_e (br_f (by decide) ⟨5, ?_⟩))
  refine br_f (by decide) ⟨qz_i (by decide), qz_dist (-1000) (qz_i (by decide)) (qz_i (by decide)) r0 r4 (by decide) (by decide) (by rcases hn with rfl | rfl | rfl | rfl <;> decide) (nm_r (e' := (-1000)) (qz_add x4_0 (by decide)) (br_t (by decide) (nm_r (e' := 1) (by decide) ?_)))⟩
  refine br_f (by decide) ⟨qz_i (by decide), qz_dist (-1000) (qz_i (by decide)) (qz_i (by decide)) r1 r4 (by decide) (by decide) (by rcases hn with rfl | rfl | rfl | rfl <;> decide) (nm_r (e' := (-999)) (qz_add x4_1 (by decide)) (br_t (by decide) (nm_r (e' := 2) (by decide) ?_)))⟩
  refine br_f (by decide) ⟨qz_i (by decide), qz_dist (-1000) (qz_i (by decide)) (qz_i (by decide)) r2 r4 (by decide) (by decide) (by rcases hn with rfl | rfl | rfl | rfl <;> decide) (nm_r (e' := (-997)) (qz_add x4_2 (by decide)) (br_t (by decide) (nm_r (e' := 3) (by decide) ?_)))⟩
  refine br_f (by decide) ⟨qz_i (by decide), qz_dist 2 (qz_i (by decide)) (qz_i (by decide)) r3 r4 (by decide) (by decide) (by rcases hn with rfl | rfl | rfl | rfl <;> decide) (nm_r (e' := 4) (qz_add x4_3 (by decide)) (br_f (by decide) (nm_r (e' := 4) (by decide) ?_)))⟩
  refine br_t (by decide) ⟨qz_i (by decide), qz_isMem r4.1 (by decide) (br_f (by decide) ⟨1, ?_⟩)⟩
  refine ⟨qz_i (by decide), qz_eqt w4_9 (by decide) ⟨qz_i (by decide), fun b19_4 e19_4 => ⟨qz_i (by decide), fun b20_4 e20_4 => ?_⟩⟩⟩
  have w5_0 : b20_4 0 = 0 := qz_un e20_4 (by decide) w4_0
  have w5_1 : b20_4 1 = 1 := qz_un e20_4 (by decide) w4_1
  have w5_2 : b20_4 2 = 0 := qz_un e20_4 (by decide) w4_2
  have w5_3 : b20_4 3 = 2 := qz_un e20_4 (by decide) w4_3
  have w5_4 : b20_4 4 = 0 := qz_un e20_4 (by decide) w4_4
  have w5_5 : b20_4 5 = 4 := qz_un e20_4 (by decide) w4_5
  have w5_6 : b20_4 6 = 3 := qz_un e20_4 (by decide) w4_6
  have w5_7 : b20_4 7 = 0 := qz_un e20_4 (by decide) w4_7
  have w5_8 : b20_4 8 = 0 := qz_un e20_4 (by decide) w4_8
  have w5_9 : b20_4 9 = 5 := qz_uh e20_4 (by decide) (by decide)
  have w5_10 : b20_4 10 = 0 := qz_un e20_4 (by decide) w4_10
  have w5_11 : b20_4 11 = 0 := qz_un e20_4 (by decide) w4_11
  have x5_0 : b19_4 0 = 0 := qz_un e19_4 (by decide) x4_0
  have x5_1 : b19_4 1 = 1 := qz_un e19_4 (by decide) x4_1
  have x5_2 : b19_4 2 = 3 := qz_un e19_4 (by decide) x4_2
  have x5_3 : b19_4 3 = 2 := qz_un e19_4 (by decide) x4_3
  have x5_4 : b19_4 4 = 4 := qz_uh e19_4 (by decide) (by decide)
  refine br_f (by decide) (nm_r (e' := 5) (by decide) (nm_r (e' := 5) (by decide) ?_))
  -- instruction 5
  refine br_f (by decide) (nm_e (br_f (by decide) ⟨6, ?_⟩))
  refine br_f (by decide) ⟨qz_i (by decide), qz_dist (-1000) (qz_i (by decide)) (qz_i (by decide)) r0 r5 (by decide) (by decide) (by decide) (nm_r (e' := (-1000)) (qz_add x5_0 (by decide)) (br_t (by decide) (nm_r (e' := 1) (by decide) ?_)))⟩
  refine br_f (by decide) ⟨qz_i (by decide), qz_dist (-1000) (qz_i (by decide)) (qz_i (by decide)) r1 r5 (by decide) (by decide) (by decide) (nm_r (e' := (-999)) (qz_add x5_1 (by decide)) (br_t (by decide) (nm_r (e' := 2) (by decide) ?_)))⟩
  refine br_f (by decide) ⟨qz_i (by decide), qz_dist 1 (qz_i (by decide)) (qz_i (by decide)) r2 r5 (by decide) (by decide) (by decide) (nm_r (e' := 4) (qz_add x5_2 (by decide)) (br_f (by decide) (nm_r (e' := 3) (by decide) ?_)))⟩
  refine br_f (by decide) ⟨qz_i (by decide), qz_dist 1 (qz_i (by decide)) (qz_i (by decide)) r3 r5 (by decide) (by decide) (by decide) (nm_r (e' := 3) (qz_add x5_3 (by decide)) (br_t (by decide) (nm_r (e' := 4) (by decide) ?_)))⟩
  refine br_f (by decide) ⟨qz_i (by decide), qz_dist (-1000) (qz_i (by decide)) (qz_i (by decide)) r4 r5 (by decide) (by decide) (by rcases hn with rfl | rfl | rfl | rfl <;> decide) (nm_r (e' := (-996)) (qz_add x5_4 (by decide)) (br_t (by decide) (nm_r (e' := 5) (by decide) ?_)))⟩
  refine br_t (by decide) ⟨qz_i (by decide), qz_isMem r5.1 (by decide) (br_f (by decide) ⟨2, ?_⟩)⟩
  refine ⟨qz_i (by decide), qz_eqf w5_9 (by decide) (nm_r (e' := 5) (by decide) ?_)⟩
  refine ⟨qz_i (by decide), qz_eqt w5_11 (by decide) ⟨qz_i (by decide), fun b19_5 e19_5 => ⟨qz_i (by decide), fun b20_5 e20_5 => ?_⟩⟩⟩
  have w6_0 : b20_5 0 = 0 := qz_un e20_5 (by decide) w5_0
  have w6_1 : b20_5 1 = 1 := qz_un e20_5 (by decide) w5_1
  have w6_2 : b20_5 2 = 0 := qz_un e20_5 (by decide) w5_2
  have w6_3 : b20_5 3 = 2 := qz_un e20_5 (by decide) w5_3
  have w6_4 : b20_5 4 = 0 := qz_un e20_5 (by decide) w5_4
  have w6_5 : b20_5 5 = 4 := qz_un e20_5 (by decide) w5_5
  have w6_6 : b20_5 6 = 3 := qz_un e20_5 (by decide) w5_6
  have w6_7 : b20_5 7 = 0 := qz_un e20_5 (by decide) w5_7
  have w6_8 : b20_5 8 = 0 := qz_un e20_5 (by decide) w5_8
  have w6_9 : b20_5 9 = 5 := qz_un e20_5 (by decide) w5_9
  have w6_10 : b20_5 10 = 0 := qz_un e20_5 (by decide) w5_10
  have w6_11 : b20_5 11 = 6 := qz_uh e20_5 (by decide) (by decide)
  have x6_0 : b19_5 0 = 0 := qz_un e19_5 (by decide) x5_0
  have x6_1 : b19_5 1 = 1 := qz_un e19_5 (by decide) x5_1
  have x6_2 : b19_5 2 = 3 := qz_un e19_5 (by decide) x5_2
  have x6_3 : b19_5 3 = 2 := qz_un e19_5 (by decide) x5_3
  have x6_4 : b19_5 4 = 4 := qz_un e19_5 (by decide) x5_4
  have x6_5 : b19_5 5 = 5 := qz_uh e19_5 (by decide) (by decide)
  refine br_f (by decide) (nm_r (e' := 6) (by decide) (nm_r (e' := 6) (by decide) ?_))
  exact br_t (by decide) (hp b19_5 b20_5 ⟨w6_0, w6_1, w6_2, w6_3, w6_4, w6_5, w6_6, w6_7, w6_8, w6_9, w6_10, w6_11⟩)
theorem qz_sched29_10 {post : St2 → Prop} {n : Int32} (hn : qz_n n) (hP : qz_P 10 n a14 a15 a16 a17 a18) (h20 : ∀ j, j < 1210 → a20 j = 0) (hp : ∀ b19 b20 : Nat → Int32, qz_W b20 → post (nc, fc, 2, cp, nd, pn, 6, 6, ac, dc, sc, a1, a2, a3, a4, a5, a6, a7, a8, a9, a10, a11, a12, a13, a14, a15, a16, a17, a18, b19, b20, a21, a22, a23, a24, a25, a26)) : ∃ fu, wX_schedule_29 post nc fc 2 cp nd pn 6 ac dc sc fu 0 0 a1 a2 a3 a4 a5 a6 a7 a8 a9 a10 a11 a12 a13 a14 a15 a16 a17 a18 a19 a20 a21 a22 a23 a24 a25 a26 := by
  obtain ⟨r0, r1, r2, r3, r4, r5⟩ := hP
  have w0_0 : a20 0 = 0 := h20 0 (by decide)
  have w0_1 : a20 1 = 0 := h20 1 (by decide)
  have w0_2 : a20 2 = 0 := h20 2 (by decide)
  have w0_3 : a20 3 = 0 := h20 3 (by decide)
  have w0_4 : a20 4 = 0 := h20 4 (by decide)
  have w0_5 : a20 5 = 0 := h20 5 (by decide)
  have w0_6 : a20 6 = 0 := h20 6 (by decide)
  have w0_7 : a20 7 = 0 := h20 7 (by decide)
  have w0_8 : a20 8 = 0 := h20 8 (by decide)
  have w0_9 : a20 9 = 0 := h20 9 (by decide)
  have w0_10 : a20 10 = 0 := h20 10 (by decide)
  have w0_11 : a20 11 = 0 := h20 11 (by decide)
  refine ⟨7, ?_⟩
  -- instruction 0
  refine br_f (by decide) (nm_e (br_f (by decide) ⟨1, ?_⟩))
  refine br_t (by decide) ⟨qz_i (by decide), qz_isMem r0.1 (by decide) (br_f (by decide) ⟨1, ?_⟩)⟩
  refine ⟨qz_i (by decide), qz_eqt w0_1 (by decide) ⟨qz_i (by decide), fun b19_0 e19_0 => ⟨qz_i (by decide), fun b20_0 e20_0 => ?_⟩⟩⟩
  have w1_0 : b20_0 0 = 0 := qz_un e20_0 (by decide) w0_0
  have w1_1 : b20_0 1 = 1 := qz_uh e20_0 (by decide) (by decide)
  have w1_2 : b20_0 2 = 0 := qz_un e20_0 (by decide) w0_2
  have w1_3 : b20_0 3 = 0 := qz_un e20_0 (by decide) w0_3
  have w1_4 : b20_0 4 = 0 := qz_un e20_0 (by decide) w0_4
  have w1_5 : b20_0 5 = 0 := qz_un e20_0 (by decide) w0_5
  have w1_6 : b20_0 6 = 0 := qz_un e20_0 (by decide) w0_6
  have w1_7 : b20_0 7 = 0 := qz_un e20_0 (by decide) w0_7
  have w1_8 : b20_0 8 = 0 := qz_un e20_0 (by decide) w0_8
  have w1_9 : b20_0 9 = 0 := qz_un e20_0 (by decide) w0_9
  have w1_10 : b20_0 10 = 0 := qz_un e20_0 (by decide) w0_10
  have w1_11 : b20_0 11 = 0 := qz_un e20_0 (by decide) w0_11
  have x1_0 : b19_0 0 = 0 := qz_uh e19_0 (by decide) (by decide)
  refine br_f (by decide) (nm_r (e' := 1) (by decide) (nm_r (e' := 1) (by decide) ?_))
  -- instruction 1
  refine br_f (by decide) (nm_e (br_f (by decide) ⟨2, ?_⟩))
  refine br_f (by decide) ⟨qz_i (by decide), qz_dist (-1000) (qz_i (by decide)) (qz_i (by decide)) r0 r1 (by decide) (by decide) (by decide) (nm_r (e' := (-1000)) (qz_add x1_0 (by decide)) (br_t (by decide) (nm_r (e' := 1) (by decide) ?_)))⟩
  refine br_t (by decide) ⟨qz_i (by decide), qz_isMem r1.1 (by decide) (br_f (by decide) ⟨2, ?_⟩)⟩
  refine ⟨qz_i (by decide), qz_eqf w1_1 (by decide) (nm_r (e' := 1) (by decide) ?_)⟩
  refine ⟨qz_i (by decide), qz_eqt w1_3 (by decide) ⟨qz_i (by decide), fun b19_1 e19_1 => ⟨qz_i (by decide), fun b20_1 e20_1 => ?_⟩⟩⟩
  have w2_0 : b20_1 0 = 0 := qz_un e20_1 (by decide) w1_0
  have w2_1 : b20_1 1 = 1 := qz_un e20_1 (by decide) w1_1
  have w2_2 : b20_1 2 = 0 := qz_un e20_1 (by decide) w1_2
  have w2_3 : b20_1 3 = 2 := qz_uh e20_1 (by decide) (by decide)
  have w2_4 : b20_1 4 = 0 := qz_un e20_1 (by decide) w1_4
  have w2_5 : b20_1 5 = 0 := qz_un e20_1 (by decide) w1_5
  have w2_6 : b20_1 6 = 0 := qz_un e20_1 (by decide) w1_6
  have w2_7 : b20_1 7 = 0 := qz_un e20_1 (by decide) w1_7
  have w2_8 : b20_1 8 = 0 := qz_un e20_1 (by decide) w1_8
  have w2_9 : b20_1 9 = 0 := qz_un e20_1 (by decide) w1_9
  have w2_10 : b20_1 10 = 0 := qz_un e20_1 (by decide) w1_10
  have w2_11 : b20_1 11 = 0 := qz_un e20_1 (by decide) w1_11
  have x2_0 : b19_1 0 = 0 := qz_un e19_1 (by decide) x1_0
  have x2_1 : b19_1 1 = 1 := qz_uh e19_1 (by decide) (by decide)
  refine br_f (by decide) (nm_r (e' := 2) (by decide) (nm_r (e' := 2) (by decide) ?_))
  -- instruction 2
  refine br_f (by decide) (nm_e (br_f (by decide) ⟨3, ?_⟩))
  refine br_f (by decide) ⟨qz_i (by decide), qz_dist 2 (qz_i (by decide)) (qz_i (by decide)) r0 r2 (by decide) (by decide) (by decide) (nm_r (e' := 2) (qz_add x2_0 (by decide)) (br_f (by decide) (nm_r (e' := 1) (by decide) ?_)))⟩
  refine br_f (by decide) ⟨qz_i (by decide), qz_dist 2 (qz_i (by decide)) (qz_i (by decide)) r1 r2 (by decide) (by decide) (by decide) (nm_r (e' := 3) (qz_add x2_1 (by decide)) (br_f (by decide) (nm_r (e' := 2) (by decide) ?_)))⟩
  refine br_t (by decide) ⟨qz_i (by decide), qz_noMem r2.1 (by decide) (br_t rfl ⟨1, ?_⟩)⟩
  refine ⟨qz_i (by decide), qz_eqt w2_6 (by decide) ⟨qz_i (by decide), fun b19_2 e19_2 => ⟨qz_i (by decide), fun b20_2 e20_2 => ?_⟩⟩⟩
  have w3_0 : b20_2 0 = 0 := qz_un e20_2 (by decide) w2_0
  have w3_1 : b20_2 1 = 1 := qz_un e20_2 (by decide) w2_1
  have w3_2 : b20_2 2 = 0 := qz_un e20_2 (by decide) w2_2
  have w3_3 : b20_2 3 = 2 := qz_un e20_2 (by decide) w2_3
  have w3_4 : b20_2 4 = 0 := qz_un e20_2 (by decide) w2_4
  have w3_5 : b20_2 5 = 0 := qz_un e20_2 (by decide) w2_5
  have w3_6 : b20_2 6 = 3 := qz_uh e20_2 (by decide) (by decide)
  have w3_7 : b20_2 7 = 0 := qz_un e20_2 (by decide) w2_7
  have w3_8 : b20_2 8 = 0 := qz_un e20_2 (by decide) w2_8
  have w3_9 : b20_2 9 = 0 := qz_un e20_2 (by decide) w2_9
  have w3_10 : b20_2 10 = 0 := qz_un e20_2 (by decide) w2_10
  have w3_11 : b20_2 11 = 0 := qz_un e20_2 (by decide) w2_11
  have x3_0 : b19_2 0 = 0 := qz_un e19_2 (by decide) x2_0
  have x3_1 : b19_2 1 = 1 := qz_un e19_2 (by decide) x2_1
  have x3_2 : b19_2 2 = 3 := qz_uh e19_2 (by decide) (by decide)
  refine br_f (by decide) (nm_r (e' := 4) (by decide) (nm_r (e' := 3) (by decide) ?_))
  -- instruction 3
  refine br_f (by decide) (nm_e (br_f (by decide) ⟨4, ?_⟩))
  refine br_f (by decide) ⟨qz_i (by decide), qz_dist (-1000) (qz_i (by decide)) (qz_i (by decide)) r0 r3 (by decide) (by decide) (by decide) (nm_r (e' := (-1000)) (qz_add x3_0 (by decide)) (br_t (by decide) (nm_r (e' := 1) (by decide) ?_)))⟩
  refine br_f (by decide) ⟨qz_i (by decide), qz_dist (-1000) (qz_i (by decide)) (qz_i (by decide)) r1 r3 (by decide) (by decide) (by decide) (nm_r (e' := (-999)) (qz_add x3_1 (by decide)) (br_t (by decide) (nm_r (e' := 2) (by decide) ?_)))⟩
  refine br_f (by decide) ⟨qz_i (by decide), qz_dist (-1000) (qz_i (by decide)) (qz_i (by decide)) r2 r3 (by decide) (by decide) (by decide) (nm_r (e' := (-997)) (qz_add x3_2 (by decide)) (br_t (by decide) (nm_r (e' := 3) (by decide) ?_)))⟩
  refine br_t (by decide) ⟨qz_i (by decide), qz_isMem r3.1 (by decide) (br_f (by decide) ⟨3, ?_⟩)⟩
  refine ⟨qz_i (by decide), qz_eqf w3_1 (by decide) (nm_r (e' := 1) (by decide) ?_)⟩
  refine ⟨qz_i (by decide), qz_eqf w3_3 (by decide) (nm_r (e' := 2) (by decide) ?_)⟩
  refine ⟨qz_i (by decide), qz_eqt w3_5 (by decide) ⟨qz_i (by decide), fun b19_3 e19_3 => ⟨qz_i (by decide), fun b20_3 e20_3 => ?_⟩⟩⟩
  have w4_0 : b20_3 0 = 0 := qz_un e20_3 (by decide) w3_0
  have w4_1 : b20_3 1 = 1 := qz_un e20_3 (by decide) w3_1
  have w4_2 : b20_3 2 = 0 := qz_un e20_3 (by decide) w3_2
  have w4_3 : b20_3 3 = 2 := qz_un e20_3 (by decide) w3_3
  have w4_4 : b20_3 4 = 0 := qz_un e20_3 (by decide) w3_4
  have w4_5 : b20_3 5 = 4 := qz_uh e20_3 (by decide) (by decide)
  have w4_6 : b20_3 6 = 3 := qz_un e20_3 (by decide) w3_6
  have w4_7 : b20_3 7 = 0 := qz_un e20_3 (by decide) w3_7
  have w4_8 : b20_3 8 = 0 := qz_un e20_3 (by decide) w3_8
  have w4_9 : b20_3 9 = 0 := qz_un e20_3 (by decide) w3_9
  have w4_10 : b20_3 10 = 0 := qz_un e20_3 (by decide) w3_10
  have w4_11 : b20_3 11 = 0 := qz_un e20_3 (by decide) w3_11
  have x4_0 : b19_3 0 = 0 := qz_un e19_3 (by decide) x3_0
  have x4_1 : b19_3 1 = 1 := qz_un e19_3 (by decide) x3_1
  have x4_2 : b19_3 2 = 3 := qz_un e19_3 (by decide) x3_2
  have x4_3 : b19_3 3 = 2 := qz_uh e19_3 (by decide) (by decide)
  refine br_t (by decide) (nm_r (e' := 4) (by decide) ?_)
  -- instruction 4
  refine br_f (by decide) (nm_e (br_f (by decide) ⟨5, ?_⟩))
  refine br_f (by decide) ⟨qz_i (by decide), qz_dist (-1000) (qz_i (by decide)) (qz_i (by decide)) r0 r4 (by decide) (by decide) (by rcases hn with rfl | rfl | rfl | rfl <;> decide) (nm_r (e' := (-1000)) (qz_add x4_0 (by decide)) (br_t (by decide) (nm_r (e' := 1) (by decide) ?_)))⟩
  refine br_f (by decide) ⟨qz_i (by decide), qz_dist (-1000) (qz_i (by decide)) (qz_i (by decide)) r1 r4 (by decide) (by decide) (by rcases hn with rfl | rfl | rfl | rfl <;> decide) (nm_r (e' := (-999)) (qz_add x4_1 (by decide)) (br_t (by decide) (nm_r (e' := 2) (by decide) ?_)))⟩
  refine br_f (by decide) ⟨qz_i (by decide), qz_dist (-1000) (qz_i (by decide)) (qz_i (by decide)) r2 r4 (by decide) (by decide) (by rcases hn with rfl | rfl | rfl | rfl <;> decide) (nm_r (e' := (-997)) (qz_add x4_2 (by decide)) (br_t (by decide) (nm_r (e' := 3) (by decide) ?_)))⟩
  refine br_f (by decide) ⟨qz_i (by decide), qz_dist 2 (qz_i (by decide)) (qz_i (by decide)) r3 r4 (by decide) (by decide) (by rcases hn with rfl | rfl | rfl | rfl <;> decide) (nm_r (e' := 4) (qz_add x4_3 (by decide)) (br_f (by decide) (nm_r (e' := 4) (by decide) ?_)))⟩
  refine br_t (by decide) ⟨qz_i (by decide), qz_isMem r4.1 (by decide) (br_f (by decide) ⟨1, ?_⟩)⟩
  refine ⟨qz_i (by decide), qz_eqt w4_9 (by decide) ⟨qz_i (by decide), fun b19_4 e19_4 => ⟨qz_i (by decide), fun b20_4 e20_4 => ?_⟩⟩⟩
  have w5_0 : b20_4 0 = 0 := qz_un e20_4 (by decide) w4_0
  have w5_1 : b20_4 1 = 1 := qz_un e20_4 (by decide) w4_1
  have w5_2 : b20_4 2 = 0 := qz_un e20_4 (by decide) w4_2
  have w5_3 : b20_4 3 = 2 := qz_un e20_4 (by decide) w4_3
  have w5_4 : b20_4 4 = 0 := qz_un e20_4 (by decide) w4_4
  have w5_5 : b20_4 5 = 4 := qz_un e20_4 (by decide) w4_5
  have w5_6 : b20_4 6 = 3 := qz_un e20_4 (by decide) w4_6
  have w5_7 : b20_4 7 = 0 := qz_un e20_4 (by decide) w4_7
  have w5_8 : b20_4 8 = 0 := qz_un e20_4 (by decide) w4_8
  have w5_9 : b20_4 9 = 5 := qz_uh e20_4 (by decide) (by decide)
  have w5_10 : b20_4 10 = 0 := qz_un e20_4 (by decide) w4_10
  have w5_11 : b20_4 11 = 0 := qz_un e20_4 (by decide) w4_11
  have x5_0 : b19_4 0 = 0 := qz_un e19_4 (by decide) x4_0
  have x5_1 : b19_4 1 = 1 := qz_un e19_4 (by decide) x4_1
  have x5_2 : b19_4 2 = 3 := qz_un e19_4 (by decide) x4_2
  have x5_3 : b19_4 3 = 2 := qz_un e19_4 (by decide) x4_3
  have x5_4 : b19_4 4 = 4 := qz_uh e19_4 (by decide) (by decide)
  refine br_f (by decide) (nm_r (e' := 5) (by decide) (nm_r (e' := 5) (by decide) ?_))
  -- instruction 5
  refine br_f (by decide) (nm_e (br_f (by decide) ⟨6, ?_⟩))
  refine br_f (by decide) ⟨qz_i (by decide), qz_dist (-1000) (qz_i (by decide)) (qz_i (by decide)) r0 r5 (by decide) (by decide) (by decide) (nm_r (e' := (-1000)) (qz_add x5_0 (by decide)) (br_t (by decide) (nm_r (e' := 1) (by decide) ?_)))⟩
  refine br_f (by decide) ⟨qz_i (by decide), qz_dist (-1000) (qz_i (by decide)) (qz_i (by decide)) r1 r5 (by decide) (by decide) (by decide) (nm_r (e' := (-999)) (qz_add x5_1 (by decide)) (br_t (by decide) (nm_r (e' := 2) (by decide) ?_)))⟩
  refine br_f (by decide) ⟨qz_i (by decide), qz_dist 2 (qz_i (by decide)) (qz_i (by decide)) r2 r5 (by decide) (by decide) (by decide) (nm_r (e' := 5) (qz_add x5_2 (by decide)) (br_f (by decide) (nm_r (e' := 3) (by decide) ?_)))⟩
  refine br_f (by decide) ⟨qz_i (by decide), qz_dist 1 (qz_i (by decide)) (qz_i (by decide)) r3 r5 (by decide) (by decide) (by decide) (nm_r (e' := 3) (qz_add x5_3 (by decide)) (br_t (by decide) (nm_r (e' := 4) (by decide) ?_)))⟩
  refine br_f (by decide) ⟨qz_i (by decide), qz_dist (-1000) (qz_i (by decide)) (qz_i (by decide)) r4 r5 (by decide) (by decide) (by rcases hn with rfl | rfl | rfl | rfl <;> decide) (nm_r (e' := (-996)) (qz_add x5_4 (by decide)) (br_t (by decide) (nm_r (e' := 5) (by decide) ?_)))⟩
  refine br_t (by decide) ⟨qz_i (by decide), qz_isMem r5.1 (by decide) (br_f (by decide) ⟨1, ?_⟩)⟩
  refine ⟨qz_i (by decide), qz_eqt w5_11 (by decide) ⟨qz_i (by decide), fun b19_5 e19_5 => ⟨qz_i (by decide), fun b20_5 e20_5 => ?_⟩⟩⟩
  have w6_0 : b20_5 0 = 0 := qz_un e20_5 (by decide) w5_0
  have w6_1 : b20_5 1 = 1 := qz_un e20_5 (by decide) w5_1
  have w6_2 : b20_5 2 = 0 := qz_un e20_5 (by decide) w5_2
  have w6_3 : b20_5 3 = 2 := qz_un e20_5 (by decide) w5_3
  have w6_4 : b20_5 4 = 0 := qz_un e20_5 (by decide) w5_4
  have w6_5 : b20_5 5 = 4 := qz_un e20_5 (by decide) w5_5
  have w6_6 : b20_5 6 = 3 := qz_un e20_5 (by decide) w5_6
  have w6_7 : b20_5 7 = 0 := qz_un e20_5 (by decide) w5_7
  have w6_8 : b20_5 8 = 0 := qz_un e20_5 (by decide) w5_8
  have w6_9 : b20_5 9 = 5 := qz_un e20_5 (by decide) w5_9
  have w6_10 : b20_5 10 = 0 := qz_un e20_5 (by decide) w5_10
  have w6_11 : b20_5 11 = 6 := qz_uh e20_5 (by decide) (by decide)
  have x6_0 : b19_5 0 = 0 := qz_un e19_5 (by decide) x5_0
  have x6_1 : b19_5 1 = 1 := qz_un e19_5 (by decide) x5_1
  have x6_2 : b19_5 2 = 3 := qz_un e19_5 (by decide) x5_2
  have x6_3 : b19_5 3 = 2 := qz_un e19_5 (by decide) x5_3
  have x6_4 : b19_5 4 = 4 := qz_un e19_5 (by decide) x5_4
  have x6_5 : b19_5 5 = 5 := qz_uh e19_5 (by decide) (by decide)
  refine br_f (by decide) (nm_r (e' := 6) (by decide) (nm_r (e' := 6) (by decide) ?_))
  exact br_t (by decide) (hp b19_5 b20_5 ⟨w6_0, w6_1, w6_2, w6_3, w6_4, w6_5, w6_6, w6_7, w6_8, w6_9, w6_10, w6_11⟩)
theorem qz_sched {post : St2 → Prop} {k n : Int32} (hk : qz_k k) (hn : qz_n n) (hP : qz_P k n a14 a15 a16 a17 a18) (hp : ∀ b19 b20 : Nat → Int32, qz_W b20 → post (nc, fc, 2, cp, nd, pn, 6, 6, ac, dc, sc, a1, a2, a3, a4, a5, a6, a7, a8, a9, a10, a11, a12, a13, a14, a15, a16, a17, a18, b19, b20, a21, a22, a23, a24, a25, a26)) : wpX_schedule post (nc, fc, 2, cp, nd, pn, 6, wc, ac, dc, sc, a1, a2, a3, a4, a5, a6, a7, a8, a9, a10, a11, a12, a13, a14, a15, a16, a17, a18, a19, a20, a21, a22, a23, a24, a25, a26) := by
  refine pk_loop (fun m i s => wX_schedule_2 post nc fc 2 cp nd pn 6 wc ac dc sc m (nI i) a1 a2 a3 a4 a5 a6 a7 a8 a9 a10 a11 a12 a13 a14 a15 a16 a17 a18 a19 s a21 a22 a23 a24 a25 a26) (fun i s => ∀ j, j < i → s j = 0) 1210 0 a20 (by omega) (fun j hj => absurd hj (by omega)) ?_ ?_
  · intro m s h
    refine pk_le 1210 1210 (fun _ => ?_) (fun z => absurd z (by omega))
    rcases hk with rfl | rfl | rfl | rfl
    · exact qz_sched29_2 hn hP h hp
    · exact qz_sched29_3 hn hP h hp
    · exact qz_sched29_9 hn hP h hp
    · exact qz_sched29_10 hn hP h hp
  · intro m i s hi h hw
    refine pk_le 1210 i (fun z => absurd z (by omega)) (fun _ => ⟨pk_in i 1210 hi, nm_e (nm_r (nI_1 i) (hw _ ?_))⟩)
    intro j hj
    rw [nI_clamp (by omega)]
    by_cases e : j = i
    · rw [e, pk_us]
    · rw [pk_un e]
      exact h j (by omega)
end
end
section
/-! ===== the processor: one step over the six words ===== -/
theorem qz_v2 (x y : Int32) : qz_v 2 x y = qz_clip (x + y) := by
  unfold qz_v
  rw [if_pos rfl]
theorem qz_v3 (x y : Int32) : qz_v 3 x y = qz_clip (x - y) := by
  unfold qz_v
  rw [if_neg (by decide), if_pos rfl]
theorem qz_v9 (x y : Int32) : qz_v 9 x y = (if x ≤ y then y else x) := by
  unfold qz_v
  rw [if_neg (by decide), if_neg (by decide), if_pos rfl]
theorem qz_v10 (x y : Int32) : qz_v 10 x y = qz_clip (((x * y) + 16384) >>> ((15 : Int32) &&& 31)) := by
  unfold qz_v
  rw [if_neg (by decide), if_neg (by decide), if_neg (by decide)]
section
variable {nc fc lv cp nd pn le wc : Int32} {ac : Int64} {dc sc : Int32} {a1 a2 a3 a4 a5 a6 a7 a8 a9 a10 a11 a12 a13 a14 a15 a16 a17 a18 a19 a20 a21 a22 a23 a24 a25 a26 : Nat → Int32}
variable {k : Int32}
theorem qz_calc {post : Int32 → Prop} {p0 f s n x y : Int32} (hk : qz_k k) (hi : vp_in p0 300) (h14 : a14 p0.toNatClampNeg = k) (h18 : a18 p0.toNatClampNeg = n) (h16 : a16 p0.toNatClampNeg = f) (h17 : a17 p0.toNatClampNeg = s) (hf : vp_in f 8) (hs : vp_in s 8) (hx : a23 f.toNatClampNeg = x) (hy : a23 s.toNatClampNeg = y) (h : post (qz_v k x y)) : wpX_calculate post (nc, fc, lv, cp, nd, pn, le, wc, ac, dc, sc, a1, a2, a3, a4, a5, a6, a7, a8, a9, a10, a11, a12, a13, a14, a15, a16, a17, a18, a19, a20, a21, a22, a23, a24, a25, a26) p0 := by
  unfold wpX_calculate
  dsimp only
  rw [h14, h18, h16, h17, hx, hy]
  refine ⟨hi, nm_e ⟨hi, nm_e ?_⟩⟩
  rcases hk with rfl | rfl | rfl | rfl
  · rw [qz_v2] at h
    exact br_f (by decide) (br_f (by decide) (br_f (by decide) ⟨hi, hf, nm_e (br_f (by decide) (br_f (by decide) ⟨hi, hs, nm_e (br_t (by decide) (qz_clipped h))⟩))⟩))
  · rw [qz_v3] at h
    exact br_f (by decide) (br_f (by decide) (br_f (by decide) ⟨hi, hf, nm_e (br_f (by decide) (br_f (by decide) ⟨hi, hs, nm_e (br_f (by decide) (br_t (by decide) (qz_clipped h)))⟩))⟩))
  · refine br_f (by decide) (br_f (by decide) (br_f (by decide) ⟨hi, hf, nm_e (br_f (by decide) (br_f (by decide) ⟨hi, hs, nm_e (br_f (by decide) (br_f (by decide) (br_t (by decide) ?_)))⟩))⟩))
    have h' := h
    rw [qz_v9] at h'
    by_cases c : x ≤ y
    · rw [if_pos c] at h'
      exact br_t c h'
    · rw [if_neg c] at h'
      exact br_f c h'
  · rw [qz_v10] at h
    exact br_f (by decide) (br_f (by decide) (br_f (by decide) ⟨hi, hf, nm_e (br_f (by decide) (br_f (by decide) ⟨hi, hs, nm_e (br_f (by decide) (br_f (by decide) (br_f (by decide) (br_t (by decide) (qz_clipped h)))))⟩))⟩))
/-- promise: a result is due -/
theorem qz_prom {post : St2 → Prop} {p0 p1 p2 o g : Int32} (j : Nat) (w l : Int32) (hi : vp_in p0 300) (h14 : a14 p0.toNatClampNeg = o) (h15 : a15 p0.toNatClampNeg = g) (hg : 0 ≤ g) (hd : vp_in dc 8) (hj : dc.toNatClampNeg = j) (hl : dc + 1 = l) (hw : (p2 + qz_dl o).toInt16.toInt32 = w)
    (hp : ∀ b24 b25 b26 : Nat → Int32, b24 = upd a24 j (vp_nar .byte g) → b25 = upd a25 j p1 → b26 = upd a26 j w → post (nc, fc, lv, cp, nd, pn, le, wc, ac, l, sc, a1, a2, a3, a4, a5, a6, a7, a8, a9, a10, a11, a12, a13, a14, a15, a16, a17, a18, a19, a20, a21, a22, a23, b24, b25, b26)) : wpX_promise post (nc, fc, lv, cp, nd, pn, le, wc, ac, dc, sc, a1, a2, a3, a4, a5, a6, a7, a8, a9, a10, a11, a12, a13, a14, a15, a16, a17, a18, a19, a20, a21, a22, a23, a24, a25, a26) p0 p1 p2 := by
  subst hj hl hw h14 h15
  exact ⟨hi, br_t hg ⟨hi, qz_delayOf (nm_e ⟨hi, hd, fun b24 e24 => ⟨hd, fun b25 e25 => ⟨hd, fun b26 e26 => nm_e (hp b24 b25 b26 e24 e25 e26)⟩⟩⟩)⟩⟩
/-- a word that loads -/
theorem qz_wLoad {post : St2 → Prop} {J : Int32 → Int32 → Int32 → Int32 → Int32 → Int32 → Int32 → Int32 → Int32 → Int64 → Int32 → Int32 → (Nat → Int32) → (Nat → Int32) → (Nat → Int32) → (Nat → Int32) → (Nat → Int32) → (Nat → Int32) → (Nat → Int32) → (Nat → Int32) → (Nat → Int32) → (Nat → Int32) → (Nat → Int32) → (Nat → Int32) → (Nat → Int32) → (Nat → Int32) → (Nat → Int32) → (Nat → Int32) → (Nat → Int32) → (Nat → Int32) → (Nat → Int32) → (Nat → Int32) → (Nat → Int32) → (Nat → Int32) → (Nat → Int32) → (Nat → Int32) → (Nat → Int32) → (Nat → Int32) → Prop}
    {x1 x2 x3 f s g n : Int32} (i j : Nat) (w l y1 : Int32) (h2 : x2 < 0) (h3 : ¬ x3 < 0) (hi : vp_in x3 300) (hr : qz_row a14 a15 a16 a17 a18 x3.toNatClampNeg 16 g f s n) (hg : 0 ≤ g) (hn : vp_in n 96) (hni : n.toNatClampNeg = i) (hd : vp_in dc 8) (hj : dc.toNatClampNeg = j) (hl : dc + 1 = l) (hw : (x1 + 2).toInt16.toInt32 = w) (hx : x1 + 1 = y1)
    (hp : ∀ b24 b25 b26 : Nat → Int32, b24 = upd a24 j (vp_nar .byte g) → b25 = upd a25 j (a21 i) → b26 = upd a26 j w → J y1 nc fc lv cp nd pn le wc ac l sc a1 a2 a3 a4 a5 a6 a7 a8 a9 a10 a11 a12 a13 a14 a15 a16 a17 a18 a19 a20 a21 a22 a23 b24 b25 b26) : wX_step_58 post J x1 x2 x3 0 nc fc lv cp nd pn le wc ac dc sc a1 a2 a3 a4 a5 a6 a7 a8 a9 a10 a11 a12 a13 a14 a15 a16 a17 a18 a19 a20 a21 a22 a23 a24 a25 a26 := by
  obtain ⟨e1, e2, e3, e4, e5⟩ := hr
  subst hni
  refine br_f h3 ⟨hi, nm_r e1 ⟨hi, nm_r e5 (br_t rfl ⟨hn, br_t h2 (br_f h3 (qz_prom j w l hi e1 e2 hg hd hj hl hw ?_))⟩)⟩⟩
  intro b24 b25 b26 e24 e25 e26
  exact nm_r hx (hp b24 b25 b26 e24 e25 e26)
/-- a word that stores -/
theorem qz_wStore {post : St2 → Prop} {J : Int32 → Int32 → Int32 → Int32 → Int32 → Int32 → Int32 → Int32 → Int32 → Int64 → Int32 → Int32 → (Nat → Int32) → (Nat → Int32) → (Nat → Int32) → (Nat → Int32) → (Nat → Int32) → (Nat → Int32) → (Nat → Int32) → (Nat → Int32) → (Nat → Int32) → (Nat → Int32) → (Nat → Int32) → (Nat → Int32) → (Nat → Int32) → (Nat → Int32) → (Nat → Int32) → (Nat → Int32) → (Nat → Int32) → (Nat → Int32) → (Nat → Int32) → (Nat → Int32) → (Nat → Int32) → (Nat → Int32) → (Nat → Int32) → (Nat → Int32) → (Nat → Int32) → (Nat → Int32) → Prop}
    {x1 x2 x3 f s n v : Int32} (y1 : Int32) (h2 : x2 < 0) (h3 : ¬ x3 < 0) (hi : vp_in x3 300) (hr : qz_row a14 a15 a16 a17 a18 x3.toNatClampNeg 17 (-1) f s n) (hf : vp_in f 8) (hv : a23 f.toNatClampNeg = v) (hn : vp_in n 96) (hx : x1 + 1 = y1)
    (hp : J y1 nc fc lv cp nd pn le wc ac dc sc a1 a2 a3 a4 a5 a6 a7 a8 a9 a10 a11 a12 a13 a14 a15 a16 a17 a18 a19 a20 (upd a21 n.toNatClampNeg v) a22 a23 a24 a25 a26) : wX_step_58 post J x1 x2 x3 0 nc fc lv cp nd pn le wc ac dc sc a1 a2 a3 a4 a5 a6 a7 a8 a9 a10 a11 a12 a13 a14 a15 a16 a17 a18 a19 a20 a21 a22 a23 a24 a25 a26 := by
  obtain ⟨e1, e2, e3, e4, e5⟩ := hr
  subst hv e3
  refine br_f h3 ⟨hi, nm_r e1 ⟨hi, nm_r e5 (br_f (by decide) (br_t rfl ⟨hi, hf, hn, nm_e ?_⟩))⟩⟩
  refine br_t (by decide) (br_t rfl (br_t h2 (br_f h3 ⟨hi, qz_lef e2 (by decide) (nm_r hx hp)⟩)))
/-- a word that calculates -/
theorem qz_wCalc {post : St2 → Prop} {J : Int32 → Int32 → Int32 → Int32 → Int32 → Int32 → Int32 → Int32 → Int32 → Int64 → Int32 → Int32 → (Nat → Int32) → (Nat → Int32) → (Nat → Int32) → (Nat → Int32) → (Nat → Int32) → (Nat → Int32) → (Nat → Int32) → (Nat → Int32) → (Nat → Int32) → (Nat → Int32) → (Nat → Int32) → (Nat → Int32) → (Nat → Int32) → (Nat → Int32) → (Nat → Int32) → (Nat → Int32) → (Nat → Int32) → (Nat → Int32) → (Nat → Int32) → (Nat → Int32) → (Nat → Int32) → (Nat → Int32) → (Nat → Int32) → (Nat → Int32) → (Nat → Int32) → (Nat → Int32) → Prop}
    {x1 x2 x3 x4 f s g n : Int32} (j : Nat) (w l y1 : Int32) (hk : qz_k k) (h2 : ¬ x2 < 0) (h3 : x3 < 0) (hi : vp_in x2 300) (hr : qz_row a14 a15 a16 a17 a18 x2.toNatClampNeg k g f s n) (hg : 0 ≤ g) (hd : vp_in dc 8) (hj : dc.toNatClampNeg = j) (hl : dc + 1 = l) (hw : (x1 + qz_dl k).toInt16.toInt32 = w) (hx : x1 + 1 = y1)
    (hp : ∀ b24 b25 b26 : Nat → Int32, b24 = upd a24 j (vp_nar .byte g) → b25 = upd a25 j x4 → b26 = upd a26 j w → J y1 nc fc lv cp nd pn le wc ac l sc a1 a2 a3 a4 a5 a6 a7 a8 a9 a10 a11 a12 a13 a14 a15 a16 a17 a18 a19 a20 a21 a22 a23 b24 b25 b26) : wX_step_58 post J x1 x2 x3 x4 nc fc lv cp nd pn le wc ac dc sc a1 a2 a3 a4 a5 a6 a7 a8 a9 a10 a11 a12 a13 a14 a15 a16 a17 a18 a19 a20 a21 a22 a23 a24 a25 a26 := by
  obtain ⟨e1, e2, e3, e4, e5⟩ := hr
  have k11 : ¬ k = 11 := by rcases hk with rfl | rfl | rfl | rfl <;> decide
  have k12 : ¬ k = 12 := by rcases hk with rfl | rfl | rfl | rfl <;> decide
  refine br_t h3 (br_f h2 ⟨hi, qz_eqf e1 k11 ⟨hi, qz_eqf e1 k12 (qz_prom j w l hi e1 e2 hg hd hj hl hw ?_)⟩⟩)
  intro b24 b25 b26 e24 e25 e26
  exact br_t h3 (nm_r hx (hp b24 b25 b26 e24 e25 e26))
/-! deliver -/
theorem qz_del0 {post : St2 → Prop} {w : Int32} (hp : post (nc, fc, lv, cp, nd, pn, le, wc, ac, 0, sc, a1, a2, a3, a4, a5, a6, a7, a8, a9, a10, a11, a12, a13, a14, a15, a16, a17, a18, a19, a20, a21, a22, a23, a24, a25, a26)) : wpX_deliver post (nc, fc, lv, cp, nd, pn, le, wc, ac, 0, sc, a1, a2, a3, a4, a5, a6, a7, a8, a9, a10, a11, a12, a13, a14, a15, a16, a17, a18, a19, a20, a21, a22, a23, a24, a25, a26) w := ⟨1, br_t (by decide) hp⟩
theorem qz_delK {post : St2 → Prop} {w r t v : Int32} (h24 : a24 0 = r) (hr : vp_nar .byte r = r) (h25 : a25 0 = v) (h26 : a26 0 = t) (ht : vp_nar .short t = t) (hw : w < t) (hp : ∀ b24 b25 b26 : Nat → Int32, b24 0 = r → b25 0 = v → b26 0 = t → post (nc, fc, lv, cp, nd, pn, le, wc, ac, 1, sc, a1, a2, a3, a4, a5, a6, a7, a8, a9, a10, a11, a12, a13, a14, a15, a16, a17, a18, a19, a20, a21, a22, a23, b24, b25, b26)) : wpX_deliver post (nc, fc, lv, cp, nd, pn, le, wc, ac, 1, sc, a1, a2, a3, a4, a5, a6, a7, a8, a9, a10, a11, a12, a13, a14, a15, a16, a17, a18, a19, a20, a21, a22, a23, a24, a25, a26) w := by
  refine ⟨2, br_f (by decide) ⟨qz_i (by decide), qz_rlt h26 hw ⟨qz_i (by decide), qz_i (by decide), fun b24 e24 => ⟨qz_i (by decide), qz_i (by decide), fun b25 e25 => ⟨qz_i (by decide), qz_i (by decide), fun b26 e26 => nm_r (e' := 1) (by decide) (nm_r (e' := 1) (by decide) (br_t (by decide) (hp b24 b25 b26 ?_ ?_ ?_)))⟩⟩⟩⟩⟩
  · exact qz_uh e24 (by decide) ((congrArg _ h24).trans hr)
  · exact qz_uh e25 (by decide) h25
  · exact qz_uh e26 (by decide) ((congrArg _ h26).trans ht)
theorem qz_delD {post : St2 → Prop} {w r t v : Int32} (j : Nat) (h24 : a24 0 = r) (hr : vp_in r 8) (hj : r.toNatClampNeg = j) (h25 : a25 0 = v) (h26 : a26 0 = t) (hw : ¬ w < t) (hp : post (nc, fc, lv, cp, nd, pn, le, wc, ac, 0, sc, a1, a2, a3, a4, a5, a6, a7, a8, a9, a10, a11, a12, a13, a14, a15, a16, a17, a18, a19, a20, a21, a22, upd a23 j v, a24, a25, a26)) : wpX_deliver post (nc, fc, lv, cp, nd, pn, le, wc, ac, 1, sc, a1, a2, a3, a4, a5, a6, a7, a8, a9, a10, a11, a12, a13, a14, a15, a16, a17, a18, a19, a20, a21, a22, a23, a24, a25, a26) w := by
  subst hj
  subst h24
  subst h25
  exact ⟨2, br_f (by decide) ⟨qz_i (by decide), qz_rlf h26 hw ⟨qz_i (by decide), qz_i (by decide), hr, nm_e (nm_r (e' := 1) (by decide) (br_t (by decide) hp))⟩⟩⟩
theorem qz_delDK {post : St2 → Prop} {w r t v r' t' v' : Int32} (j : Nat) (h24 : a24 0 = r) (hr : vp_in r 8) (hj : r.toNatClampNeg = j) (h25 : a25 0 = v) (h26 : a26 0 = t) (hw : ¬ w < t) (h24' : a24 1 = r') (hr' : vp_nar .byte r' = r') (h25' : a25 1 = v') (h26' : a26 1 = t') (ht' : vp_nar .short t' = t') (hw' : w < t') (hp : ∀ b24 b25 b26 : Nat → Int32, b24 0 = r' → b25 0 = v' → b26 0 = t' → post (nc, fc, lv, cp, nd, pn, le, wc, ac, 1, sc, a1, a2, a3, a4, a5, a6, a7, a8, a9, a10, a11, a12, a13, a14, a15, a16, a17, a18, a19, a20, a21, a22, upd a23 j v, b24, b25, b26)) : wpX_deliver post (nc, fc, lv, cp, nd, pn, le, wc, ac, 2, sc, a1, a2, a3, a4, a5, a6, a7, a8, a9, a10, a11, a12, a13, a14, a15, a16, a17, a18, a19, a20, a21, a22, a23, a24, a25, a26) w := by
  subst hj
  subst h24
  subst h25
  refine ⟨3, br_f (by decide) ⟨qz_i (by decide), qz_rlf h26 hw ⟨qz_i (by decide), qz_i (by decide), hr, nm_e (nm_r (e' := 1) (by decide) ?_)⟩⟩⟩
  refine br_f (by decide) ⟨qz_i (by decide), qz_rlt h26' hw' ⟨qz_i (by decide), qz_i (by decide), fun b24 e24 => ⟨qz_i (by decide), qz_i (by decide), fun b25 e25 => ⟨qz_i (by decide), qz_i (by decide), fun b26 e26 => nm_r (e' := 1) (by decide) (nm_r (e' := 2) (by decide) (br_t (by decide) (hp b24 b25 b26 ?_ ?_ ?_)))⟩⟩⟩⟩
  · exact qz_uh e24 (by decide) ((congrArg _ h24').trans hr')
  · exact qz_uh e25 (by decide) h25'
  · exact qz_uh e26 (by decide) ((congrArg _ h26').trans ht')
theorem qz_delDD {post : St2 → Prop} {w r t v r' t' v' : Int32} (j j' : Nat) (h24 : a24 0 = r) (hr : vp_in r 8) (hj : r.toNatClampNeg = j) (h25 : a25 0 = v) (h26 : a26 0 = t) (hw : ¬ w < t) (h24' : a24 1 = r') (hr' : vp_in r' 8) (hj' : r'.toNatClampNeg = j') (h25' : a25 1 = v') (h26' : a26 1 = t') (hw' : ¬ w < t') (hp : post (nc, fc, lv, cp, nd, pn, le, wc, ac, 0, sc, a1, a2, a3, a4, a5, a6, a7, a8, a9, a10, a11, a12, a13, a14, a15, a16, a17, a18, a19, a20, a21, a22, upd (upd a23 j v) j' v', a24, a25, a26)) : wpX_deliver post (nc, fc, lv, cp, nd, pn, le, wc, ac, 2, sc, a1, a2, a3, a4, a5, a6, a7, a8, a9, a10, a11, a12, a13, a14, a15, a16, a17, a18, a19, a20, a21, a22, a23, a24, a25, a26) w := by
  subst hj hj'
  subst h24 h24'
  subst h25 h25'
  refine ⟨3, br_f (by decide) ⟨qz_i (by decide), qz_rlf h26 hw ⟨qz_i (by decide), qz_i (by decide), hr, nm_e (nm_r (e' := 1) (by decide) ?_)⟩⟩⟩
  exact br_f (by decide) ⟨qz_i (by decide), qz_rlf h26' hw' ⟨qz_i (by decide), qz_i (by decide), hr', nm_e (nm_r (e' := 2) (by decide) (br_t (by decide) hp))⟩⟩
end
end
section
/-! ===== the six words, one after the other ===== -/
theorem qz_m1 {a : Nat → Int32} {j : Nat} {v w : Int32} (h : a j = v) (e : v - 1 = w) : a j - 1 = w := by rw [h, e]
section
variable {nc fc lv cp nd pn le wc : Int32} {ac : Int64} {dc sc : Int32} {a1 a2 a3 a4 a5 a6 a7 a8 a9 a10 a11 a12 a13 a14 a15 a16 a17 a18 a19 a20 a21 a22 a23 a24 a25 a26 : Nat → Int32}
variable {k n : Int32}
theorem qz_w0 {post : St2 → Prop} {fu : Nat} (hP : qz_P k n a14 a15 a16 a17 a18) (hW : qz_W a20)
    (hp : ∀ b24 b25 b26 : Nat → Int32, b24 0 = 0 → b25 0 = a21 0 → b26 0 = 2 → wX_step_7 post fu 1 nc fc lv cp nd pn le 6 ac 1 sc a1 a2 a3 a4 a5 a6 a7 a8 a9 a10 a11 a12 a13 a14 a15 a16 a17 a18 a19 a20 a21 a22 a23 b24 b25 b26) : wX_step_7 post (fu + 1) 0 nc fc lv cp nd pn le 6 ac 0 sc a1 a2 a3 a4 a5 a6 a7 a8 a9 a10 a11 a12 a13 a14 a15 a16 a17 a18 a19 a20 a21 a22 a23 a24 a25 a26 := by
  obtain ⟨r0, r1, r2, r3, r4, r5⟩ := hP
  obtain ⟨w0, w1, w2, w3, w4, w5, w6, w7, w8, w9, w10, w11⟩ := hW
  refine br_f (by decide) (qz_del0 ⟨qz_i (by decide), nm_r (qz_m1 w0 (w := -1) (by decide)) ⟨qz_i (by decide), nm_r (qz_m1 w1 (w := 0) (by decide)) (br_t (by decide) ?_)⟩⟩)
  refine qz_wLoad 0 0 2 1 1 (by decide) (by decide) (qz_i (by decide)) r0 (by decide) (qz_i (by decide)) (by decide) (qz_i (by decide)) (by decide) (by decide) (by decide) (by decide) (fun b24 b25 b26 e24 e25 e26 => ?_)
  exact hp b24 b25 b26 (qz_uh e24 rfl (by decide)) (qz_uh e25 rfl rfl) (qz_uh e26 rfl rfl)
theorem qz_w1 {post : St2 → Prop} {fu : Nat} {x : Int32} (hP : qz_P k n a14 a15 a16 a17 a18) (hW : qz_W a20) (h24 : a24 0 = 0) (h25 : a25 0 = x) (h26 : a26 0 = 2)
    (hp : ∀ b24 b25 b26 : Nat → Int32, b24 0 = 0 → b25 0 = x → b26 0 = 2 → b24 1 = 1 → b25 1 = a21 1 → b26 1 = 3 → wX_step_7 post fu 2 nc fc lv cp nd pn le 6 ac 2 sc a1 a2 a3 a4 a5 a6 a7 a8 a9 a10 a11 a12 a13 a14 a15 a16 a17 a18 a19 a20 a21 a22 a23 b24 b25 b26) : wX_step_7 post (fu + 1) 1 nc fc lv cp nd pn le 6 ac 1 sc a1 a2 a3 a4 a5 a6 a7 a8 a9 a10 a11 a12 a13 a14 a15 a16 a17 a18 a19 a20 a21 a22 a23 a24 a25 a26 := by
  obtain ⟨r0, r1, r2, r3, r4, r5⟩ := hP
  obtain ⟨w0, w1, w2, w3, w4, w5, w6, w7, w8, w9, w10, w11⟩ := hW
  refine br_f (by decide) (qz_delK h24 (by decide) h25 h26 (by decide) (by decide) (fun c24 c25 c26 f24 f25 f26 => ?_))
  refine ⟨qz_i (by decide), nm_r (qz_m1 w2 (w := -1) (by decide)) ⟨qz_i (by decide), nm_r (qz_m1 w3 (w := 1) (by decide)) (br_t (by decide) ?_)⟩⟩
  refine qz_wLoad 1 1 3 2 2 (by decide) (by decide) (qz_i (by decide)) r1 (by decide) (qz_i (by decide)) (by decide) (qz_i (by decide)) (by decide) (by decide) (by decide) (by decide) (fun b24 b25 b26 e24 e25 e26 => ?_)
  exact hp b24 b25 b26 (qz_un e24 (by decide) f24) (qz_un e25 (by decide) f25) (qz_un e26 (by decide) f26) (qz_uh e24 rfl (by decide)) (qz_uh e25 rfl rfl) (qz_uh e26 rfl rfl)
theorem qz_w2 {post : St2 → Prop} {fu : Nat} {x y : Int32} (hP : qz_P k n a14 a15 a16 a17 a18) (hW : qz_W a20) (h24 : a24 0 = 0) (h25 : a25 0 = x) (h26 : a26 0 = 2) (h24' : a24 1 = 1) (h25' : a25 1 = y) (h26' : a26 1 = 3)
    (hp : ∀ b23 b24 b25 b26 : Nat → Int32, b23 0 = x → b24 0 = 1 → b25 0 = y → b26 0 = 3 → b24 1 = 3 → b25 1 = a21 11 → b26 1 = 4 → wX_step_7 post fu 3 nc fc lv cp nd pn le 6 ac 2 sc a1 a2 a3 a4 a5 a6 a7 a8 a9 a10 a11 a12 a13 a14 a15 a16 a17 a18 a19 a20 a21 a22 b23 b24 b25 b26) : wX_step_7 post (fu + 1) 2 nc fc lv cp nd pn le 6 ac 2 sc a1 a2 a3 a4 a5 a6 a7 a8 a9 a10 a11 a12 a13 a14 a15 a16 a17 a18 a19 a20 a21 a22 a23 a24 a25 a26 := by
  obtain ⟨r0, r1, r2, r3, r4, r5⟩ := hP
  obtain ⟨w0, w1, w2, w3, w4, w5, w6, w7, w8, w9, w10, w11⟩ := hW
  refine br_f (by decide) (qz_delDK 0 h24 (qz_i (by decide)) (by decide) h25 h26 (by decide) h24' (by decide) h25' h26' (by decide) (by decide) (fun c24 c25 c26 f24 f25 f26 => ?_))
  refine ⟨qz_i (by decide), nm_r (qz_m1 w4 (w := -1) (by decide)) ⟨qz_i (by decide), nm_r (qz_m1 w5 (w := 3) (by decide)) (br_t (by decide) ?_)⟩⟩
  refine qz_wLoad 11 1 4 2 3 (by decide) (by decide) (qz_i (by decide)) r3 (by decide) (qz_i (by decide)) (by decide) (qz_i (by decide)) (by decide) (by decide) (by decide) (by decide) (fun b24 b25 b26 e24 e25 e26 => ?_)
  exact hp _ b24 b25 b26 pk_us (qz_un e24 (by decide) f24) (qz_un e25 (by decide) f25) (qz_un e26 (by decide) f26) (qz_uh e24 rfl (by decide)) (qz_uh e25 rfl rfl) (qz_uh e26 rfl rfl)
theorem qz_w3 {post : St2 → Prop} {fu : Nat} {x y m : Int32} (hk : qz_k k) (hP : qz_P k n a14 a15 a16 a17 a18) (hW : qz_W a20) (h23 : a23 0 = x) (h24 : a24 0 = 1) (h25 : a25 0 = y) (h26 : a26 0 = 3) (h24' : a24 1 = 3) (h25' : a25 1 = m) (h26' : a26 1 = 4)
    (hp : ∀ b23 b24 b25 b26 : Nat → Int32, b24 0 = 3 → b25 0 = m → b26 0 = 4 → b24 1 = 2 → b25 1 = qz_v k x y → b26 1 = 3 + qz_dl k → wX_step_7 post fu 4 nc fc lv cp nd pn le 6 ac 2 sc a1 a2 a3 a4 a5 a6 a7 a8 a9 a10 a11 a12 a13 a14 a15 a16 a17 a18 a19 a20 a21 a22 b23 b24 b25 b26) : wX_step_7 post (fu + 1) 3 nc fc lv cp nd pn le 6 ac 2 sc a1 a2 a3 a4 a5 a6 a7 a8 a9 a10 a11 a12 a13 a14 a15 a16 a17 a18 a19 a20 a21 a22 a23 a24 a25 a26 := by
  obtain ⟨r0, r1, r2, r3, r4, r5⟩ := hP
  obtain ⟨w0, w1, w2, w3, w4, w5, w6, w7, w8, w9, w10, w11⟩ := hW
  have hw : (3 + qz_dl k).toInt16.toInt32 = 3 + qz_dl k := by rcases hk with rfl | rfl | rfl | rfl <;> decide
  refine br_f (by decide) (qz_delDK 1 h24 (qz_i (by decide)) (by decide) h25 h26 (by decide) h24' (by decide) h25' h26' (by decide) (by decide) (fun c24 c25 c26 f24 f25 f26 => ?_))
  refine ⟨qz_i (by decide), nm_r (qz_m1 w6 (w := 2) (by decide)) ⟨qz_i (by decide), nm_r (qz_m1 w7 (w := -1) (by decide)) (br_f (by decide) ?_)⟩⟩
  refine qz_calc hk (qz_i (by decide)) r2.1 r2.2.2.2.2 r2.2.2.1 r2.2.2.2.1 (qz_i (by decide)) (qz_i (by decide)) (x := x) (y := y) ((pk_un (by decide)).trans h23) pk_us ?_
  refine qz_wCalc 1 (3 + qz_dl k) 2 4 hk (by decide) (by decide) (qz_i (by decide)) r2 (by decide) (qz_i (by decide)) (by decide) (by decide) hw (by decide) (fun b24 b25 b26 e24 e25 e26 => ?_)
  exact hp _ b24 b25 b26 (qz_un e24 (by decide) f24) (qz_un e25 (by decide) f25) (qz_un e26 (by decide) f26) (qz_uh e24 rfl (by decide)) (qz_uh e25 rfl rfl) (qz_uh e26 rfl rfl)
theorem qz_w5 {post : St2 → Prop} {fu : Nat} {v : Int32} (hP : qz_P k n a14 a15 a16 a17 a18) (hW : qz_W a20) (hd : (dc = 0 ∧ a23 2 = v) ∨ (dc = 1 ∧ a24 0 = 2 ∧ a25 0 = v ∧ a26 0 = 5))
    (hp : ∀ b23 : Nat → Int32, post (nc, fc, lv, cp, nd, pn, le, 6, ac, 0, sc, a1, a2, a3, a4, a5, a6, a7, a8, a9, a10, a11, a12, a13, a14, a15, a16, a17, a18, a19, a20, upd a21 11 v, a22, b23, a24, a25, a26)) : wX_step_7 post (fu + 2) 5 nc fc lv cp nd pn le 6 ac dc sc a1 a2 a3 a4 a5 a6 a7 a8 a9 a10 a11 a12 a13 a14 a15 a16 a17 a18 a19 a20 a21 a22 a23 a24 a25 a26 := by
  obtain ⟨r0, r1, r2, r3, r4, r5⟩ := hP
  obtain ⟨w0, w1, w2, w3, w4, w5, w6, w7, w8, w9, w10, w11⟩ := hW
  rcases hd with ⟨rfl, h23⟩ | ⟨rfl, h24, h25, h26⟩
  · refine br_f (by decide) (qz_del0 ⟨qz_i (by decide), nm_r (qz_m1 w10 (w := -1) (by decide)) ⟨qz_i (by decide), nm_r (qz_m1 w11 (w := 5) (by decide)) (br_t (by decide) ?_)⟩⟩)
    exact qz_wStore 6 (by decide) (by decide) (qz_i (by decide)) r5 (qz_i (by decide)) h23 (qz_i (by decide)) (by decide) (br_t (by decide) (hp a23))
  · refine br_f (by decide) (qz_delD 2 h24 (qz_i (by decide)) (by decide) h25 h26 (by decide) ⟨qz_i (by decide), nm_r (qz_m1 w10 (w := -1) (by decide)) ⟨qz_i (by decide), nm_r (qz_m1 w11 (w := 5) (by decide)) (br_t (by decide) ?_)⟩⟩)
    exact qz_wStore 6 (by decide) (by decide) (qz_i (by decide)) r5 (qz_i (by decide)) pk_us (qz_i (by decide)) (by decide) (br_t (by decide) (hp _))
theorem qz_w4 {post : St2 → Prop} {fu : Nat} {m v : Int32} (hk : qz_k k) (hn : qz_n n) (hP : qz_P k n a14 a15 a16 a17 a18) (hW : qz_W a20) (h24 : a24 0 = 3) (h25 : a25 0 = m) (h26 : a26 0 = 4) (h24' : a24 1 = 2) (h25' : a25 1 = v) (h26' : a26 1 = 3 + qz_dl k)
    (hp : ∀ (b23 b24 b25 b26 : Nat → Int32), post (nc, fc, lv, cp, nd, pn, le, 6, ac, 0, sc, a1, a2, a3, a4, a5, a6, a7, a8, a9, a10, a11, a12, a13, a14, a15, a16, a17, a18, a19, a20, upd (upd a21 n.toNatClampNeg m) 11 v, a22, b23, b24, b25, b26)) : wX_step_7 post (fu + 3) 4 nc fc lv cp nd pn le 6 ac 2 sc a1 a2 a3 a4 a5 a6 a7 a8 a9 a10 a11 a12 a13 a14 a15 a16 a17 a18 a19 a20 a21 a22 a23 a24 a25 a26 := by
  have hPP := hP
  have hWW := hW
  obtain ⟨r0, r1, r2, r3, r4, r5⟩ := hP
  obtain ⟨w0, w1, w2, w3, w4, w5, w6, w7, w8, w9, w10, w11⟩ := hW
  have hn96 : vp_in n 96 := by rcases hn with rfl | rfl | rfl | rfl <;> exact qz_i (by decide)
  have hq : 3 + qz_dl k = 4 ∨ 3 + qz_dl k = 5 := by rcases hk with rfl | rfl | rfl | rfl <;> decide
  rcases hq with hq | hq
  · rw [hq] at h26'
    refine br_f (by decide) (qz_delDD 3 2 h24 (qz_i (by decide)) (by decide) h25 h26 (by decide) h24' (qz_i (by decide)) (by decide) h25' h26' (by decide) ?_)
    refine ⟨qz_i (by decide), nm_r (qz_m1 w8 (w := -1) (by decide)) ⟨qz_i (by decide), nm_r (qz_m1 w9 (w := 4) (by decide)) (br_t (by decide) ?_)⟩⟩
    refine qz_wStore 5 (by decide) (by decide) (qz_i (by decide)) r4 (qz_i (by decide)) (v := m) ((pk_un (by decide)).trans pk_us) hn96 (by decide) ?_
    exact qz_w5 hPP hWW (Or.inl ⟨rfl, pk_us⟩) (fun b23 => hp b23 _ _ _)
  · rw [hq] at h26'
    refine br_f (by decide) (qz_delDK 3 h24 (qz_i (by decide)) (by decide) h25 h26 (by decide) h24' (by decide) h25' h26' (by decide) (by decide) (fun c24 c25 c26 f24 f25 f26 => ?_))
    refine ⟨qz_i (by decide), nm_r (qz_m1 w8 (w := -1) (by decide)) ⟨qz_i (by decide), nm_r (qz_m1 w9 (w := 4) (by decide)) (br_t (by decide) ?_)⟩⟩
    refine qz_wStore 5 (by decide) (by decide) (qz_i (by decide)) r4 (qz_i (by decide)) (v := m) pk_us hn96 (by decide) ?_
    exact qz_w5 hPP hWW (Or.inr ⟨rfl, f24, f25, f26⟩) (fun b23 => hp b23 _ _ _)
/-- one step: the delayed value goes to the output's cell, the new value to the delay's cell -/
theorem qz_step {post : St2 → Prop} {x y : Int32} (hk : qz_k k) (hn : qz_n n) (hP : qz_P k n a14 a15 a16 a17 a18) (hW : qz_W a20) (hx : a21 0 = x) (hy : a21 1 = y)
    (hp : ∀ (d : Int32) (b21 b23 b24 b25 b26 : Nat → Int32), b21 0 = x → b21 1 = y → b21 11 = qz_v k x y → b21 n.toNatClampNeg = a21 11 → post (nc, fc, lv, cp, nd, pn, le, 6, ac, d, sc, a1, a2, a3, a4, a5, a6, a7, a8, a9, a10, a11, a12, a13, a14, a15, a16, a17, a18, a19, a20, b21, a22, b23, b24, b25, b26)) : wpX_step post (nc, fc, lv, cp, nd, pn, le, 6, ac, dc, sc, a1, a2, a3, a4, a5, a6, a7, a8, a9, a10, a11, a12, a13, a14, a15, a16, a17, a18, a19, a20, a21, a22, a23, a24, a25, a26) := by
  refine ⟨7, qz_w0 hP hW (fun b24 b25 b26 f24 f25 f26 => ?_)⟩
  refine qz_w1 hP hW f24 f25 f26 (fun b24 b25 b26 f24 f25 f26 f24' f25' f26' => ?_)
  refine qz_w2 hP hW f24 f25 f26 f24' f25' f26' (fun b23 b24 b25 b26 f23 f24 f25 f26 f24' f25' f26' => ?_)
  refine qz_w3 hk hP hW f23 f24 f25 f26 f24' f25' f26' (fun b23 b24 b25 b26 f24 f25 f26 f24' f25' f26' => ?_)
  refine qz_w4 hk hn hP hW f24 f25 f26 f24' f25' f26' (fun b23 b24 b25 b26 => ?_)
  rw [hx, hy]
  have hn' : n.toNatClampNeg ≠ 0 ∧ n.toNatClampNeg ≠ 1 ∧ n.toNatClampNeg ≠ 11 := by rcases hn with rfl | rfl | rfl | rfl <;> decide
  refine hp _ _ _ _ _ _ ?_ ?_ ?_ ?_
  · rw [pk_un (by decide), pk_un (fun z => hn'.1 z.symm), hx]
  · rw [pk_un (by decide), pk_un (fun z => hn'.2.1 z.symm), hy]
  · rw [pk_us]
  · rw [pk_un hn'.2.2, pk_us]
end
end
section
/-! ===== compile, run ===== -/
section
variable {nc fc lv cp nd pn le wc : Int32} {ac : Int64} {dc sc : Int32} {a1 a2 a3 a4 a5 a6 a7 a8 a9 a10 a11 a12 a13 a14 a15 a16 a17 a18 a19 a20 a21 a22 a23 a24 a25 a26 : Nat → Int32}
variable {k : Int32}
theorem qz_c103_0 {post : St2 → Prop} (hk : qz_k k) (h3 : qz_K k a3) (h4 : qz_X a4) (h10 : qz_S a10) (h122 : a12 2 = 2) (r0 : qz_row a14 a15 a16 a17 a18 0 16 0 (-1) (-1) 0) (r1 : qz_row a14 a15 a16 a17 a18 1 16 1 (-1) (-1) 1) (r2 : qz_row a14 a15 a16 a17 a18 2 k 2 0 1 1) (r3 : qz_row a14 a15 a16 a17 a18 3 16 3 (-1) (-1) 11) (r4 : qz_row a14 a15 a16 a17 a18 4 17 (-1) 3 (-1) 2)
    (hp : ∀ b14 b15 b16 b17 b18 b19 b20 : Nat → Int32, qz_P k 2 b14 b15 b16 b17 b18 → qz_W b20 → post (4, fc, 2, cp, 15, 0, 6, 6, ac, dc, sc, a1, a2, a3, a4, a5, a6, a7, a8, a9, a10, a11, a12, a13, b14, b15, b16, b17, b18, b19, b20, a21, a22, a23, a24, a25, a26)) : ∃ fu, wX_compile_103 post fu 0 4 fc 2 cp 15 0 5 wc ac dc sc a1 a2 a3 a4 a5 a6 a7 a8 a9 a10 a11 a12 a13 a14 a15 a16 a17 a18 a19 a20 a21 a22 a23 a24 a25 a26 := by
  have h33 := h3
  obtain ⟨h30, h31, h32, h33⟩ := h33
  refine ⟨5, ?_⟩
  refine br_f (by decide) (qz_need (by decide) (br_f (by decide) ⟨qz_i (by decide), qz_eqf h30 (by decide) (nm_r (e' := 1) (by decide) ?_)⟩))
  refine br_f (by decide) (qz_need (by decide) (br_f (by decide) ⟨qz_i (by decide), qz_eqf h31 (by decide) (nm_r (e' := 2) (by decide) ?_)⟩))
  refine br_f (by decide) (qz_need (by decide) (br_f (by decide) ⟨qz_i (by decide), qz_eqf h32 (qz_n5 hk) (nm_r (e' := 3) (by decide) ?_)⟩))
  refine br_f (by decide) (qz_need (by decide) (br_f (by decide) ⟨qz_i (by decide), qz_eqt h33 (by decide) (qz_delay h4 h10 h122 (nm_r (e' := 4) (by decide) ?_))⟩))
  have hP : qz_P k 2 (upd a14 5 17) (upd a15 5 (-1)) (upd a16 5 2) (upd a17 5 (-1)) (upd a18 5 11) := ⟨r0, r1, r2, r3, r4, ⟨rfl, rfl, rfl, rfl, rfl⟩⟩
  refine br_t (by decide) (qz_sched hk (by unfold qz_n; decide) hP (fun b19 b20 hW => ?_))
  exact hp _ _ _ _ _ b19 b20 hP hW
theorem qz_c74_0 {post : St2 → Prop} (hk : qz_k k) (h3 : qz_K k a3) (h4 : qz_X a4) (h5 : a5 2 = 1) (h10 : qz_S a10) (h90 : a9 0 = 3) (h91 : a9 1 = -1) (h92 : a9 2 = -1) (h93 : a9 3 = -1) (h11 : ∀ j, j < 8 → a11 j = -1)
    (hp : ∀ b11 b12 b14 b15 b16 b17 b18 b19 b20 : Nat → Int32, qz_P k 2 b14 b15 b16 b17 b18 → qz_W b20 → post (4, fc, 2, cp, 15, 0, 6, 6, ac, dc, sc, a1, a2, a3, a4, a5, a6, a7, a8, a9, a10, b11, b12, a13, b14, b15, b16, b17, b18, b19, b20, a21, a22, a23, a24, a25, a26)) : ∃ fu, wX_compile_74 post fu 0 4 fc 2 cp 15 0 0 wc ac dc sc a1 a2 a3 a4 a5 a6 a7 a8 a9 a10 a11 a12 a13 a14 a15 a16 a17 a18 a19 a20 a21 a22 a23 a24 a25 a26 := by
  have h9 : qz_N a9 := fun i hi => by
    match i, hi with
    | 0, _ => exact Or.inr h90
    | 1, _ => exact Or.inl h91
    | 2, _ => exact Or.inl h92
    | 3, _ => exact Or.inl h93
  have h110 : a11 0 = -1 := h11 0 (by decide)
  have h111 : a11 1 = -1 := h11 1 (by decide)
  have h112 : a11 2 = -1 := h11 2 (by decide)
  have h113 : a11 3 = -1 := h11 3 (by decide)
  have h114 : a11 4 = -1 := h11 4 (by decide)
  have h115 : a11 5 = -1 := h11 5 (by decide)
  have h116 : a11 6 = -1 := h11 6 (by decide)
  have h117 : a11 7 = -1 := h11 7 (by decide)
  refine ⟨5, ?_⟩
  refine br_f (by decide) (qz_need (by decide) (br_f (by decide) (qz_node0 hk h3 h4 h10 h9 h110 h111 h112 h113 h114 h115 h116 h117 (nm_r (e' := 1) (by decide) ?_))))
  refine br_f (by decide) (qz_need (by decide) (br_f (by decide) (qz_node1 hk h3 h4 h10 h9 rfl h111 h112 h113 h114 h115 h116 h117 (nm_r (e' := 2) (by decide) ?_))))
  refine br_f (by decide) (qz_need (by decide) (br_f (by decide) (qz_node2 hk h3 h4 h5 h10 h9 rfl rfl h112 h113 h114 h115 h116 h117 (nm_r (e' := 3) (by decide) ?_))))
  refine br_f (by decide) (qz_need (by decide) (br_f (by decide) (qz_node3_0 hk h3 h4 h10 h90 h91 h92 h93 rfl rfl rfl h113 h114 h115 h116 h117 (nm_r (e' := 4) (by decide) ?_))))
  refine br_t (by decide) (qz_c103_0 hk h3 h4 h10 rfl ⟨rfl, rfl, rfl, rfl, rfl⟩ ⟨rfl, rfl, rfl, rfl, rfl⟩ ⟨rfl, rfl, rfl, rfl, rfl⟩ ⟨rfl, rfl, rfl, rfl, rfl⟩ ⟨rfl, rfl, rfl, rfl, rfl⟩ ?_)
  exact fun b14 b15 b16 b17 b18 b19 b20 hP hW => hp _ _ b14 b15 b16 b17 b18 b19 b20 hP hW
theorem qz_c46_0 {post : St2 → Prop} (hk : qz_k k) (h3 : qz_K k a3) (h4 : qz_X a4) (h5 : a5 2 = 1) (h10 : qz_S a10) (h90 : a9 0 = 3) (h91 : a9 1 = -1) (h92 : a9 2 = -1) (h93 : a9 3 = -1) (h11 : ∀ j, j < 8 → a11 j = -1)
    (hp : ∀ b11 b12 b13 b14 b15 b16 b17 b18 b19 b20 : Nat → Int32, qz_P k 2 b14 b15 b16 b17 b18 → qz_W b20 → post (4, fc, 2, cp, 15, 0, 6, 6, ac, dc, sc, a1, a2, a3, a4, a5, a6, a7, a8, a9, a10, b11, b12, b13, b14, b15, b16, b17, b18, b19, b20, a21, a22, a23, a24, a25, a26)) : ∃ fu, wX_compile_46 post 4 fc 2 cp 15 0 0 wc ac dc sc fu 0 a1 a2 a3 a4 a5 a6 a7 a8 a9 a10 a11 a12 a13 a14 a15 a16 a17 a18 a19 a20 a21 a22 a23 a24 a25 a26 :=
  pk_loop (σ := (Nat → Int32) × (Nat → Int32)) (fun m i s => wX_compile_46 post 4 fc 2 cp 15 0 0 wc ac dc sc m (nI i) a1 a2 a3 a4 a5 a6 a7 a8 a9 a10 a11 s.1 s.2 a14 a15 a16 a17 a18 a19 a20 a21 a22 a23 a24 a25 a26) (fun _ _ => True) 24 0 (a12, a13) (by omega) trivial
    (fun m s _ => pk_le 24 24 (fun _ => qz_c74_0 hk h3 h4 h5 h10 h90 h91 h92 h93 h11 (fun b11 b12 b14 b15 b16 b17 b18 b19 b20 hP hW => hp b11 b12 s.2 b14 b15 b16 b17 b18 b19 b20 hP hW)) (fun z => absurd z (by omega)))
    (fun m i s hi _ hw => pk_le 24 i (fun z => absurd z (by omega)) (fun _ => ⟨pk_in i 24 hi, nm_e ⟨pk_in i 24 hi, nm_e (nm_r (nI_1 i) (hw (_, _) trivial))⟩⟩))
theorem qz_c25_0 {post : St2 → Prop} (hk : qz_k k) (h3 : qz_K k a3) (h4 : qz_X a4) (h5 : a5 2 = 1) (h10 : qz_S a10) (h90 : a9 0 = 3) (h91 : a9 1 = -1) (h92 : a9 2 = -1) (h93 : a9 3 = -1)
    (hp : ∀ b11 b12 b13 b14 b15 b16 b17 b18 b19 b20 : Nat → Int32, qz_P k 2 b14 b15 b16 b17 b18 → qz_W b20 → post (4, fc, 2, cp, 15, 0, 6, 6, ac, dc, sc, a1, a2, a3, a4, a5, a6, a7, a8, a9, a10, b11, b12, b13, b14, b15, b16, b17, b18, b19, b20, a21, a22, a23, a24, a25, a26)) : ∃ fu, wX_compile_25 post 4 fc 2 cp 15 0 0 wc ac dc sc fu 0 a1 a2 a3 a4 a5 a6 a7 a8 a9 a10 a11 a12 a13 a14 a15 a16 a17 a18 a19 a20 a21 a22 a23 a24 a25 a26 := by
  refine pk_loop (fun m i s => wX_compile_25 post 4 fc 2 cp 15 0 0 wc ac dc sc m (nI i) a1 a2 a3 a4 a5 a6 a7 a8 a9 a10 s a12 a13 a14 a15 a16 a17 a18 a19 a20 a21 a22 a23 a24 a25 a26) (fun i s => ∀ j, j < i → s j = -1) 8 0 a11 (by omega) (fun j hj => absurd hj (by omega)) ?_ ?_
  · intro m s h
    exact pk_le 8 8 (fun _ => qz_c46_0 hk h3 h4 h5 h10 h90 h91 h92 h93 h hp) (fun z => absurd z (by omega))
  · intro m i s hi h hw
    refine pk_le 8 i (fun z => absurd z (by omega)) (fun _ => ⟨pk_in i 8 hi, nm_e (nm_r (nI_1 i) (hw _ ?_))⟩)
    intro j hj
    rw [nI_clamp (by omega)]
    by_cases e : j = i
    · rw [e, pk_us]
    · rw [pk_un e]
      exact h j (by omega)
theorem qz_compile_0 {post : St2 → Prop} (hk : qz_k k) (h3 : qz_K k a3) (h4 : qz_X a4) (h5 : a5 2 = 1) (h90 : a9 0 = 3) (h91 : a9 1 = -1) (h92 : a9 2 = -1) (h93 : a9 3 = -1)
    (hp : ∀ b10 b11 b12 b13 b14 b15 b16 b17 b18 b19 b20 : Nat → Int32, qz_P k 2 b14 b15 b16 b17 b18 → qz_W b20 → post (4, fc, 2, 1, 15, 0, 6, 6, ac, dc, sc, a1, a2, a3, a4, a5, a6, a7, a8, a9, b10, b11, b12, b13, b14, b15, b16, b17, b18, b19, b20, a21, a22, a23, a24, a25, a26)) : wpX_compile post (4, fc, 2, cp, nd, pn, le, wc, ac, dc, sc, a1, a2, a3, a4, a5, a6, a7, a8, a9, a10, a11, a12, a13, a14, a15, a16, a17, a18, a19, a20, a21, a22, a23, a24, a25, a26) := by
  unfold wpX_compile
  dsimp only
  refine qz_findSame hk h3 h4 (fun b10 h10 => ?_)
  refine qz_findNeeded0 hk h3 h4 h5 h10 h90 h91 h92 h93 ?_
  exact qz_c25_0 hk h3 h4 h5 h10 h90 h91 h92 h93 (fun b11 b12 b13 b14 b15 b16 b17 b18 b19 b20 hP hW => hp b10 b11 b12 b13 b14 b15 b16 b17 b18 b19 b20 hP hW)
theorem qz_run_0 {post : Int32 → St2 → Prop} {x y : Int32} (hk : qz_k k) (h3 : qz_K k a3) (h4 : qz_X a4) (h5 : a5 2 = 1) (h90 : a9 0 = 3) (h91 : a9 1 = -1) (h92 : a9 2 = -1) (h93 : a9 3 = -1) (hx : a21 0 = x) (hy : a21 1 = y)
    (hp : ∀ (d t : Int32) (b10 b11 b12 b13 b14 b15 b16 b17 b18 b19 b20 b21 b23 b24 b25 b26 : Nat → Int32), b21 2 = qz_v k x y → post 2 (4, fc, 2, 1, 15, 0, 6, 6, ac, d, t, a1, a2, a3, a4, a5, a6, a7, a8, a9, b10, b11, b12, b13, b14, b15, b16, b17, b18, b19, b20, b21, a22, b23, b24, b25, b26)) : wpX_run post (4, fc, 2, 0, nd, pn, le, wc, ac, dc, sc, a1, a2, a3, a4, a5, a6, a7, a8, a9, a10, a11, a12, a13, a14, a15, a16, a17, a18, a19, a20, a21, a22, a23, a24, a25, a26) 2 := by
  refine qz_valid hk h3 h4 (br_f (by decide) (br_t (by decide) (br_t (by decide) (br_t rfl ?_))))
  refine qz_compile_0 hk h3 h4 h5 h90 h91 h92 h93 (fun b10 b11 b12 b13 b14 b15 b16 b17 b18 b19 b20 hP hW => ?_)
  have hn : qz_n 2 := by unfold qz_n; decide
  refine ⟨3, br_f (by decide) (qz_step hk hn hP hW hx hy (fun d b21 b23 b24 b25 b26 f0 f1 f11 fn => nm_r (e' := 1) (by decide) ?_))⟩
  refine br_f (by decide) (qz_step hk hn hP hW f0 f1 (fun d c21 c23 c24 c25 c26 g0 g1 g11 gn => nm_r (e' := 2) (by decide) ?_))
  exact br_t (by decide) (nm_e (hp _ _ b10 b11 b12 b13 b14 b15 b16 b17 b18 b19 b20 c21 c23 c24 c25 c26 (gn.trans f11)))
theorem qz_c103_1 {post : St2 → Prop} (hk : qz_k k) (h3 : qz_K k a3) (h4 : qz_X a4) (h10 : qz_S a10) (h122 : a12 2 = 2) (r0 : qz_row a14 a15 a16 a17 a18 0 16 0 (-1) (-1) 0) (r1 : qz_row a14 a15 a16 a17 a18 1 16 1 (-1) (-1) 1) (r2 : qz_row a14 a15 a16 a17 a18 2 k 2 0 1 1) (r3 : qz_row a14 a15 a16 a17 a18 3 16 3 (-1) (-1) 11) (r4 : qz_row a14 a15 a16 a17 a18 4 17 (-1) 3 (-1) 3)
    (hp : ∀ b14 b15 b16 b17 b18 b19 b20 : Nat → Int32, qz_P k 3 b14 b15 b16 b17 b18 → qz_W b20 → post (4, fc, 2, cp, 15, 0, 6, 6, ac, dc, sc, a1, a2, a3, a4, a5, a6, a7, a8, a9, a10, a11, a12, a13, b14, b15, b16, b17, b18, b19, b20, a21, a22, a23, a24, a25, a26)) : ∃ fu, wX_compile_103 post fu 0 4 fc 2 cp 15 0 5 wc ac dc sc a1 a2 a3 a4 a5 a6 a7 a8 a9 a10 a11 a12 a13 a14 a15 a16 a17 a18 a19 a20 a21 a22 a23 a24 a25 a26 := by
  have h33 := h3
  obtain ⟨h30, h31, h32, h33⟩ := h33
  refine ⟨5, ?_⟩
  refine br_f (by decide) (qz_need (by decide) (br_f (by decide) ⟨qz_i (by decide), qz_eqf h30 (by decide) (nm_r (e' := 1) (by decide) ?_)⟩))
  refine br_f (by decide) (qz_need (by decide) (br_f (by decide) ⟨qz_i (by decide), qz_eqf h31 (by decide) (nm_r (e' := 2) (by decide) ?_)⟩))
  refine br_f (by decide) (qz_need (by decide) (br_f (by decide) ⟨qz_i (by decide), qz_eqf h32 (qz_n5 hk) (nm_r (e' := 3) (by decide) ?_)⟩))
  refine br_f (by decide) (qz_need (by decide) (br_f (by decide) ⟨qz_i (by decide), qz_eqt h33 (by decide) (qz_delay h4 h10 h122 (nm_r (e' := 4) (by decide) ?_))⟩))
  have hP : qz_P k 3 (upd a14 5 17) (upd a15 5 (-1)) (upd a16 5 2) (upd a17 5 (-1)) (upd a18 5 11) := ⟨r0, r1, r2, r3, r4, ⟨rfl, rfl, rfl, rfl, rfl⟩⟩
  refine br_t (by decide) (qz_sched hk (by unfold qz_n; decide) hP (fun b19 b20 hW => ?_))
  exact hp _ _ _ _ _ b19 b20 hP hW
theorem qz_c74_1 {post : St2 → Prop} (hk : qz_k k) (h3 : qz_K k a3) (h4 : qz_X a4) (h5 : a5 2 = 1) (h10 : qz_S a10) (h90 : a9 0 = -1) (h91 : a9 1 = 3) (h92 : a9 2 = -1) (h93 : a9 3 = -1) (h11 : ∀ j, j < 8 → a11 j = -1)
    (hp : ∀ b11 b12 b14 b15 b16 b17 b18 b19 b20 : Nat → Int32, qz_P k 3 b14 b15 b16 b17 b18 → qz_W b20 → post (4, fc, 2, cp, 15, 0, 6, 6, ac, dc, sc, a1, a2, a3, a4, a5, a6, a7, a8, a9, a10, b11, b12, a13, b14, b15, b16, b17, b18, b19, b20, a21, a22, a23, a24, a25, a26)) : ∃ fu, wX_compile_74 post fu 0 4 fc 2 cp 15 0 0 wc ac dc sc a1 a2 a3 a4 a5 a6 a7 a8 a9 a10 a11 a12 a13 a14 a15 a16 a17 a18 a19 a20 a21 a22 a23 a24 a25 a26 := by
  have h9 : qz_N a9 := fun i hi => by
    match i, hi with
    | 0, _ => exact Or.inl h90
    | 1, _ => exact Or.inr h91
    | 2, _ => exact Or.inl h92
    | 3, _ => exact Or.inl h93
  have h110 : a11 0 = -1 := h11 0 (by decide)
  have h111 : a11 1 = -1 := h11 1 (by decide)
  have h112 : a11 2 = -1 := h11 2 (by decide)
  have h113 : a11 3 = -1 := h11 3 (by decide)
  have h114 : a11 4 = -1 := h11 4 (by decide)
  have h115 : a11 5 = -1 := h11 5 (by decide)
  have h116 : a11 6 = -1 := h11 6 (by decide)
  have h117 : a11 7 = -1 := h11 7 (by decide)
  refine ⟨5, ?_⟩
  refine br_f (by decide) (qz_need (by decide) (br_f (by decide) (qz_node0 hk h3 h4 h10 h9 h110 h111 h112 h113 h114 h115 h116 h117 (nm_r (e' := 1) (by decide) ?_))))
  refine br_f (by decide) (qz_need (by decide) (br_f (by decide) (qz_node1 hk h3 h4 h10 h9 rfl h111 h112 h113 h114 h115 h116 h117 (nm_r (e' := 2) (by decide) ?_))))
  refine br_f (by decide) (qz_need (by decide) (br_f (by decide) (qz_node2 hk h3 h4 h5 h10 h9 rfl rfl h112 h113 h114 h115 h116 h117 (nm_r (e' := 3) (by decide) ?_))))
  refine br_f (by decide) (qz_need (by decide) (br_f (by decide) (qz_node3_1 hk h3 h4 h10 h90 h91 h92 h93 rfl rfl rfl h113 h114 h115 h116 h117 (nm_r (e' := 4) (by decide) ?_))))
  refine br_t (by decide) (qz_c103_1 hk h3 h4 h10 rfl ⟨rfl, rfl, rfl, rfl, rfl⟩ ⟨rfl, rfl, rfl, rfl, rfl⟩ ⟨rfl, rfl, rfl, rfl, rfl⟩ ⟨rfl, rfl, rfl, rfl, rfl⟩ ⟨rfl, rfl, rfl, rfl, rfl⟩ ?_)
  exact fun b14 b15 b16 b17 b18 b19 b20 hP hW => hp _ _ b14 b15 b16 b17 b18 b19 b20 hP hW
theorem qz_c46_1 {post : St2 → Prop} (hk : qz_k k) (h3 : qz_K k a3) (h4 : qz_X a4) (h5 : a5 2 = 1) (h10 : qz_S a10) (h90 : a9 0 = -1) (h91 : a9 1 = 3) (h92 : a9 2 = -1) (h93 : a9 3 = -1) (h11 : ∀ j, j < 8 → a11 j = -1)
    (hp : ∀ b11 b12 b13 b14 b15 b16 b17 b18 b19 b20 : Nat → Int32, qz_P k 3 b14 b15 b16 b17 b18 → qz_W b20 → post (4, fc, 2, cp, 15, 0, 6, 6, ac, dc, sc, a1, a2, a3, a4, a5, a6, a7, a8, a9, a10, b11, b12, b13, b14, b15, b16, b17, b18, b19, b20, a21, a22, a23, a24, a25, a26)) : ∃ fu, wX_compile_46 post 4 fc 2 cp 15 0 0 wc ac dc sc fu 0 a1 a2 a3 a4 a5 a6 a7 a8 a9 a10 a11 a12 a13 a14 a15 a16 a17 a18 a19 a20 a21 a22 a23 a24 a25 a26 :=
  pk_loop (σ := (Nat → Int32) × (Nat → Int32)) (fun m i s => wX_compile_46 post 4 fc 2 cp 15 0 0 wc ac dc sc m (nI i) a1 a2 a3 a4 a5 a6 a7 a8 a9 a10 a11 s.1 s.2 a14 a15 a16 a17 a18 a19 a20 a21 a22 a23 a24 a25 a26) (fun _ _ => True) 24 0 (a12, a13) (by omega) trivial
    (fun m s _ => pk_le 24 24 (fun _ => qz_c74_1 hk h3 h4 h5 h10 h90 h91 h92 h93 h11 (fun b11 b12 b14 b15 b16 b17 b18 b19 b20 hP hW => hp b11 b12 s.2 b14 b15 b16 b17 b18 b19 b20 hP hW)) (fun z => absurd z (by omega)))
    (fun m i s hi _ hw => pk_le 24 i (fun z => absurd z (by omega)) (fun _ => ⟨pk_in i 24 hi, nm_e ⟨pk_in i 24 hi, nm_e (nm_r (nI_1 i) (hw (_, _) trivial))⟩⟩))
theorem qz_c25_1 {post : St2 → Prop} (hk : qz_k k) (h3 : qz_K k a3) (h4 : qz_X a4) (h5 : a5 2 = 1) (h10 : qz_S a10) (h90 : a9 0 = -1) (h91 : a9 1 = 3) (h92 : a9 2 = -1) (h93 : a9 3 = -1)
    (hp : ∀ b11 b12 b13 b14 b15 b16 b17 b18 b19 b20 : Nat → Int32, qz_P k 3 b14 b15 b16 b17 b18 → qz_W b20 → post (4, fc, 2, cp, 15, 0, 6, 6, ac, dc, sc, a1, a2, a3, a4, a5, a6, a7, a8, a9, a10, b11, b12, b13, b14, b15, b16, b17, b18, b19, b20, a21, a22, a23, a24, a25, a26)) : ∃ fu, wX_compile_25 post 4 fc 2 cp 15 0 0 wc ac dc sc fu 0 a1 a2 a3 a4 a5 a6 a7 a8 a9 a10 a11 a12 a13 a14 a15 a16 a17 a18 a19 a20 a21 a22 a23 a24 a25 a26 := by
  refine pk_loop (fun m i s => wX_compile_25 post 4 fc 2 cp 15 0 0 wc ac dc sc m (nI i) a1 a2 a3 a4 a5 a6 a7 a8 a9 a10 s a12 a13 a14 a15 a16 a17 a18 a19 a20 a21 a22 a23 a24 a25 a26) (fun i s => ∀ j, j < i → s j = -1) 8 0 a11 (by omega) (fun j hj => absurd hj (by omega)) ?_ ?_
  · intro m s h
    exact pk_le 8 8 (fun _ => qz_c46_1 hk h3 h4 h5 h10 h90 h91 h92 h93 h hp) (fun z => absurd z (by omega))
  · intro m i s hi h hw
    refine pk_le 8 i (fun z => absurd z (by omega)) (fun _ => ⟨pk_in i 8 hi, nm_e (nm_r (nI_1 i) (hw _ ?_))⟩)
    intro j hj
    rw [nI_clamp (by omega)]
    by_cases e : j = i
    · rw [e, pk_us]
    · rw [pk_un e]
      exact h j (by omega)
theorem qz_compile_1 {post : St2 → Prop} (hk : qz_k k) (h3 : qz_K k a3) (h4 : qz_X a4) (h5 : a5 2 = 1) (h90 : a9 0 = -1) (h91 : a9 1 = 3) (h92 : a9 2 = -1) (h93 : a9 3 = -1)
    (hp : ∀ b10 b11 b12 b13 b14 b15 b16 b17 b18 b19 b20 : Nat → Int32, qz_P k 3 b14 b15 b16 b17 b18 → qz_W b20 → post (4, fc, 2, 1, 15, 0, 6, 6, ac, dc, sc, a1, a2, a3, a4, a5, a6, a7, a8, a9, b10, b11, b12, b13, b14, b15, b16, b17, b18, b19, b20, a21, a22, a23, a24, a25, a26)) : wpX_compile post (4, fc, 2, cp, nd, pn, le, wc, ac, dc, sc, a1, a2, a3, a4, a5, a6, a7, a8, a9, a10, a11, a12, a13, a14, a15, a16, a17, a18, a19, a20, a21, a22, a23, a24, a25, a26) := by
  unfold wpX_compile
  dsimp only
  refine qz_findSame hk h3 h4 (fun b10 h10 => ?_)
  refine qz_findNeeded1 hk h3 h4 h5 h10 h90 h91 h92 h93 ?_
  exact qz_c25_1 hk h3 h4 h5 h10 h90 h91 h92 h93 (fun b11 b12 b13 b14 b15 b16 b17 b18 b19 b20 hP hW => hp b10 b11 b12 b13 b14 b15 b16 b17 b18 b19 b20 hP hW)
theorem qz_run_1 {post : Int32 → St2 → Prop} {x y : Int32} (hk : qz_k k) (h3 : qz_K k a3) (h4 : qz_X a4) (h5 : a5 2 = 1) (h90 : a9 0 = -1) (h91 : a9 1 = 3) (h92 : a9 2 = -1) (h93 : a9 3 = -1) (hx : a21 0 = x) (hy : a21 1 = y)
    (hp : ∀ (d t : Int32) (b10 b11 b12 b13 b14 b15 b16 b17 b18 b19 b20 b21 b23 b24 b25 b26 : Nat → Int32), b21 3 = qz_v k x y → post 2 (4, fc, 2, 1, 15, 0, 6, 6, ac, d, t, a1, a2, a3, a4, a5, a6, a7, a8, a9, b10, b11, b12, b13, b14, b15, b16, b17, b18, b19, b20, b21, a22, b23, b24, b25, b26)) : wpX_run post (4, fc, 2, 0, nd, pn, le, wc, ac, dc, sc, a1, a2, a3, a4, a5, a6, a7, a8, a9, a10, a11, a12, a13, a14, a15, a16, a17, a18, a19, a20, a21, a22, a23, a24, a25, a26) 2 := by
  refine qz_valid hk h3 h4 (br_f (by decide) (br_t (by decide) (br_t (by decide) (br_t rfl ?_))))
  refine qz_compile_1 hk h3 h4 h5 h90 h91 h92 h93 (fun b10 b11 b12 b13 b14 b15 b16 b17 b18 b19 b20 hP hW => ?_)
  have hn : qz_n 3 := by unfold qz_n; decide
  refine ⟨3, br_f (by decide) (qz_step hk hn hP hW hx hy (fun d b21 b23 b24 b25 b26 f0 f1 f11 fn => nm_r (e' := 1) (by decide) ?_))⟩
  refine br_f (by decide) (qz_step hk hn hP hW f0 f1 (fun d c21 c23 c24 c25 c26 g0 g1 g11 gn => nm_r (e' := 2) (by decide) ?_))
  exact br_t (by decide) (nm_e (hp _ _ b10 b11 b12 b13 b14 b15 b16 b17 b18 b19 b20 c21 c23 c24 c25 c26 (gn.trans f11)))
theorem qz_c103_2 {post : St2 → Prop} (hk : qz_k k) (h3 : qz_K k a3) (h4 : qz_X a4) (h10 : qz_S a10) (h122 : a12 2 = 2) (r0 : qz_row a14 a15 a16 a17 a18 0 16 0 (-1) (-1) 0) (r1 : qz_row a14 a15 a16 a17 a18 1 16 1 (-1) (-1) 1) (r2 : qz_row a14 a15 a16 a17 a18 2 k 2 0 1 1) (r3 : qz_row a14 a15 a16 a17 a18 3 16 3 (-1) (-1) 11) (r4 : qz_row a14 a15 a16 a17 a18 4 17 (-1) 3 (-1) 4)
    (hp : ∀ b14 b15 b16 b17 b18 b19 b20 : Nat → Int32, qz_P k 4 b14 b15 b16 b17 b18 → qz_W b20 → post (4, fc, 2, cp, 15, 0, 6, 6, ac, dc, sc, a1, a2, a3, a4, a5, a6, a7, a8, a9, a10, a11, a12, a13, b14, b15, b16, b17, b18, b19, b20, a21, a22, a23, a24, a25, a26)) : ∃ fu, wX_compile_103 post fu 0 4 fc 2 cp 15 0 5 wc ac dc sc a1 a2 a3 a4 a5 a6 a7 a8 a9 a10 a11 a12 a13 a14 a15 a16 a17 a18 a19 a20 a21 a22 a23 a24 a25 a26 := by
  have h33 := h3
  obtain ⟨h30, h31, h32, h33⟩ := h33
  refine ⟨5, ?_⟩
  refine br_f (by decide) (qz_need (by decide) (br_f (by decide) ⟨qz_i (by decide), qz_eqf h30 (by decide) (nm_r (e' := 1) (by decide) ?_)⟩))
  refine br_f (by decide) (qz_need (by decide) (br_f (by decide) ⟨qz_i (by decide), qz_eqf h31 (by decide) (nm_r (e' := 2) (by decide) ?_)⟩))
  refine br_f (by decide) (qz_need (by decide) (br_f (by decide) ⟨qz_i (by decide), qz_eqf h32 (qz_n5 hk) (nm_r (e' := 3) (by decide) ?_)⟩))
  refine br_f (by decide) (qz_need (by decide) (br_f (by decide) ⟨qz_i (by decide), qz_eqt h33 (by decide) (qz_delay h4 h10 h122 (nm_r (e' := 4) (by decide) ?_))⟩))
  have hP : qz_P k 4 (upd a14 5 17) (upd a15 5 (-1)) (upd a16 5 2) (upd a17 5 (-1)) (upd a18 5 11) := ⟨r0, r1, r2, r3, r4, ⟨rfl, rfl, rfl, rfl, rfl⟩⟩
  refine br_t (by decide) (qz_sched hk (by unfold qz_n; decide) hP (fun b19 b20 hW => ?_))
  exact hp _ _ _ _ _ b19 b20 hP hW
theorem qz_c74_2 {post : St2 → Prop} (hk : qz_k k) (h3 : qz_K k a3) (h4 : qz_X a4) (h5 : a5 2 = 1) (h10 : qz_S a10) (h90 : a9 0 = -1) (h91 : a9 1 = -1) (h92 : a9 2 = 3) (h93 : a9 3 = -1) (h11 : ∀ j, j < 8 → a11 j = -1)
    (hp : ∀ b11 b12 b14 b15 b16 b17 b18 b19 b20 : Nat → Int32, qz_P k 4 b14 b15 b16 b17 b18 → qz_W b20 → post (4, fc, 2, cp, 15, 0, 6, 6, ac, dc, sc, a1, a2, a3, a4, a5, a6, a7, a8, a9, a10, b11, b12, a13, b14, b15, b16, b17, b18, b19, b20, a21, a22, a23, a24, a25, a26)) : ∃ fu, wX_compile_74 post fu 0 4 fc 2 cp 15 0 0 wc ac dc sc a1 a2 a3 a4 a5 a6 a7 a8 a9 a10 a11 a12 a13 a14 a15 a16 a17 a18 a19 a20 a21 a22 a23 a24 a25 a26 := by
  have h9 : qz_N a9 := fun i hi => by
    match i, hi with
    | 0, _ => exact Or.inl h90
    | 1, _ => exact Or.inl h91
    | 2, _ => exact Or.inr h92
    | 3, _ => exact Or.inl h93
  have h110 : a11 0 = -1 := h11 0 (by decide)
  have h111 : a11 1 = -1 := h11 1 (by decide)
  have h112 : a11 2 = -1 := h11 2 (by decide)
  have h113 : a11 3 = -1 := h11 3 (by decide)
  have h114 : a11 4 = -1 := h11 4 (by decide)
  have h115 : a11 5 = -1 := h11 5 (by decide)
  have h116 : a11 6 = -1 := h11 6 (by decide)
  have h117 : a11 7 = -1 := h11 7 (by decide)
  refine ⟨5, ?_⟩
  refine br_f (by decide) (qz_need (by decide) (br_f (by decide) (qz_node0 hk h3 h4 h10 h9 h110 h111 h112 h113 h114 h115 h116 h117 (nm_r (e' := 1) (by decide) ?_))))
  refine br_f (by decide) (qz_need (by decide) (br_f (by decide) (qz_node1 hk h3 h4 h10 h9 rfl h111 h112 h113 h114 h115 h116 h117 (nm_r (e' := 2) (by decide) ?_))))
  refine br_f (by decide) (qz_need (by decide) (br_f (by decide) (qz_node2 hk h3 h4 h5 h10 h9 rfl rfl h112 h113 h114 h115 h116 h117 (nm_r (e' := 3) (by decide) ?_))))
  refine br_f (by decide) (qz_need (by decide) (br_f (by decide) (qz_node3_2 hk h3 h4 h10 h90 h91 h92 h93 rfl rfl rfl h113 h114 h115 h116 h117 (nm_r (e' := 4) (by decide) ?_))))
  refine br_t (by decide) (qz_c103_2 hk h3 h4 h10 rfl ⟨rfl, rfl, rfl, rfl, rfl⟩ ⟨rfl, rfl, rfl, rfl, rfl⟩ ⟨rfl, rfl, rfl, rfl, rfl⟩ ⟨rfl, rfl, rfl, rfl, rfl⟩ ⟨rfl, rfl, rfl, rfl, rfl⟩ ?_)
  exact fun b14 b15 b16 b17 b18 b19 b20 hP hW => hp _ _ b14 b15 b16 b17 b18 b19 b20 hP hW
theorem qz_c46_2 {post : St2 → Prop} (hk : qz_k k) (h3 : qz_K k a3) (h4 : qz_X a4) (h5 : a5 2 = 1) (h10 : qz_S a10) (h90 : a9 0 = -1) (h91 : a9 1 = -1) (h92 : a9 2 = 3) (h93 : a9 3 = -1) (h11 : ∀ j, j < 8 → a11 j = -1)
    (hp : ∀ b11 b12 b13 b14 b15 b16 b17 b18 b19 b20 : Nat → Int32, qz_P k 4 b14 b15 b16 b17 b18 → qz_W b20 → post (4, fc, 2, cp, 15, 0, 6, 6, ac, dc, sc, a1, a2, a3, a4, a5, a6, a7, a8, a9, a10, b11, b12, b13, b14, b15, b16, b17, b18, b19, b20, a21, a22, a23, a24, a25, a26)) : ∃ fu, wX_compile_46 post 4 fc 2 cp 15 0 0 wc ac dc sc fu 0 a1 a2 a3 a4 a5 a6 a7 a8 a9 a10 a11 a12 a13 a14 a15 a16 a17 a18 a19 a20 a21 a22 a23 a24 a25 a26 :=
  pk_loop (σ := (Nat → Int32) × (Nat → Int32)) (fun m i s => wX_compile_46 post 4 fc 2 cp 15 0 0 wc ac dc sc m (nI i) a1 a2 a3 a4 a5 a6 a7 a8 a9 a10 a11 s.1 s.2 a14 a15 a16 a17 a18 a19 a20 a21 a22 a23 a24 a25 a26) (fun _ _ => True) 24 0 (a12, a13) (by omega) trivial
    (fun m s _ => pk_le 24 24 (fun _ => qz_c74_2 hk h3 h4 h5 h10 h90 h91 h92 h93 h11 (fun b11 b12 b14 b15 b16 b17 b18 b19 b20 hP hW => hp b11 b12 s.2 b14 b15 b16 b17 b18 b19 b20 hP hW)) (fun z => absurd z (by omega)))
    (fun m i s hi _ hw => pk_le 24 i (fun z => absurd z (by omega)) (fun _ => ⟨pk_in i 24 hi, nm_e ⟨pk_in i 24 hi, nm_e (nm_r (nI_1 i) (hw (_, _) trivial))⟩⟩))
theorem qz_c25_2 {post : St2 → Prop} (hk : qz_k k) (h3 : qz_K k a3) (h4 : qz_X a4) (h5 : a5 2 = 1) (h10 : qz_S a10) (h90 : a9 0 = -1) (h91 : a9 1 = -1) (h92 : a9 2 = 3) (h93 : a9 3 = -1)
    (hp : ∀ b11 b12 b13 b14 b15 b16 b17 b18 b19 b20 : Nat → Int32, qz_P k 4 b14 b15 b16 b17 b18 → qz_W b20 → post (4, fc, 2, cp, 15, 0, 6, 6, ac, dc, sc, a1, a2, a3, a4, a5, a6, a7, a8, a9, a10, b11, b12, b13, b14, b15, b16, b17, b18, b19, b20, a21, a22, a23, a24, a25, a26)) : ∃ fu, wX_compile_25 post 4 fc 2 cp 15 0 0 wc ac dc sc fu 0 a1 a2 a3 a4 a5 a6 a7 a8 a9 a10 a11 a12 a13 a14 a15 a16 a17 a18 a19 a20 a21 a22 a23 a24 a25 a26 := by
  refine pk_loop (fun m i s => wX_compile_25 post 4 fc 2 cp 15 0 0 wc ac dc sc m (nI i) a1 a2 a3 a4 a5 a6 a7 a8 a9 a10 s a12 a13 a14 a15 a16 a17 a18 a19 a20 a21 a22 a23 a24 a25 a26) (fun i s => ∀ j, j < i → s j = -1) 8 0 a11 (by omega) (fun j hj => absurd hj (by omega)) ?_ ?_
  · intro m s h
    exact pk_le 8 8 (fun _ => qz_c46_2 hk h3 h4 h5 h10 h90 h91 h92 h93 h hp) (fun z => absurd z (by omega))
  · intro m i s hi h hw
    refine pk_le 8 i (fun z => absurd z (by omega)) (fun _ => ⟨pk_in i 8 hi, nm_e (nm_r (nI_1 i) (hw _ ?_))⟩)
    intro j hj
    rw [nI_clamp (by omega)]
    by_cases e : j = i
    · rw [e, pk_us]
    · rw [pk_un e]
      exact h j (by omega)
theorem qz_compile_2 {post : St2 → Prop} (hk : qz_k k) (h3 : qz_K k a3) (h4 : qz_X a4) (h5 : a5 2 = 1) (h90 : a9 0 = -1) (h91 : a9 1 = -1) (h92 : a9 2 = 3) (h93 : a9 3 = -1)
    (hp : ∀ b10 b11 b12 b13 b14 b15 b16 b17 b18 b19 b20 : Nat → Int32, qz_P k 4 b14 b15 b16 b17 b18 → qz_W b20 → post (4, fc, 2, 1, 15, 0, 6, 6, ac, dc, sc, a1, a2, a3, a4, a5, a6, a7, a8, a9, b10, b11, b12, b13, b14, b15, b16, b17, b18, b19, b20, a21, a22, a23, a24, a25, a26)) : wpX_compile post (4, fc, 2, cp, nd, pn, le, wc, ac, dc, sc, a1, a2, a3, a4, a5, a6, a7, a8, a9, a10, a11, a12, a13, a14, a15, a16, a17, a18, a19, a20, a21, a22, a23, a24, a25, a26) := by
  unfold wpX_compile
  dsimp only
  refine qz_findSame hk h3 h4 (fun b10 h10 => ?_)
  refine qz_findNeeded2 hk h3 h4 h5 h10 h90 h91 h92 h93 ?_
  exact qz_c25_2 hk h3 h4 h5 h10 h90 h91 h92 h93 (fun b11 b12 b13 b14 b15 b16 b17 b18 b19 b20 hP hW => hp b10 b11 b12 b13 b14 b15 b16 b17 b18 b19 b20 hP hW)
theorem qz_run_2 {post : Int32 → St2 → Prop} {x y : Int32} (hk : qz_k k) (h3 : qz_K k a3) (h4 : qz_X a4) (h5 : a5 2 = 1) (h90 : a9 0 = -1) (h91 : a9 1 = -1) (h92 : a9 2 = 3) (h93 : a9 3 = -1) (hx : a21 0 = x) (hy : a21 1 = y)
    (hp : ∀ (d t : Int32) (b10 b11 b12 b13 b14 b15 b16 b17 b18 b19 b20 b21 b23 b24 b25 b26 : Nat → Int32), b21 4 = qz_v k x y → post 2 (4, fc, 2, 1, 15, 0, 6, 6, ac, d, t, a1, a2, a3, a4, a5, a6, a7, a8, a9, b10, b11, b12, b13, b14, b15, b16, b17, b18, b19, b20, b21, a22, b23, b24, b25, b26)) : wpX_run post (4, fc, 2, 0, nd, pn, le, wc, ac, dc, sc, a1, a2, a3, a4, a5, a6, a7, a8, a9, a10, a11, a12, a13, a14, a15, a16, a17, a18, a19, a20, a21, a22, a23, a24, a25, a26) 2 := by
  refine qz_valid hk h3 h4 (br_f (by decide) (br_t (by decide) (br_t (by decide) (br_t rfl ?_))))
  refine qz_compile_2 hk h3 h4 h5 h90 h91 h92 h93 (fun b10 b11 b12 b13 b14 b15 b16 b17 b18 b19 b20 hP hW => ?_)
  have hn : qz_n 4 := by unfold qz_n; decide
  refine ⟨3, br_f (by decide) (qz_step hk hn hP hW hx hy (fun d b21 b23 b24 b25 b26 f0 f1 f11 fn => nm_r (e' := 1) (by decide) ?_))⟩
  refine br_f (by decide) (qz_step hk hn hP hW f0 f1 (fun d c21 c23 c24 c25 c26 g0 g1 g11 gn => nm_r (e' := 2) (by decide) ?_))
  exact br_t (by decide) (nm_e (hp _ _ b10 b11 b12 b13 b14 b15 b16 b17 b18 b19 b20 c21 c23 c24 c25 c26 (gn.trans f11)))
theorem qz_c103_3 {post : St2 → Prop} (hk : qz_k k) (h3 : qz_K k a3) (h4 : qz_X a4) (h10 : qz_S a10) (h122 : a12 2 = 2) (r0 : qz_row a14 a15 a16 a17 a18 0 16 0 (-1) (-1) 0) (r1 : qz_row a14 a15 a16 a17 a18 1 16 1 (-1) (-1) 1) (r2 : qz_row a14 a15 a16 a17 a18 2 k 2 0 1 1) (r3 : qz_row a14 a15 a16 a17 a18 3 16 3 (-1) (-1) 11) (r4 : qz_row a14 a15 a16 a17 a18 4 17 (-1) 3 (-1) 5)
    (hp : ∀ b14 b15 b16 b17 b18 b19 b20 : Nat → Int32, qz_P k 5 b14 b15 b16 b17 b18 → qz_W b20 → post (4, fc, 2, cp, 15, 0, 6, 6, ac, dc, sc, a1, a2, a3, a4, a5, a6, a7, a8, a9, a10, a11, a12, a13, b14, b15, b16, b17, b18, b19, b20, a21, a22, a23, a24, a25, a26)) : ∃ fu, wX_compile_103 post fu 0 4 fc 2 cp 15 0 5 wc ac dc sc a1 a2 a3 a4 a5 a6 a7 a8 a9 a10 a11 a12 a13 a14 a15 a16 a17 a18 a19 a20 a21 a22 a23 a24 a25 a26 := by
  have h33 := h3
  obtain ⟨h30, h31, h32, h33⟩ := h33
  refine ⟨5, ?_⟩
  refine br_f (by decide) (qz_need (by decide) (br_f (by decide) ⟨qz_i (by decide), qz_eqf h30 (by decide) (nm_r (e' := 1) (by decide) ?_)⟩))
  refine br_f (by decide) (qz_need (by decide) (br_f (by decide) ⟨qz_i (by decide), qz_eqf h31 (by decide) (nm_r (e' := 2) (by decide) ?_)⟩))
  refine br_f (by decide) (qz_need (by decide) (br_f (by decide) ⟨qz_i (by decide), qz_eqf h32 (qz_n5 hk) (nm_r (e' := 3) (by decide) ?_)⟩))
  refine br_f (by decide) (qz_need (by decide) (br_f (by decide) ⟨qz_i (by decide), qz_eqt h33 (by decide) (qz_delay h4 h10 h122 (nm_r (e' := 4) (by decide) ?_))⟩))
  have hP : qz_P k 5 (upd a14 5 17) (upd a15 5 (-1)) (upd a16 5 2) (upd a17 5 (-1)) (upd a18 5 11) := ⟨r0, r1, r2, r3, r4, ⟨rfl, rfl, rfl, rfl, rfl⟩⟩
  refine br_t (by decide) (qz_sched hk (by unfold qz_n; decide) hP (fun b19 b20 hW => ?_))
  exact hp _ _ _ _ _ b19 b20 hP hW
theorem qz_c74_3 {post : St2 → Prop} (hk : qz_k k) (h3 : qz_K k a3) (h4 : qz_X a4) (h5 : a5 2 = 1) (h10 : qz_S a10) (h90 : a9 0 = -1) (h91 : a9 1 = -1) (h92 : a9 2 = -1) (h93 : a9 3 = 3) (h11 : ∀ j, j < 8 → a11 j = -1)
    (hp : ∀ b11 b12 b14 b15 b16 b17 b18 b19 b20 : Nat → Int32, qz_P k 5 b14 b15 b16 b17 b18 → qz_W b20 → post (4, fc, 2, cp, 15, 0, 6, 6, ac, dc, sc, a1, a2, a3, a4, a5, a6, a7, a8, a9, a10, b11, b12, a13, b14, b15, b16, b17, b18, b19, b20, a21, a22, a23, a24, a25, a26)) : ∃ fu, wX_compile_74 post fu 0 4 fc 2 cp 15 0 0 wc ac dc sc a1 a2 a3 a4 a5 a6 a7 a8 a9 a10 a11 a12 a13 a14 a15 a16 a17 a18 a19 a20 a21 a22 a23 a24 a25 a26 := by
  have h9 : qz_N a9 := fun i hi => by
    match i, hi with
    | 0, _ => exact Or.inl h90
    | 1, _ => exact Or.inl h91
    | 2, _ => exact Or.inl h92
    | 3, _ => exact Or.inr h93
  have h110 : a11 0 = -1 := h11 0 (by decide)
  have h111 : a11 1 = -1 := h11 1 (by decide)
  have h112 : a11 2 = -1 := h11 2 (by decide)
  have h113 : a11 3 = -1 := h11 3 (by decide)
  have h114 : a11 4 = -1 := h11 4 (by decide)
  have h115 : a11 5 = -1 := h11 5 (by decide)
  have h116 : a11 6 = -1 := h11 6 (by decide)
  have h117 : a11 7 = -1 := h11 7 (by decide)
  refine ⟨5, ?_⟩
  refine br_f (by decide) (qz_need (by decide) (br_f (by decide) (qz_node0 hk h3 h4 h10 h9 h110 h111 h112 h113 h114 h115 h116 h117 (nm_r (e' := 1) (by decide) ?_))))
  refine br_f (by decide) (qz_need (by decide) (br_f (by decide) (qz_node1 hk h3 h4 h10 h9 rfl h111 h112 h113 h114 h115 h116 h117 (nm_r (e' := 2) (by decide) ?_))))
  refine br_f (by decide) (qz_need (by decide) (br_f (by decide) (qz_node2 hk h3 h4 h5 h10 h9 rfl rfl h112 h113 h114 h115 h116 h117 (nm_r (e' := 3) (by decide) ?_))))
  refine br_f (by decide) (qz_need (by decide) (br_f (by decide) (qz_node3_3 hk h3 h4 h10 h90 h91 h92 h93 rfl rfl rfl h113 h114 h115 h116 h117 (nm_r (e' := 4) (by decide) ?_))))
  refine br_t (by decide) (qz_c103_3 hk h3 h4 h10 rfl ⟨rfl, rfl, rfl, rfl, rfl⟩ ⟨rfl, rfl, rfl, rfl, rfl⟩ ⟨rfl, rfl, rfl, rfl, rfl⟩ ⟨rfl, rfl, rfl, rfl, rfl⟩ ⟨rfl, rfl, rfl, rfl, rfl⟩ ?_)
  exact fun b14 b15 b16 b17 b18 b19 b20 hP hW => hp _ _ b14 b15 b16 b17 b18 b19 b20 hP hW
theorem qz_c46_3 {post : St2 → Prop} (hk : qz_k k) (h3 : qz_K k a3) (h4 : qz_X a4) (h5 : a5 2 = 1) (h10 : qz_S a10) (h90 : a9 0 = -1) (h91 : a9 1 = -1) (h92 : a9 2 = -1) (h93 : a9 3 = 3) (h11 : ∀ j, j < 8 → a11 j = -1)
    (hp : ∀ b11 b12 b13 b14 b15 b16 b17 b18 b19 b20 : Nat → Int32, qz_P k 5 b14 b15 b16 b17 b18 → qz_W b20 → post (4, fc, 2, cp, 15, 0, 6, 6, ac, dc, sc, a1, a2, a3, a4, a5, a6, a7, a8, a9, a10, b11, b12, b13, b14, b15, b16, b17, b18, b19, b20, a21, a22, a23, a24, a25, a26)) : ∃ fu, wX_compile_46 post 4 fc 2 cp 15 0 0 wc ac dc sc fu 0 a1 a2 a3 a4 a5 a6 a7 a8 a9 a10 a11 a12 a13 a14 a15 a16 a17 a18 a19 a20 a21 a22 a23 a24 a25 a26 :=
  pk_loop (σ := (Nat → Int32) × (Nat → Int32)) (fun m i s => wX_compile_46 post 4 fc 2 cp 15 0 0 wc ac dc sc m (nI i) a1 a2 a3 a4 a5 a6 a7 a8 a9 a10 a11 s.1 s.2 a14 a15 a16 a17 a18 a19 a20 a21 a22 a23 a24 a25 a26) (fun _ _ => True) 24 0 (a12, a13) (by omega) trivial
    (fun m s _ => pk_le 24 24 (fun _ => qz_c74_3 hk h3 h4 h5 h10 h90 h91 h92 h93 h11 (fun b11 b12 b14 b15 b16 b17 b18 b19 b20 hP hW => hp b11 b12 s.2 b14 b15 b16 b17 b18 b19 b20 hP hW)) (fun z => absurd z (by omega)))
    (fun m i s hi _ hw => pk_le 24 i (fun z => absurd z (by omega)) (fun _ => ⟨pk_in i 24 hi, nm_e ⟨pk_in i 24 hi, nm_e (nm_r (nI_1 i) (hw (_, _) trivial))⟩⟩))
theorem qz_c25_3 {post : St2 → Prop} (hk : qz_k k) (h3 : qz_K k a3) (h4 : qz_X a4) (h5 : a5 2 = 1) (h10 : qz_S a10) (h90 : a9 0 = -1) (h91 : a9 1 = -1) (h92 : a9 2 = -1) (h93 : a9 3 = 3)
    (hp : ∀ b11 b12 b13 b14 b15 b16 b17 b18 b19 b20 : Nat → Int32, qz_P k 5 b14 b15 b16 b17 b18 → qz_W b20 → post (4, fc, 2, cp, 15, 0, 6, 6, ac, dc, sc, a1, a2, a3, a4, a5, a6, a7, a8, a9, a10, b11, b12, b13, b14, b15, b16, b17, b18, b19, b20, a21, a22, a23, a24, a25, a26)) : ∃ fu, wX_compile_25 post 4 fc 2 cp 15 0 0 wc ac dc sc fu 0 a1 a2 a3 a4 a5 a6 a7 a8 a9 a10 a11 a12 a13 a14 a15 a16 a17 a18 a19 a20 a21 a22 a23 a24 a25 a26 := by
  refine pk_loop (fun m i s => wX_compile_25 post 4 fc 2 cp 15 0 0 wc ac dc sc m (nI i) a1 a2 a3 a4 a5 a6 a7 a8 a9 a10 s a12 a13 a14 a15 a16 a17 a18 a19 a20 a21 a22 a23 a24 a25 a26) (fun i s => ∀ j, j < i → s j = -1) 8 0 a11 (by omega) (fun j hj => absurd hj (by omega)) ?_ ?_
  · intro m s h
    exact pk_le 8 8 (fun _ => qz_c46_3 hk h3 h4 h5 h10 h90 h91 h92 h93 h hp) (fun z => absurd z (by omega))
  · intro m i s hi h hw
    refine pk_le 8 i (fun z => absurd z (by omega)) (fun _ => ⟨pk_in i 8 hi, nm_e (nm_r (nI_1 i) (hw _ ?_))⟩)
    intro j hj
    rw [nI_clamp (by omega)]
    by_cases e : j = i
    · rw [e, pk_us]
    · rw [pk_un e]
      exact h j (by omega)
theorem qz_compile_3 {post : St2 → Prop} (hk : qz_k k) (h3 : qz_K k a3) (h4 : qz_X a4) (h5 : a5 2 = 1) (h90 : a9 0 = -1) (h91 : a9 1 = -1) (h92 : a9 2 = -1) (h93 : a9 3 = 3)
    (hp : ∀ b10 b11 b12 b13 b14 b15 b16 b17 b18 b19 b20 : Nat → Int32, qz_P k 5 b14 b15 b16 b17 b18 → qz_W b20 → post (4, fc, 2, 1, 15, 0, 6, 6, ac, dc, sc, a1, a2, a3, a4, a5, a6, a7, a8, a9, b10, b11, b12, b13, b14, b15, b16, b17, b18, b19, b20, a21, a22, a23, a24, a25, a26)) : wpX_compile post (4, fc, 2, cp, nd, pn, le, wc, ac, dc, sc, a1, a2, a3, a4, a5, a6, a7, a8, a9, a10, a11, a12, a13, a14, a15, a16, a17, a18, a19, a20, a21, a22, a23, a24, a25, a26) := by
  unfold wpX_compile
  dsimp only
  refine qz_findSame hk h3 h4 (fun b10 h10 => ?_)
  refine qz_findNeeded3 hk h3 h4 h5 h10 h90 h91 h92 h93 ?_
  exact qz_c25_3 hk h3 h4 h5 h10 h90 h91 h92 h93 (fun b11 b12 b13 b14 b15 b16 b17 b18 b19 b20 hP hW => hp b10 b11 b12 b13 b14 b15 b16 b17 b18 b19 b20 hP hW)
theorem qz_run_3 {post : Int32 → St2 → Prop} {x y : Int32} (hk : qz_k k) (h3 : qz_K k a3) (h4 : qz_X a4) (h5 : a5 2 = 1) (h90 : a9 0 = -1) (h91 : a9 1 = -1) (h92 : a9 2 = -1) (h93 : a9 3 = 3) (hx : a21 0 = x) (hy : a21 1 = y)
    (hp : ∀ (d t : Int32) (b10 b11 b12 b13 b14 b15 b16 b17 b18 b19 b20 b21 b23 b24 b25 b26 : Nat → Int32), b21 5 = qz_v k x y → post 2 (4, fc, 2, 1, 15, 0, 6, 6, ac, d, t, a1, a2, a3, a4, a5, a6, a7, a8, a9, b10, b11, b12, b13, b14, b15, b16, b17, b18, b19, b20, b21, a22, b23, b24, b25, b26)) : wpX_run post (4, fc, 2, 0, nd, pn, le, wc, ac, dc, sc, a1, a2, a3, a4, a5, a6, a7, a8, a9, a10, a11, a12, a13, a14, a15, a16, a17, a18, a19, a20, a21, a22, a23, a24, a25, a26) 2 := by
  refine qz_valid hk h3 h4 (br_f (by decide) (br_t (by decide) (br_t (by decide) (br_t rfl ?_))))
  refine qz_compile_3 hk h3 h4 h5 h90 h91 h92 h93 (fun b10 b11 b12 b13 b14 b15 b16 b17 b18 b19 b20 hP hW => ?_)
  have hn : qz_n 5 := by unfold qz_n; decide
  refine ⟨3, br_f (by decide) (qz_step hk hn hP hW hx hy (fun d b21 b23 b24 b25 b26 f0 f1 f11 fn => nm_r (e' := 1) (by decide) ?_))⟩
  refine br_f (by decide) (qz_step hk hn hP hW f0 f1 (fun d c21 c23 c24 c25 c26 g0 g1 g11 gn => nm_r (e' := 2) (by decide) ?_))
  exact br_t (by decide) (nm_e (hp _ _ b10 b11 b12 b13 b14 b15 b16 b17 b18 b19 b20 c21 c23 c24 c25 c26 (gn.trans f11)))
end
end
section
/-! ===== the law ===== -/
section
variable {nc fc lv cp nd pn le wc : Int32} {ac : Int64} {dc sc : Int32} {a1 a2 a3 a4 a5 a6 a7 a8 a9 a10 a11 a12 a13 a14 a15 a16 a17 a18 a19 a20 a21 a22 a23 a24 a25 a26 : Nat → Int32}
theorem qz_end_0 {post : Int32 → St0 → Prop} {k c x y due : Int32} (ho : c = 0) (hk : qz_k k) (h3 : qz_K k a3) (h4 : qz_X a4) (h5 : a5 2 = 1) (h90 : a9 0 = 3) (h91 : a9 1 = -1) (h92 : a9 2 = -1) (h93 : a9 3 = -1) (hx : a21 0 = x) (hy : a21 1 = y) (hd : qz_v k x y = due) (hp : post 1 ()) :
    wpX_run (fun r u => ((r = 2 → (wpX_value (fun r_833 => (((r_833 = due → (post 1 ())) ∧ (¬ r_833 = due → (post 0 ()))))) u c)) ∧ (¬ r = 2 → (post 0 ())))) (4, fc, 2, 0, nd, pn, le, wc, ac, dc, sc, a1, a2, a3, a4, a5, a6, a7, a8, a9, a10, a11, a12, a13, a14, a15, a16, a17, a18, a19, a20, a21, a22, a23, a24, a25, a26) 2 := by
  subst ho
  refine qz_run_0 hk h3 h4 h5 h90 h91 h92 h93 hx hy (fun d t b10 b11 b12 b13 b14 b15 b16 b17 b18 b19 b20 b21 b23 b24 b25 b26 hv => br_t rfl ?_)
  refine br_f (by decide) (br_f (by decide) ⟨qz_i (by decide), qz_let h90 (by decide) ⟨qz_i (by decide), ?_⟩⟩)
  exact qz_eqt hv hd hp
theorem qz_end_1 {post : Int32 → St0 → Prop} {k c x y due : Int32} (ho : c = 1) (hk : qz_k k) (h3 : qz_K k a3) (h4 : qz_X a4) (h5 : a5 2 = 1) (h90 : a9 0 = -1) (h91 : a9 1 = 3) (h92 : a9 2 = -1) (h93 : a9 3 = -1) (hx : a21 0 = x) (hy : a21 1 = y) (hd : qz_v k x y = due) (hp : post 1 ()) :
    wpX_run (fun r u => ((r = 2 → (wpX_value (fun r_833 => (((r_833 = due → (post 1 ())) ∧ (¬ r_833 = due → (post 0 ()))))) u c)) ∧ (¬ r = 2 → (post 0 ())))) (4, fc, 2, 0, nd, pn, le, wc, ac, dc, sc, a1, a2, a3, a4, a5, a6, a7, a8, a9, a10, a11, a12, a13, a14, a15, a16, a17, a18, a19, a20, a21, a22, a23, a24, a25, a26) 2 := by
  subst ho
  refine qz_run_1 hk h3 h4 h5 h90 h91 h92 h93 hx hy (fun d t b10 b11 b12 b13 b14 b15 b16 b17 b18 b19 b20 b21 b23 b24 b25 b26 hv => br_t rfl ?_)
  refine br_f (by decide) (br_f (by decide) ⟨qz_i (by decide), qz_let h91 (by decide) ⟨qz_i (by decide), ?_⟩⟩)
  exact qz_eqt hv hd hp
theorem qz_end_2 {post : Int32 → St0 → Prop} {k c x y due : Int32} (ho : c = 2) (hk : qz_k k) (h3 : qz_K k a3) (h4 : qz_X a4) (h5 : a5 2 = 1) (h90 : a9 0 = -1) (h91 : a9 1 = -1) (h92 : a9 2 = 3) (h93 : a9 3 = -1) (hx : a21 0 = x) (hy : a21 1 = y) (hd : qz_v k x y = due) (hp : post 1 ()) :
    wpX_run (fun r u => ((r = 2 → (wpX_value (fun r_833 => (((r_833 = due → (post 1 ())) ∧ (¬ r_833 = due → (post 0 ()))))) u c)) ∧ (¬ r = 2 → (post 0 ())))) (4, fc, 2, 0, nd, pn, le, wc, ac, dc, sc, a1, a2, a3, a4, a5, a6, a7, a8, a9, a10, a11, a12, a13, a14, a15, a16, a17, a18, a19, a20, a21, a22, a23, a24, a25, a26) 2 := by
  subst ho
  refine qz_run_2 hk h3 h4 h5 h90 h91 h92 h93 hx hy (fun d t b10 b11 b12 b13 b14 b15 b16 b17 b18 b19 b20 b21 b23 b24 b25 b26 hv => br_t rfl ?_)
  refine br_f (by decide) (br_f (by decide) ⟨qz_i (by decide), qz_let h92 (by decide) ⟨qz_i (by decide), ?_⟩⟩)
  exact qz_eqt hv hd hp
theorem qz_end_3 {post : Int32 → St0 → Prop} {k c x y due : Int32} (ho : c = 3) (hk : qz_k k) (h3 : qz_K k a3) (h4 : qz_X a4) (h5 : a5 2 = 1) (h90 : a9 0 = -1) (h91 : a9 1 = -1) (h92 : a9 2 = -1) (h93 : a9 3 = 3) (hx : a21 0 = x) (hy : a21 1 = y) (hd : qz_v k x y = due) (hp : post 1 ()) :
    wpX_run (fun r u => ((r = 2 → (wpX_value (fun r_833 => (((r_833 = due → (post 1 ())) ∧ (¬ r_833 = due → (post 0 ()))))) u c)) ∧ (¬ r = 2 → (post 0 ())))) (4, fc, 2, 0, nd, pn, le, wc, ac, dc, sc, a1, a2, a3, a4, a5, a6, a7, a8, a9, a10, a11, a12, a13, a14, a15, a16, a17, a18, a19, a20, a21, a22, a23, a24, a25, a26) 2 := by
  subst ho
  refine qz_run_3 hk h3 h4 h5 h90 h91 h92 h93 hx hy (fun d t b10 b11 b12 b13 b14 b15 b16 b17 b18 b19 b20 b21 b23 b24 b25 b26 hv => br_t rfl ?_)
  refine br_f (by decide) (br_f (by decide) ⟨qz_i (by decide), qz_let h93 (by decide) ⟨qz_i (by decide), ?_⟩⟩)
  exact qz_eqt hv hd hp
theorem qz_end {post : Int32 → St0 → Prop} {k c x y due : Int32} (ho : qz_o c) (hk : qz_k k) (h3 : qz_K k a3) (h4 : qz_X a4) (h5 : a5 2 = 1) (h90 : a9 0 = -1) (h91 : a9 1 = -1) (h92 : a9 2 = -1) (h93 : a9 3 = -1) (hx : a21 0 = x) (hy : a21 1 = y) (hd : qz_v k x y = due) (hp : post 1 ()) :
    wpX_run (fun r u => ((r = 2 → (wpX_value (fun r_833 => (((r_833 = due → (post 1 ())) ∧ (¬ r_833 = due → (post 0 ()))))) u c)) ∧ (¬ r = 2 → (post 0 ())))) (4, fc, 2, 0, nd, pn, le, wc, ac, dc, sc, a1, a2, a3, a4, a5, a6, a7, a8, upd a9 c.toNatClampNeg 3, a10, a11, a12, a13, a14, a15, a16, a17, a18, a19, a20, a21, a22, a23, a24, a25, a26) 2 := by
  rcases ho with h | h | h | h
  · exact qz_end_0 h hk h3 h4 h5 (by rw [h]; rfl) (by rw [h]; exact h91) (by rw [h]; exact h92) (by rw [h]; exact h93) hx hy hd hp
  · exact qz_end_1 h hk h3 h4 h5 (by rw [h]; exact h90) (by rw [h]; rfl) (by rw [h]; exact h92) (by rw [h]; exact h93) hx hy hd hp
  · exact qz_end_2 h hk h3 h4 h5 (by rw [h]; exact h90) (by rw [h]; exact h91) (by rw [h]; rfl) (by rw [h]; exact h93) hx hy hd hp
  · exact qz_end_3 h hk h3 h4 h5 (by rw [h]; exact h90) (by rw [h]; exact h91) (by rw [h]; exact h92) (by rw [h]; rfl) hx hy hd hp
end
theorem qz_118 {post : Int32 → St0 → Prop} {k c x y due : Int32} (hk : qz_k k) (hx : ¬ x < -32768 ∧ ¬ 32767 < x) (hy : ¬ y < -32768 ∧ ¬ 32767 < y) (hd : qz_v k x y = due) (hp : post 1 ()) : wL_lawOf_118 post 880 14080 c x y k due 0 0 := by
  have k6 := qz_n6 hk
  have k0 : ¬ k < 0 := by rcases hk with rfl | rfl | rfl | rfl <;> decide
  have k10 : ¬ 10 < k := by rcases hk with rfl | rfl | rfl | rfl <;> decide
  refine ⟨by decide, by decide, 26, 3378, by decide, by decide, qz_init (fun b1 b9 h90 h91 h92 h93 => ?_)⟩
  refine qz_input (by decide) (by decide) hx (qz_i (by decide)) (br_f (by decide) ?_)
  refine qz_input (by decide) (by decide) hy (qz_i (by decide)) (br_f (by decide) ?_)
  refine qz_node (by decide) (by decide) (by decide) (by decide) (fun q hq => qz_fit00 hq) (qz_i (by decide)) (fun c21 c22 f0 f1 => br_t rfl ?_)
  refine qz_node (by decide) (by decide) (by decide) (by decide) (fun q hq => qz_fit01 hq) (qz_i (by decide)) (fun d21 d22 g0 g1 => br_t (by decide) ?_)
  refine qz_node (by decide) k6 k0 k10 (fun q hq => qz_fitk hk hq) (qz_i (by decide)) (fun e21 e22 i0 i1 => br_t (by decide) ?_)
  refine qz_node (by decide) (by decide) (by decide) (by decide) (fun q hq => qz_fit5 hq) (qz_i (by decide)) (fun m21 m22 j0 j1 => br_t (by decide) ?_)
  refine qz_output (qz_and3 c) (fun n21 n22 l0 l1 => br_f (by decide) ?_)
  have s0 : n21 0 = x := l0.trans (j0.trans (i0.trans (g0.trans (f0.trans rfl))))
  have s1 : n21 1 = y := l1.trans (j1.trans (i1.trans (g1.trans (f1.trans rfl))))
  exact qz_end (qz_and3 c) hk ⟨rfl, rfl, qz_t8 hk, rfl⟩ ⟨rfl, rfl, rfl, rfl⟩ rfl h90 h91 h92 h93 s0 s1 hd hp
theorem qz_lawOf {post : Int32 → St0 → Prop} (p0 p1 p2 p3 : Int32) (hp : post 1 ()) : wpL_lawOf post 880 14080 () p0 p1 p2 p3 := by
  have hx := qz_short p0
  have hy := qz_short p1
  refine br_c (fun _ => ?_) (fun _ => br_c (fun _ => ?_) (fun _ => br_c (fun _ => ?_) (fun _ => ?_)))
  · exact br_t rfl (qz_lclip (qz_118 (Or.inl rfl) hx hy (qz_v2 _ _) hp))
  · exact br_f (by decide) (br_t rfl (qz_lclip (qz_118 (Or.inr (Or.inl rfl)) hx hy (qz_v3 _ _) hp)))
  · refine br_f (by decide) (br_f (by decide) (br_t rfl (br_c (fun h => ?_) (fun h => ?_))))
    · exact qz_118 (Or.inr (Or.inr (Or.inl rfl))) hx hy ((qz_v9 _ _).trans (if_pos h)) hp
    · exact qz_118 (Or.inr (Or.inr (Or.inl rfl))) hx hy ((qz_v9 _ _).trans (if_neg h)) hp
  · exact br_f (by decide) (br_f (by decide) (br_f (by decide) (qz_lclip (qz_118 (Or.inr (Or.inr (Or.inr rfl))) hx hy (qz_v10 _ _) hp))))
theorem qz_cell {post : Int32 → Prop} {L : Nat} {xs : Nat → Int32} (i : Nat) {p : Int32} (e : p = nI i) (hi : i < 2 ^ 31) (hL : L < 2 ^ 31) (h : ∀ r, post r) : wpL_cellAt post L xs () p := by
  subst e
  exact pk_le L i (fun _ => h _) (fun z => ⟨vp_in_nI z hL, h _⟩)
theorem i_vc (xs : Nat → Int32) (L : Nat) (hL : L ≤ 4) : wpL_law (fun r => r = 1) L xs := by
  refine qz_cell 0 rfl (by decide) (by omega) (fun r1 => qz_cell 1 rfl (by decide) (by omega) (fun r2 => qz_cell 2 rfl (by decide) (by omega) (fun r3 => qz_cell 3 rfl (by decide) (by omega) (fun r4 => ?_))))
  exact ⟨880, 14080, by decide, by decide, qz_lawOf r1 r2 r3 r4 rfl⟩
end
