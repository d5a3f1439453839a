section
/-! ===== plain facts on ints and longs ===== -/
theorem lm_neg {p : Int32} (h1 : ¬ p < 0) (h2 : ¬ (0 : Int32) ≤ p) : False := h1 (Int32.not_le.mp h2)
theorem lm_one {y : Int32} (h1 : ¬ y < 0) (h2 : ¬ (1 : Int32) ≤ y) : y = 0 := by
  rcases pk_ix y (n := 1) (by decide) with h | h | ⟨j, hj, e⟩
  · exact absurd h h1
  · exact absurd h h2
  · have hj0 : j = 0 := by omega
    rw [e, hj0]
    exact nI_0
theorem lm_k3 {k : Int32} (h1 : ¬ k < 0) (h2 : k < 3) : k = 0 ∨ k = 1 ∨ k = 2 := by
  rcases pk_ix k (n := 3) (by decide) with h | h | ⟨j, hj, e⟩
  · exact absurd h h1
  · have h' : (3 : Int32) ≤ k := h
    exact absurd h2 (Int32.not_lt.mpr h')
  · have hj' : j = 0 ∨ j = 1 ∨ j = 2 := by omega
    rcases hj' with hj' | hj' | hj'
    · exact Or.inl (by rw [e, hj']; rfl)
    · exact Or.inr (Or.inl (by rw [e, hj']; rfl))
    · exact Or.inr (Or.inr (by rw [e, hj']; rfl))
theorem lm_x7 {x : Int32} (h1 : ¬ x < 0) (h2 : ¬ 7 < x) : ∃ j : Nat, j < 8 ∧ x = nI j := by
  obtain ⟨j, hj, e⟩ := nI_of2 (x := x) (M := 7) (n := 7) (by decide) h1 (Int32.not_lt.mp h2)
  exact ⟨j, by omega, e⟩
theorem lm_x3 {x : Int32} (h1 : ¬ x < 0) (h2 : ¬ 3 < x) : ∃ j : Nat, j < 4 ∧ x = nI j := by
  obtain ⟨j, hj, e⟩ := nI_of2 (x := x) (M := 3) (n := 3) (by decide) h1 (Int32.not_lt.mp h2)
  exact ⟨j, by omega, e⟩
theorem lm_x16 {x : Int32} (h1 : ¬ x < 0) (h2 : ¬ 65535 < x) : ∃ j : Nat, j < 65536 ∧ x = nI j := by
  obtain ⟨j, hj, e⟩ := nI_of2 (x := x) (M := 65535) (n := 65535) (by decide) h1 (Int32.not_lt.mp h2)
  exact ⟨j, by omega, e⟩
theorem lm_need : ∀ j, j < 8 → (¬ (8 : Int32) < nI j + 1 ∧ ¬ (nI j + 1).toInt8.toInt32 ≤ 0 ∧ ¬ (8 : Int32) < (nI j + 1).toInt8.toInt32) := by decide +kernel
/-! the mask of hasEnd: 2 + 4 * (2 + 4 * ..) -/
def lm_M : Nat → Nat
  | 0 => 0
  | j + 1 => 2 + 4 * lm_M j
theorem lm_M8 : lm_M 8 = 43690 := by decide
theorem lm_t4 : ∀ t, t < 4 → (t &&& 2 = 0 ↔ t ≤ 1) := by decide
theorem lm_mask (n m : Nat) : n &&& (2 + 4 * m) = 0 ↔ n % 2 ^ 2 ≤ 1 ∧ (n / 2 ^ 2) &&& m = 0 := by
  have h1 : (n &&& (2 + 4 * m)) % 2 ^ 2 = (n % 2 ^ 2) &&& ((2 + 4 * m) % 2 ^ 2) := Nat.and_mod_two_pow
  have h2 : (n &&& (2 + 4 * m)) / 2 ^ 2 = (n / 2 ^ 2) &&& ((2 + 4 * m) / 2 ^ 2) := Nat.and_div_two_pow
  have e1 : (2 + 4 * m) % 2 ^ 2 = 2 := by omega
  have e2 : (2 + 4 * m) / 2 ^ 2 = m := by omega
  rw [e1] at h1
  rw [e2] at h2
  have h3 := lm_t4 (n % 2 ^ 2) (Nat.mod_lt _ (by decide))
  constructor
  · intro h
    rw [h] at h1 h2
    exact ⟨h3.mp (by rw [← h1]), by rw [← h2]⟩
  · intro h
    rw [h3.mpr h.1] at h1
    rw [h.2] at h2
    omega
theorem lm_and (a b : Nat) : nI a &&& nI b = nI (a &&& b) := by
  apply Int32.toBitVec_inj.1
  show BitVec.ofNat 32 a &&& BitVec.ofNat 32 b = BitVec.ofNat 32 (a &&& b)
  exact BitVec.ofNat_and.symm
theorem lm_andle {a b : Nat} : a &&& b ≤ a := Nat.and_le_left
theorem lm_end {p : Nat} (hp : p < 65536) : (nI p &&& 43690) = 0 ↔ p &&& lm_M 8 = 0 := by
  rw [lm_M8]
  have e : nI p &&& 43690 = nI (p &&& 43690) := lm_and p 43690
  have hl : p &&& 43690 ≤ p := lm_andle
  rw [e, ← nI_0, nI_eq (by omega) (by decide)]
theorem lm_two {p : Nat} (hp : p < 65536) : (nI p &&& 2) = 0 ↔ p % 2 ^ 2 ≤ 1 := by
  have e : nI p &&& 2 = nI (p &&& 2) := lm_and p 2
  have hl : p &&& 2 ≤ p := lm_andle
  rw [e, ← nI_0, nI_eq (by omega) (by decide)]
  have h := lm_mask p 0
  rw [Nat.and_zero] at h
  exact h.trans ⟨fun t => t.1, fun t => ⟨t, rfl⟩⟩
theorem lm_three {p : Nat} (hp : p < 65536) : nI p &&& 3 = nI (p % 2 ^ 2) := pk_andN (by omega) 2 (by decide)
/-! an int kept as a long: 4 x + 1 -/
theorem lm_s2 : ((2 : Int32).toInt64 &&& 63) = (2 : Int64) := by decide
theorem lm_vb (x : Int32) : ((x.toInt64 <<< ((2 : Int32).toInt64 &&& 63)) ||| 1).toBitVec = (x.toBitVec.signExtend 64 <<< 2) ||| 1#64 := by
  rw [lm_s2]
  rfl
theorem lm_v3 (x : Int32) : (((x.toInt64 <<< ((2 : Int32).toInt64 &&& 63)) ||| 1) &&& 3) = 1 := by
  apply Int64.toBitVec_inj.1
  rw [Int64.toBitVec_and, lm_vb]
  apply BitVec.eq_of_toNat_eq
  rw [BitVec.toNat_and, BitVec.toNat_or, BitVec.toNat_shiftLeft]
  show ((x.toBitVec.signExtend 64).toNat <<< 2 % 2 ^ 64 ||| 1) &&& (2 ^ 2 - 1) = 1
  rw [Nat.and_two_pow_sub_one_eq_mod, Nat.or_mod_two_pow, Nat.shiftLeft_eq]
  have h : (x.toBitVec.signExtend 64).toNat * 2 ^ 2 % 2 ^ 64 % 2 ^ 2 = 0 := by omega
  rw [h]
  decide
theorem lm_v0 (x : Int32) : ¬ ((x.toInt64 <<< ((2 : Int32).toInt64 &&& 63)) ||| 1) = 0 := by
  intro h
  have h3 := lm_v3 x
  rw [h] at h3
  exact absurd h3 (by decide)
theorem lm_vx (x : Int32) : ((((x.toInt64 <<< ((2 : Int32).toInt64 &&& 63)) ||| 1) >>> ((2 : Int32).toInt64 &&& 63)).toInt32) = x := by
  apply Int32.toBitVec_inj.1
  rw [Int64.toBitVec_toInt32, Int64.toBitVec_shiftRight, lm_vb, lm_s2]
  rw [show ((2 : Int64).toBitVec.smod 64) = 2#64 by decide, BitVec.sshiftRight_eq']
  apply BitVec.eq_of_getLsbD_eq
  intro i hi
  rw [BitVec.getLsbD_signExtend, BitVec.getLsbD_sshiftRight, show (2#64).toNat = 2 from rfl, BitVec.getLsbD_or, BitVec.getLsbD_shiftLeft, BitVec.getLsbD_one, BitVec.getLsbD_signExtend]
  have e1 : decide (i < 32) = true := decide_eq_true hi
  have e2 : i < 64 := by omega
  have e3 : 2 + i < 64 := by omega
  have e4 : ¬ (2 + i < 2) := by omega
  have e5 : ¬ (2 + i = 0) := by omega
  have e6 : 2 + i - 2 = i := by omega
  have e7 : ¬ (64 ≤ i) := by omega
  simp [hi, e2, e3, e4, e5, e6, e7]
end
section
/-! ===== making expressions ===== -/
def lm_leaf (k x : Int32) : Prop := k = 0 ∨ (k = 1 ∧ ¬ x < 0 ∧ ¬ 7 < x) ∨ k = 2 ∨ (k = 17 ∧ ¬ x < 0 ∧ ¬ 3 < x)
theorem lm_kinds {k x : Int32} (h : lm_leaf k x) : k = 0 ∨ k = 1 ∨ k = 2 ∨ k = 17 := by
  rcases h with h | h | h | h
  · exact Or.inl h
  · exact Or.inr (Or.inl h.1)
  · exact Or.inr (Or.inr (Or.inl h))
  · exact Or.inr (Or.inr (Or.inr h.1))
theorem lm_kindP {P : Int32 → Prop} (h0 : P 0) (h1 : P 1) (h2 : P 2) (h17 : P 17) {k x : Int32} (h : lm_leaf k x) : P k := by
  rcases lm_kinds h with e | e | e | e
  · rw [e]; exact h0
  · rw [e]; exact h1
  · rw [e]; exact h2
  · rw [e]; exact h17
theorem lm_u0 {f b : Nat → Int32} {x : Int32} (e : b = upd f (0 : Int32).toNatClampNeg x) : b 0 = x := by
  rw [e, sb_cl0]
  exact pk_us
theorem lm_in0 (N : Nat) (h : 0 < N) (hN : N < 2 ^ 31) : vp_in 0 N := pk_in 0 N h
section
variable {ec fc ce dp lc ht hn uc mg wc tp fr pc oc sc rs rn lv : Int32} {mk : Int64} {a1 a2 a3 a4 a5 a6 a7 a8 a9 a10 a11 a12 a13 a14 a15 a16 a17 a18 a19 a20 a22 a25 a26 : Nat → Int32} {a21 a23 a24 : Nat → Int64}
theorem lm_isExp0 {post : Int32 → Prop} {p : Int32} (h : post 0) : wpX_isExpression post (0, fc, ce, dp, lc, ht, hn, uc, mk, mg, wc, tp, fr, pc, oc, sc, rs, rn, lv, a1, a2, a3, a4, a5, a6, a7, a8, a9, a10, a11, a12, a13, a14, a15, a16, a17, a18, a19, a20, a21, a22, a23, a24, a25, a26) p :=
  br_c (fun _ => h) (fun h1 => br_c (fun _ => h) (fun h2 => (lm_neg h1 h2).elim))
theorem lm_isExp1 {post : Int32 → Prop} {p : Int32} (h0 : ¬ p = 0 → post 0) (h1 : p = 0 → post 1) : wpX_isExpression post (1, fc, ce, dp, lc, ht, hn, uc, mk, mg, wc, tp, fr, pc, oc, sc, rs, rn, lv, a1, a2, a3, a4, a5, a6, a7, a8, a9, a10, a11, a12, a13, a14, a15, a16, a17, a18, a19, a20, a21, a22, a23, a24, a25, a26) p :=
  br_c (fun g => h0 (fun e => by rw [e] at g; exact absurd g (by decide)))
    (fun g1 => br_c (fun g2 => h0 (fun e => by rw [e] at g2; exact absurd g2 (by decide))) (fun g2 => h1 (lm_one g1 g2)))
theorem lm_hasX1 {post : Int32 → Prop} {p : Int32} (h : ¬ p < 3) (h17 : ¬ p = 17) (h18 : ¬ p = 18) (hp : post 1) : wpX_hasX post (ec, fc, ce, dp, lc, ht, hn, uc, mk, mg, wc, tp, fr, pc, oc, sc, rs, rn, lv, a1, a2, a3, a4, a5, a6, a7, a8, a9, a10, a11, a12, a13, a14, a15, a16, a17, a18, a19, a20, a21, a22, a23, a24, a25, a26) p :=
  br_f h (br_f h17 (br_f h18 hp))
theorem lm_hasX0 {post : Int32 → Prop} {k x : Int32} (hk : lm_leaf k x) (h : post 0) : wpX_hasX post (ec, fc, ce, dp, lc, ht, hn, uc, mk, mg, wc, tp, fr, pc, oc, sc, rs, rn, lv, a1, a2, a3, a4, a5, a6, a7, a8, a9, a10, a11, a12, a13, a14, a15, a16, a17, a18, a19, a20, a21, a22, a23, a24, a25, a26) k :=
  lm_kindP (P := fun k => wpX_hasX post (ec, fc, ce, dp, lc, ht, hn, uc, mk, mg, wc, tp, fr, pc, oc, sc, rs, rn, lv, a1, a2, a3, a4, a5, a6, a7, a8, a9, a10, a11, a12, a13, a14, a15, a16, a17, a18, a19, a20, a21, a22, a23, a24, a25, a26) k) (br_t (by decide) h) (br_t (by decide) h) (br_t (by decide) h) (br_f (by decide) (br_t rfl h)) hk
theorem lm_hasY0 {post : Int32 → Prop} {k x : Int32} (hk : lm_leaf k x) (h : post 0) : wpX_hasY post (ec, fc, ce, dp, lc, ht, hn, uc, mk, mg, wc, tp, fr, pc, oc, sc, rs, rn, lv, a1, a2, a3, a4, a5, a6, a7, a8, a9, a10, a11, a12, a13, a14, a15, a16, a17, a18, a19, a20, a21, a22, a23, a24, a25, a26) k :=
  lm_kindP (P := fun k => wpX_hasY post (ec, fc, ce, dp, lc, ht, hn, uc, mk, mg, wc, tp, fr, pc, oc, sc, rs, rn, lv, a1, a2, a3, a4, a5, a6, a7, a8, a9, a10, a11, a12, a13, a14, a15, a16, a17, a18, a19, a20, a21, a22, a23, a24, a25, a26) k)
    (br_f (by decide) (br_f (by decide) (br_f (by decide) (br_f (by decide) (br_t (by decide) h)))))
    (br_f (by decide) (br_f (by decide) (br_f (by decide) (br_f (by decide) (br_t (by decide) h)))))
    (br_f (by decide) (br_f (by decide) (br_f (by decide) (br_f (by decide) (br_t (by decide) h)))))
    (br_f (by decide) (br_f (by decide) (br_f (by decide) (br_t rfl h)))) hk
theorem lm_fit89 {post : Int32 → Prop} {k x y z : Int32} (hk : lm_leaf k x) (h : post 1) : wX_operandsFit_89 post k y z ec fc ce dp lc ht hn uc mk mg wc tp fr pc oc sc rs rn lv a1 a2 a3 a4 a5 a6 a7 a8 a9 a10 a11 a12 a13 a14 a15 a16 a17 a18 a19 a20 a21 a22 a23 a24 a25 a26 := by
  unfold wX_operandsFit_89
  refine lm_hasY0 hk (br_t rfl ?_)
  unfold wX_operandsFit_107
  exact br_f (lm_kindP (P := fun k => ¬ k = 8) (by decide) (by decide) (by decide) (by decide) hk) h
theorem lm_fit {post : Int32 → Prop} {k x y z : Int32} (hk : lm_leaf k x) (h : post 1) : wpX_operandsFit post (ec, fc, ce, dp, lc, ht, hn, uc, mk, mg, wc, tp, fr, pc, oc, sc, rs, rn, lv, a1, a2, a3, a4, a5, a6, a7, a8, a9, a10, a11, a12, a13, a14, a15, a16, a17, a18, a19, a20, a21, a22, a23, a24, a25, a26) k x y z := by
  have hk' := hk
  rcases hk' with e | ⟨e, g1, g2⟩ | e | ⟨e, g1, g2⟩
  · subst e
    exact br_f (by decide) (br_f (by decide) (br_f (by decide) (lm_hasX0 hk (br_t rfl (lm_fit89 hk h)))))
  · subst e
    exact br_t rfl (br_f g1 (br_f g2 h))
  · subst e
    exact br_f (by decide) (br_f (by decide) (br_f (by decide) (lm_hasX0 hk (br_t rfl (lm_fit89 hk h)))))
  · subst e
    exact br_f (by decide) (br_t rfl (br_f g1 (br_f g2 h)))
theorem lm_needFor {post : Int32 → Prop} {k x y z : Int32} (hk : lm_leaf k x)
    (H : ∀ n : Int32, ¬ 8 < n → ¬ 8 < n.toInt8.toInt32 → (k = 1 → ¬ n.toInt8.toInt32 ≤ 0) → (¬ k = 1 → n.toInt8.toInt32 = 0) → post n) : wpX_needFor post (ec, fc, ce, dp, lc, ht, hn, uc, mk, mg, wc, tp, fr, pc, oc, sc, rs, rn, lv, a1, a2, a3, a4, a5, a6, a7, a8, a9, a10, a11, a12, a13, a14, a15, a16, a17, a18, a19, a20, a21, a22, a23, a24, a25, a26) k x y z := by
  have hk' := hk
  rcases hk' with e | ⟨e, g1, g2⟩ | e | ⟨e, g1, g2⟩
  · subst e
    exact br_f (by decide) (br_f (by decide) (br_f (by decide) (lm_hasX0 hk (br_t rfl (H 0 (by decide) (by decide) (fun t => absurd t (by decide)) (fun _ => by decide))))))
  · subst e
    obtain ⟨j, hj, ej⟩ := lm_x7 g1 g2
    have hn := lm_need j hj
    rw [← ej] at hn
    exact br_t rfl (H (x + 1) hn.1 hn.2.2 (fun _ => hn.2.1) (fun t => absurd rfl t))
  · subst e
    exact br_f (by decide) (br_f (by decide) (br_f (by decide) (lm_hasX0 hk (br_t rfl (H 0 (by decide) (by decide) (fun t => absurd t (by decide)) (fun _ => by decide))))))
  · subst e
    exact br_f (by decide) (br_f (by decide) (br_f (by decide) (lm_hasX0 hk (br_t rfl (H 0 (by decide) (by decide) (fun t => absurd t (by decide)) (fun _ => by decide))))))
theorem lm_namesFor {post : Int32 → Prop} {k x y z : Int32} (hk : lm_leaf k x) (H : ∀ n : Int32, post n) : wpX_namesFor post (ec, fc, ce, dp, lc, ht, hn, uc, mk, mg, wc, tp, fr, pc, oc, sc, rs, rn, lv, a1, a2, a3, a4, a5, a6, a7, a8, a9, a10, a11, a12, a13, a14, a15, a16, a17, a18, a19, a20, a21, a22, a23, a24, a25, a26) k x y z := by
  have hk' := hk
  rcases hk' with e | ⟨e, g1, g2⟩ | e | ⟨e, g1, g2⟩
  · subst e
    exact br_f (by decide) (br_f (by decide) (br_f (by decide) (lm_hasX0 hk (br_t rfl (H 0)))))
  · subst e
    exact br_t rfl (H _)
  · subst e
    exact br_f (by decide) (br_f (by decide) (br_f (by decide) (lm_hasX0 hk (br_t rfl (H 0)))))
  · subst e
    exact br_f (by decide) (br_f (by decide) (br_f (by decide) (lm_hasX0 hk (br_t rfl (H 0)))))
theorem lm_know {post : St2 → Prop} {k x y : Int32} (hk : lm_leaf k x)
    (H : ∀ b8 b9 : Nat → Int32, (k = 0 → b8 0 = 1 ∧ b9 0 = x) → (¬ k = 0 → b8 0 = 0) → post (ec, fc, ce, dp, lc, ht, hn, uc, mk, mg, wc, tp, fr, pc, oc, sc, rs, rn, 2, a1, a2, a3, a4, a5, a6, a7, b8, b9, a10, a11, a12, a13, a14, a15, a16, a17, a18, a19, a20, a21, a22, a23, a24, a25, a26)) : wpX_know post (ec, fc, ce, dp, lc, ht, hn, uc, mk, mg, wc, tp, fr, pc, oc, sc, rs, rn, 2, a1, a2, a3, a4, a5, a6, a7, a8, a9, a10, a11, a12, a13, a14, a15, a16, a17, a18, a19, a20, a21, a22, a23, a24, a25, a26) 0 k x y := by
  have hk' := hk
  rcases hk' with e | ⟨e, g1, g2⟩ | e | ⟨e, g1, g2⟩
  · subst e
    refine br_t rfl ?_
    unfold wX_know_14
    refine ⟨lm_in0 60 (by decide) (by decide), fun b8 e8 => br_t rfl ⟨lm_in0 60 (by decide) (by decide), fun b9 e9 => ?_⟩⟩
    unfold wX_know_26
    exact br_f (by decide) (br_t (by decide) (H b8 b9 (fun _ => ⟨lm_u0 e8, lm_u0 e9⟩) (fun t => absurd rfl t)))
  · subst e
    refine br_f (by decide) ?_
    unfold wX_know_14
    refine ⟨lm_in0 60 (by decide) (by decide), fun b8 e8 => br_f (by decide) ?_⟩
    unfold wX_know_26
    exact br_f (by decide) (br_t (by decide) (H b8 a9 (fun t => absurd t (by decide)) (fun _ => lm_u0 e8)))
  · subst e
    refine br_f (by decide) ?_
    unfold wX_know_14
    refine ⟨lm_in0 60 (by decide) (by decide), fun b8 e8 => br_f (by decide) ?_⟩
    unfold wX_know_26
    exact br_f (by decide) (br_t (by decide) (H b8 a9 (fun t => absurd t (by decide)) (fun _ => lm_u0 e8)))
  · subst e
    refine br_f (by decide) ?_
    unfold wX_know_14
    refine ⟨lm_in0 60 (by decide) (by decide), fun b8 e8 => br_f (by decide) ?_⟩
    unfold wX_know_26
    exact br_f (by decide) (br_f (by decide) (br_t (by decide) (H b8 a9 (fun t => absurd t (by decide)) (fun _ => lm_u0 e8))))
/-- express of a leaf: it is the first expression -/
theorem lm_leafE {post : Int32 → St2 → Prop} {k x y z : Int32} (hk : lm_leaf k x)
    (H : ∀ b1 b2 b3 b4 b5 b6 b7 b8 b9 : Nat → Int32, b1 0 = k → b2 0 = x → b5 0 = 1 → ¬ 8 < b6 0 → (k = 1 → ¬ b6 0 ≤ 0) → (¬ k = 1 → b6 0 = 0) → (k = 0 → b8 0 = 1 ∧ b9 0 = x) → (¬ k = 0 → b8 0 = 0) →
      post 0 (1, fc, ce, dp, lc, ht, hn, uc, mk, mg, wc, tp, fr, pc, oc, sc, rs, rn, 2, b1, b2, b3, b4, b5, b6, b7, b8, b9, a10, a11, a12, a13, a14, a15, a16, a17, a18, a19, a20, a21, a22, a23, a24, a25, a26)) : wpX_express post (0, fc, ce, dp, lc, ht, hn, uc, mk, mg, wc, tp, fr, pc, oc, sc, rs, rn, 2, a1, a2, a3, a4, a5, a6, a7, a8, a9, a10, a11, a12, a13, a14, a15, a16, a17, a18, a19, a20, a21, a22, a23, a24, a25, a26) k x y z := by
  have n0 : ¬ k < 0 := lm_kindP (P := fun k => ¬ k < 0) (by decide) (by decide) (by decide) (by decide) hk
  have n19 : ¬ 19 < k := lm_kindP (P := fun k => ¬ 19 < k) (by decide) (by decide) (by decide) (by decide) hk
  have n8 : ¬ k = 8 := lm_kindP (P := fun k => ¬ k = 8) (by decide) (by decide) (by decide) (by decide) hk
  have n15 : ¬ k = 15 := lm_kindP (P := fun k => ¬ k = 15) (by decide) (by decide) (by decide) (by decide) hk
  have nk : k.toInt8.toInt32 = k := lm_kindP (P := fun k => k.toInt8.toInt32 = k) (by decide) (by decide) (by decide) (by decide) hk
  refine br_t (by decide) (br_f n0 (br_f n19 (lm_fit hk (br_f (by decide) (lm_hasX0 hk (br_t rfl ?_))))))
  unfold wX_express_58
  refine lm_hasY0 hk (br_t rfl ?_)
  unfold wX_express_77
  refine br_f n8 ?_
  unfold wX_express_95
  refine lm_needFor hk (fun n h1 h2 h3 h4 => br_f (by decide) (br_f h1 (br_f n15 ?_)))
  unfold wX_express_138
  refine nm_r (e' := 1) (by decide) ⟨lm_in0 60 (by decide) (by decide), fun b1 e1 => ⟨lm_in0 60 (by decide) (by decide), fun b2 e2 => ⟨lm_in0 60 (by decide) (by decide), fun b3 e3 => ⟨lm_in0 60 (by decide) (by decide), fun b4 e4 => ⟨lm_in0 60 (by decide) (by decide), fun b5 e5 => ⟨lm_in0 60 (by decide) (by decide), fun b6 e6 => ?_⟩⟩⟩⟩⟩⟩
  refine lm_namesFor hk (fun r => ⟨lm_in0 60 (by decide) (by decide), fun b7 e7 => ?_⟩)
  refine lm_know hk (fun b8 b9 h8 h9 => br_f n15 ?_)
  have f6 : b6 0 = n.toInt8.toInt32 := lm_u0 e6
  exact H b1 b2 b3 b4 b5 b6 b7 b8 b9 ((lm_u0 e1).trans nk) (lm_u0 e2) ((lm_u0 e5).trans (by decide)) (by rw [f6]; exact h2) (fun t => by rw [f6]; exact h3 t) (fun t => by rw [f6]; exact h4 t) h8 h9
/-- express of anything else ahead of the first expression: BAD -/
theorem lm_badE {post : Int32 → St2 → Prop} {k x y z : Int32} (hk : ¬ lm_leaf k x) (h : post (-1) (0, fc, ce, dp, lc, ht, hn, uc, mk, mg, wc, tp, fr, pc, oc, sc, rs, rn, lv, a1, a2, a3, a4, a5, a6, a7, a8, a9, a10, a11, a12, a13, a14, a15, a16, a17, a18, a19, a20, a21, a22, a23, a24, a25, a26)) : wpX_express post (0, fc, ce, dp, lc, ht, hn, uc, mk, mg, wc, tp, fr, pc, oc, sc, rs, rn, lv, a1, a2, a3, a4, a5, a6, a7, a8, a9, a10, a11, a12, a13, a14, a15, a16, a17, a18, a19, a20, a21, a22, a23, a24, a25, a26) k x y z := by
  refine br_t (by decide) (br_c (fun _ => h) (fun n0 => br_c (fun _ => h) (fun n19 => ?_)))
  refine br_c (fun e => br_c (fun _ => br_t rfl h) (fun g1 => br_c (fun _ => br_t rfl h) (fun g2 => absurd (Or.inr (Or.inl ⟨e, g1, g2⟩)) hk))) (fun n1 => ?_)
  refine br_c (fun e => br_c (fun _ => br_t rfl h) (fun g1 => br_c (fun _ => br_t rfl h) (fun g2 => absurd (Or.inr (Or.inr (Or.inr ⟨e, g1, g2⟩))) hk))) (fun n17 => ?_)
  refine br_c (fun e => br_c (fun _ => br_t rfl h) (fun g1 => br_c (fun _ => br_t rfl h) (fun g2 => lm_isExp0 (br_t rfl (br_t rfl h))))) (fun n18 => ?_)
  refine lm_hasX1 (fun g => ?_) n17 n18 (br_f (by decide) (lm_isExp0 (br_t rfl (br_t rfl h))))
  rcases lm_k3 n0 g with e | e | e
  · exact hk (Or.inl e)
  · exact n1 e
  · exact hk (Or.inr (Or.inr (Or.inl e)))
/-- a pair behind one leaf: only of the leaf itself -/
theorem lm_pairE {post : Int32 → St2 → Prop} {y : Int32} (h5 : a5 0 = 1) (h6 : ¬ 8 < a6 0) (h0 : ¬ y = 0 → post (-1) (1, fc, ce, dp, lc, ht, hn, uc, mk, mg, wc, tp, fr, pc, oc, sc, rs, rn, 2, a1, a2, a3, a4, a5, a6, a7, a8, a9, a10, a11, a12, a13, a14, a15, a16, a17, a18, a19, a20, a21, a22, a23, a24, a25, a26))
    (h1 : y = 0 → ∀ b1 b2 b3 b4 b5 b6 b7 b8 : Nat → Int32, post 1 (2, fc, ce, dp, lc, ht, hn, uc, mk, mg, wc, tp, fr, pc, oc, sc, rs, rn, 2, b1, b2, b3, b4, b5, b6, b7, b8, a9, a10, a11, a12, a13, a14, a15, a16, a17, a18, a19, a20, a21, a22, a23, a24, a25, a26)) : wpX_express post (1, fc, ce, dp, lc, ht, hn, uc, mk, mg, wc, tp, fr, pc, oc, sc, rs, rn, 2, a1, a2, a3, a4, a5, a6, a7, a8, a9, a10, a11, a12, a13, a14, a15, a16, a17, a18, a19, a20, a21, a22, a23, a24, a25, a26) 9 0 y 0 := by
  refine br_t (by decide) (br_f (by decide) (br_f (by decide) ?_))
  refine br_f (by decide) (br_f (by decide) (br_f (by decide) ?_))
  refine lm_hasX1 (by decide) (by decide) (by decide) (br_f (by decide) ?_)
  refine lm_isExp1 (fun n => absurd rfl n) (fun _ => br_f (by decide) ?_)
  unfold wX_operandsFit_89
  refine br_f (by decide) (br_f (by decide) (br_f (by decide) (br_f (by decide) (br_f (by decide) (br_f (by decide) ?_)))))
  refine lm_isExp1 (fun n => br_t rfl (br_t rfl (h0 n))) (fun ey => br_f (by decide) ?_)
  subst ey
  unfold wX_operandsFit_107
  refine br_f (by decide) (br_f (by decide) ?_)
  refine lm_hasX1 (by decide) (by decide) (by decide) (br_f (by decide) ⟨lm_in0 60 (by decide) (by decide), ?_⟩)
  rw [sb_cl0, h5]
  refine nm_r (e' := 2) (by decide) ?_
  unfold wX_express_58
  refine br_f (by decide) (br_f (by decide) (br_f (by decide) (br_f (by decide) (br_f (by decide) (br_f (by decide) ⟨lm_in0 60 (by decide) (by decide), ?_⟩)))))
  rw [sb_cl0, h5]
  refine nm_r (e' := 3) (by decide) ?_
  unfold wX_express_77
  refine br_f (by decide) ?_
  unfold wX_express_95
  refine br_f (by decide) (br_f (by decide) (br_f (by decide) ?_))
  refine lm_hasX1 (by decide) (by decide) (by decide) (br_f (by decide) ⟨lm_in0 60 (by decide) (by decide), ?_⟩)
  rw [sb_cl0]
  refine nm_e (br_f (by decide) ?_)
  refine br_f (by decide) (br_f (by decide) (br_f (by decide) (br_f (by decide) (br_f (by decide) (br_f (by decide) ⟨lm_in0 60 (by decide) (by decide), ?_⟩)))))
  refine br_t (Int32.le_refl _) ?_
  unfold wX_needFor_112
  refine br_f (by decide) (br_f (by decide) (br_f h6 (br_f (by decide) ?_)))
  unfold wX_express_138
  refine nm_r (e' := 2) (by decide) ⟨pk_in 1 60 (by decide), fun b1 e1 => ⟨pk_in 1 60 (by decide), fun b2 e2 => ⟨pk_in 1 60 (by decide), fun b3 e3 => ⟨pk_in 1 60 (by decide), fun b4 e4 => ⟨pk_in 1 60 (by decide), fun b5 e5 => ⟨pk_in 1 60 (by decide), fun b6 e6 => ?_⟩⟩⟩⟩⟩⟩
  refine br_f (by decide) (br_f (by decide) (br_f (by decide) ?_))
  refine lm_hasX1 (by decide) (by decide) (by decide) (br_f (by decide) ⟨lm_in0 60 (by decide) (by decide), nm_e (br_f (by decide) ?_)⟩)
  refine br_f (by decide) (br_f (by decide) (br_f (by decide) (br_f (by decide) (br_f (by decide) (br_f (by decide) ⟨lm_in0 60 (by decide) (by decide), nm_e ?_⟩)))))
  unfold wX_namesFor_92
  refine br_f (by decide) ⟨pk_in 1 60 (by decide), fun b7 e7 => br_f (by decide) ?_⟩
  unfold wX_know_14
  refine ⟨pk_in 1 60 (by decide), fun b8 e8 => br_f (by decide) ?_⟩
  unfold wX_know_26
  exact br_f (by decide) (br_f (by decide) (br_t (by decide) (br_f (by decide) (h1 rfl b1 b2 b3 b4 b5 b6 b7 b8))))
end
end
section
/-! ===== run ===== -/
theorem lm_u1 {f b : Nat → Int32} {x : Int32} (e : b = upd f (1 : Int32).toNatClampNeg x) : b 1 = x ∧ b 0 = f 0 := by
  rw [e, pk_cl (x := 1) 1]
  exact ⟨pk_us, pk_un (by decide)⟩
/-- what a leaf that runs is: its kind, and the number written beside its operation -/
def lm_runs (k x : Int32) : Prop := k = 0 ∨ k = 2 ∨ (k = 17 ∧ ¬ x < 0 ∧ ¬ 3 < x)
section
variable {ec fc ce dp lc ht hn uc mg wc tp fr pc oc sc rs rn lv : Int32} {mk : Int64} {a1 a2 a3 a4 a5 a6 a7 a8 a9 a10 a11 a12 a13 a14 a15 a16 a17 a18 a19 a20 a22 a25 a26 : Nat → Int32} {a21 a23 a24 : Nat → Int64}
theorem lm_runBad0 {post : Int32 → St2 → Prop} (h : post (-1) (0, fc, ce, dp, lc, ht, hn, uc, mk, mg, wc, tp, fr, pc, oc, sc, rs, rn, lv, a1, a2, a3, a4, a5, a6, a7, a8, a9, a10, a11, a12, a13, a14, a15, a16, a17, a18, a19, a20, a21, a22, a23, a24, a25, a26)) : wpX_run post (0, fc, ce, dp, lc, ht, hn, uc, mk, mg, wc, tp, fr, pc, oc, sc, rs, rn, lv, a1, a2, a3, a4, a5, a6, a7, a8, a9, a10, a11, a12, a13, a14, a15, a16, a17, a18, a19, a20, a21, a22, a23, a24, a25, a26) 0 := by
  unfold wpX_run
  dsimp only
  exact lm_isExp0 (br_t rfl h)
theorem lm_runBad1 {post : Int32 → St2 → Prop} (hneed : ¬ a6 0 ≤ 0) (h : post (-1) (1, fc, ce, dp, lc, ht, hn, uc, mk, mg, wc, tp, fr, pc, oc, sc, rs, rn, lv, a1, a2, a3, a4, a5, a6, a7, a8, a9, a10, a11, a12, a13, a14, a15, a16, a17, a18, a19, a20, a21, a22, a23, a24, a25, a26)) : wpX_run post (1, fc, ce, dp, lc, ht, hn, uc, mk, mg, wc, tp, fr, pc, oc, sc, rs, rn, lv, a1, a2, a3, a4, a5, a6, a7, a8, a9, a10, a11, a12, a13, a14, a15, a16, a17, a18, a19, a20, a21, a22, a23, a24, a25, a26) 0 := by
  unfold wpX_run
  dsimp only
  refine lm_isExp1 (fun n => absurd rfl n) (fun _ => br_f (by decide) ⟨lm_in0 60 (by decide) (by decide), br_f ?_ h⟩)
  rw [sb_cl0]
  exact hneed
/-- write at the code's beginning, and behind it -/
theorem lm_write0 {post : St2 → Prop} {w n : Int32} (H : ∀ b11 b12 : Nat → Int32, b11 0 = w.toInt8.toInt32 → b12 0 = n → post (ec, fc, 1, dp, lc, ht, hn, uc, mk, mg, wc, tp, fr, pc, oc, sc, rs, rn, lv, a1, a2, a3, a4, a5, a6, a7, a8, a9, a10, b11, b12, a13, a14, a15, a16, a17, a18, a19, a20, a21, a22, a23, a24, a25, a26)) : wpX_write post (ec, fc, 0, dp, lc, ht, hn, uc, mk, mg, wc, tp, fr, pc, oc, sc, rs, rn, lv, a1, a2, a3, a4, a5, a6, a7, a8, a9, a10, a11, a12, a13, a14, a15, a16, a17, a18, a19, a20, a21, a22, a23, a24, a25, a26) w n :=
  ⟨lm_in0 1560 (by decide) (by decide), fun b11 e11 => ⟨lm_in0 1560 (by decide) (by decide), fun b12 e12 => nm_r (e' := 1) (by decide) (H b11 b12 (lm_u0 e11) (lm_u0 e12))⟩⟩
theorem lm_write1 {post : St2 → Prop} {w n : Int32} (H : ∀ b11 b12 : Nat → Int32, b11 0 = a11 0 → b12 0 = a12 0 → b11 1 = w.toInt8.toInt32 → post (ec, fc, 2, dp, lc, ht, hn, uc, mk, mg, wc, tp, fr, pc, oc, sc, rs, rn, lv, a1, a2, a3, a4, a5, a6, a7, a8, a9, a10, b11, b12, a13, a14, a15, a16, a17, a18, a19, a20, a21, a22, a23, a24, a25, a26)) : wpX_write post (ec, fc, 1, dp, lc, ht, hn, uc, mk, mg, wc, tp, fr, pc, oc, sc, rs, rn, lv, a1, a2, a3, a4, a5, a6, a7, a8, a9, a10, a11, a12, a13, a14, a15, a16, a17, a18, a19, a20, a21, a22, a23, a24, a25, a26) w n :=
  ⟨pk_in 1 1560 (by decide), fun b11 e11 => ⟨pk_in 1 1560 (by decide), fun b12 e12 => nm_r (e' := 2) (by decide) (H b11 b12 (lm_u1 e11).2 (lm_u1 e12).2 (lm_u1 e11).1)⟩⟩
/-- one step of compiling: the leaf is done -/
theorem lm_cstep {post : Int32 → St2 → Prop} {k x q : Int32} (hk : lm_runs k x) (h13 : a13 0 = 0) (h1 : a1 0 = k) (h2 : a2 0 = x) (h80 : k = 0 → a8 0 = 1 ∧ a9 0 = x) (h81 : ¬ k = 0 → a8 0 = 0)
    (H : ∀ (g : Int32) (b11 b12 : Nat → Int32), b11 0 = k → (¬ k = 2 → b12 0 = x) → post 1 (ec, fc, 1, dp, lc, g, hn, uc, mk, mg, wc, tp, fr, pc, oc, sc, rs, rn, lv, a1, a2, a3, a4, a5, a6, a7, a8, a9, a10, b11, b12, a13, a14, a15, a16, a17, a18, a19, a20, a21, a22, a23, a24, a25, a26)) : wpX_compileStep post (ec, fc, 0, dp, lc, ht, hn, uc, mk, mg, wc, tp, fr, pc, oc, sc, rs, rn, lv, a1, a2, a3, a4, a5, a6, a7, a8, a9, a10, a11, a12, a13, a14, a15, a16, a17, a18, a19, a20, a21, a22, a23, a24, a25, a26) 0 q := by
  refine ⟨lm_in0 34 (by decide) (by decide), nm_r (e' := 0) (by rw [sb_cl0]; exact h13) ⟨lm_in0 60 (by decide) (by decide), nm_r (e' := k) (by rw [sb_cl0]; exact h1) ⟨lm_in0 60 (by decide) (by decide), ?_⟩⟩⟩
  rw [sb_cl0]
  rcases hk with e | e | ⟨e, -, -⟩
  · subst e
    have h8 := h80 rfl
    refine br_f (by rw [h8.1]; decide) ⟨lm_in0 60 (by decide) (by decide), ?_⟩
    refine lm_write0 (fun b11 b12 e11 e12 => nm_e ?_)
    exact H _ b11 b12 (e11.trans (by decide)) (fun _ => e12.trans h8.2)
  · subst e
    refine br_t (h81 (by decide)) (br_f (by decide) (br_t rfl ?_))
    unfold wX_compileStep_78
    refine ⟨lm_in0 60 (by decide) (by decide), ?_⟩
    refine lm_write0 (fun b11 b12 e11 e12 => nm_e ?_)
    exact H _ b11 b12 (e11.trans (by decide)) (fun n => absurd rfl n)
  · subst e
    refine br_t (h81 (by decide)) (br_f (by decide) (br_f (by decide) (br_t rfl ?_)))
    unfold wX_compileStep_78
    refine ⟨lm_in0 60 (by decide) (by decide), ?_⟩
    refine lm_write0 (fun b11 b12 e11 e12 => nm_e ?_)
    exact H _ b11 b12 (e11.trans (by decide)) (fun _ => e12.trans (by rw [sb_cl0]; exact h2))
/-- the body of a leaf: its operation, and RETURN -/
theorem lm_body {post : St2 → Prop} {k x : Int32} (hk : lm_runs k x) (h1 : a1 0 = k) (h2 : a2 0 = x) (h80 : k = 0 → a8 0 = 1 ∧ a9 0 = x) (h81 : ¬ k = 0 → a8 0 = 0)
    (H : ∀ (d l g : Int32) (b11 b12 b13 b14 b15 : Nat → Int32), b11 0 = k → (¬ k = 2 → b12 0 = x) → b11 1 = 25 → post (ec, fc, 2, d, l, g, hn, uc, mk, mg, wc, tp, fr, pc, oc, sc, rs, rn, lv, a1, a2, a3, a4, a5, a6, a7, a8, a9, a10, b11, b12, b13, b14, b15, a16, a17, a18, a19, a20, a21, a22, a23, a24, a25, a26)) : wpX_compileBody post (ec, fc, 0, dp, lc, ht, hn, uc, mk, mg, wc, tp, fr, pc, oc, sc, rs, rn, lv, a1, a2, a3, a4, a5, a6, a7, a8, a9, a10, a11, a12, a13, a14, a15, a16, a17, a18, a19, a20, a21, a22, a23, a24, a25, a26) 0 := by
  unfold wpX_compileBody
  dsimp only
  refine nm_r (e' := 0) (by decide) ⟨lm_in0 34 (by decide) (by decide), fun b13 e13 => ⟨lm_in0 34 (by decide) (by decide), fun b14 e14 => ⟨lm_in0 34 (by decide) (by decide), fun b15 e15 => ⟨2, ?_⟩⟩⟩⟩
  dsimp only
  refine br_f (by decide) ⟨lm_in0 34 (by decide) (by decide), nm_e ⟨lm_in0 34 (by decide) (by decide), ⟨lm_in0 34 (by decide) (by decide), fun c14 f14 => ?_⟩⟩⟩
  refine lm_cstep hk ((lm_u0 e13).trans (by decide)) h1 h2 h80 h81 (fun g b11 b12 g11 g12 => br_f (by decide) (nm_r (e' := -1) (by decide) (br_t (by decide) ?_)))
  refine lm_write1 (fun c11 c12 i11 i12 i25 => ?_)
  exact H _ _ _ c11 c12 b13 c14 b15 (i11.trans g11) (fun n => i12.trans (g12 n)) (i25.trans (by decide))
theorem lm_pushV {post : Int32 → St2 → Prop} {v : Int64} (H : ∀ b24 : Nat → Int64, b24 2 = v → post (-1) (ec, fc, ce, dp, lc, ht, hn, uc, mk, mg, wc, 3, fr, pc, oc, sc, rs, rn, lv, a1, a2, a3, a4, a5, a6, a7, a8, a9, a10, a11, a12, a13, a14, a15, a16, a17, a18, a19, a20, a21, a22, a23, b24, a25, a26)) : wpX_pushValue post (ec, fc, ce, dp, lc, ht, hn, uc, mk, mg, wc, 2, fr, pc, oc, sc, rs, rn, lv, a1, a2, a3, a4, a5, a6, a7, a8, a9, a10, a11, a12, a13, a14, a15, a16, a17, a18, a19, a20, a21, a22, a23, a24, a25, a26) v :=
  ⟨pk_in 2 500 (by decide), fun b24 e24 => nm_r (e' := 3) (by decide) (H b24 (by rw [e24, pk_cl (x := 2) 2]; exact pk_uLs))⟩
/-- the value of a leaf -/
def lm_val (k x : Int32) (v : Int64) : Prop := (k = 0 → v = ((x.toInt64 <<< ((2 : Int32).toInt64 &&& 63)) ||| 1)) ∧ (¬ k = 0 → v = 0)
theorem lm_step1 {post : Int32 → St2 → Prop} {k x : Int32} (hk : lm_runs k x) (h11 : a11 0 = k) (h12 : ¬ k = 2 → a12 0 = x) (h23 : ∀ j, j < 4 → a23 j = 0)
    (H : ∀ (v : Int64) (b24 : Nat → Int64), lm_val k x v → b24 2 = v → post (-1) (ec, fc, ce, dp, lc, ht, hn, uc, mk, mg, wc, 3, fr, 1, oc, sc, rs, rn, lv, a1, a2, a3, a4, a5, a6, a7, a8, a9, a10, a11, a12, a13, a14, a15, a16, a17, a18, a19, a20, a21, a22, a23, b24, a25, a26)) : wpX_step post (ec, fc, ce, dp, lc, ht, hn, uc, mk, mg, wc, 2, fr, 0, oc, sc, rs, rn, lv, a1, a2, a3, a4, a5, a6, a7, a8, a9, a10, a11, a12, a13, a14, a15, a16, a17, a18, a19, a20, a21, a22, a23, a24, a25, a26) := by
  refine ⟨lm_in0 1560 (by decide) (by decide), nm_r (e' := k) (by rw [sb_cl0]; exact h11) ⟨lm_in0 1560 (by decide) (by decide), nm_r (e' := a12 0) (by rw [sb_cl0]) (nm_r (e' := 1) (by decide) ?_)⟩⟩
  rcases hk with e | e | ⟨e, g1, g2⟩
  · subst e
    rw [h12 (by decide)]
    refine br_t rfl ?_
    unfold wpX_pushInt
    dsimp only
    unfold wpX_intValue
    dsimp only
    exact lm_pushV (fun b24 e24 => H _ b24 ⟨fun _ => rfl, fun n => absurd rfl n⟩ e24)
  · subst e
    refine br_f (by decide) (br_f (by decide) (br_f (by decide) (br_t rfl ?_)))
    exact lm_pushV (fun b24 e24 => H _ b24 ⟨fun t => absurd t (by decide), fun _ => rfl⟩ e24)
  · subst e
    rw [h12 (by decide)]
    obtain ⟨j, hj, ej⟩ := lm_x3 g1 g2
    subst ej
    refine br_f (by decide) (br_f (by decide) (br_f (by decide) (br_f (by decide) (br_t rfl ⟨pk_in j 4 hj, ?_⟩))))
    rw [nI_clamp (by omega), h23 j hj]
    exact lm_pushV (fun b24 e24 => H _ b24 ⟨fun t => absurd t (by decide), fun _ => rfl⟩ e24)
theorem lm_sortOf0 {post : Int32 → Prop} (h : post 0) : wpX_sortOf post (ec, fc, ce, dp, lc, ht, hn, uc, mk, mg, wc, tp, fr, pc, oc, sc, rs, rn, lv, a1, a2, a3, a4, a5, a6, a7, a8, a9, a10, a11, a12, a13, a14, a15, a16, a17, a18, a19, a20, a21, a22, a23, a24, a25, a26) 0 := br_t rfl h
theorem lm_giveBack {post : Int32 → St2 → Prop} {k x : Int32} {v : Int64} (hv : lm_val k x v) (h24 : a24 2 = v)
    (H : ∀ s t : Int32, (k = 0 → s = 1 ∧ t = x) → (¬ k = 0 → s = 0 ∧ t = 0) → post 0 (ec, fc, ce, dp, lc, ht, hn, uc, mk, mg, wc, 3, fr, pc, 0, sc, s, t, lv, a1, a2, a3, a4, a5, a6, a7, a8, a9, a10, a11, a12, a13, a14, a15, a16, a17, a18, a19, a20, a21, a22, a23, a24, a25, a26)) : wpX_giveBack post (ec, fc, ce, dp, lc, ht, hn, uc, mk, mg, wc, 3, fr, pc, 0, sc, rs, rn, lv, a1, a2, a3, a4, a5, a6, a7, a8, a9, a10, a11, a12, a13, a14, a15, a16, a17, a18, a19, a20, a21, a22, a23, a24, a25, a26) := by
  refine ⟨pk_in 2 500 (by decide) (by decide), nm_r (e' := v) (by rw [pk_cl (x := 3 - 1) 2 (by decide)]; exact h24) (br_t rfl ?_)⟩
  by_cases e : k = 0
  · rw [hv.1 e]
    refine br_f (lm_v0 x) (br_t (lm_v3 x) (br_t rfl (nm_r (e' := x) (lm_vx x) ?_)))
    exact H 1 x (fun _ => ⟨rfl, rfl⟩) (fun n => absurd e n)
  · rw [hv.2 e]
    refine lm_sortOf0 (br_f (by decide) ?_)
    exact H 0 0 (fun t => absurd t e) (fun _ => ⟨rfl, rfl⟩)
theorem lm_step2 {post : Int32 → St2 → Prop} {k x : Int32} {v : Int64} (hv : lm_val k x v) (h24 : a24 2 = v) (h11 : a11 1 = 25)
    (H : ∀ s t : Int32, (k = 0 → s = 1 ∧ t = x) → (¬ k = 0 → s = 0 ∧ t = 0) → post 0 (ec, fc, ce, dp, lc, ht, hn, uc, mk, mg, wc, 3, fr, 2, 0, sc, s, t, lv, a1, a2, a3, a4, a5, a6, a7, a8, a9, a10, a11, a12, a13, a14, a15, a16, a17, a18, a19, a20, a21, a22, a23, a24, a25, a26)) : wpX_step post (ec, fc, ce, dp, lc, ht, hn, uc, mk, mg, wc, 3, fr, 1, 0, sc, rs, rn, lv, a1, a2, a3, a4, a5, a6, a7, a8, a9, a10, a11, a12, a13, a14, a15, a16, a17, a18, a19, a20, a21, a22, a23, a24, a25, a26) := by
  refine ⟨pk_in 1 1560 (by decide), nm_r (e' := 25) (by rw [pk_cl (x := 1) 1]; exact h11) ⟨pk_in 1 1560 (by decide), nm_e (nm_r (e' := 2) (by decide) ?_)⟩⟩
  refine br_f (by decide) (br_f (by decide) (br_f (by decide) (br_f (by decide) (br_f (by decide) (br_t (by decide) (br_f (by decide) (br_f (by decide) (br_f (by decide) (br_t (by decide) ?_)))))))))
  unfold wX_step_150
  refine br_f (by decide) (br_f (by decide) (br_t rfl ?_))
  exact lm_giveBack hv h24 (fun s t g1 g2 => H s t g1 g2)
/-- run of a leaf that runs -/
theorem lm_run {post : Int32 → St2 → Prop} {k x : Int32} (hk : lm_runs k x) (h1 : a1 0 = k) (h2 : a2 0 = x) (h6 : a6 0 = 0) (h80 : k = 0 → a8 0 = 1 ∧ a9 0 = x) (h81 : ¬ k = 0 → a8 0 = 0) (h23 : ∀ j, j < 4 → a23 j = 0)
    (H : ∀ (e d l g s t : Int32) (b11 b12 b13 b14 b15 : Nat → Int32) (b24 : Nat → Int64), (k = 0 → s = 1 ∧ t = x) → (¬ k = 0 → s = 0 ∧ t = 0) →
      post 0 (1, fc, e, d, l, g, 0, uc, mk, mg, wc, 0, 0, 2, 0, 0, s, t, lv, a1, a2, a3, a4, a5, a6, a7, a8, a9, a10, b11, b12, b13, b14, b15, a16, a17, a18, a19, a20, a21, a22, a23, b24, a25, a26)) : wpX_run post (1, fc, ce, dp, lc, ht, hn, uc, mk, mg, wc, tp, fr, pc, oc, sc, rs, rn, lv, a1, a2, a3, a4, a5, a6, a7, a8, a9, a10, a11, a12, a13, a14, a15, a16, a17, a18, a19, a20, a21, a22, a23, a24, a25, a26) 0 := by
  unfold wpX_run
  dsimp only
  refine lm_isExp1 (fun n => absurd rfl n) (fun _ => br_f (by decide) ⟨lm_in0 60 (by decide) (by decide), br_t (by rw [sb_cl0, h6]; decide) ?_⟩)
  refine lm_body hk h1 h2 h80 h81 (fun d l g b11 b12 b13 b14 b15 i11 i12 i25 => nm_e (nm_e ⟨3, br_t rfl ?_⟩))
  refine lm_step1 hk i11 i12 h23 (fun v b24 hv e24 => br_t rfl ?_)
  refine lm_step2 hv e24 i25 (fun s t g1 g2 => br_f (by decide) ?_)
  exact H _ d l g s t b11 b12 b13 b14 b15 b24 g1 g2
end
end
section
/-! ===== sort: nothing is in the globals ===== -/
def lm_good (g p : Int32) : Prop := ¬ g < 0 ∧ ¬ 3 < g ∧ ¬ p < 0 ∧ ¬ 65535 < p ∧ ¬ (p &&& 43690) = 0
section
variable {ec fc ce dp lc ht hn uc mg wc tp fr pc oc sc rs rn lv : Int32} {mk : Int64} {a1 a2 a3 a4 a5 a6 a7 a8 a9 a10 a11 a12 a13 a14 a15 a16 a17 a18 a19 a20 a22 a25 a26 : Nat → Int32} {a21 a23 a24 : Nat → Int64}
theorem lm_hasEnd4 {post : Int32 → Prop} : ∀ (j k p : Nat), k + j = 8 → p < 2 ^ 31 → (p &&& lm_M j = 0 → post 0) → (¬ p &&& lm_M j = 0 → post 1) → wX_hasEnd_4 post ec fc ce dp lc ht hn uc mk mg wc tp fr pc oc sc rs rn lv a1 a2 a3 a4 a5 a6 a7 a8 a9 a10 a11 a12 a13 a14 a15 a16 a17 a18 a19 a20 a21 a22 a23 a24 a25 a26 (j + 1) (nI p) (nI k)
  | 0, k, p, hk, hp, h0, h1 => by
    have hk8 : k = 8 := by omega
    subst hk8
    exact br_t (by decide) (h0 (Nat.and_zero p))
  | j + 1, k, p, hk, hp, h0, h1 => by
    have hm : p &&& lm_M (j + 1) = 0 ↔ p % 2 ^ 2 ≤ 1 ∧ (p / 2 ^ 2) &&& lm_M j = 0 := lm_mask p (lm_M j)
    have e3 : nI p &&& 3 = nI (p % 2 ^ 2) := pk_andN (by omega) 2 (by decide)
    refine br_f (nI_ge (b := 8) (by omega) (by decide)) ?_
    rw [e3]
    refine pk_le (p % 2 ^ 2) 1 (fun z => ?_) (fun z => ?_)
    · refine nm_r (pk_shrN hp _ 2 (by decide)) (nm_r (nI_1 k) ?_)
      exact lm_hasEnd4 j (k + 1) (p / 2 ^ 2) (by omega) (by omega) (fun t => h0 (hm.mpr ⟨z, t⟩)) (fun t => h1 (fun t' => t (hm.mp t').2))
    · exact h1 (fun t => absurd (hm.mp t).1 (by omega))
theorem lm_hasEnd {post : Int32 → Prop} {p : Nat} (hp : p < 65536) (h0 : (nI p &&& 43690) = 0 → post 0) (h1 : ¬ (nI p &&& 43690) = 0 → post 1) : wpX_hasEnd post (ec, fc, ce, dp, lc, ht, hn, uc, mk, mg, wc, tp, fr, pc, oc, sc, rs, rn, lv, a1, a2, a3, a4, a5, a6, a7, a8, a9, a10, a11, a12, a13, a14, a15, a16, a17, a18, a19, a20, a21, a22, a23, a24, a25, a26) (nI p) := by
  refine ⟨9, ?_⟩
  exact lm_hasEnd4 8 0 p (by decide) (by omega) (fun t => h0 ((lm_end hp).mpr t)) (fun t => h1 (fun t' => t ((lm_end hp).mp t')))
theorem lm_isWay {post : Int32 → Prop} {g p : Nat} (hg : g < 4) (hp : p < 65536) (h23 : ∀ j, j < 4 → a23 j = 0) (h0 : (nI p &&& 2) = 0 → post 0) (h1 : ¬ (nI p &&& 2) = 0 → post 1) : wpX_isWay post (ec, fc, ce, dp, lc, ht, hn, uc, mk, mg, wc, tp, fr, pc, oc, sc, rs, rn, lv, a1, a2, a3, a4, a5, a6, a7, a8, a9, a10, a11, a12, a13, a14, a15, a16, a17, a18, a19, a20, a21, a22, a23, a24, a25, a26) (nI g) (nI p) := by
  have e3 := lm_three hp
  have e2 := lm_two hp
  refine ⟨pk_in g 4 hg, nm_r (e' := 0) (by rw [nI_clamp (by omega)]; exact h23 g hg) ⟨1, ?_⟩⟩
  unfold wX_isWay_10
  rw [e3]
  refine pk_le 2 (p % 2 ^ 2) (fun z => h1 (fun t => absurd (e2.mp t) (by omega))) (fun z => ?_)
  exact lm_sortOf0 (br_f (by decide) (h0 (e2.mpr (by omega))))
theorem lm_follow {post : Int64 → Prop} {g p : Nat} (hg : g < 4) (hp : p < 65536) (h23 : ∀ j, j < 4 → a23 j = 0) (hw : ¬ (nI p &&& 2) = 0) (h : post 0) : wpX_follow post (ec, fc, ce, dp, lc, ht, hn, uc, mk, mg, wc, tp, fr, pc, oc, sc, rs, rn, lv, a1, a2, a3, a4, a5, a6, a7, a8, a9, a10, a11, a12, a13, a14, a15, a16, a17, a18, a19, a20, a21, a22, a23, a24, a25, a26) (nI g) (nI p) := by
  have e3 := lm_three hp
  have e2 := lm_two hp
  refine ⟨pk_in g 4 hg, nm_r (e' := 0) (by rw [nI_clamp (by omega)]; exact h23 g hg) ⟨1, ?_⟩⟩
  unfold wX_follow_10
  rw [e3]
  exact pk_le 2 (p % 2 ^ 2) (fun z => h) (fun z => absurd (e2.mpr (by omega)) hw)
theorem lm_sort {post : Int32 → Prop} {g p : Int32} (h23 : ∀ j, j < 4 → a23 j = 0) (hb : ¬ lm_good g p → post (-1)) (h3 : lm_good g p → (p &&& 2) = 0 → post (-3)) (h0 : lm_good g p → ¬ (p &&& 2) = 0 → post 0) : wpX_sort post (ec, fc, ce, dp, lc, ht, hn, uc, mk, mg, wc, tp, fr, pc, oc, sc, rs, rn, lv, a1, a2, a3, a4, a5, a6, a7, a8, a9, a10, a11, a12, a13, a14, a15, a16, a17, a18, a19, a20, a21, a22, a23, a24, a25, a26) g p := by
  refine br_c (fun t => hb (fun u => u.1 t)) (fun g1 => br_c (fun t => hb (fun u => u.2.1 t)) (fun g2 => br_c (fun t => hb (fun u => u.2.2.1 t)) (fun p1 => br_c (fun t => hb (fun u => u.2.2.2.1 t)) (fun p2 => ?_))))
  obtain ⟨g', hg, eg⟩ := lm_x3 g1 g2
  obtain ⟨p', hp, ep⟩ := lm_x16 p1 p2
  subst eg ep
  refine lm_hasEnd hp (fun t => br_t rfl (hb (fun u => u.2.2.2.2 t))) (fun t => br_f (by decide) ?_)
  have hgood : lm_good (nI g') (nI p') := ⟨g1, g2, p1, p2, t⟩
  refine lm_isWay hg hp h23 (fun w => br_t rfl (h3 hgood w)) (fun w => br_f (by decide) ?_)
  exact lm_follow hg hp h23 w (lm_sortOf0 (h0 hgood w))
end
end
section
/-! ===== the law ===== -/
section
variable {ec fc ce dp lc ht hn uc mg wc tp fr pc oc sc rs rn lv : Int32} {mk : Int64} {a1 a2 a3 a4 a5 a6 a7 a8 a9 a10 a11 a12 a13 a14 a15 a16 a17 a18 a19 a20 a22 a25 a26 : Nat → Int32} {a21 a23 a24 : Nat → Int64}
variable {post : Int32 → St0 → Prop} {mc ms kc ks : Nat} {x0 x1 x2 x3 x4 x5 x6 x7 x8 r z0 z1 : Int32}
theorem lm_263 (h : post 1 ()) (e : z1 = z0) : wL_lawOf_263 post mc ms z0 z1 kc ks := br_t e h
theorem lm_262 (h : post 1 ()) : wL_lawOf_262 post mc ms (-1) kc ks := by
  unfold wL_lawOf_262
  exact lm_263 h rfl
theorem lm_9 : ¬ lm_leaf 9 0 := by
  intro h
  rcases h with h | ⟨h, -⟩ | h | ⟨h, -⟩
  · exact absurd h (by decide)
  · exact absurd h (by decide)
  · exact absurd h (by decide)
  · exact absurd h (by decide)
theorem lm_234bad (h : post 1 ()) : wL_lawOf_234 post mc ms x2 0 r r kc ks 0 fc ce dp lc ht hn uc mk mg wc tp fr pc oc sc rs rn lv a1 a2 a3 a4 a5 a6 a7 a8 a9 a10 a11 a12 a13 a14 a15 a16 a17 a18 a19 a20 a21 a22 a23 a24 a25 a26 := by
  unfold wL_lawOf_234
  exact br_t rfl (lm_badE lm_9 (br_t rfl (lm_262 h)))
theorem lm_234leaf (h : post 1 ()) (h5 : a5 0 = 1) (h6 : ¬ 8 < a6 0) : wL_lawOf_234 post mc ms x2 1 r r kc ks 1 fc ce dp lc ht hn uc mk mg wc tp fr pc oc sc rs rn 2 a1 a2 a3 a4 a5 a6 a7 a8 a9 a10 a11 a12 a13 a14 a15 a16 a17 a18 a19 a20 a21 a22 a23 a24 a25 a26 := by
  unfold wL_lawOf_234
  exact br_t rfl (lm_pairE h5 h6 (fun n => br_f (by decide) (br_f n (lm_262 h))) (fun e b1 b2 b3 b4 b5 b6 b7 b8 => br_f (by decide) (br_t e (lm_263 h rfl))))
theorem lm_199 (h23 : ∀ j, j < 4 → a23 j = 0) (h8 : (x8 = 0 ∧ ¬ lm_good x3 x4) ∨ (x8 = 1 ∧ lm_good x3 x4)) (hz : z1 = z0) (H : ∀ q, wL_lawOf_234 post mc ms x2 x5 q q kc ks ec fc ce dp lc ht hn uc mk mg wc tp fr pc oc sc rs rn lv a1 a2 a3 a4 a5 a6 a7 a8 a9 a10 a11 a12 a13 a14 a15 a16 a17 a18 a19 a20 a21 a22 a23 a24 a25 a26) : wL_lawOf_199 post mc ms x2 x3 x4 x5 x8 z0 z1 kc ks ec fc ce dp lc ht hn uc mk mg wc tp fr pc oc sc rs rn lv a1 a2 a3 a4 a5 a6 a7 a8 a9 a10 a11 a12 a13 a14 a15 a16 a17 a18 a19 a20 a21 a22 a23 a24 a25 a26 := by
  unfold wL_lawOf_199
  refine br_t hz ?_
  rcases h8 with ⟨e, hg⟩ | ⟨e, hg⟩
  · subst e
    exact lm_sort h23 (fun _ => br_t rfl (H _)) (fun t => absurd t hg) (fun t => absurd t hg)
  · subst e
    exact lm_sort h23 (fun t => absurd hg t) (fun _ w => br_f (by decide) (br_t w (H _))) (fun _ w => br_f (by decide) (br_f w (H _)))
theorem lm_180 (h23 : ∀ j, j < 4 → a23 j = 0) (h8 : (x8 = 0 ∧ ¬ lm_good x3 x4) ∨ (x8 = 1 ∧ lm_good x3 x4)) (hn0 : x0 = 0 → rn = x1) (hn1 : ¬ x0 = 0 → rn = 0) (hz : z1 = z0) (H : ∀ q, wL_lawOf_234 post mc ms x2 x5 q q kc ks ec fc ce dp lc ht hn uc mk mg wc tp fr pc oc sc rs rn lv a1 a2 a3 a4 a5 a6 a7 a8 a9 a10 a11 a12 a13 a14 a15 a16 a17 a18 a19 a20 a21 a22 a23 a24 a25 a26) : wL_lawOf_180 post mc ms x0 x1 x2 x3 x4 x5 x8 z0 z1 kc ks ec fc ce dp lc ht hn uc mk mg wc tp fr pc oc sc rs rn lv a1 a2 a3 a4 a5 a6 a7 a8 a9 a10 a11 a12 a13 a14 a15 a16 a17 a18 a19 a20 a21 a22 a23 a24 a25 a26 := by
  unfold wL_lawOf_180
  refine br_t hz ?_
  unfold wpX_given
  exact br_c (fun e => lm_199 h23 h8 (hn0 e) H) (fun e => lm_199 h23 h8 (hn1 e) H)
theorem lm_159 (h23 : ∀ j, j < 4 → a23 j = 0) (h8 : (x8 = 0 ∧ ¬ lm_good x3 x4) ∨ (x8 = 1 ∧ lm_good x3 x4)) (hs0 : x6 = 0 → rs = 0) (hs1 : ¬ x6 = 0 → rs = x7) (hn0 : x0 = 0 → rn = x1) (hn1 : ¬ x0 = 0 → rn = 0) (hz : z1 = z0) (H : ∀ q, wL_lawOf_234 post mc ms x2 x5 q q kc ks ec fc ce dp lc ht hn uc mk mg wc tp fr pc oc sc rs rn lv a1 a2 a3 a4 a5 a6 a7 a8 a9 a10 a11 a12 a13 a14 a15 a16 a17 a18 a19 a20 a21 a22 a23 a24 a25 a26) : wL_lawOf_159 post mc ms x0 x1 x2 x3 x4 x5 x6 x7 x8 z0 z1 kc ks ec fc ce dp lc ht hn uc mk mg wc tp fr pc oc sc rs rn lv a1 a2 a3 a4 a5 a6 a7 a8 a9 a10 a11 a12 a13 a14 a15 a16 a17 a18 a19 a20 a21 a22 a23 a24 a25 a26 := by
  unfold wL_lawOf_159
  refine br_t hz ?_
  unfold wpX_givenSort
  exact br_c (fun e => lm_180 h23 h8 hn0 hn1 (hs0 e) H) (fun e => lm_180 h23 h8 hn0 hn1 (hs1 e) H)
/-- not a leaf -/
theorem lm_138bad (h : post 1 ()) (h23 : ∀ j, j < 4 → a23 j = 0) (h8 : (x8 = 0 ∧ ¬ lm_good x3 x4) ∨ (x8 = 1 ∧ lm_good x3 x4)) (hk : ¬ x0 = 0) : wL_lawOf_138 post mc ms x0 x1 x2 x3 x4 0 0 x7 x8 r r kc ks 0 fc ce dp lc ht hn uc mk mg wc tp fr pc oc sc 0 0 lv a1 a2 a3 a4 a5 a6 a7 a8 a9 a10 a11 a12 a13 a14 a15 a16 a17 a18 a19 a20 a21 a22 a23 a24 a25 a26 := by
  unfold wL_lawOf_138
  refine br_t rfl (lm_runBad0 (br_t rfl ?_))
  exact lm_159 h23 h8 (fun _ => rfl) (fun n => absurd rfl n) (fun e => absurd e hk) (fun _ => rfl) rfl (fun q => lm_234bad h)
/-- a variable: an expression, but it can't be run -/
theorem lm_138var (h : post 1 ()) (h23 : ∀ j, j < 4 → a23 j = 0) (h8 : (x8 = 0 ∧ ¬ lm_good x3 x4) ∨ (x8 = 1 ∧ lm_good x3 x4)) (hk : ¬ x0 = 0) (h5 : a5 0 = 1) (h6 : ¬ 8 < a6 0) (h60 : ¬ a6 0 ≤ 0) : wL_lawOf_138 post mc ms x0 x1 x2 x3 x4 1 0 x7 x8 r r kc ks 1 fc ce dp lc ht hn uc mk mg wc tp fr pc oc sc 0 0 2 a1 a2 a3 a4 a5 a6 a7 a8 a9 a10 a11 a12 a13 a14 a15 a16 a17 a18 a19 a20 a21 a22 a23 a24 a25 a26 := by
  unfold wL_lawOf_138
  refine br_t rfl (lm_runBad1 h60 (br_t rfl ?_))
  exact lm_159 h23 h8 (fun _ => rfl) (fun n => absurd rfl n) (fun e => absurd e hk) (fun _ => rfl) rfl (fun q => lm_234leaf h h5 h6)
/-- a leaf that runs -/
theorem lm_138run (h : post 1 ()) (h23 : ∀ j, j < 4 → a23 j = 0) (h8 : (x8 = 0 ∧ ¬ lm_good x3 x4) ∨ (x8 = 1 ∧ lm_good x3 x4)) (h70 : x0 = 0 → x7 = 1) (h71 : ¬ x0 = 0 → x7 = 0) (hk : lm_runs x0 x1) (h1 : a1 0 = x0) (h2 : a2 0 = x1) (h5 : a5 0 = 1) (h6 : ¬ 8 < a6 0) (h60 : a6 0 = 0) (h80 : x0 = 0 → a8 0 = 1 ∧ a9 0 = x1) (h81 : ¬ x0 = 0 → a8 0 = 0) : wL_lawOf_138 post mc ms x0 x1 x2 x3 x4 1 1 x7 x8 r r kc ks 1 fc ce dp lc ht hn uc mk mg wc tp fr pc oc sc rs rn 2 a1 a2 a3 a4 a5 a6 a7 a8 a9 a10 a11 a12 a13 a14 a15 a16 a17 a18 a19 a20 a21 a22 a23 a24 a25 a26 := by
  unfold wL_lawOf_138
  refine br_t rfl (lm_run hk h1 h2 h60 h80 h81 h23 (fun e d l g s t b11 b12 b13 b14 b15 b24 g0 g1 => br_f (by decide) ?_))
  refine lm_159 h23 h8 (fun w => absurd w (by decide)) (fun _ => ?_) (fun w => (g0 w).2) (fun w => (g1 w).2) rfl (fun q => lm_234leaf h h5 h6)
  by_cases w : x0 = 0
  · rw [h70 w]
    exact (g0 w).1
  · rw [h71 w]
    exact (g1 w).1
end
section
variable {post : Int32 → St0 → Prop} {x0 x1 x2 x3 x4 x5 x6 x7 x8 : Int32}
/-- the machine is made, and asked -/
theorem lm_108 (h : post 1 ()) (h5 : (x5 = 0 ∧ ¬ lm_leaf x0 x1) ∨ (x5 = 1 ∧ lm_leaf x0 x1)) (h6 : (x6 = 0 ∧ (x5 = 0 ∨ x0 = 1)) ∨ (x6 = 1 ∧ ¬ x5 = 0 ∧ ¬ x0 = 1)) (h70 : x0 = 0 → x7 = 1) (h71 : ¬ x0 = 0 → x7 = 0)
    (h8 : (x8 = 0 ∧ ¬ lm_good x3 x4) ∨ (x8 = 1 ∧ lm_good x3 x4)) : wL_lawOf_108 post 27 5039 x0 x1 x2 x3 x4 x5 x6 x7 x8 0 0 := by
  unfold wL_lawOf_108
  refine ⟨by decide, by decide, 26, 4994, by decide, by decide, by decide, by decide, by decide, by decide, by decide, by decide, by decide, by decide, by decide, by decide, by decide, by decide, by decide, by decide, by decide, by decide, by decide, by decide, by decide, by decide, by decide, by decide, by decide, by decide, by decide, by decide, by decide, by decide, by decide, by decide, by decide, by decide, by decide, by decide, by decide, by decide, by decide, by decide, by decide, by decide, by decide, by decide, by decide, by decide, by decide, by decide, by decide, by decide, by decide, by decide, by decide, by decide, ?_⟩
  rcases h5 with ⟨e5, hk⟩ | ⟨e5, hk⟩
  · subst e5
    rcases h6 with ⟨e6, -⟩ | ⟨-, n, -⟩
    · subst e6
      exact lm_badE hk (br_t rfl (lm_138bad h (fun _ _ => rfl) h8 (fun e => hk (Or.inl e))))
    · exact absurd rfl n
  · subst e5
    refine lm_leafE hk (fun b1 b2 b3 b4 b5 b6 b7 b8 b9 i1 i2 i5 i6 i61 i60 i80 i81 => br_f (by decide) ?_)
    rcases h6 with ⟨e6, w | w⟩ | ⟨e6, -, w⟩
    · exact absurd w (by decide)
    · subst e6
      exact lm_138var h (fun _ _ => rfl) h8 (fun e => by rw [w] at e; exact absurd e (by decide)) i5 i6 (i61 w)
    · subst e6
      have hr : lm_runs x0 x1 := by
        rcases hk with e | e | e | e
        · exact Or.inl e
        · exact absurd e.1 w
        · exact Or.inr (Or.inl e)
        · exact Or.inr (Or.inr e)
      exact lm_138run h (fun _ _ => rfl) h8 h70 h71 hr i1 i2 i5 i6 (i60 w) i80 i81
theorem lm_107 (h : post 1 ()) (h5 : (x5 = 0 ∧ ¬ lm_leaf x0 x1) ∨ (x5 = 1 ∧ lm_leaf x0 x1)) (h6 : (x6 = 0 ∧ (x5 = 0 ∨ x0 = 1)) ∨ (x6 = 1 ∧ ¬ x5 = 0 ∧ ¬ x0 = 1)) (h70 : x0 = 0 → x7 = 1) (h71 : ¬ x0 = 0 → x7 = 0)
    (h8 : ¬ lm_good x3 x4) : wL_lawOf_107 post 27 5039 x0 x1 x2 x3 x4 x5 x6 x7 0 0 := by
  unfold wL_lawOf_107
  exact lm_108 h h5 h6 h70 h71 (Or.inl ⟨rfl, h8⟩)
theorem lm_72 (h : post 1 ()) (h5 : (x5 = 0 ∧ ¬ lm_leaf x0 x1) ∨ (x5 = 1 ∧ lm_leaf x0 x1)) (h6 : (x6 = 0 ∧ (x5 = 0 ∨ x0 = 1)) ∨ (x6 = 1 ∧ ¬ x5 = 0 ∧ ¬ x0 = 1)) (h70 : x0 = 0 → x7 = 1) (h71 : ¬ x0 = 0 → x7 = 0) : wL_lawOf_72 post 27 5039 x0 x1 x2 x3 x4 x5 x6 x7 0 0 := by
  unfold wL_lawOf_72
  refine br_c (fun t => lm_107 h h5 h6 h70 h71 (fun u => u.1 t)) (fun g1 => ?_)
  refine br_c (fun t => lm_107 h h5 h6 h70 h71 (fun u => u.2.1 t)) (fun g2 => ?_)
  refine br_c (fun t => lm_107 h h5 h6 h70 h71 (fun u => u.2.2.1 t)) (fun g3 => ?_)
  refine br_c (fun t => lm_107 h h5 h6 h70 h71 (fun u => u.2.2.2.1 t)) (fun g4 => ?_)
  refine br_c (fun t => lm_107 h h5 h6 h70 h71 (fun u => u.2.2.2.2 t)) (fun g5 => ?_)
  exact lm_108 h h5 h6 h70 h71 (Or.inr ⟨rfl, g1, g2, g3, g4, g5⟩)
theorem lm_61 (h : post 1 ()) (h5 : (x5 = 0 ∧ ¬ lm_leaf x0 x1) ∨ (x5 = 1 ∧ lm_leaf x0 x1)) (h6 : (x6 = 0 ∧ (x5 = 0 ∨ x0 = 1)) ∨ (x6 = 1 ∧ ¬ x5 = 0 ∧ ¬ x0 = 1)) : wL_lawOf_61 post 27 5039 x0 x1 x2 x3 x4 x5 x6 0 0 := by
  unfold wL_lawOf_61
  exact br_c (fun e => lm_72 h h5 h6 (fun _ => rfl) (fun n => absurd e n)) (fun n => lm_72 h h5 h6 (fun e => absurd e n) (fun _ => rfl))
theorem lm_60 (h : post 1 ()) (h5 : (x5 = 0 ∧ ¬ lm_leaf x0 x1) ∨ (x5 = 1 ∧ lm_leaf x0 x1)) (h6 : x5 = 0 ∨ x0 = 1) : wL_lawOf_60 post 27 5039 x0 x1 x2 x3 x4 x5 0 0 := by
  unfold wL_lawOf_60
  exact lm_61 h h5 (Or.inl ⟨rfl, h6⟩)
theorem lm_44 (h : post 1 ()) (h5 : (x5 = 0 ∧ ¬ lm_leaf x0 x1) ∨ (x5 = 1 ∧ lm_leaf x0 x1)) : wL_lawOf_44 post 27 5039 x0 x1 x2 x3 x4 x5 0 0 := by
  unfold wL_lawOf_44
  exact br_c (fun e => lm_60 h h5 (Or.inl e)) (fun n => br_c (fun e => lm_60 h h5 (Or.inr e)) (fun n1 => lm_61 h h5 (Or.inr ⟨rfl, n, n1⟩)))
theorem lm_39 (h : post 1 ()) (hk : lm_leaf x0 x1) : wL_lawOf_39 post 27 5039 x0 x1 x2 x3 x4 0 0 := by
  unfold wL_lawOf_39
  exact lm_44 h (Or.inr ⟨rfl, hk⟩)
theorem lm_43 (h : post 1 ()) (hk : ¬ lm_leaf x0 x1) : wL_lawOf_43 post 27 5039 x0 x1 x2 x3 x4 0 0 := by
  unfold wL_lawOf_43
  exact lm_44 h (Or.inl ⟨rfl, hk⟩)
theorem lm_19 (h : post 1 ()) (n0 : ¬ x0 = 0) (n1 : x0 = 1 → x1 < 0 ∨ 7 < x1) : wL_lawOf_19 post 27 5039 x0 x1 x2 x3 x4 0 0 := by
  unfold wL_lawOf_19
  have N1 : ¬ (x0 = 1 ∧ ¬ x1 < 0 ∧ ¬ 7 < x1) := fun t => (n1 t.1).elim t.2.1 t.2.2
  refine br_c (fun e => lm_39 h (Or.inr (Or.inr (Or.inl e)))) (fun n2 => br_c (fun e => ?_) (fun n17 => ?_))
  · refine br_c (fun g => lm_43 h ?_) (fun g1 => br_c (fun g => lm_43 h ?_) (fun g2 => lm_39 h (Or.inr (Or.inr (Or.inr ⟨e, g1, g2⟩)))))
    · intro t
      rcases t with t | t | t | t
      · exact n0 t
      · exact N1 t
      · exact n2 t
      · exact t.2.1 g
    · intro t
      rcases t with t | t | t | t
      · exact n0 t
      · exact N1 t
      · exact n2 t
      · exact t.2.2 g
  · refine lm_43 h ?_
    intro t
    rcases t with t | t | t | t
    · exact n0 t
    · exact N1 t
    · exact n2 t
    · exact n17 t.1
theorem lm_lawOf (h : post 1 ()) : wpL_lawOf post 27 5039 () x0 x1 x2 x3 x4 := by
  unfold wpL_lawOf
  refine br_c (fun e => lm_39 h (Or.inl e)) (fun n0 => br_c (fun e => ?_) (fun n1 => lm_19 h n0 (fun t => absurd t n1)))
  refine br_c (fun g => lm_19 h n0 (fun _ => Or.inl g)) (fun g1 => br_c (fun g => lm_39 h (Or.inr (Or.inl ⟨e, g1, Int32.not_lt.mpr g⟩))) (fun g2 => lm_19 h n0 (fun _ => Or.inr (Int32.not_le.mp g2))))
theorem lm_cell {post : Int32 → Prop} {L : Nat} {xs : Nat → Int32} {p : Int32} (j : Nat) (hp : p = nI j) (hj : j < 2 ^ 31) (hL : L ≤ 5) (h : ∀ r, post r) : wpL_cellAt post L xs () p :=
  pk_le L j (fun _ => h _) (fun z => ⟨pk_in j L z hp, h _⟩) rfl hp
end
end
section
/-! ===== what is owed ===== -/
theorem i_vc (xs : Nat → Int32) (L : Nat) (hL : L ≤ 5) : wpL_law (fun r => r = 1) L xs := by
  unfold wpL_law
  refine lm_cell 0 rfl (by decide) hL (fun r1 => lm_cell 1 rfl (by decide) hL (fun r2 => lm_cell 2 rfl (by decide) hL (fun r3 => lm_cell 3 rfl (by decide) hL (fun r4 => lm_cell 4 rfl (by decide) hL (fun r5 => ?_)))))
  exact ⟨27, 5039, by decide, by decide, lm_lawOf rfl⟩
end
