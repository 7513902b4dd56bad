section
/-! bits of small numbers, and the class's static loops: times, headOf, valueAt, isPolynomial -/
theorem bb_sl : ∀ n, n < 32 → ((nI n &&& 31).toBitVec.smod 32).toNat = n := by decide +kernel
theorem bb_one : ∀ n, n < 16 → (1 : Int32) <<< ((nI n ||| 0) &&& 31) = nI (2 ^ n) := by decide +kernel
theorem bb_xor (a b : Nat) : nI a ^^^ nI b = nI (a ^^^ b) := by
  apply Int32.toBitVec_inj.1
  show BitVec.ofNat 32 a ^^^ BitVec.ofNat 32 b = BitVec.ofNat 32 (a ^^^ b)
  apply BitVec.eq_of_getLsbD_eq
  intro i hi
  simp [hi]
theorem bb_m2 (a : Nat) : a % 2 < 2 ^ 31 := Nat.lt_of_lt_of_le (Nat.mod_lt a (by decide)) (by decide)
theorem bb_and1 {a : Nat} (h : a < 2 ^ 32) : nI a &&& 1 = nI (a % 2) := pk_andN h (m := 1) 1 (by decide)
theorem bb_bitv {f m : Nat} (hf : f < 65536) (hm : m < 32) : (nI f >>> (nI m &&& 31)) &&& 1 = nI (f / 2 ^ m % 2) := by
  rw [pk_shrN (by omega) _ m (bb_sl m hm)]
  exact bb_and1 (Nat.lt_of_le_of_lt (Nat.div_le_self _ _) (by omega))
theorem bb_bit {f m : Nat} (hf : f < 65536) (hm : m < 32) : ((nI f >>> (nI m &&& 31)) &&& 1) = 0 ↔ f.testBit m = false := by
  rw [bb_bitv hf hm, ← nI_0, nI_eq (bb_m2 _) (by decide), Nat.testBit_eq_decide_div_mod_eq, decide_eq_false_iff_not]
  generalize f / 2 ^ m = z
  omega
theorem bb_bit0 {m : Nat} (hm : m < 32) : (((0 : Int32) >>> (nI m &&& 31)) &&& 1) = 0 := (bb_bit (f := 0) (by decide) hm).mpr (Nat.zero_testBit m)
theorem bb_lo1 {f i : Nat} (h : f.testBit i = true) : f % 2 ^ i ^^^ 2 ^ i = f % 2 ^ (i + 1) := by
  apply Nat.eq_of_testBit_eq
  intro j
  rw [Nat.testBit_xor, Nat.testBit_mod_two_pow, Nat.testBit_mod_two_pow, Nat.testBit_two_pow]
  by_cases e : j = i
  · subst e
    simp [h]
  · by_cases l : j < i
    · simp [l, show j < i + 1 by omega, Ne.symm e]
    · simp [l, show ¬ j < i + 1 by omega, Ne.symm e]
theorem bb_lo0 {f i : Nat} (h : f.testBit i = false) : f % 2 ^ i = f % 2 ^ (i + 1) := by
  apply Nat.eq_of_testBit_eq
  intro j
  rw [Nat.testBit_mod_two_pow, Nat.testBit_mod_two_pow]
  by_cases e : j = i
  · subst e
    simp [h]
  · by_cases l : j < i
    · simp [l, show j < i + 1 by omega]
    · simp [l, show ¬ j < i + 1 by omega]
theorem bb_nf {x : Bool} (h : ¬ x = false) : x = true := by
  cases x
  · exact absurd rfl h
  · rfl
/-- times ends, whatever it is given -/
theorem bb_tS {post : Int32 → Prop} (H : ∀ r, post r) (a b : Int32) : wpX_times post () a b := by
  show ∃ n, wX_times_4 post a b n 0 0
  exact pk_loop (fun n i s => wX_times_4 post a b n s (nI i)) (fun _ _ => True) 16 0 0 (by omega) trivial
    (fun n s _ => pk_le 16 16 (fun _ => H s) (fun z => absurd z (by omega)))
    (fun n i s hi _ hw => pk_le 16 i (fun z => absurd z (by omega)) (fun _ => br_c (fun _ => nm_r (nI_1 i) (hw _ trivial)) (fun _ => nm_e (nm_r (nI_1 i) (hw _ trivial)))))
/-- a polynomial times the monomial 0 (the constant one) is itself -/
theorem bb_t0 {post : Int32 → Prop} {f : Nat} (hf : f < 65536) (H : post (nI f)) : wpX_times post () (nI f) 0 := by
  show ∃ n, wX_times_4 post (nI f) 0 n 0 0
  refine pk_loop (fun n i s => wX_times_4 post (nI f) 0 n s (nI i)) (fun i s => s = nI (f % 2 ^ i)) 16 0 0 (by omega) ?_ ?_ ?_
  · show (0 : Int32) = nI (f % 2 ^ 0)
    rw [Nat.pow_zero, Nat.mod_one, nI_0]
  · intro n s h
    refine pk_le 16 16 (fun _ => ?_) (fun z => absurd z (by omega))
    have e : s = nI (f % 65536) := h
    rw [Nat.mod_eq_of_lt hf] at e
    rw [e]
    exact H
  · intro n i s hi h hw
    refine pk_le 16 i (fun z => absurd z (by omega)) (fun _ => br_c (fun z => nm_r (nI_1 i) (hw _ ?_)) (fun z => nm_e (nm_r (nI_1 i) (hw _ ?_))))
    · rw [bb_bit hf (by omega)] at z
      show s = nI (f % 2 ^ (i + 1))
      rw [← bb_lo0 z]
      exact h
    · rw [bb_bit hf (by omega)] at z
      show s ^^^ (1 : Int32) <<< ((nI i ||| 0) &&& 31) = nI (f % 2 ^ (i + 1))
      rw [bb_one i hi, show s = nI (f % 2 ^ i) from h, bb_xor, bb_lo1 (bb_nf z)]
/-- headOf ends, whatever it is given -/
theorem bb_hS {post : Int32 → Prop} (H : ∀ r, post r) (a : Int32) : wpX_headOf post () a := by
  show ∃ n, wX_headOf_4 post a n (-1) 0
  exact pk_loop (fun n i s => wX_headOf_4 post a n s (nI i)) (fun _ _ => True) 16 0 (-1) (by omega) trivial
    (fun n s _ => pk_le 16 16 (fun _ => H s) (fun z => absurd z (by omega)))
    (fun n i s hi _ hw => pk_le 16 i (fun z => absurd z (by omega)) (fun _ => br_c (fun _ => nm_r (nI_1 i) (hw _ trivial)) (fun _ => nm_r (nI_1 i) (hw _ trivial))))
/-- h is the head (the greatest bit) of f -/
def bb_top (f h : Nat) : Prop := h < 16 ∧ f.testBit h = true ∧ ∀ j, h < j → f.testBit j = false
theorem bb_hi {f j : Nat} (hf : f < 65536) (hj : 16 ≤ j) : f.testBit j = false := by
  apply Nat.testBit_lt_two_pow
  have h : 2 ^ 16 ≤ 2 ^ j := Nat.pow_le_pow_right (by decide) hj
  omega
theorem bb_hd {post : Int32 → Prop} {f : Nat} (hf : f < 65536) (h0 : f ≠ 0) (H : ∀ h, bb_top f h → post (nI h)) : wpX_headOf post () (nI f) := by
  show ∃ n, wX_headOf_4 post (nI f) n (-1) 0
  refine pk_loop (fun n i s => wX_headOf_4 post (nI f) n s (nI i)) (fun i s => (∃ h, h < i ∧ f.testBit h = true ∧ (∀ j, h < j → j < i → f.testBit j = false) ∧ s = nI h) ∨ (∀ j, j < i → f.testBit j = false)) 16 0 (-1) (by omega) (Or.inr (fun j hj => absurd hj (by omega))) ?_ ?_
  · intro n s h
    refine pk_le 16 16 (fun _ => ?_) (fun z => absurd z (by omega))
    rcases h with ⟨h, h1, h2, h3, h4⟩ | h
    · rw [h4]
      refine H h ⟨h1, h2, fun j hj => ?_⟩
      rcases Nat.lt_or_ge j 16 with z | z
      · exact h3 j hj z
      · exact bb_hi hf z
    · refine absurd (Nat.eq_of_testBit_eq (fun j => ?_)) h0
      rw [Nat.zero_testBit]
      rcases Nat.lt_or_ge j 16 with z | z
      · exact h j z
      · exact bb_hi hf z
  · intro n i s hi h hw
    refine pk_le 16 i (fun z => absurd z (by omega)) (fun _ => br_c (fun z => nm_r (nI_1 i) (hw _ ?_)) (fun z => nm_r (nI_1 i) (hw _ ?_)))
    · rw [bb_bit hf (by omega)] at z
      rcases h with ⟨h, h1, h2, h3, h4⟩ | h
      · refine Or.inl ⟨h, by omega, h2, fun j hj hj2 => ?_, h4⟩
        by_cases e : j = i
        · rw [e]
          exact z
        · exact h3 j hj (by omega)
      · exact Or.inr (lt_s h z)
    · rw [bb_bit hf (by omega)] at z
      exact Or.inl ⟨i, by omega, bb_nf z, fun j hj hj2 => absurd hj (by omega), rfl⟩
/-- valueAt ends, whatever it is given -/
theorem bb_vS {post : Int32 → Prop} (H : ∀ r, post r) (a b : Int32) : wpX_valueAt post () a b := by
  show ∃ n, wX_valueAt_4 post a b n 0 0
  exact pk_loop (fun n i s => wX_valueAt_4 post a b n s (nI i)) (fun _ _ => True) 16 0 0 (by omega) trivial
    (fun n s _ => pk_le 16 16 (fun _ => H s) (fun z => absurd z (by omega)))
    (fun n i s hi _ hw => pk_le 16 i (fun z => absurd z (by omega)) (fun _ => br_c (fun _ => nm_e (nm_r (nI_1 i) (hw _ trivial))) (fun _ => nm_r (nI_1 i) (hw _ trivial))))
/-- the value of f at a point, over the first i monomials -/
def bb_v (p f : Nat) : Nat → Nat
  | 0 => 0
  | i + 1 => if nI i &&& (nI p ^^^ (-1)) = 0 then bb_v p f i ^^^ (f / 2 ^ i % 2) else bb_v p f i
theorem bb_vs (p f i : Nat) : bb_v p f (i + 1) = if nI i &&& (nI p ^^^ (-1)) = 0 then bb_v p f i ^^^ (f / 2 ^ i % 2) else bb_v p f i := rfl
theorem bb_v2 (p f : Nat) : ∀ i, bb_v p f i < 2 := by
  intro i
  induction i with
  | zero => exact Nat.zero_lt_succ 1
  | succ i ih =>
    rw [bb_vs]
    split
    · exact Nat.xor_lt_two_pow (n := 1) ih (Nat.mod_lt _ (by decide))
    · exact ih
theorem bb_val {post : Int32 → Prop} {p f : Nat} (hf : f < 65536) (H : post (nI (bb_v p f 16))) : wpX_valueAt post () (nI f) (nI p) := by
  show ∃ n, wX_valueAt_4 post (nI f) (nI p) n 0 0
  refine pk_loop (fun n i s => wX_valueAt_4 post (nI f) (nI p) n s (nI i)) (fun i s => s = nI (bb_v p f i)) 16 0 0 (by omega) nI_0.symm ?_ ?_
  · intro n s h
    refine pk_le 16 16 (fun _ => ?_) (fun z => absurd z (by omega))
    rw [show s = nI (bb_v p f 16) from h]
    exact H
  · intro n i s hi h hw
    refine pk_le 16 i (fun z => absurd z (by omega)) (fun _ => br_c (fun z => nm_e (nm_r (nI_1 i) (hw _ ?_))) (fun z => nm_r (nI_1 i) (hw _ ?_)))
    · show s ^^^ ((nI f >>> (nI i &&& 31)) &&& 1) = nI (bb_v p f (i + 1))
      rw [bb_bitv hf (by omega), show s = nI (bb_v p f i) from h, bb_xor, bb_vs, if_pos z]
    · show s = nI (bb_v p f (i + 1))
      rw [show s = nI (bb_v p f i) from h, bb_vs, if_neg z]
/-- the four points that the law computes itself -/
theorem bb_v0 (f : Nat) : bb_v 0 f 16 = f % 2 := by
  simp (decide := true) [bb_v]
theorem bb_v1 (f : Nat) : bb_v 1 f 16 = (f % 2) ^^^ (f / 2 % 2) := by
  simp (decide := true) [bb_v]
theorem bb_vv2 (f : Nat) : bb_v 2 f 16 = (f % 2) ^^^ (f / 4 % 2) := by
  simp (decide := true) [bb_v]
theorem bb_v3 (f : Nat) : bb_v 3 f 16 = (f % 2) ^^^ (f / 2 % 2) ^^^ (f / 4 % 2) ^^^ (f / 8 % 2) := by
  simp (decide := true) [bb_v]
theorem bb_xm (a b : Nat) : (a ^^^ b) % 2 = (a % 2) ^^^ (b % 2) := Nat.xor_mod_two_pow (n := 1)
theorem bb_sh {f k : Nat} {s : Int32} (hf : f < 65536) (hs : (s.toBitVec.smod 32).toNat = k) : nI f >>> s = nI (f / 2 ^ k) := pk_shrN (by omega) s k hs
theorem bb_x16 {a b : Nat} (ha : a < 65536) (hb : b < 65536) : a ^^^ b < 65536 := Nat.xor_lt_two_pow (n := 16) ha hb
theorem bb_due0 {f : Nat} (hf : f < 65536) : nI (bb_v 0 f 16) = nI f &&& 1 := by
  rw [bb_v0, bb_and1 (by omega)]
theorem bb_due1 {f : Nat} (hf : f < 65536) : nI (bb_v 1 f 16) = (nI f ^^^ (nI f >>> ((1 : Int32) &&& 31))) &&& 1 := by
  rw [bb_v1, bb_sh hf (k := 1) (by decide), bb_xor, bb_and1 (Nat.lt_trans (bb_x16 hf (by omega)) (by decide)), bb_xm]
theorem bb_due2 {f : Nat} (hf : f < 65536) : nI (bb_v 2 f 16) = (nI f ^^^ (nI f >>> ((2 : Int32) &&& 31))) &&& 1 := by
  rw [bb_vv2, bb_sh hf (k := 2) (by decide), bb_xor, bb_and1 (Nat.lt_trans (bb_x16 hf (by omega)) (by decide)), bb_xm]
theorem bb_due3 {f : Nat} (hf : f < 65536) : nI (bb_v 3 f 16) = (((nI f ^^^ (nI f >>> ((1 : Int32) &&& 31))) ^^^ (nI f >>> ((2 : Int32) &&& 31))) ^^^ (nI f >>> ((3 : Int32) &&& 31))) &&& 1 := by
  rw [bb_v3, bb_sh hf (k := 1) (by decide), bb_sh hf (k := 2) (by decide), bb_sh hf (k := 3) (by decide), bb_xor, bb_xor, bb_xor, bb_and1 (Nat.lt_trans (bb_x16 (bb_x16 (bb_x16 hf (by omega)) (by omega)) (by omega)) (by decide)), bb_xm, bb_xm, bb_xm]
/-- an int is a polynomial, or it isn't -/
theorem bb_poly (x : Int32) : (x < 0 ∨ 65535 < x) ∨ ∃ f : Nat, f < 65536 ∧ x = nI f := by
  rcases pk_ix x (n := 65536) (by decide) with h | h | h
  · exact Or.inl (Or.inl h)
  · refine Or.inl (Or.inr ?_)
    rw [Int32.lt_iff_toInt_lt]
    rw [Int32.le_iff_toInt_le] at h
    have e1 : (nI 65536).toInt = 65536 := by decide
    have e2 : (65535 : Int32).toInt = 65535 := by decide
    omega
  · exact Or.inr h
theorem bb_pT {post : Int32 → Prop} {f : Nat} (hf : f < 65536) (H : post 1) : wpX_isPolynomial post () (nI f) := by
  unfold wpX_isPolynomial
  exact br_f (nI_pos (by omega)) (pk_lt 65535 f (fun z => absurd z (by omega)) (fun _ => H))
theorem bb_pF {post : Int32 → Prop} {x : Int32} (h : x < 0 ∨ 65535 < x) (H : post 0) : wpX_isPolynomial post () x := by
  unfold wpX_isPolynomial
  refine br_c (fun _ => H) (fun z => br_t ?_ H)
  exact h.resolve_left z
end
section
/-! divisor and reduce -/
theorem bb_dS {post : Int32 → Prop} {pr kn bc bs zs : Int32} {a1 a2 a3 a4 : Nat → Int32} {s : Nat} (hs : s ≤ 32) (H1 : post (-1)) (H : ∀ i, i < s → post (nI i)) (x : Int32) : wpX_divisor post (pr, kn, nI s, bc, bs, zs, a1, a2, a3, a4) x := by
  show ∃ n, wX_divisor_2 post x pr kn (nI s) bc bs zs a1 a2 a3 a4 n 0
  exact pk_loop (σ := Unit) (fun n i _ => wX_divisor_2 post x pr kn (nI s) bc bs zs a1 a2 a3 a4 n (nI i)) (fun _ _ => True) s 0 () (by omega) trivial
    (fun n _ _ => pk_le s s (fun _ => H1) (fun z => absurd z (by omega)))
    (fun n i _ hi _ hw => pk_le s i (fun z => absurd z (by omega)) (fun _ => ⟨pk_in i 32 (by omega), br_c (fun _ => H i hi) (fun _ => nm_r (nI_1 i) (hw () trivial))⟩))
/-- the first polynomial's head divides: it is the one -/
theorem bb_d0 {post : Int32 → Prop} {pr kn bc bs zs : Int32} {a1 a2 a3 a4 : Nat → Int32} {s : Nat} (hs : s ≤ 32) (h1 : 1 ≤ s) {x : Int32} (hd : a3 0 &&& (x ^^^ (-1)) = 0) (H : post (nI 0)) : wpX_divisor post (pr, kn, nI s, bc, bs, zs, a1, a2, a3, a4) x := by
  show ∃ n, wX_divisor_2 post x pr kn (nI s) bc bs zs a1 a2 a3 a4 n (nI 0)
  refine ⟨1, pk_le s 0 (fun z => absurd z (by omega)) (fun _ => ⟨pk_in 0 32 (by omega), br_t ?_ H⟩)⟩
  rw [nI_clamp (by decide)]
  exact hd
theorem bb_red {post : Int32 → Prop} {pr kn sz bc bs zs : Int32} {a1 a2 a3 a4 : Nat → Int32} (I : Nat → Int32 → Prop) (x : Int32) (h0 : I 16 x) (hx : ∀ y, I 0 y → post y)
    (hs : ∀ (J : Int32 → Int32 → Prop) (i : Nat) (y : Int32), i < 16 → I (i + 1) y → (∀ y', I i y' → J y' (nI i + (-1))) → (((y >>> (nI i &&& 31)) &&& 1) = 0 → J y (nI i + (-1))) ∧ (¬ ((y >>> (nI i &&& 31)) &&& 1) = 0 → wpX_divisor (fun r => wX_reduce_26 post J y (nI i) r pr kn sz bc bs zs a1 a2 a3 a4) (pr, kn, sz, bc, bs, zs, a1, a2, a3, a4) (nI i))) :
    wpX_reduce post (pr, kn, sz, bc, bs, zs, a1, a2, a3, a4) x := by
  show ∃ n, wX_reduce_5 post pr kn sz bc bs zs a1 a2 a3 a4 n x (nI 16 + (-1))
  refine ⟨17, pk_loopD (fun n i y => wX_reduce_5 post pr kn sz bc bs zs a1 a2 a3 a4 n y (nI i + (-1))) (fun i y => i ≤ 16 ∧ I i y) ?_ ?_ 16 x ⟨by omega, h0⟩⟩
  · intro n y h
    exact br_t (by decide) (hx y h.2)
  · intro n i y h hw
    show wX_reduce_5 post pr kn sz bc bs zs a1 a2 a3 a4 (n + 1) y (nI (i + 1) + (-1))
    rw [pk_m1]
    have hi := h.1
    obtain ⟨k1, k2⟩ := hs (wX_reduce_5 post pr kn sz bc bs zs a1 a2 a3 a4 n) i y (by omega) h.2 (fun y' h' => hw y' ⟨by omega, h'⟩)
    exact br_f (nI_pos (by omega)) (br_c (fun z => br_t (by decide) (nm_e (k1 z))) k2)
/-- reduce ends -/
theorem bb_rS {post : Int32 → Prop} {pr kn bc bs zs : Int32} {a1 a2 a3 a4 : Nat → Int32} {s : Nat} (hs : s ≤ 32) (H : ∀ r, post r) (x : Int32) : wpX_reduce post (pr, kn, nI s, bc, bs, zs, a1, a2, a3, a4) x := by
  refine bb_red (fun _ _ => True) x trivial (fun y _ => H y) ?_
  intro J i y hi _ hJ
  exact br_c (fun _ => hJ _ trivial) (fun _ => bb_dS hs (br_t (by decide) (nm_e (hJ _ trivial))) (fun k hk => br_f (nI_pos (by omega)) ⟨pk_in k 32 (by omega), pk_in k 32 (by omega), bb_tS (fun r => nm_e (nm_e (hJ _ trivial))) _ _⟩) _)
/-- nothing to reduce by -/
theorem bb_rE {post : Int32 → Prop} {pr kn bc bs zs : Int32} {a1 a2 a3 a4 : Nat → Int32} {x : Int32} (H : post x) : wpX_reduce post (pr, kn, nI 0, bc, bs, zs, a1, a2, a3, a4) x := by
  refine bb_red (fun _ y => y = x) x rfl (fun y h => by rw [h]; exact H) ?_
  intro J i y hi h hJ
  exact br_c (fun _ => hJ _ h) (fun _ => bb_dS (by omega) (br_t (by decide) (nm_e (hJ _ h))) (fun k hk => absurd hk (by omega)) _)
/-- nothing to reduce -/
theorem bb_r0 {post : Int32 → Prop} {pr kn sz bc bs zs : Int32} {a1 a2 a3 a4 : Nat → Int32} (H : post 0) : wpX_reduce post (pr, kn, sz, bc, bs, zs, a1, a2, a3, a4) (nI 0) := by
  refine bb_red (fun _ y => y = 0) (nI 0) rfl (fun y h => by rw [h]; exact H) ?_
  intro J i y hi h hJ
  refine br_t ?_ (hJ _ h)
  rw [show y = 0 from h]
  exact bb_bit0 (by omega)
theorem bb_nn (x : Int32) : x &&& (x ^^^ (-1)) = 0 := by
  apply Int32.toBitVec_inj.1
  show x.toBitVec &&& (x.toBitVec ^^^ BitVec.allOnes 32) = 0#32
  apply BitVec.eq_of_getLsbD_eq
  intro i hi
  rw [BitVec.getLsbD_and, BitVec.getLsbD_xor, BitVec.getLsbD_allOnes, BitVec.getLsbD_zero, decide_eq_true hi]
  cases x.toBitVec.getLsbD i <;> rfl
theorem bb_xx (x : Int32) : x ^^^ x = 0 := by
  apply Int32.toBitVec_inj.1
  show x.toBitVec ^^^ x.toBitVec = 0#32
  exact BitVec.xor_self
/-- the first polynomial is reduced away by itself -/
theorem bb_rF {post : Int32 → Prop} {pr kn bc bs zs : Int32} {a1 a2 a3 a4 : Nat → Int32} {s f h : Nat} (hs : s ≤ 32) (h1 : 1 ≤ s) (hf : f < 65536) (ht : bb_top f h) (e2 : a2 0 = nI f) (e3 : a3 0 = nI h) (H : post 0) : wpX_reduce post (pr, kn, nI s, bc, bs, zs, a1, a2, a3, a4) (nI f) := by
  obtain ⟨t1, t2, t3⟩ := ht
  refine bb_red (fun i y => (h < i ∧ y = nI f) ∨ (i ≤ h ∧ y = 0)) (nI f) (Or.inl ⟨t1, rfl⟩) ?_ ?_
  · intro y hy
    rcases hy with ⟨z, _⟩ | ⟨_, z⟩
    · exact absurd z (by omega)
    · rw [z]
      exact H
  · intro J i y hi hy hJ
    rcases hy with ⟨z, ey⟩ | ⟨z, ey⟩
    · by_cases e : i = h
      · subst e
        refine br_f ?_ (bb_d0 hs h1 ?_ (br_f (nI_pos (by omega)) ⟨pk_in 0 32 (by omega), pk_in 0 32 (by omega), ?_⟩))
        · rw [ey, bb_bit hf (by omega), t2]
          exact Bool.noConfusion
        · rw [e3]
          exact bb_nn _
        · rw [nI_clamp (by decide), e2, e3, bb_nn]
          refine bb_t0 hf (nm_e (nm_e (hJ _ (Or.inr ⟨by omega, ?_⟩))))
          rw [ey]
          exact bb_xx _
      · refine br_t ?_ (hJ _ (Or.inl ⟨by omega, ey⟩))
        rw [ey, bb_bit hf (by omega)]
        exact t3 i (by omega)
    · refine br_t ?_ (hJ _ (Or.inr ⟨by omega, ey⟩))
      rw [ey]
      exact bb_bit0 (by omega)
end
section
/-! takeIn, takeSquares, takeDifference, complete: what is taken in stays, and at most 32 are taken in -/
def bb_ex (s : Nat) (a2 a3 : Nat → Int32) (s' : Nat) (b2 b3 : Nat → Int32) : Prop := s ≤ s' ∧ s' ≤ 32 ∧ ∀ j, j < s → b2 j = a2 j ∧ b3 j = a3 j
theorem bb_ex0 {s : Nat} {a2 a3 : Nat → Int32} (hs : s ≤ 32) : bb_ex s a2 a3 s a2 a3 := ⟨Nat.le_refl s, hs, fun _ _ => ⟨rfl, rfl⟩⟩
theorem bb_exT {s t u : Nat} {a2 a3 b2 b3 c2 c3 : Nat → Int32} (h : bb_ex s a2 a3 t b2 b3) (k : bb_ex t b2 b3 u c2 c3) : bb_ex s a2 a3 u c2 c3 := by
  obtain ⟨h1, h2, h3⟩ := h
  obtain ⟨k1, k2, k3⟩ := k
  refine ⟨by omega, k2, fun j hj => ?_⟩
  obtain ⟨p1, p2⟩ := h3 j hj
  obtain ⟨q1, q2⟩ := k3 j (by omega)
  exact ⟨q1.trans p1, q2.trans p2⟩
theorem bb_tk {post : Int32 → St2 → Prop} {pr kn bc bs zs : Int32} {a1 a2 a3 a4 : Nat → Int32} {s : Nat} (hs : s ≤ 32) (H : ∀ r s' b2 b3, bb_ex s a2 a3 s' b2 b3 → post r (pr, kn, nI s', bc, bs, zs, a1, b2, b3, a4)) (x : Int32) : wpX_takeIn post (pr, kn, nI s, bc, bs, zs, a1, a2, a3, a4) x := by
  unfold wpX_takeIn
  dsimp only
  refine bb_rS hs (fun r => ?_) x
  refine br_c (fun _ => H 0 s a2 a3 (bb_ex0 hs)) (fun _ => pk_lt s 32 (fun z => ⟨pk_in s 32 z, nm_e (bb_hS (fun h => ⟨pk_in s 32 z, nm_e (nm_r (nI_1 s) (H 1 (s + 1) _ _ ⟨by omega, by omega, fun j hj => ?_⟩))⟩) r)⟩) (fun _ => H 0 s a2 a3 (bb_ex0 hs)))
  have e : (nI s).toNatClampNeg = s := nI_clamp (by omega)
  rw [e]
  exact ⟨pk_un (by omega), pk_un (by omega)⟩
theorem bb_b8 : ∀ h, h < 16 → (nI h).toInt8.toInt32 = nI h := by decide +kernel
/-- the first one -/
theorem bb_tk1 {post : Int32 → St2 → Prop} {pr kn bc bs zs : Int32} {a1 a2 a3 a4 : Nat → Int32} {f : Nat} (hf : f < 65536) (H0 : f = 0 → post 0 (pr, kn, nI 0, bc, bs, zs, a1, a2, a3, a4))
    (H1 : f ≠ 0 → ∀ h, bb_top f h → post 1 (pr, kn, nI 1, bc, bs, zs, a1, upd a2 0 (nI f), upd a3 0 (nI h), a4)) : wpX_takeIn post (pr, kn, nI 0, bc, bs, zs, a1, a2, a3, a4) (nI f) := by
  unfold wpX_takeIn
  dsimp only
  refine bb_rE ?_
  have e : (nI 0).toNatClampNeg = 0 := nI_clamp (by decide)
  rw [e]
  refine pk_eq f 0 H0 (fun z => pk_lt 0 32 (fun _ => ⟨pk_in 0 32 (by omega), nm_e (bb_hd hf z (fun h ht => ⟨pk_in 0 32 (by omega), nm_r ?_ (nm_r (nI_1 0) (H1 z h ht))⟩))⟩) (fun y => absurd y (by omega)))
  rw [bb_b8 h ht.1]
theorem bb_sq {post : St2 → Prop} {pr kn bc bs zs : Int32} {a1 a2 a3 a4 : Nat → Int32} {s k : Nat} (hk : k < 32) (hs : s ≤ 32) (H : ∀ s' b2 b3, bb_ex s a2 a3 s' b2 b3 → post (pr, kn, nI s', bc, bs, zs, a1, b2, b3, a4)) : wpX_takeSquares post (pr, kn, nI s, bc, bs, zs, a1, a2, a3, a4) (nI k) := by
  show ∃ n, wX_takeSquares_2 post (nI k) n 0 pr kn (nI s) bc bs zs a1 a2 a3 a4
  exact pk_loop (σ := Nat × (Nat → Int32) × (Nat → Int32)) (fun n i t => wX_takeSquares_2 post (nI k) n (nI i) pr kn (nI t.1) bc bs zs a1 t.2.1 t.2.2 a4) (fun _ t => bb_ex s a2 a3 t.1 t.2.1 t.2.2) 4 0 (s, a2, a3) (by omega) (bb_ex0 hs)
    (fun n t h => pk_le 4 4 (fun _ => H t.1 t.2.1 t.2.2 h) (fun z => absurd z (by omega)))
    (fun n i t hi h hw => pk_le 4 i (fun z => absurd z (by omega)) (fun _ => ⟨pk_in k 32 hk, br_c (fun _ => nm_r (nI_1 i) (hw t h)) (fun _ => ⟨pk_in k 32 hk, bb_tS (fun r => ⟨pk_in k 32 hk, bb_tk h.2.1 (fun _ s' b2 b3 h' => nm_r (nI_1 i) (hw (s', b2, b3) (bb_exT h h'))) _⟩) _ _⟩)⟩))
theorem bb_df {post : St2 → Prop} {pr kn bc bs zs : Int32} {a1 a2 a3 a4 : Nat → Int32} {s k j : Nat} (hk : k < 32) (hj : j < 32) (hs : s ≤ 32) (H : ∀ s' b2 b3, bb_ex s a2 a3 s' b2 b3 → post (pr, kn, nI s', bc, bs, zs, a1, b2, b3, a4)) : wpX_takeDifference post (pr, kn, nI s, bc, bs, zs, a1, a2, a3, a4) (nI k) (nI j) := by
  unfold wpX_takeDifference
  dsimp only
  exact ⟨pk_in k 32 hk, pk_in j 32 hj, nm_e ⟨pk_in k 32 hk, pk_in k 32 hk, bb_tS (fun r => ⟨pk_in j 32 hj, pk_in j 32 hj, bb_tS (fun r' => bb_tk hs (fun _ s' b2 b3 h' => H s' b2 b3 h') _) _ _⟩) _ _⟩⟩
theorem bb_55 {post : St2 → Prop} {J : Int32 → Int32 → Int32 → Int32 → Int32 → Int32 → Int32 → (Nat → Int32) → (Nat → Int32) → (Nat → Int32) → (Nat → Int32) → Prop} {pr kn bc bs zs : Int32} {a1 a2 a3 a4 : Nat → Int32} {s k : Nat} (hk : k < 32) (hs : s ≤ 32) (H : ∀ s' b2 b3, bb_ex s a2 a3 s' b2 b3 → J (nI (k + 1)) pr kn (nI s') bc bs zs a1 b2 b3 a4) :
    ∃ n, wX_complete_55 post J (nI k) n 0 pr kn (nI s) bc bs zs a1 a2 a3 a4 :=
  pk_loop (σ := Nat × (Nat → Int32) × (Nat → Int32)) (fun n i t => wX_complete_55 post J (nI k) n (nI i) pr kn (nI t.1) bc bs zs a1 t.2.1 t.2.2 a4) (fun _ t => bb_ex s a2 a3 t.1 t.2.1 t.2.2) k 0 (s, a2, a3) (by omega) (bb_ex0 hs)
    (fun n t h => pk_le k k (fun _ => nm_r (nI_1 k) (H t.1 t.2.1 t.2.2 h)) (fun z => absurd z (by omega)))
    (fun n i t hi h hw => pk_le k i (fun z => absurd z (by omega)) (fun _ => bb_df hk (by omega) h.2.1 (fun s' b2 b3 h' => nm_r (nI_1 i) (hw (s', b2, b3) (bb_exT h h')))))
theorem bb_40 {post : St2 → Prop} {pr kn bc bs zs : Int32} {a1 a2 a3 a4 : Nat → Int32} {s : Nat} (hs : s ≤ 32) (H : ∀ s' b2 b3, bb_ex s a2 a3 s' b2 b3 → post (pr, kn, nI s', bc, bs, zs, a1, b2, b3, a4)) :
    ∃ n, wX_complete_40 post n 0 pr kn (nI s) bc bs zs a1 a2 a3 a4 :=
  pk_loop (σ := Nat × (Nat → Int32) × (Nat → Int32)) (fun n i t => wX_complete_40 post n (nI i) pr kn (nI t.1) bc bs zs a1 t.2.1 t.2.2 a4) (fun _ t => bb_ex s a2 a3 t.1 t.2.1 t.2.2) 32 0 (s, a2, a3) (by omega) (bb_ex0 hs)
    (fun n t h => br_t (nI_le h.2.1 (by omega)) (H t.1 t.2.1 t.2.2 h))
    (fun n i t hi h hw => br_c (fun _ => H t.1 t.2.1 t.2.2 h) (fun _ => bb_sq hi h.2.1 (fun s' b2 b3 h' => bb_55 hi h'.2.1 (fun s2 c2 c3 h2 => hw (s2, c2, c3) (bb_exT h (bb_exT h' h2))))))
/-- the generators from i0 on are not in the set -/
theorem bb_7 {post : St2 → Prop} {pr kn sz bc bs zs : Int32} {a1 a2 a3 a4 : Nat → Int32} {x : Int32} (i0 : Nat) (h6 : i0 ≤ 6) (hx : ∀ i, i0 ≤ i → i < 6 → ((x >>> (nI i &&& 31)) &&& 1) = 0) (H : ∃ n, wX_complete_40 post n 0 pr kn sz bc bs zs a1 a2 a3 a4) :
    ∃ n, wX_complete_7 post x n (nI i0) pr kn sz bc bs zs a1 a2 a3 a4 :=
  pk_loop (σ := Unit) (fun n i _ => wX_complete_7 post x n (nI i) pr kn sz bc bs zs a1 a2 a3 a4) (fun i _ => i0 ≤ i) 6 i0 () h6 (Nat.le_refl i0)
    (fun n _ _ => pk_le 6 6 (fun _ => H) (fun z => absurd z (by omega)))
    (fun n i _ hi h hw => pk_le 6 i (fun z => absurd z (by omega)) (fun _ => br_t (hx i h hi) (nm_r (nI_1 i) (hw () (by omega)))))
/-- the empty set: nothing is taken in -/
theorem bb_cp0 {post : St2 → Prop} {pr kn sz bc bs zs : Int32} {a1 a2 a3 a4 : Nat → Int32} {x : Int32} (hx : x = 0) (H : post (pr, kn, nI 0, bc, bs, zs, a1, a2, a3, a4)) : wpX_complete post (pr, kn, sz, bc, bs, zs, a1, a2, a3, a4) x := by
  subst hx
  show ∃ n, wX_complete_7 post 0 n (nI 0) pr kn (nI 0) bc bs zs a1 a2 a3 a4
  refine bb_7 0 (by omega) (fun i _ hi => bb_bit0 (by omega)) ?_
  exact ⟨1, br_t (nI_le (Nat.le_refl 0) (by decide)) H⟩
/-- what is known of the polynomials once f has been taken in first -/
def bb_K (f s : Nat) (b2 b3 : Nat → Int32) : Prop := s ≤ 32 ∧ (f = 0 ∨ ∃ h, bb_top f h ∧ 1 ≤ s ∧ b2 0 = nI f ∧ b3 0 = nI h)
theorem bb_Kex {f s s' : Nat} {a2 a3 b2 b3 : Nat → Int32} (k : bb_K f s a2 a3) (h : bb_ex s a2 a3 s' b2 b3) : bb_K f s' b2 b3 := by
  obtain ⟨q1, q2, q3⟩ := h
  refine ⟨q2, ?_⟩
  rcases k.2 with z | ⟨h, t, k1, k2, k3⟩
  · exact Or.inl z
  · obtain ⟨r1, r2⟩ := q3 0 (by omega)
    exact Or.inr ⟨h, t, by omega, r1.trans k2, r2.trans k3⟩
/-- the set of the first generator alone -/
theorem bb_cp1 {post : St2 → Prop} {pr kn sz bc bs zs : Int32} {a1 a2 a3 a4 : Nat → Int32} {f : Nat} (hf : f < 65536) (e1 : a1 0 = nI f) (H : ∀ s' b2 b3, bb_K f s' b2 b3 → post (pr, kn, nI s', bc, bs, zs, a1, b2, b3, a4)) : wpX_complete post (pr, kn, sz, bc, bs, zs, a1, a2, a3, a4) 1 := by
  have hb : ∀ i, i < 6 → 1 ≤ i → (((1 : Int32) >>> (nI i &&& 31)) &&& 1) = 0 := by decide +kernel
  show ∃ n, wX_complete_7 post 1 n (nI 0) pr kn (nI 0) bc bs zs a1 a2 a3 a4
  refine pk_loop (σ := Nat × (Nat → Int32) × (Nat → Int32)) (fun n i t => wX_complete_7 post 1 n (nI i) pr kn (nI t.1) bc bs zs a1 t.2.1 t.2.2 a4) (fun i t => (i = 0 ∧ t = (0, a2, a3)) ∨ (1 ≤ i ∧ bb_K f t.1 t.2.1 t.2.2)) 6 0 (0, a2, a3) (by omega) (Or.inl ⟨rfl, rfl⟩) ?_ ?_
  · intro n t h
    refine pk_le 6 6 (fun _ => ?_) (fun z => absurd z (by omega))
    rcases h with ⟨z, _⟩ | ⟨_, k⟩
    · exact absurd z (by omega)
    · exact bb_40 k.1 (fun s' b2 b3 q => H s' b2 b3 (bb_Kex k q))
  · intro n i t hi h hw
    rcases h with ⟨z, et⟩ | ⟨z, k⟩
    · subst z
      subst et
      refine pk_le 6 0 (fun z => absurd z (by omega)) (fun _ => br_f (by decide) ⟨pk_in 0 6 (by omega), ?_⟩)
      rw [nI_clamp (by decide), e1]
      exact bb_tk1 hf (fun z => nm_r (nI_1 0) (hw (0, a2, a3) (Or.inr ⟨by omega, by show (0 : Nat) ≤ 32; omega, Or.inl z⟩))) (fun z h ht => nm_r (nI_1 0) (hw (1, upd a2 0 (nI f), upd a3 0 (nI h)) (Or.inr ⟨by omega, by show (1 : Nat) ≤ 32; omega, Or.inr ⟨h, ht, Nat.le_refl 1, pk_us (f := a2) (k := 0) (x := nI f), pk_us (f := a3) (k := 0) (x := nI h)⟩⟩)))
    · exact pk_le 6 i (fun z => absurd z (by omega)) (fun _ => br_t (hb i hi z) (nm_r (nI_1 i) (hw t (Or.inr ⟨by omega, k⟩))))
end
section
/-! vanishes, leastBound, learn: they end, and leave the generators and the polynomials as they are -/
theorem bb_van {post : Int32 → Prop} {pr kn sz bs zs : Int32} {a1 a2 a3 a4 : Nat → Int32} {b : Nat} (hb : b ≤ 16) (H : ∀ r, post r) (x : Int32) : wpX_vanishes post (pr, kn, sz, nI b, bs, zs, a1, a2, a3, a4) x := by
  show ∃ n, wX_vanishes_2 post x pr kn sz (nI b) bs zs a1 a2 a3 a4 n 0
  exact pk_loop (σ := Unit) (fun n i _ => wX_vanishes_2 post x pr kn sz (nI b) bs zs a1 a2 a3 a4 n (nI i)) (fun _ _ => True) b 0 () (by omega) trivial
    (fun n _ _ => pk_le b b (fun _ => H 1) (fun z => absurd z (by omega)))
    (fun n i _ hi _ hw => pk_le b i (fun z => absurd z (by omega)) (fun _ => ⟨pk_in i 16 (by omega), bb_vS (fun r => br_c (fun _ => nm_r (nI_1 i) (hw () trivial)) (fun _ => H 0)) _ _⟩))
theorem bb_lb {post : Int32 → Prop} {pr kn bc bs zs : Int32} {a1 a2 a3 a4 : Nat → Int32} {s : Nat} (hs : s ≤ 32) (H : ∀ r, post r) (x : Int32) : wpX_leastBound post (pr, kn, nI s, bc, bs, zs, a1, a2, a3, a4) x := by
  have L : ∃ n, wX_leastBound_12 post x pr kn (nI s) bc bs zs a1 a2 a3 a4 n 0 :=
    pk_loop (σ := Unit) (fun n i _ => wX_leastBound_12 post x pr kn (nI s) bc bs zs a1 a2 a3 a4 n (nI i)) (fun _ _ => True) 4 0 () (by omega) trivial
      (fun n _ _ => pk_le 4 4 (fun _ => H 1) (fun z => absurd z (by omega)))
      (fun n i _ hi _ hw => pk_le 4 i (fun z => absurd z (by omega)) (fun _ => nm_e (br_c (fun _ => nm_r (nI_1 i) (hw () trivial)) (fun _ => bb_dS hs (br_c (fun _ => nm_r (nI_1 i) (hw () trivial)) (fun _ => H 0)) (fun k _ => br_c (fun _ => nm_r (nI_1 i) (hw () trivial)) (fun _ => H 0)) _))))
  unfold wpX_leastBound
  dsimp only
  exact bb_dS hs (br_c (fun _ => L) (fun _ => H 0)) (fun k _ => br_c (fun _ => L) (fun _ => H 0)) x
theorem bb_114 {post : St2 → Prop} {pr kn sz bs : Int32} {a1 a2 a3 a4 : Nat → Int32} {b : Nat} (hb : b ≤ 16) (H : ∀ zs, post (pr, kn, sz, nI b, bs, zs, a1, a2, a3, a4)) : ∃ n, wX_learn_114 post pr kn sz (nI b) bs a1 a2 a3 a4 n 0 0 :=
  pk_loop (fun n i z => wX_learn_114 post pr kn sz (nI b) bs a1 a2 a3 a4 n (nI i) z) (fun _ _ => True) 16 0 0 (by omega) trivial
    (fun n z _ => pk_le 16 16 (fun _ => H z) (fun z => absurd z (by omega)))
    (fun n i z hi _ hw => pk_le 16 i (fun z => absurd z (by omega)) (fun _ => bb_van hb (fun r => br_c (fun _ => nm_e (nm_r (nI_1 i) (hw (z ||| 0) trivial))) (fun _ => nm_e (nm_r (nI_1 i) (hw (z ||| ((1 : Int32) <<< (nI i &&& 31))) trivial)))) _))
theorem bb_59 {post : St2 → Prop} {J : Int32 → Int32 → Int32 → (Nat → Int32) → (Nat → Int32) → (Nat → Int32) → (Nat → Int32) → Prop} {pr kn bs zs : Int32} {a1 a2 a3 a4 : Nat → Int32} {s b i : Nat} (hs : s ≤ 32) (hb : b ≤ i) (hi : i < 16) (H : ∀ b' bs' c4, b' ≤ i + 1 → J (nI (i + 1)) (nI b') bs' a1 a2 a3 c4) (z0 z1 : Int32) :
    wX_learn_59 post J (nI i) z0 z1 pr kn (nI s) (nI b) bs zs a1 a2 a3 a4 := by
  unfold wX_learn_59
  exact nm_e (bb_lb hs (fun r => br_c (fun _ => nm_r (nI_1 i) (H b _ _ (by omega))) (fun _ => bb_rS hs (fun q => ⟨pk_in b 16 (by omega), nm_e (nm_r (nI_1 b) (nm_r (nI_1 i) (H (b + 1) _ _ (by omega))))⟩) _)) _)
theorem bb_33 {post : St2 → Prop} {pr kn zs0 : Int32} {a1 a2 a3 a4 : Nat → Int32} {s : Nat} (hs : s ≤ 32) (H : ∀ bc bs zs c4, post (pr, kn, nI s, bc, bs, zs, a1, a2, a3, c4)) : ∃ n, wX_learn_33 post pr kn (nI s) zs0 n 0 0 0 a1 a2 a3 a4 :=
  pk_loop (σ := Nat × Int32 × (Nat → Int32)) (fun n i t => wX_learn_33 post pr kn (nI s) zs0 n (nI i) (nI t.1) t.2.1 a1 a2 a3 t.2.2) (fun i t => t.1 ≤ i) 16 0 (0, 0, a4) (by omega) (Nat.le_refl 0)
    (fun n t h => pk_le 16 16 (fun _ => bb_114 h (fun zs => H _ _ _ _)) (fun z => absurd z (by omega)))
    (fun n i t hi h hw => pk_le 16 i (fun z => absurd z (by omega)) (fun _ => bb_dS hs (br_c (fun _ => bb_59 hs h hi (fun b' bs' c4 hb => hw (b', bs', c4) hb) _ _) (fun _ => bb_59 hs h hi (fun b' bs' c4 hb => hw (b', bs', c4) hb) _ _)) (fun k _ => br_c (fun _ => bb_59 hs h hi (fun b' bs' c4 hb => hw (b', bs', c4) hb) _ _) (fun _ => bb_59 hs h hi (fun b' bs' c4 hb => hw (b', bs', c4) hb) _ _)) _))
/-- learn with no generator -/
theorem bb_ln0 {post : St2 → Prop} {sz bc bs zs : Int32} {a1 a2 a3 a4 : Nat → Int32} (H : ∀ bc bs zs c4, post (0, 1, nI 0, bc, bs, zs, a1, a2, a3, c4)) : wpX_learn post (0, 0, sz, bc, bs, zs, a1, a2, a3, a4) := by
  unfold wpX_learn
  dsimp only
  exact br_t rfl (bb_cp0 rfl (bb_33 (by omega) H))
/-- learn with the one generator f -/
theorem bb_ln1 {post : St2 → Prop} {sz bc bs zs : Int32} {a1 a2 a3 a4 : Nat → Int32} {f : Nat} (hf : f < 65536) (e1 : a1 0 = nI f) (H : ∀ s b2 b3, bb_K f s b2 b3 → ∀ bc bs zs c4, post (1, 1, nI s, bc, bs, zs, a1, b2, b3, c4)) : wpX_learn post (1, 0, sz, bc, bs, zs, a1, a2, a3, a4) := by
  unfold wpX_learn
  dsimp only
  exact br_t rfl (bb_cp1 hf e1 (fun s b2 b3 k => bb_33 k.1 (H s b2 b3 k)))
end
section
/-! the methods that the law calls -/
theorem bb_rest {post : Int32 → St2 → Prop} {sz bc bs zs : Int32} {a1 a2 a3 a4 : Nat → Int32} {x : Int32} (HF : (x < 0 ∨ 65535 < x) → post (-1) (0, 0, sz, bc, bs, zs, a1, a2, a3, a4)) (HT : ∀ g, g < 65536 → x = nI g → ∀ bc bs zs c4, post x (0, 1, nI 0, bc, bs, zs, a1, a2, a3, c4)) : wpX_rest post (0, 0, sz, bc, bs, zs, a1, a2, a3, a4) x := by
  unfold wpX_rest
  dsimp only
  rcases bb_poly x with h | ⟨g, hg, e⟩
  · exact bb_pF h (br_t rfl (HF h))
  · subst e
    exact bb_pT hg (br_f (by decide) (bb_ln0 (fun bc bs zs c4 => bb_rE (HT g hg rfl bc bs zs c4))))
theorem bb_has0 {post : Int32 → Prop} {kn sz bc bs zs : Int32} {a1 a2 a3 a4 : Nat → Int32} {x : Int32} (H : post 0) : wpX_has post (0, kn, sz, bc, bs, zs, a1, a2, a3, a4) x := by
  unfold wpX_has
  dsimp only
  rcases pk_ix x (n := 6) (by decide) with h | h | ⟨j, hj, e⟩
  · exact br_t h H
  · exact br_c (fun _ => H) (fun _ => br_t h H)
  · subst e
    exact br_c (fun _ => H) (fun _ => br_c (fun _ => H) (fun _ => br_t (bb_bit0 (by omega)) H))
theorem bb_has1 {post : Int32 → Prop} {kn sz bc bs zs : Int32} {a1 a2 a3 a4 : Nat → Int32} {x : Int32} (H0 : x ≠ 0 → post 0) (H1 : x = 0 → post 1) : wpX_has post (1, kn, sz, bc, bs, zs, a1, a2, a3, a4) x := by
  unfold wpX_has
  dsimp only
  have hb : ∀ i, i < 6 → 1 ≤ i → (((1 : Int32) >>> (nI i &&& 31)) &&& 1) = 0 := by decide +kernel
  rcases pk_ix x (n := 6) (by decide) with h | h | ⟨j, hj, e⟩
  · exact br_t h (H0 (fun z => absurd h (by rw [z]; decide)))
  · have g : post 0 := H0 (fun z => absurd h (by rw [z]; decide))
    exact br_c (fun _ => g) (fun _ => br_t h g)
  · subst e
    by_cases z : j = 0
    · subst z
      exact br_f (by decide) (br_f (by decide) (br_f (by decide) (H1 rfl)))
    · have g : post 0 := H0 (nI_ne0 (by omega) (by omega))
      exact br_c (fun _ => g) (fun _ => br_c (fun _ => g) (fun _ => br_t (hb j hj (by omega)) g))
theorem bb_addF {post : Int32 → St2 → Prop} {pr kn sz bc bs zs : Int32} {a1 a2 a3 a4 : Nat → Int32} {x : Int32} (h : x < 0 ∨ 65535 < x) (H : post (-1) (pr, kn, sz, bc, bs, zs, a1, a2, a3, a4)) : wpX_add post (pr, kn, sz, bc, bs, zs, a1, a2, a3, a4) x := by
  unfold wpX_add
  dsimp only
  exact bb_pF h (br_t rfl H)
theorem bb_addT {post : Int32 → St2 → Prop} {kn sz bc bs zs : Int32} {a1 a2 a3 a4 : Nat → Int32} {f : Nat} (hf : f < 65536) (H : post (nI 0) (1, 0, sz, bc, bs, zs, upd a1 0 (nI f), a2, a3, a4)) : wpX_add post (0, kn, sz, bc, bs, zs, a1, a2, a3, a4) (nI f) := by
  unfold wpX_add
  dsimp only
  refine bb_pT hf (br_f (by decide) ?_)
  show ∃ n, wX_add_11 post (nI f) 0 kn sz bc bs zs a1 a2 a3 a4 n (nI 0)
  refine ⟨1, pk_le 6 0 (fun z => absurd z (by omega)) (fun _ => bb_has0 (br_t rfl (nm_r (e' := 1) (by decide) ⟨pk_in 0 6 (by omega), nm_r (e' := upd a1 0 (nI f)) ?_ H⟩)))⟩
  rw [nI_clamp (by decide)]
theorem bb_valF {post : Int32 → Prop} {u : St2} {x p : Int32} (h : (x < 0 ∨ 65535 < x) ∨ (p < 0 ∨ 15 < p)) (H : post (-1)) : wpX_value post u x p := by
  obtain ⟨pr, kn, sz, bc, bs, zs, a1, a2, a3, a4⟩ := u
  unfold wpX_value
  dsimp only
  rcases h with h | h
  · exact bb_pF h (br_t rfl H)
  · have k : (p < 0 → post (-1)) ∧ (¬ p < 0 → (16 ≤ p → post (-1)) ∧ (¬ 16 ≤ p → wpX_valueAt (fun r => post r) () x p)) := by
      refine br_c (fun _ => H) (fun z => br_t ?_ H)
      have g := h.resolve_left z
      rw [Int32.le_iff_toInt_le]
      rw [Int32.lt_iff_toInt_lt] at g
      have e1 : (16 : Int32).toInt = 16 := by decide
      have e2 : (15 : Int32).toInt = 15 := by decide
      omega
    rcases bb_poly x with g | ⟨f, hf, e⟩
    · exact bb_pF g (br_t rfl H)
    · subst e
      exact bb_pT hf (br_f (by decide) k)
theorem bb_valT {post : Int32 → Prop} {u : St2} {f p : Nat} (hf : f < 65536) (hp : p < 16) (H : post (nI (bb_v p f 16))) : wpX_value post u (nI f) (nI p) := by
  obtain ⟨pr, kn, sz, bc, bs, zs, a1, a2, a3, a4⟩ := u
  unfold wpX_value
  dsimp only
  exact bb_pT hf (br_f (by decide) (br_f (nI_pos (by omega)) (pk_le 16 p (fun z => absurd z (by omega)) (fun _ => bb_val hf H))))
theorem bb_cnF {post : Int32 → St2 → Prop} {pr kn sz bc bs zs : Int32} {a1 a2 a3 a4 : Nat → Int32} {x : Int32} (h : x < 0 ∨ 65535 < x) (H : post 0 (pr, kn, sz, bc, bs, zs, a1, a2, a3, a4)) : wpX_contains post (pr, kn, sz, bc, bs, zs, a1, a2, a3, a4) x := by
  unfold wpX_contains
  dsimp only
  exact bb_pF h (br_t rfl H)
/-- the generator is contained -/
theorem bb_cnT {post : Int32 → St2 → Prop} {sz bc bs zs : Int32} {a1 a2 a3 a4 : Nat → Int32} {f : Nat} (hf : f < 65536) (e1 : a1 0 = nI f) (H : ∀ sz bc bs zs b2 b3 b4, post 1 (1, 1, sz, bc, bs, zs, a1, b2, b3, b4)) : wpX_contains post (1, 0, sz, bc, bs, zs, a1, a2, a3, a4) (nI f) := by
  unfold wpX_contains
  dsimp only
  refine bb_pT hf (br_f (by decide) (bb_ln1 hf e1 (fun s b2 b3 k bc bs zs c4 => ?_)))
  rcases k.2 with z | ⟨h, t, k1, k2, k3⟩
  · subst z
    exact bb_r0 (br_t rfl (H _ _ _ _ _ _ _))
  · exact bb_rF k.1 k1 hf t k2 k3 (br_t rfl (H _ _ _ _ _ _ _))
theorem bb_rd0 {post : Int32 → St2 → Prop} {kn sz bc bs zs : Int32} {a1 a2 a3 a4 : Nat → Int32} {x : Int32} (H : post 0 (0, kn, sz, bc, bs, zs, a1, a2, a3, a4)) : wpX_redundant post (0, kn, sz, bc, bs, zs, a1, a2, a3, a4) x := by
  unfold wpX_redundant
  dsimp only
  exact bb_has0 (br_t rfl H)
theorem bb_rd1 {post : Int32 → St2 → Prop} {kn sz bc bs zs : Int32} {a1 a2 a3 a4 : Nat → Int32} {x : Int32} {f : Nat} (hf : f < 65536) (e1 : a1 0 = nI f) (H0 : ¬ (x = 0 ∧ f = 0) → ∀ kn sz, post 0 (1, kn, sz, bc, bs, zs, a1, a2, a3, a4)) (H1 : x = 0 → f = 0 → ∀ kn sz, post 1 (1, kn, sz, bc, bs, zs, a1, a2, a3, a4)) : wpX_redundant post (1, kn, sz, bc, bs, zs, a1, a2, a3, a4) x := by
  unfold wpX_redundant
  dsimp only
  refine bb_has1 (fun z => br_t rfl (H0 (fun t => z t.1) _ _)) (fun z => br_f (by decide) (bb_cp0 ?_ ⟨?_, ?_⟩))
  · rw [z]
    decide
  · rw [z]
    exact pk_in 0 6 (by omega)
  · have e : (0 : Int32).toNatClampNeg = 0 := by decide
    dsimp only
    rw [z, e, e1]
    exact bb_rE (pk_eq f 0 (fun y => H1 z y _ _) (fun y => H0 (fun t => y t.2) _ _))
theorem bb_rm0 {post : Int32 → St2 → Prop} {kn sz bc bs zs : Int32} {a1 a2 a3 a4 : Nat → Int32} {x : Int32} (H : ∀ u, post 0 u) : wpX_remove post (0, kn, sz, bc, bs, zs, a1, a2, a3, a4) x := by
  unfold wpX_remove
  dsimp only
  exact bb_has0 (br_t rfl (H _))
theorem bb_rm1 {post : Int32 → St2 → Prop} {kn sz bc bs zs : Int32} {a1 a2 a3 a4 : Nat → Int32} {x : Int32} (H0 : x ≠ 0 → ∀ u, post 0 u) (H1 : x = 0 → ∀ u, post 1 u) : wpX_remove post (1, kn, sz, bc, bs, zs, a1, a2, a3, a4) x := by
  unfold wpX_remove
  dsimp only
  exact bb_has1 (fun z => br_t rfl (H0 z _)) (fun z => br_f (by decide) (nm_e (H1 z _)))
/-! each with one continuation, for the law -/
theorem bb_restU {post : Int32 → St2 → Prop} {sz bc bs zs : Int32} {a1 a2 a3 a4 : Nat → Int32} {x : Int32} (H : ∀ r kn sz bc bs zs c4, ((x < 0 ∨ 65535 < x) → r = -1) → (¬ (x < 0 ∨ 65535 < x) → r = x) → post r (0, kn, sz, bc, bs, zs, a1, a2, a3, c4)) : wpX_rest post (0, 0, sz, bc, bs, zs, a1, a2, a3, a4) x := by
  refine bb_rest (fun h => H _ _ _ _ _ _ _ (fun _ => rfl) (fun z => absurd h z)) (fun g hg e bc bs zs c4 => H _ _ _ _ _ _ _ (fun z => ?_) (fun _ => rfl))
  subst e
  rcases z with z | z
  · exact absurd z (nI_pos (by omega))
  · exact absurd z (nI_nlt (b := g) (a := 65535) (by omega) (by decide))
/-- what the law asks of a value -/
def bb_D (x0 x1 x7 : Int32) : Prop := (x7 = 0 ∨ x7 = 1) ∧ (x1 = 0 → x7 = x0 &&& 1) ∧ (x1 = 1 → x7 = (x0 ^^^ (x0 >>> ((1 : Int32) &&& 31))) &&& 1) ∧ (x1 = 2 → x7 = (x0 ^^^ (x0 >>> ((2 : Int32) &&& 31))) &&& 1) ∧ (x1 = 3 → x7 = (((x0 ^^^ (x0 >>> ((1 : Int32) &&& 31))) ^^^ (x0 >>> ((2 : Int32) &&& 31))) ^^^ (x0 >>> ((3 : Int32) &&& 31))) &&& 1)
theorem bb_Dv {p f : Nat} (hf : f < 65536) (hp : p < 16) : bb_D (nI f) (nI p) (nI (bb_v p f 16)) := by
  refine ⟨?_, fun z => ?_, fun z => ?_, fun z => ?_, fun z => ?_⟩
  · have h := bb_v2 p f 16
    rcases Nat.lt_or_ge (bb_v p f 16) 1 with z | z
    · left
      rw [show bb_v p f 16 = 0 by omega, nI_0]
    · right
      rw [show bb_v p f 16 = 1 by omega]
      rfl
  · have e : p = 0 := (nI_eq (b := 0) (by omega) (by decide)).mp z
    subst e
    exact bb_due0 hf
  · have e : p = 1 := (nI_eq (b := 1) (by omega) (by decide)).mp z
    subst e
    exact bb_due1 hf
  · have e : p = 2 := (nI_eq (b := 2) (by omega) (by decide)).mp z
    subst e
    exact bb_due2 hf
  · have e : p = 3 := (nI_eq (b := 3) (by omega) (by decide)).mp z
    subst e
    exact bb_due3 hf
theorem bb_valU {post : Int32 → Prop} {u : St2} {f : Nat} {p : Int32} (hf : f < 65536) (H : ∀ r, ((p < 0 ∨ 15 < p) → r = -1) → (¬ (p < 0 ∨ 15 < p) → bb_D (nI f) p r) → post r) : wpX_value post u (nI f) p := by
  by_cases h : p < 0 ∨ 15 < p
  · exact bb_valF (Or.inr h) (H _ (fun _ => rfl) (fun z => absurd h z))
  · rcases pk_ix p (n := 16) (by decide) with g | g | ⟨j, hj, e⟩
    · exact absurd (Or.inl g) h
    · refine absurd (Or.inr ?_) h
      rw [Int32.lt_iff_toInt_lt]
      rw [Int32.le_iff_toInt_le] at g
      have e1 : (nI 16).toInt = 16 := by decide
      have e2 : (15 : Int32).toInt = 15 := by decide
      omega
    · subst e
      exact bb_valT hf hj (H _ (fun z => absurd z h) (fun _ => bb_Dv hf hj))
theorem bb_rdU {post : Int32 → St2 → Prop} {kn sz bc bs zs : Int32} {a1 a2 a3 a4 : Nat → Int32} {x : Int32} {f : Nat} (hf : f < 65536) (e1 : a1 0 = nI f) (H : ∀ r kn sz, (x = 0 → nI f = 0 → r = 1) → (¬ (x = 0 ∧ nI f = 0) → r = 0) → post r (1, kn, sz, bc, bs, zs, a1, a2, a3, a4)) : wpX_redundant post (1, kn, sz, bc, bs, zs, a1, a2, a3, a4) x := by
  have h : nI f = 0 ↔ f = 0 := nI_eq (b := 0) (by omega) (by decide)
  exact bb_rd1 hf e1 (fun z kn sz => H 0 kn sz (fun y w => absurd ⟨y, h.mp w⟩ z) (fun _ => rfl)) (fun z w kn sz => H 1 kn sz (fun _ _ => rfl) (fun y => absurd ⟨z, h.mpr w⟩ y))
theorem bb_rmU {post : Int32 → St2 → Prop} {kn sz bc bs zs : Int32} {a1 a2 a3 a4 : Nat → Int32} {x : Int32} (H : ∀ r u, (x = 0 → r = 1) → (x ≠ 0 → r = 0) → post r u) : wpX_remove post (1, kn, sz, bc, bs, zs, a1, a2, a3, a4) x :=
  bb_rm1 (fun z u => H 0 u (fun y => absurd y z) (fun _ => rfl)) (fun z u => H 1 u (fun _ => rfl) (fun y => absurd z y))
end
section
/-! the law -/
theorem bb_294 {post : Int32 → St0 → Prop} {mc ms kc ks : Nat} {x10 x14 z0 z1 : Int32} (H : post 1 ()) (h1 : z1 = z0) (h2 : x10 = x14) : wL_lawOf_294 post mc ms x10 x14 z0 z1 kc ks := br_t h1 (br_t h2 H)
theorem bb_271 {post : Int32 → St0 → Prop} {mc ms kc ks : Nat} {x0 x8 x9 x10 x11 x14 : Int32} (H : post 1 ()) (hin : x8 = x11) (hout : x10 = x14) (hid1 : x14 ≠ 0 → x0 = 0 → x9 = 1) (hid0 : ¬ (x14 ≠ 0 ∧ x0 = 0) → x9 = 0) : wL_lawOf_271 post mc ms x0 x8 x9 x10 x11 x14 kc ks :=
  br_t hin (br_c (fun z => bb_294 H (hid0 (fun t => t.1 z)) hout) (fun z => br_c (fun y => bb_294 H (hid1 z y) hout) (fun y => bb_294 H (hid0 (fun t => y t.2)) hout)))
theorem bb_236 {post : Int32 → St0 → Prop} {mc ms kc ks : Nat} {x0 x7 x8 x9 x10 x11 x14 x15 x16 z0 z1 : Int32} (hv0 : x15 = 0 → x7 = -1) (hv1 : x15 ≠ 0 → x7 = x16 ∧ (x7 = 0 ∨ x7 = 1)) (hz : z1 = z0) (h : wL_lawOf_271 post mc ms x0 x8 x9 x10 x11 x14 kc ks) : wL_lawOf_236 post mc ms x0 x7 x8 x9 x10 x11 x14 x15 x16 z0 z1 kc ks :=
  br_t hz (br_c (fun z => br_t (hv0 z) h) (fun z => br_t (hv1 z).1 (br_c (fun _ => h) (fun y => br_t ((hv1 z).2.resolve_left y) h))))
theorem bb_221 {post : Int32 → St0 → Prop} {mc ms kc ks : Nat} {x0 x6 x7 x8 x9 x10 x11 x14 x15 x16 z0 z1 : Int32} (hg0 : x11 = 0 → x6 = -1) (hg1 : x11 ≠ 0 → x6 = 0) (hv0 : x15 = 0 → x7 = -1) (hv1 : x15 ≠ 0 → x7 = x16 ∧ (x7 = 0 ∨ x7 = 1)) (hz : z1 = z0) (h : wL_lawOf_271 post mc ms x0 x8 x9 x10 x11 x14 kc ks) : wL_lawOf_221 post mc ms x0 x6 x7 x8 x9 x10 x11 x14 x15 x16 z0 z1 kc ks :=
  br_t hz (br_c (fun z => bb_236 hv0 hv1 (hg0 z) h) (fun z => bb_236 hv0 hv1 (hg1 z) h))
theorem bb_207 {post : Int32 → St0 → Prop} {mc ms kc ks : Nat} {x0 x2 x5 x6 x7 x8 x9 x10 x11 x12 x14 x15 z0 : Int32} (hn0 : x12 = 0 → x5 = -1) (hn1 : x12 ≠ 0 → x5 = x2) (hg0 : x11 = 0 → x6 = -1) (hg1 : x11 ≠ 0 → x6 = 0) (hv0 : x15 = 0 → x7 = -1) (hv1 : x15 ≠ 0 → x7 = z0 ∧ (x7 = 0 ∨ x7 = 1)) (h : wL_lawOf_271 post mc ms x0 x8 x9 x10 x11 x14 kc ks) : wL_lawOf_207 post mc ms x0 x2 x5 x6 x7 x8 x9 x10 x11 x12 x14 x15 z0 kc ks :=
  br_c (fun z => bb_221 hg0 hg1 hv0 hv1 (hn0 z) h) (fun z => bb_221 hg0 hg1 hv0 hv1 (hn1 z) h)
theorem bb_140 {post : Int32 → St0 → Prop} {mc ms kc ks : Nat} {x0 x1 x2 x5 x6 x7 x8 x9 x10 x11 x12 x14 z0 : Int32} (hn0 : x12 = 0 → x5 = -1) (hn1 : x12 ≠ 0 → x5 = x2) (hg0 : x11 = 0 → x6 = -1) (hg1 : x11 ≠ 0 → x6 = 0) (hv0 : z0 = 0 → x7 = -1) (hv1 : z0 ≠ 0 → bb_D x0 x1 x7) (h : wL_lawOf_271 post mc ms x0 x8 x9 x10 x11 x14 kc ks) : wL_lawOf_140 post mc ms x0 x1 x2 x5 x6 x7 x8 x9 x10 x11 x12 x14 z0 kc ks :=
  br_c (fun z => bb_207 hn0 hn1 hg0 hg1 hv0 (fun t => ⟨(hv1 t).2.1 z, (hv1 t).1⟩) h) (fun _ =>
  br_c (fun z => bb_207 hn0 hn1 hg0 hg1 hv0 (fun t => ⟨(hv1 t).2.2.1 z, (hv1 t).1⟩) h) (fun _ =>
  br_c (fun z => bb_207 hn0 hn1 hg0 hg1 hv0 (fun t => ⟨(hv1 t).2.2.2.1 z, (hv1 t).1⟩) h) (fun _ =>
  br_c (fun z => bb_207 hn0 hn1 hg0 hg1 hv0 (fun t => ⟨(hv1 t).2.2.2.2 z, (hv1 t).1⟩) h) (fun _ =>
  bb_207 hn0 hn1 hg0 hg1 hv0 (fun t => ⟨rfl, (hv1 t).1⟩) h))))
theorem bb_123 {post : Int32 → St0 → Prop} {mc ms kc ks : Nat} {x0 x1 x2 x5 x6 x7 x8 x9 x10 x11 x12 x13 z0 : Int32} (hn0 : x12 = 0 → x5 = -1) (hn1 : x12 ≠ 0 → x5 = x2) (hg0 : x11 = 0 → x6 = -1) (hg1 : x11 ≠ 0 → x6 = 0) (hv0 : (x11 = 0 ∨ x13 = 0) → x7 = -1) (hv1 : x11 ≠ 0 → x13 ≠ 0 → bb_D x0 x1 x7) (h : wL_lawOf_271 post mc ms x0 x8 x9 x10 x11 z0 kc ks) : wL_lawOf_123 post mc ms x0 x1 x2 x5 x6 x7 x8 x9 x10 x11 x12 x13 z0 kc ks :=
  br_c (fun z => bb_140 hn0 hn1 hg0 hg1 (fun _ => hv0 (Or.inl z)) (fun t => absurd rfl t) h) (fun z =>
  br_c (fun y => bb_140 hn0 hn1 hg0 hg1 (fun _ => hv0 (Or.inr y)) (fun t => absurd rfl t) h) (fun y =>
  bb_140 hn0 hn1 hg0 hg1 (fun t => absurd t (by decide)) (fun _ => hv1 z y) h))
theorem bb_107 {post : Int32 → St0 → Prop} {mc ms kc ks : Nat} {x0 x1 x2 x3 x5 x6 x7 x8 x9 x10 x11 x12 z0 : Int32} (H : post 1 ()) (hn0 : x12 = 0 → x5 = -1) (hn1 : x12 ≠ 0 → x5 = x2) (hg0 : x11 = 0 → x6 = -1) (hg1 : x11 ≠ 0 → x6 = 0) (hv0 : (x11 = 0 ∨ z0 = 0) → x7 = -1) (hv1 : x11 ≠ 0 → z0 ≠ 0 → bb_D x0 x1 x7)
    (hin : x8 = x11) (hid1 : x11 ≠ 0 → x3 = 0 → x0 = 0 → x9 = 1) (hid0 : ¬ (x11 ≠ 0 ∧ x3 = 0 ∧ x0 = 0) → x9 = 0) (ho1 : x11 ≠ 0 → x3 = 0 → x10 = 1) (ho0 : ¬ (x11 ≠ 0 ∧ x3 = 0) → x10 = 0) : wL_lawOf_107 post mc ms x0 x1 x2 x3 x5 x6 x7 x8 x9 x10 x11 x12 z0 kc ks :=
  br_c (fun z => bb_123 hn0 hn1 hg0 hg1 hv0 hv1 (bb_271 H hin (ho0 (fun t => t.1 z)) (fun t => absurd rfl t) (fun _ => hid0 (fun t => t.1 z)))) (fun z =>
  br_c (fun y => bb_123 hn0 hn1 hg0 hg1 hv0 hv1 (bb_271 H hin (ho1 z y) (fun _ w => hid1 z y w) (fun w => hid0 (fun t => w ⟨by decide, t.2.2⟩)))) (fun y =>
  bb_123 hn0 hn1 hg0 hg1 hv0 hv1 (bb_271 H hin (ho0 (fun t => y t.2)) (fun t => absurd rfl t) (fun _ => hid0 (fun t => y t.2.1)))))
theorem bb_90 {post : Int32 → St0 → Prop} {mc ms kc ks : Nat} {x0 x1 x2 x3 x5 x6 x7 x8 x9 x10 x11 z0 : Int32} (H : post 1 ()) (hn0 : z0 = 0 → x5 = -1) (hn1 : z0 ≠ 0 → x5 = x2) (hg0 : x11 = 0 → x6 = -1) (hg1 : x11 ≠ 0 → x6 = 0) (hv0 : (x11 = 0 ∨ x1 < 0 ∨ 15 < x1) → x7 = -1) (hv1 : x11 ≠ 0 → ¬ (x1 < 0 ∨ 15 < x1) → bb_D x0 x1 x7)
    (hin : x8 = x11) (hid1 : x11 ≠ 0 → x3 = 0 → x0 = 0 → x9 = 1) (hid0 : ¬ (x11 ≠ 0 ∧ x3 = 0 ∧ x0 = 0) → x9 = 0) (ho1 : x11 ≠ 0 → x3 = 0 → x10 = 1) (ho0 : ¬ (x11 ≠ 0 ∧ x3 = 0) → x10 = 0) : wL_lawOf_90 post mc ms x0 x1 x2 x3 x5 x6 x7 x8 x9 x10 x11 z0 kc ks :=
  br_c (fun z => bb_107 H hn0 hn1 hg0 hg1 (fun _ => hv0 (Or.inr (Or.inl z))) (fun _ t => absurd rfl t) hin hid1 hid0 ho1 ho0) (fun z =>
  br_c (fun y => bb_107 H hn0 hn1 hg0 hg1 (fun _ => hv0 (Or.inr (Or.inr y))) (fun _ t => absurd rfl t) hin hid1 hid0 ho1 ho0) (fun y =>
  bb_107 H hn0 hn1 hg0 hg1 (fun t => t.elim (fun w => hv0 (Or.inl w)) (fun w => absurd w (by decide))) (fun w _ => hv1 w (fun t => t.elim z y)) hin hid1 hid0 ho1 ho0))
theorem bb_73 {post : Int32 → St0 → Prop} {mc ms kc ks : Nat} {x0 x1 x2 x3 x5 x6 x7 x8 x9 x10 z0 : Int32} (H : post 1 ()) (hn0 : (x2 < 0 ∨ 65535 < x2) → x5 = -1) (hn1 : ¬ (x2 < 0 ∨ 65535 < x2) → x5 = x2) (hg0 : z0 = 0 → x6 = -1) (hg1 : z0 ≠ 0 → x6 = 0) (hv0 : (z0 = 0 ∨ x1 < 0 ∨ 15 < x1) → x7 = -1) (hv1 : z0 ≠ 0 → ¬ (x1 < 0 ∨ 15 < x1) → bb_D x0 x1 x7)
    (hin : x8 = z0) (hid1 : z0 ≠ 0 → x3 = 0 → x0 = 0 → x9 = 1) (hid0 : ¬ (z0 ≠ 0 ∧ x3 = 0 ∧ x0 = 0) → x9 = 0) (ho1 : z0 ≠ 0 → x3 = 0 → x10 = 1) (ho0 : ¬ (z0 ≠ 0 ∧ x3 = 0) → x10 = 0) : wL_lawOf_73 post mc ms x0 x1 x2 x3 x5 x6 x7 x8 x9 x10 z0 kc ks :=
  br_c (fun z => bb_90 H (fun _ => hn0 (Or.inl z)) (fun t => absurd rfl t) hg0 hg1 hv0 hv1 hin hid1 hid0 ho1 ho0) (fun z =>
  br_c (fun y => bb_90 H (fun _ => hn0 (Or.inr y)) (fun t => absurd rfl t) hg0 hg1 hv0 hv1 hin hid1 hid0 ho1 ho0) (fun y =>
  bb_90 H (fun t => absurd t (by decide)) (fun _ => hn1 (fun t => t.elim z y)) hg0 hg1 hv0 hv1 hin hid1 hid0 ho1 ho0))
theorem bb_lawOf {post : Int32 → St0 → Prop} (H : post 1 ()) (f p g i : Int32) : wpL_lawOf post 46 736 () f p g i := by
  unfold wpL_lawOf
  refine ⟨by omega, by omega, 4, 86, by omega, by omega, ?_⟩
  unfold wpX_init
  refine ⟨by omega, by omega, by omega, by omega, by omega, by omega, by omega, by omega, ?_⟩
  refine bb_restU (fun r27 kn sz bc bs zs c4 hn0 hn1 => ?_)
  dsimp only
  rcases bb_poly f with hb | ⟨f', hf, e⟩
  · refine bb_addF hb ?_
    dsimp only
    refine bb_valF (Or.inl hb) ?_
    refine bb_cnF hb ?_
    dsimp only
    refine bb_rd0 ?_
    dsimp only
    refine bb_rm0 (fun u => ?_)
    obtain ⟨v1, v2, v3, v4, v5, v6, v7, v8, v9, v10⟩ := u
    have k : ∀ kc ks, wL_lawOf_73 post 46 736 f p g i r27 (-1) (-1) 0 0 0 0 kc ks := fun kc ks =>
      bb_73 H hn0 hn1 (fun _ => rfl) (fun t => absurd rfl t) (fun _ => rfl) (fun t => absurd rfl t) rfl (fun t => absurd rfl t) (fun _ => rfl) (fun t => absurd rfl t) (fun _ => rfl)
    exact br_c (fun _ => k _ _) (fun z => br_t (hb.resolve_left z) (k _ _))
  · subst e
    refine bb_addT hf ?_
    dsimp only
    refine bb_valU hf (fun r65 hv0 hv1 => ?_)
    refine bb_cnT hf pk_us (fun sz2 bc2 bs2 zs2 b2 b3 b4 => ?_)
    dsimp only
    refine bb_rdU hf pk_us (fun r85 kn3 sz3 hid1 hid0 => ?_)
    dsimp only
    refine bb_rmU (fun r104 u ho1 ho0 => ?_)
    obtain ⟨v1, v2, v3, v4, v5, v6, v7, v8, v9, v10⟩ := u
    refine br_f (nI_pos (by omega)) (br_f (nI_nlt (b := f') (a := 65535) (by omega) (by decide)) ?_)
    have n1 : (1 : Int32) ≠ 0 := by decide
    exact bb_73 H hn0 hn1 (fun t => absurd t n1) (fun _ => rfl) (fun t => t.elim (fun w => absurd w n1) hv0) (fun _ t => hv1 t) rfl (fun _ a b => hid1 a b) (fun t => hid0 (fun w => t ⟨n1, w⟩)) (fun _ a => ho1 a) (fun t => ho0 (fun w => t ⟨n1, w⟩))
theorem bb_cell {post : Int32 → Prop} {L : Nat} {xs : Nat → Int32} (hL : L ≤ 4) (k : Nat) (hk : k < 4) (H : ∀ r, post r) : wpL_cellAt post L xs () (nI k) := by
  unfold wpL_cellAt
  exact pk_le L k (fun _ => H 0) (fun z => ⟨pk_in k L z, H _⟩)
theorem i_vc (xs : Nat → Int32) (L : Nat) (hL : L ≤ 4) : wpL_law (fun r => r = 1) L xs := by
  unfold wpL_law
  exact bb_cell hL 0 (by omega) (fun r1 => bb_cell hL 1 (by omega) (fun r2 => bb_cell hL 2 (by omega) (fun r3 => bb_cell hL 3 (by omega) (fun r4 => ⟨46, 736, by omega, by omega, bb_lawOf rfl r1 r2 r3 r4⟩))))
end
