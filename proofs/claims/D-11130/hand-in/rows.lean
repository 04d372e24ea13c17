section
/-! places -/
theorem pq_ix (c s k : Nat) : nI c * nI s + nI k = nI (c * s + k) := by rw [pk_mul, nI_add]
theorem pq_17 (s k : Nat) : (17 : Int32) * nI s + nI k = nI (17 * s + k) := pq_ix 17 s k
theorem pq_171 (s k : Nat) : (17 : Int32) * nI s + nI k + 1 = nI (17 * s + (k + 1)) := by
  rw [pq_17, nI_1]
  rfl
theorem pq_16 (s k : Nat) : (16 : Int32) * nI s + nI k = nI (16 * s + k) := pq_ix 16 s k
theorem pq_40 (s : Nat) : (40 : Int32) * nI s = nI (40 * s) := pk_mul 40 s
theorem pq_uu (f : Nat → Int32) (k : Nat) : upd f k (f k) = f := by
  funext j
  by_cases e : j = k
  · rw [e, pk_us]
  · rw [pk_un e]
/-- stream s holds c tuples (none or one) of key k and value x -/
def pq_T (s k c : Nat) (x : Int32) (a1 a2 a3 a4 a5 : Nat → Int32) : Prop :=
  k < 16 ∧ c ≤ 1 ∧ a3 s = nI c ∧ (∀ j, j ≤ 16 → a4 (17 * s + j) = nI (if k < j then c else 0)) ∧ (c = 1 → a1 (40 * s) = nI k ∧ a2 (40 * s) = x) ∧ a5 (16 * s + k) = (if c = 0 then 0 else x)
/-- stream s is shut at the keys from f below e, and at no other -/
def pq_R (s f e : Nat) (a6 : Nat → Int32) : Prop := ∀ j, j < 16 → a6 (16 * s + j) = (if f ≤ j ∧ j < e then 1 else 0)
theorem pq_Rs {s f i : Nat} {a6 : Nat → Int32} (h : pq_R s f i a6) (hf : f ≤ i) : pq_R s f (i + 1) (upd a6 (16 * s + i) 1) := by
  intro j hj
  by_cases e : j = i
  · rw [e, pk_us, if_pos (by omega)]
  · rw [pk_un (by omega), h j hj]
    by_cases g : f ≤ j ∧ j < i
    · rw [if_pos g, if_pos (by omega)]
    · rw [if_neg g, if_neg (by omega)]
theorem pq_Ro {s s' f e i : Nat} {v : Int32} {a6 : Nat → Int32} (h : pq_R s' f e a6) (hs : s < 2) (hs' : s' < 2) (hn : s' ≠ s) (hi : i < 16) : pq_R s' f e (upd a6 (16 * s + i) v) := by
  intro j hj
  rw [pk_un (by omega), h j hj]
theorem pq_isStream {post : Int32 → Prop} {s : Nat} (hs : s < 2) (hp : post 1) : wpX_isStream post () (nI s) := by
  unfold wpX_isStream
  exact pk_eq s 0 (fun _ => hp) (fun _ => pk_eq s 1 (fun _ => hp) (fun z => absurd hs (by omega)))
theorem pq_isKey {post : Int32 → Prop} {k : Nat} (hk : k < 16) (hp : post 1) : wpX_isKey post () (nI k) := by
  unfold wpX_isKey
  exact pk_lt k 0 (fun z => absurd z (by omega)) (fun _ => pk_le 16 k (fun z => absurd z (by omega)) (fun _ => hp))
theorem pq_noKey {post : Int32 → Prop} {x : Int32} (h : x < 0 ∨ 16 ≤ x) (hp : post 0) : wpX_isKey post () x := by
  unfold wpX_isKey
  exact br_c (fun _ => hp) (fun z => br_t (h.resolve_left z) hp)
theorem pq_count {post : Int32 → Prop} {s k c j : Nat} {x : Int32} {o lo hi : Int32} {a1 a2 a3 a4 a5 a6 a7 a8 a9 a10 a11 : Nat → Int32} (hs : s < 2) (hj : j < 16) (t : pq_T s k c x a1 a2 a3 a4 a5)
    (hp : post (nI (if j = k then c else 0))) : wpX_countOf post (o, lo, hi, a1, a2, a3, a4, a5, a6, a7, a8, a9, a10, a11) (nI s) (nI j) := by
  obtain ⟨hk, hc, h3, h4, h1, h5⟩ := t
  unfold wpX_countOf
  dsimp only
  rw [pq_171, pq_17, nI_clamp (show 17 * s + (j + 1) < 2 ^ 31 by omega), nI_clamp (show 17 * s + j < 2 ^ 31 by omega), h4 j (by omega), h4 (j + 1) (by omega)]
  refine ⟨vp_in_nI (by omega) (by omega), vp_in_nI (by omega) (by omega), ?_⟩
  have e : nI (if k < j + 1 then c else 0) - nI (if k < j then c else 0) = nI (if j = k then c else 0) := by
    by_cases g : j = k
    · rw [if_pos g, if_pos (show k < j + 1 by omega), if_neg (show ¬ k < j by omega), pk_sub (by omega)]
      rfl
    · rw [if_neg g]
      by_cases g2 : k < j
      · rw [if_pos (show k < j + 1 by omega), if_pos g2, pk_sub (by omega), Nat.sub_self]
      · rw [if_neg (show ¬ k < j + 1 by omega), if_neg g2, pk_sub (by omega)]
  rw [e]
  exact hp
/-- begin, with d added from place p below q -/
def pq_sh (a4 : Nat → Int32) (p q : Nat) (d : Int32) : Nat → Int32 := fun j => if p ≤ j ∧ j < q then a4 j + d else a4 j
theorem pq_sh_in {a4 : Nat → Int32} {p q j : Nat} {d : Int32} (h : p ≤ j ∧ j < q) : pq_sh a4 p q d j = a4 j + d := if_pos h
theorem pq_sh_out {a4 : Nat → Int32} {p q j : Nat} {d : Int32} (h : ¬ (p ≤ j ∧ j < q)) : pq_sh a4 p q d j = a4 j := if_neg h
theorem pq_sh_0 (a4 : Nat → Int32) (p : Nat) (d : Int32) : a4 = pq_sh a4 p p d := by
  funext j
  rw [pq_sh_out (by omega)]
theorem pq_sh_s (a4 : Nat → Int32) (p q : Nat) (d : Int32) (h : p ≤ q) : upd (pq_sh a4 p q d) q (pq_sh a4 p q d q + d) = pq_sh a4 p (q + 1) d := by
  funext j
  by_cases e : j = q
  · rw [e, pk_us, pq_sh_out (by omega), pq_sh_in (by omega)]
  · rw [pk_un e]
    by_cases g : p ≤ j ∧ j < q
    · rw [pq_sh_in g, pq_sh_in (by omega)]
    · rw [pq_sh_out g, pq_sh_out (by omega)]
theorem pq_shift {post : St2 → Prop} {s k : Nat} {d : Int32} {o lo hi : Int32} {a1 a2 a3 a4 a5 a6 a7 a8 a9 a10 a11 : Nat → Int32} (hs : s < 2) (hk : k < 16)
    (hp : post (o, lo, hi, a1, a2, a3, pq_sh a4 (17 * s + (k + 1)) (17 * s + 17) d, a5, a6, a7, a8, a9, a10, a11)) :
    wpX_shiftBegins post (o, lo, hi, a1, a2, a3, a4, a5, a6, a7, a8, a9, a10, a11) (nI s) (nI k) d := by
  unfold wpX_shiftBegins
  dsimp only
  refine nm_r (nI_1 k) ?_
  refine pk_loop (fun n i s4 => wX_shiftBegins_5 post (nI s) d o lo hi n (nI i) a1 a2 a3 s4 a5 a6 a7 a8 a9 a10 a11) (fun i s4 => s4 = pq_sh a4 (17 * s + (k + 1)) (17 * s + i) d ∧ k + 1 ≤ i) 17 (k + 1) a4 (by omega) ⟨pq_sh_0 _ _ _, Nat.le_refl _⟩ ?_ ?_
  · intro n s4 h
    exact pk_lt 16 17 (fun _ => by rw [h.1]; exact hp) (fun z => absurd z (by omega))
  · intro n i s4 hi' h hw
    refine pk_lt 16 i (fun z => absurd z (by omega)) (fun _ => ⟨pk_in (17 * s + i) 34 (by omega) (pq_17 s i), pk_in (17 * s + i) 34 (by omega) (pq_17 s i), nm_e (nm_r (nI_1 i) (hw _ ⟨?_, by omega⟩))⟩)
    rw [pq_17, nI_clamp (show 17 * s + i < 2 ^ 31 by omega), h.1]
    exact pq_sh_s _ _ _ _ (by omega)
/-- the place of a value in an empty stretch -/
theorem pq_place0 {post : Int32 → Prop} {s k : Nat} {x v : Int32} {o lo hi : Int32} {a1 a2 a3 a4 a5 a6 a7 a8 a9 a10 a11 : Nat → Int32} (hs : s < 2) (t : pq_T s k 0 x a1 a2 a3 a4 a5) (hp : post (nI (40 * s))) :
    wpX_place post (o, lo, hi, a1, a2, a3, a4, a5, a6, a7, a8, a9, a10, a11) (nI s) (nI k) v := by
  obtain ⟨hk, hc, h3, h4, h1, h5⟩ := t
  unfold wpX_place
  dsimp only
  rw [pq_171, pq_17, nI_clamp (show 17 * s + (k + 1) < 2 ^ 31 by omega), nI_clamp (show 17 * s + k < 2 ^ 31 by omega), h4 k (by omega), h4 (k + 1) (by omega), if_pos (Nat.lt_succ_self k), if_neg (Nat.lt_irrefl k), pq_40, nI_add]
  refine ⟨vp_in_nI (by omega) (by omega), nm_e ⟨vp_in_nI (by omega) (by omega), nm_e ⟨1, ?_⟩⟩⟩
  exact pk_le 8 0 (fun z => absurd z (by omega)) (fun _ => pk_le (40 * s) (40 * s) (fun _ => hp) (fun z => absurd z (by omega)))
/-- the place of a value in stream 1's stretch of one -/
theorem pq_place1 {post : Int32 → Prop} {k : Nat} {y v : Int32} {o lo hi : Int32} {a1 a2 a3 a4 a5 a6 a7 a8 a9 a10 a11 : Nat → Int32} (t : pq_T 1 k 1 y a1 a2 a3 a4 a5) (h0 : v ≤ y → post (nI 40)) (h1 : ¬ v ≤ y → post (nI 41)) :
    wpX_place post (o, lo, hi, a1, a2, a3, a4, a5, a6, a7, a8, a9, a10, a11) (nI 1) (nI k) v := by
  obtain ⟨hk, hc, h3, h4, h1', h5⟩ := t
  unfold wpX_place
  dsimp only
  rw [pq_171, pq_17, nI_clamp (show 17 * 1 + (k + 1) < 2 ^ 31 by omega), nI_clamp (show 17 * 1 + k < 2 ^ 31 by omega), h4 k (by omega), h4 (k + 1) (by omega), if_pos (Nat.lt_succ_self k), if_neg (Nat.lt_irrefl k), pq_40, nI_add, nI_add]
  have hy : a2 40 = y := (h1' rfl).2
  have e7 : (nI (40 * 1 + 0) + nI (40 * 1 + 1)) >>> ((1 : Int32) &&& 31) = nI 40 := by decide
  refine ⟨vp_in_nI (by omega) (by omega), nm_e ⟨vp_in_nI (by omega) (by omega), nm_e ⟨2, ?_⟩⟩⟩
  refine pk_le 8 0 (fun z => absurd z (by omega)) (fun _ => pk_le 41 40 (fun z => absurd z (by omega)) (fun _ => nm_r e7 ⟨pk_in 40 80 (by omega), ?_⟩))
  rw [nI_clamp (show 40 < 2 ^ 31 by omega), hy]
  refine br_c (fun z => nm_r (e' := nI 1) rfl ?_) (fun z => nm_r (e' := nI 41) rfl (nm_r (e' := nI 1) rfl ?_))
  · exact pk_le 8 1 (fun z => absurd z (by omega)) (fun _ => pk_le 40 40 (fun _ => h0 z) (fun z => absurd z (by omega)))
  · exact pk_le 8 1 (fun z => absurd z (by omega)) (fun _ => pk_le 41 41 (fun _ => h1 z) (fun z => absurd z (by omega)))
end
section
/-- a step on stream s leaves the other stream's picture -/
def pq_F (s : Nat) (a1 a2 a3 a4 a5 a1' a2' a3' a4' a5' : Nat → Int32) : Prop := ∀ (s' k' c' : Nat) (x' : Int32), s' < 2 → s' ≠ s → pq_T s' k' c' x' a1 a2 a3 a4 a5 → pq_T s' k' c' x' a1' a2' a3' a4' a5'
theorem pq_Fu {s i j : Nat} {v w d z r : Int32} {a1 a2 a3 a4 a5 : Nat → Int32} (hs : s < 2) (hi : i < 16) (hj : j ≤ 16) :
    pq_F s a1 a2 a3 a4 a5 (upd a1 (40 * s) v) (upd a2 (40 * s) w) (upd a3 s z) (pq_sh a4 (17 * s + j) (17 * s + 17) d) (upd a5 (16 * s + i) r) := by
  intro s' k' c' x' hs' hn t
  obtain ⟨hk, hc, h3, h4, h1, h5⟩ := t
  refine ⟨hk, hc, ?_, ?_, ?_, ?_⟩
  · rw [pk_un hn, h3]
  · intro j' hj'
    rw [pq_sh_out (by omega), h4 j' hj']
  · intro e
    rw [pk_un (by omega), pk_un (by omega)]
    exact h1 e
  · rw [pk_un (by omega), h5]
theorem pq_feed {post : Int32 → St2 → Prop} {s k : Nat} {x v : Int32} {o lo hi : Int32} {a1 a2 a3 a4 a5 a6 a7 a8 a9 a10 a11 : Nat → Int32} (hs : s < 2) (t : pq_T s k 0 x a1 a2 a3 a4 a5) (h6 : a6 (16 * s + k) = 0) (hv1 : ¬ v < -50) (hv2 : v ≤ 50)
    (hp : ∀ a1' a2' a3' a4' a5' : Nat → Int32, pq_T s k 1 v a1' a2' a3' a4' a5' → pq_F s a1 a2 a3 a4 a5 a1' a2' a3' a4' a5' → post (nI 1) (o, lo, hi, a1', a2', a3', a4', a5', a6, a7, a8, a9, a10, a11)) :
    wpX_feed post (o, lo, hi, a1, a2, a3, a4, a5, a6, a7, a8, a9, a10, a11) (nI s) (nI k) v := by
  have t' := t
  obtain ⟨hk, hc, h3, h4, h1, h5⟩ := t'
  unfold wpX_feed
  dsimp only
  refine pq_isStream hs (br_f (by decide) (pq_isKey hk (br_f (by decide) (br_f hv1 (br_t hv2 ?_)))))
  rw [pq_16, nI_clamp (show 16 * s + k < 2 ^ 31 by omega), nI_clamp (show s < 2 ^ 31 by omega), h3]
  refine ⟨vp_in_nI (by omega) (by omega), br_t h6 ⟨vp_in_nI hs (by omega), br_f (by decide) (nm_r (pq_40 s) (pq_place0 hs t ⟨vp_in_nI hs (by omega), nm_r (nI_add _ _) ⟨1, ?_⟩⟩))⟩⟩
  refine pk_le (40 * s + 0) (40 * s) (fun _ => ?_) (fun z => absurd z (by omega))
  rw [pq_16, nI_clamp (show 16 * s + k < 2 ^ 31 by omega), nI_clamp (show s < 2 ^ 31 by omega), nI_clamp (show 40 * s < 2 ^ 31 by omega), h3, h5, if_pos rfl]
  refine ⟨vp_in_nI (by omega) (by omega), nm_e ⟨vp_in_nI (by omega) (by omega), nm_e ⟨vp_in_nI hs (by omega), vp_in_nI hs (by omega), nm_e ⟨vp_in_nI (by omega) (by omega), vp_in_nI (by omega) (by omega), nm_e (pq_shift hs hk ?_)⟩⟩⟩⟩
  dsimp only
  refine ⟨vp_in_nI hs (by omega), ?_⟩
  rw [pk_us, show nI 0 + 1 = nI 1 from nI_1 0]
  refine hp _ _ _ _ _ ?_ (pq_Fu hs hk (by omega))
  refine ⟨hk, Nat.le_refl 1, pk_us, ?_, fun _ => ⟨pk_us, pk_us⟩, ?_⟩
  · intro j hj
    by_cases g : k < j
    · rw [pq_sh_in (by omega), h4 j hj, if_pos g, if_pos g]
      rfl
    · rw [pq_sh_out (by omega), h4 j hj, if_neg g, if_neg g]
  · rw [pk_us, if_neg (by decide), Int32.zero_add]
theorem pq_feedK {post : Int32 → St2 → Prop} {s : Nat} {x v : Int32} {o lo hi : Int32} {a1 a2 a3 a4 a5 a6 a7 a8 a9 a10 a11 : Nat → Int32} (hs : s < 2) (hx : x < 0 ∨ 16 ≤ x) (hp : post (-2) (o, lo, hi, a1, a2, a3, a4, a5, a6, a7, a8, a9, a10, a11)) :
    wpX_feed post (o, lo, hi, a1, a2, a3, a4, a5, a6, a7, a8, a9, a10, a11) (nI s) x v := by
  unfold wpX_feed
  dsimp only
  exact pq_isStream hs (br_f (by decide) (pq_noKey hx (br_t rfl hp)))
theorem pq_feedV {post : Int32 → St2 → Prop} {s k : Nat} {v : Int32} {o lo hi : Int32} {a1 a2 a3 a4 a5 a6 a7 a8 a9 a10 a11 : Nat → Int32} (hs : s < 2) (hk : k < 16) (hv : v < -50 ∨ ¬ v ≤ 50) (hp : post (-3) (o, lo, hi, a1, a2, a3, a4, a5, a6, a7, a8, a9, a10, a11)) :
    wpX_feed post (o, lo, hi, a1, a2, a3, a4, a5, a6, a7, a8, a9, a10, a11) (nI s) (nI k) v := by
  unfold wpX_feed
  dsimp only
  exact pq_isStream hs (br_f (by decide) (pq_isKey hk (br_f (by decide) (br_c (fun _ => hp) (fun z => br_f (hv.resolve_left z) hp)))))
/-! the sign of a product of small ints -/
theorem pq_sgI {a b : Int} (ha1 : ¬ a < -50) (ha2 : a ≤ 50) (hb1 : ¬ b < -50) (hb2 : b ≤ 50) : (a * b).bmod (2 ^ 32) < 0 ↔ (a < 0 ∧ 0 < b) ∨ (0 < a ∧ b < 0) := by
  have u : a * b ≤ 2500 ∧ -2500 ≤ a * b := by
    have g : (a * b).natAbs ≤ 50 * 50 := by
      rw [Int.natAbs_mul]
      exact Nat.mul_le_mul (by omega) (by omega)
    omega
  rw [Int.bmod_eq_of_le_mul_two (by omega) (by omega)]
  constructor
  · intro h
    rcases Int.lt_trichotomy a 0 with ha | ha | ha
    · rcases Int.lt_trichotomy b 0 with hb | hb | hb
      · have q := Int.mul_pos_of_neg_of_neg ha hb
        omega
      · rw [hb, Int.mul_zero] at h
        exact absurd h (by decide)
      · exact Or.inl ⟨ha, hb⟩
    · rw [ha, Int.zero_mul] at h
      exact absurd h (by decide)
    · rcases Int.lt_trichotomy b 0 with hb | hb | hb
      · exact Or.inr ⟨ha, hb⟩
      · rw [hb, Int.mul_zero] at h
        exact absurd h (by decide)
      · have q := Int.mul_pos ha hb
        omega
  · intro h
    rcases h with ⟨ha, hb⟩ | ⟨ha, hb⟩
    · exact Int.mul_neg_of_neg_of_pos ha hb
    · exact Int.mul_neg_of_pos_of_neg ha hb
theorem pq_sg {x y : Int32} (hx1 : ¬ x < -50) (hx2 : x ≤ 50) (hy1 : ¬ y < -50) (hy2 : y ≤ 50) : x * y < 0 ↔ (x.toInt < 0 ∧ 0 < y.toInt) ∨ (0 < x.toInt ∧ y.toInt < 0) := by
  rw [Int32.lt_iff_toInt_lt] at hx1 hy1
  rw [Int32.le_iff_toInt_le] at hx2 hy2
  have c1 : (-50 : Int32).toInt = -50 := by decide
  have c2 : (50 : Int32).toInt = 50 := by decide
  have c3 : (0 : Int32).toInt = 0 := by decide
  rw [c1] at hx1 hy1
  rw [c2] at hx2 hy2
  rw [Int32.lt_iff_toInt_lt, Int32.toInt_mul, c3]
  exact pq_sgI hx1 hx2 hy1 hy2
theorem pq_l0 {x : Int32} : x ≤ 0 ↔ x.toInt ≤ 0 := by
  rw [Int32.le_iff_toInt_le]
  exact Iff.rfl
theorem pq_g0 {x : Int32} : 0 ≤ x ↔ 0 ≤ x.toInt := by
  rw [Int32.le_iff_toInt_le]
  exact Iff.rfl
theorem pq_g1 {x : Int32} : 1 ≤ x ↔ 1 ≤ x.toInt := by
  rw [Int32.le_iff_toInt_le]
  exact Iff.rfl
theorem pq_e0 {x : Int32} : x = 0 ↔ x.toInt = 0 := by
  rw [← Int32.toInt_inj]
  exact Iff.rfl
theorem pq_partners {post : Int32 → Prop} {k c1 : Nat} {x y : Int32} {o lo hi : Int32} {a1 a2 a3 a4 a5 a6 a7 a8 a9 a10 a11 : Nat → Int32} (t : pq_T 1 k c1 y a1 a2 a3 a4 a5) (hx1 : ¬ x < -50) (hx2 : x ≤ 50) (hy : c1 = 1 → ¬ y < -50 ∧ y ≤ 50)
    (h0 : (c1 = 1 → x * y < 0) → post 0) (h1 : c1 = 1 → ¬ x * y < 0 → post 1) : wpX_partnersFrom post (o, lo, hi, a1, a2, a3, a4, a5, a6, a7, a8, a9, a10, a11) (nI k) x 0 := by
  have t' := t
  obtain ⟨hk, hc, h3, h4, -, h5⟩ := t'
  unfold wpX_partnersFrom
  dsimp only
  refine pq_count (s := 1) (by omega) hk t ?_
  rw [if_pos rfl]
  obtain rfl | rfl : c1 = 0 ∨ c1 = 1 := by omega
  · refine br_t nI_0 ?_
    unfold wX_partnersFrom_17
    exact br_f (by decide) (h0 (fun z => absurd z (by decide)))
  · obtain ⟨hy1, hy2⟩ := hy rfl
    have sg := pq_sg hx1 hx2 hy1 hy2
    refine br_f (nI_ne0 (by omega) (by omega)) (br_c (fun ex => ?_) (fun ex => ?_))
    · unfold wX_partnersFrom_17
      rw [pq_e0] at ex
      exact br_f (by decide) (h1 rfl (fun z => absurd (sg.mp z) (by omega)))
    · have e17 : (17 : Int32) + nI k = nI (17 + k) := nI_add 17 k
      have b : a4 (17 + k) = nI 0 := by
        have q := h4 k (by omega)
        rw [if_neg (Nat.lt_irrefl k)] at q
        exact q
      rw [e17, nI_clamp (show 17 + k < 2 ^ 31 by omega), b]
      refine ⟨vp_in_nI (by omega) (by omega), nm_r (e' := nI 40) (by decide) (br_t (by decide) ?_)⟩
      unfold wX_partnersFrom_56
      refine br_t (by decide) ?_
      unfold wX_partnersFrom_74
      have z0 : (-(0 : Int32)) = 0 := by decide
      rw [z0, Int32.zero_div]
      refine br_c (fun g => nm_e (br_t (Int32.le_refl 0) ⟨?_, ?_⟩)) (fun g => br_t (Int32.le_refl 0) ⟨ex, ?_⟩)
      · intro q
        apply ex
        rw [← Int32.neg_neg (a := x), q]
        decide
      · unfold wX_partnersFrom_152
        rw [Int32.zero_div]
        rw [pq_e0] at ex
        rw [pq_l0] at g
        have e1 : (0 : Int32) + 1 = 1 := by decide
        rw [e1]
        refine pq_place1 t (fun z => ?_) (fun z => ?_)
        · rw [pq_g1] at z
          rw [show nI 40 - nI 40 = 0 by decide]
          exact h0 (fun _ => sg.mpr (by omega))
        · rw [pq_g1] at z
          rw [show nI 41 - nI 40 = 1 by decide]
          exact h1 rfl (fun q => absurd (sg.mp q) (by omega))
      · unfold wX_partnersFrom_102
        rw [pq_e0] at ex
        rw [pq_l0] at g
        rw [z0]
        refine pq_place1 t (fun z => ?_) (fun z => ?_)
        · rw [pq_g0] at z
          rw [show nI 1 - (nI 40 - nI 40) = 1 by decide]
          exact h1 rfl (fun q => absurd (sg.mp q) (by omega))
        · rw [pq_g0] at z
          rw [show nI 1 - (nI 41 - nI 40) = 0 by decide]
          exact h0 (fun _ => sg.mpr (by omega))
theorem pq_pairsFrom {post : Int32 → Prop} {k c0 c1 : Nat} {x y : Int32} {o lo hi : Int32} {a1 a2 a3 a4 a5 a6 a7 a8 a9 a10 a11 : Nat → Int32} (t0 : pq_T 0 k c0 x a1 a2 a3 a4 a5) (t1 : pq_T 1 k c1 y a1 a2 a3 a4 a5) (hx : c0 = 1 → ¬ x < -50 ∧ x ≤ 50) (hy : c1 = 1 → ¬ y < -50 ∧ y ≤ 50)
    (h0 : (c0 = 1 ∧ c1 = 1 → x * y < 0) → post 0) (h1 : c0 = 1 → c1 = 1 → ¬ x * y < 0 → post 1) : wpX_pairsFrom post (o, lo, hi, a1, a2, a3, a4, a5, a6, a7, a8, a9, a10, a11) 0 := by
  obtain ⟨hk, hc, h3, h4, h12, h5⟩ := t0
  unfold wpX_pairsFrom
  dsimp only
  obtain rfl | rfl : c0 = 0 ∨ c0 = 1 := by omega
  · exact ⟨1, pk_le 0 0 (fun _ => h0 (fun z => absurd z.1 (by decide))) (fun z => absurd z (by omega)) h3⟩
  · obtain ⟨hk1, hx0⟩ := h12 rfl
    obtain ⟨hx1, hx2⟩ := hx rfl
    have hk1' : a1 0 = nI k := hk1
    have hx0' : a2 0 = x := hx0
    refine ⟨2, pk_le 1 0 (fun z => absurd z (by omega)) (fun _ => ?_) h3⟩
    rw [sb_cl0, hk1', hx0']
    refine ⟨pk_in 0 80 (by omega), pk_in 0 80 (by omega), pq_partners t1 hx1 hx2 hy (fun z => ?_) (fun z z2 => ?_)⟩
    · exact nm_r (e' := nI 0) (by decide) (nm_r (e' := nI 1) (by decide) (pk_le 1 1 (fun _ => h0 (fun q => z q.2)) (fun q => absurd q (by omega)) h3))
    · exact nm_r (e' := nI 1) (by decide) (nm_r (e' := nI 1) (by decide) (pk_le 1 1 (fun _ => h1 rfl z z2) (fun q => absurd q (by omega)) h3))
end
section
theorem pq_dropX {post : St2 → Prop} {s k c j n : Nat} {x : Int32} {o lo hi : Int32} {a1 a2 a3 a4 a5 a6 a7 a8 a9 a10 a11 : Nat → Int32} (hs : s < 2) (hj : j < 16) (t : pq_T s k c x a1 a2 a3 a4 a5)
    (hp : ∀ a1' a2' a3' a4' a5' : Nat → Int32, pq_T s k (if j = k then 0 else c) x a1' a2' a3' a4' a5' → pq_F s a1 a2 a3 a4 a5 a1' a2' a3' a4' a5' → post (o, lo, hi, a1', a2', a3', a4', a5', a6, a7, a8, a9, a10, a11)) :
    wX_drop_35 post (nI s) (nI j) (nI (if j = k then c else 0)) (nI (40 * s)) o lo hi (n + 1) (nI (40 * s + c)) a1 a2 a3 a4 a5 a6 a7 a8 a9 a10 a11 := by
  obtain ⟨hk, hc, h3, h4, h1, h5⟩ := t
  have e3 : nI (40 * s) + a3 (nI s).toNatClampNeg = nI (40 * s + c) := by rw [nI_clamp (by omega), h3, nI_add]
  refine And.intro (pk_in s 2 hs) (pk_le (40 * s + c) (40 * s + c) (fun _ => ?_) (fun z => absurd z (by omega)) e3)
  rw [nI_clamp (show s < 2 ^ 31 by omega), pq_16, nI_clamp (show 16 * s + j < 2 ^ 31 by omega), h3]
  refine ⟨vp_in_nI hs (by omega), vp_in_nI hs (by omega), nm_e ⟨vp_in_nI (by omega) (by omega), nm_e (pq_shift hs hj ?_)⟩⟩
  dsimp only
  refine hp _ _ _ _ _ ?_ ?_
  · by_cases g : j = k
    · rw [if_pos g, if_pos g]
      refine ⟨hk, by omega, ?_, ?_, fun z => absurd z (by decide), ?_⟩
      · rw [pk_us, pk_sub (Nat.le_refl c), Nat.sub_self]
      · intro i hi'
        by_cases q : k < i
        · rw [pq_sh_in (by omega), h4 i hi', if_pos q, if_pos q, Int32.add_right_neg]
          rfl
        · rw [pq_sh_out (by omega), h4 i hi', if_neg q, if_neg q]
      · rw [g, pk_us, if_pos rfl]
    · rw [if_neg g, if_neg g]
      refine ⟨hk, hc, ?_, ?_, h1, ?_⟩
      · rw [pk_us, pk_sub (Nat.zero_le c), Nat.sub_zero]
      · intro i hi'
        have z : -nI 0 = 0 := by decide
        rw [z]
        by_cases q : 17 * s + (j + 1) ≤ 17 * s + i ∧ 17 * s + i < 17 * s + 17
        · rw [pq_sh_in q, Int32.add_zero]
          exact h4 i hi'
        · rw [pq_sh_out q]
          exact h4 i hi'
      · rw [pk_un (by omega)]
        exact h5
  · have q := pq_Fu (s := s) (i := j) (j := j + 1) (v := a1 (40 * s)) (w := a2 (40 * s)) (d := -nI (if j = k then c else 0)) (z := nI c - nI (if j = k then c else 0)) (r := 0) (a1 := a1) (a2 := a2) (a3 := a3) (a4 := a4) (a5 := a5) hs hj (by omega)
    rw [pq_uu, pq_uu] at q
    exact q
theorem pq_drop {post : St2 → Prop} {s k c j : Nat} {x : Int32} {o lo hi : Int32} {a1 a2 a3 a4 a5 a6 a7 a8 a9 a10 a11 : Nat → Int32} (hs : s < 2) (hj : j < 16) (t : pq_T s k c x a1 a2 a3 a4 a5)
    (hp : ∀ a1' a2' a3' a4' a5' : Nat → Int32, pq_T s k (if j = k then 0 else c) x a1' a2' a3' a4' a5' → pq_F s a1 a2 a3 a4 a5 a1' a2' a3' a4' a5' → post (o, lo, hi, a1', a2', a3', a4', a5', a6, a7, a8, a9, a10, a11)) :
    wpX_drop post (o, lo, hi, a1, a2, a3, a4, a5, a6, a7, a8, a9, a10, a11) (nI s) (nI j) := by
  have t' := t
  obtain ⟨hk, hc, h3, h4, h1, h5⟩ := t'
  unfold wpX_drop
  dsimp only
  refine pq_count hs hj t ?_
  rw [pq_17, nI_clamp (show 17 * s + j < 2 ^ 31 by omega), h4 j (by omega)]
  refine nm_r (pq_40 s) ⟨vp_in_nI (by omega) (by omega), nm_r (nI_add _ _) (nm_r (nI_add _ _) ?_)⟩
  by_cases q : 40 * s + (if k < j then c else 0) + (if j = k then c else 0) = 40 * s + c
  · rw [q]
    exact ⟨1, pq_dropX hs hj t hp⟩
  · have g : ¬ j = k := fun e => q (by rw [if_pos e, if_neg (by omega)]; omega)
    have g2 : ¬ k < j := fun e => q (by rw [if_pos e, if_neg g]; omega)
    have g3 : c = 1 := by
      have z : ¬ c = 0 := fun e => q (by rw [if_neg g, if_neg g2, e])
      omega
    rw [if_neg g, if_neg g2, Nat.add_zero]
    have e3 : nI (40 * s) + a3 (nI s).toNatClampNeg = nI (40 * s + c) := by rw [nI_clamp (by omega), h3, nI_add]
    have d := pq_dropX (n := 0) hs hj t hp
    rw [if_neg g] at d
    refine ⟨2, And.intro (pk_in s 2 hs) (pk_le (40 * s + c) (40 * s) (fun z => absurd z (by omega)) (fun _ => ?_) e3)⟩
    rw [pk_sub (Nat.zero_le _), Nat.sub_zero, nI_clamp (show 40 * s < 2 ^ 31 by omega), pq_uu, pq_uu]
    refine ⟨vp_in_nI (by omega) (by omega), vp_in_nI (by omega) (by omega), nm_e ⟨vp_in_nI (by omega) (by omega), vp_in_nI (by omega) (by omega), nm_e (nm_r (e' := nI (40 * s + c)) (by rw [g3, nI_1]) d)⟩⟩
theorem pq_pairsOf {post : Int32 → Prop} {k c0 c1 j : Nat} {x y : Int32} {o lo hi : Int32} {a1 a2 a3 a4 a5 a6 a7 a8 a9 a10 a11 : Nat → Int32} (hj : j < 16) (t0 : pq_T 0 k c0 x a1 a2 a3 a4 a5) (t1 : pq_T 1 k c1 y a1 a2 a3 a4 a5)
    (hp : post (nI (if j = k ∧ c0 = 1 ∧ c1 = 1 then 1 else 0))) : wpX_pairsOf post (o, lo, hi, a1, a2, a3, a4, a5, a6, a7, a8, a9, a10, a11) (nI j) := by
  unfold wpX_pairsOf
  dsimp only
  refine pq_count (s := 0) (by omega) hj t0 (pq_count (s := 1) (by omega) hj t1 ?_)
  have hc0 : c0 ≤ 1 := t0.2.1
  have hc1 : c1 ≤ 1 := t1.2.1
  have e : (if j = k then c0 else 0) * (if j = k then c1 else 0) = if j = k ∧ c0 = 1 ∧ c1 = 1 then 1 else 0 := by
    by_cases g : j = k
    · rw [if_pos g, if_pos g]
      obtain rfl | rfl : c0 = 0 ∨ c0 = 1 := by omega
      · rw [if_neg (show ¬ (j = k ∧ 0 = 1 ∧ c1 = 1) from fun z => absurd z.2.1 (by decide)), Nat.zero_mul]
      · obtain rfl | rfl : c1 = 0 ∨ c1 = 1 := by omega
        · rw [if_neg (show ¬ (j = k ∧ 1 = 1 ∧ 0 = 1) from fun z => absurd z.2.2 (by decide))]
        · rw [if_pos (show j = k ∧ 1 = 1 ∧ 1 = 1 from ⟨g, rfl, rfl⟩)]
    · rw [if_neg g, if_neg (show ¬ (j = k ∧ c0 = 1 ∧ c1 = 1) from fun z => g z.1), Nat.zero_mul]
  rw [pk_mul, e]
  exact hp
theorem pq_spread {post : St2 → Prop} {p : Int32} {o lo hi : Int32} {a1 a2 a3 a4 a5 a6 a7 a8 a9 a10 a11 : Nat → Int32} (hp : ∀ lo' hi' : Int32, post (o, lo', hi', a1, a2, a3, a4, a5, a6, a7, a8, a9, a10, a11)) : wpX_spread post (o, lo, hi, a1, a2, a3, a4, a5, a6, a7, a8, a9, a10, a11) p := by
  unfold wpX_spread
  dsimp only
  unfold wX_spread_17
  exact br_c (fun _ => br_c (fun _ => hp _ _) (fun _ => hp _ _)) (fun _ => br_c (fun _ => hp _ _) (fun _ => hp _ _))
theorem pq_lo {k c : Nat} {x : Int32} {a1 a2 a3 a4 a5 : Nat → Int32} (t : pq_T 0 k c x a1 a2 a3 a4 a5) : a4 k = nI 0 ∧ a4 (k + 1) = nI c := by
  obtain ⟨hk, -, -, h4, -, -⟩ := t
  have q := h4 k (by omega)
  have r := h4 (k + 1) (by omega)
  rw [if_neg (Nat.lt_irrefl k), Nat.mul_zero, Nat.zero_add] at q
  rw [if_pos (Nat.lt_succ_self k), Nat.mul_zero, Nat.zero_add] at r
  exact ⟨q, r⟩
theorem pq_hi {k c : Nat} {x : Int32} {a1 a2 a3 a4 a5 : Nat → Int32} (t : pq_T 1 k c x a1 a2 a3 a4 a5) : a4 (17 + k) = nI 0 ∧ a4 (17 + (k + 1)) = nI c := by
  obtain ⟨hk, -, -, h4, -, -⟩ := t
  have q := h4 k (by omega)
  have r := h4 (k + 1) (by omega)
  rw [if_neg (Nat.lt_irrefl k), Nat.mul_one] at q
  rw [if_pos (Nat.lt_succ_self k), Nat.mul_one] at r
  exact ⟨q, r⟩
theorem pq_extremes {post : St2 → Prop} {k : Nat} {x y : Int32} {o lo hi : Int32} {a1 a2 a3 a4 a5 a6 a7 a8 a9 a10 a11 : Nat → Int32} (t0 : pq_T 0 k 1 x a1 a2 a3 a4 a5) (t1 : pq_T 1 k 1 y a1 a2 a3 a4 a5)
    (hp : ∀ lo' hi' : Int32, post (o, lo', hi', a1, a2, a3, a4, a5, a6, a7, a8, a9, a10, a11)) : wpX_extremes post (o, lo, hi, a1, a2, a3, a4, a5, a6, a7, a8, a9, a10, a11) (nI k) := by
  have hk := t0.1
  obtain ⟨b0, b1⟩ := pq_lo t0
  obtain ⟨d0, d1⟩ := pq_hi t1
  have e1 : nI k + 1 = nI (k + 1) := nI_1 k
  have e2 : (17 : Int32) + nI k = nI (17 + k) := nI_add 17 k
  have e3 : (17 : Int32) + nI k + 1 = nI (17 + (k + 1)) := by
    rw [e2, nI_1]
    rfl
  have m1 : nI 1 - 1 = nI 0 := by decide
  have m2 : (40 : Int32) + nI 0 = nI 40 := by decide
  have m3 : (40 : Int32) + nI 1 - 1 = nI 40 := by decide
  unfold wpX_extremes
  dsimp only
  rw [e3, e2, e1, nI_clamp (show k < 2 ^ 31 by omega), nI_clamp (show k + 1 < 2 ^ 31 by omega), nI_clamp (show 17 + k < 2 ^ 31 by omega), nI_clamp (show 17 + (k + 1) < 2 ^ 31 by omega), b0, b1, d0, d1, m1, m3, m2]
  refine ⟨vp_in_nI (by omega) (by omega), vp_in_nI (by omega) (by omega), nm_e ⟨vp_in_nI (by omega) (by omega), vp_in_nI (by omega) (by omega), nm_e ⟨vp_in_nI (by omega) (by omega), vp_in_nI (by omega) (by omega), nm_e ⟨vp_in_nI (by omega) (by omega), vp_in_nI (by omega) (by omega), nm_e (nm_e (pq_spread (fun lo1 hi1 => ?_)))⟩⟩⟩⟩
  dsimp only
  refine pq_spread (fun lo2 hi2 => ?_)
  dsimp only
  refine pq_spread (fun lo3 hi3 => ?_)
  dsimp only
  exact hp _ _
theorem pq_f105 {post : St2 → Prop} {k c0 c1 j : Nat} {x y : Int32} {o lo hi : Int32} {a1 a2 a3 a4 a5 a6 a7 a8 a9 a10 a11 : Nat → Int32} (hj : j < 16) (t0 : pq_T 0 k c0 x a1 a2 a3 a4 a5) (t1 : pq_T 1 k c1 y a1 a2 a3 a4 a5)
    (hp : ∀ a1' a2' a3' a4' a5' : Nat → Int32, pq_T 0 k (if j = k then 0 else c0) x a1' a2' a3' a4' a5' → pq_T 1 k (if j = k then 0 else c1) y a1' a2' a3' a4' a5' → post (o, lo, hi, a1', a2', a3', a4', a5', a6, a7, a8, a9, a10, a11)) :
    wX_finish_105 post (nI j) o lo hi a1 a2 a3 a4 a5 a6 a7 a8 a9 a10 a11 := by
  unfold wX_finish_105
  refine pq_drop (s := 0) (by omega) hj t0 (fun b1 b2 b3 b4 b5 u0 F => ?_)
  dsimp only
  refine pq_drop (s := 1) (by omega) hj (F 1 k c1 y (by omega) (by omega) t1) (fun d1 d2 d3 d4 d5 u1 G => ?_)
  dsimp only
  exact hp d1 d2 d3 d4 d5 (G 0 k _ x (by omega) (by omega) u0) u1
theorem pq_finish {post : St2 → Prop} {k c0 c1 j w : Nat} {x y : Int32} {o lo hi : Int32} {a1 a2 a3 a4 a5 a6 a7 a8 a9 a10 a11 : Nat → Int32} (hj : j < 16) (hw : w < 16) (ho : o = nI w) (t0 : pq_T 0 k c0 x a1 a2 a3 a4 a5) (t1 : pq_T 1 k c1 y a1 a2 a3 a4 a5)
    (hp : ∀ (lo' hi' : Int32) (a1' a2' a3' a4' a5' a7' a8' a9' a10' a11' : Nat → Int32), pq_T 0 k (if j = k then 0 else c0) x a1' a2' a3' a4' a5' → pq_T 1 k (if j = k then 0 else c1) y a1' a2' a3' a4' a5' →
      (j = k ∧ c0 = 1 ∧ c1 = 1 → a9' w = x * y) → (¬ (j = k ∧ c0 = 1 ∧ c1 = 1) → a9' = a9) →
      post (nI (if j = k ∧ c0 = 1 ∧ c1 = 1 then w + 1 else w), lo', hi', a1', a2', a3', a4', a5', a6, a7', a8', a9', a10', a11')) :
    wpX_finish post (o, lo, hi, a1, a2, a3, a4, a5, a6, a7, a8, a9, a10, a11) (nI j) := by
  subst ho
  unfold wpX_finish
  dsimp only
  refine pq_pairsOf hj t0 t1 ?_
  by_cases g : j = k ∧ c0 = 1 ∧ c1 = 1
  · rw [if_pos g]
    rw [if_pos g] at hp
    have g' := g
    obtain ⟨e1, e2, e3⟩ := g'
    subst e1 e2 e3
    have A5 : a5 j = x := by
      have q := t0.2.2.2.2.2
      rw [Nat.mul_zero, Nat.zero_add, if_neg (by decide)] at q
      exact q
    have B5 : a5 (16 + j) = y := by
      have q := t1.2.2.2.2.2
      rw [Nat.mul_one, if_neg (by decide)] at q
      exact q
    have e16 : (16 : Int32) + nI j = nI (16 + j) := nI_add 16 j
    refine br_f (nI_nle (by omega) (by omega)) (br_f (nI_ge (b := 16) hw (by omega)) (pq_extremes t0 t1 (fun lo' hi' => ?_)))
    dsimp only
    rw [e16, nI_clamp (show w < 2 ^ 31 by omega), nI_clamp (show j < 2 ^ 31 by omega), nI_clamp (show 16 + j < 2 ^ 31 by omega), A5, B5]
    exact ⟨vp_in_nI hw (by omega), nm_e ⟨vp_in_nI hw (by omega), nm_e ⟨vp_in_nI (by omega) (by omega), vp_in_nI (by omega) (by omega), vp_in_nI hw (by omega), nm_e ⟨vp_in_nI hw (by omega), nm_e ⟨vp_in_nI hw (by omega), nm_e (nm_r (nI_1 w) (pq_f105 hj t0 t1 (fun q1 q2 q3 q4 q5 u0 u1 => hp _ _ _ _ _ _ _ _ _ _ _ _ u0 u1 (fun _ => pk_us) (fun z => absurd g z))))⟩⟩⟩⟩⟩
  · rw [if_neg g]
    rw [if_neg g] at hp
    exact br_t (by decide) (pq_f105 hj t0 t1 (fun q1 q2 q3 q4 q5 u0 u1 => hp _ _ _ _ _ _ _ _ _ _ _ _ u0 u1 (fun z => absurd z g) (fun _ => rfl)))
end
section
/-- close of stream 0 from f, in front of key i: key k's tuples are gone, and a result stands if both streams held one, as soon as i has passed k -/
def pq_V (f i k c0 c1 : Nat) (x y o : Int32) (a1 a2 a3 a4 a5 a9 : Nat → Int32) : Prop :=
  pq_T 0 k (if f ≤ k ∧ k < i then 0 else c0) x a1 a2 a3 a4 a5 ∧ pq_T 1 k (if f ≤ k ∧ k < i then 0 else c1) y a1 a2 a3 a4 a5 ∧ o = nI (if (f ≤ k ∧ k < i) ∧ c0 = 1 ∧ c1 = 1 then 1 else 0) ∧ ((f ≤ k ∧ k < i) ∧ c0 = 1 ∧ c1 = 1 → a9 0 = x * y)
theorem pq_V0 {f k c0 c1 : Nat} {x y o : Int32} {a1 a2 a3 a4 a5 a9 : Nat → Int32} (t0 : pq_T 0 k c0 x a1 a2 a3 a4 a5) (t1 : pq_T 1 k c1 y a1 a2 a3 a4 a5) (ho : o = nI 0) : pq_V f f k c0 c1 x y o a1 a2 a3 a4 a5 a9 := by
  unfold pq_V
  have D : ¬ (f ≤ k ∧ k < f) := by omega
  rw [if_neg D, if_neg D, if_neg (show ¬ ((f ≤ k ∧ k < f) ∧ c0 = 1 ∧ c1 = 1) from fun z => D z.1)]
  exact ⟨t0, t1, ho, fun z => absurd z.1 D⟩
theorem pq_finV {post : St2 → Prop} {f i k c0 c1 : Nat} {x y : Int32} {o lo hi : Int32} {a1 a2 a3 a4 a5 a6 a7 a8 a9 a10 a11 : Nat → Int32} (hf : f ≤ i) (hi' : i < 16) (v : pq_V f i k c0 c1 x y o a1 a2 a3 a4 a5 a9)
    (hp : ∀ (o' lo' hi' : Int32) (a1' a2' a3' a4' a5' a7' a8' a9' a10' a11' : Nat → Int32), pq_V f (i + 1) k c0 c1 x y o' a1' a2' a3' a4' a5' a9' → post (o', lo', hi', a1', a2', a3', a4', a5', a6, a7', a8', a9', a10', a11')) :
    wpX_finish post (o, lo, hi, a1, a2, a3, a4, a5, a6, a7, a8, a9, a10, a11) (nI i) := by
  obtain ⟨t0, t1, ho, h9⟩ := v
  by_cases e : i = k
  · subst e
    have D : ¬ (f ≤ i ∧ i < i) := by omega
    have D' : f ≤ i ∧ i < i + 1 := by omega
    rw [if_neg D] at t0 t1
    rw [if_neg (show ¬ ((f ≤ i ∧ i < i) ∧ c0 = 1 ∧ c1 = 1) from fun z => D z.1)] at ho
    refine pq_finish hi' (by omega) ho t0 t1 (fun lo' hi' a1' a2' a3' a4' a5' a7' a8' a9' a10' a11' u0 u1 A B => hp _ _ _ _ _ _ _ _ _ _ _ _ _ ⟨?_, ?_, ?_, fun z => A ⟨rfl, z.2⟩⟩)
    · rw [if_pos D']
      rw [if_pos rfl] at u0
      exact u0
    · rw [if_pos D']
      rw [if_pos rfl] at u1
      exact u1
    · by_cases P : c0 = 1 ∧ c1 = 1
      · rw [if_pos (show i = i ∧ c0 = 1 ∧ c1 = 1 from ⟨rfl, P⟩), if_pos (show (f ≤ i ∧ i < i + 1) ∧ c0 = 1 ∧ c1 = 1 from ⟨D', P⟩)]
      · rw [if_neg (show ¬ (i = i ∧ c0 = 1 ∧ c1 = 1) from fun z => P z.2), if_neg (show ¬ ((f ≤ i ∧ i < i + 1) ∧ c0 = 1 ∧ c1 = 1) from fun z => P z.2)]
  · have DD : (f ≤ k ∧ k < i + 1) ↔ (f ≤ k ∧ k < i) := by omega
    refine pq_finish hi' (w := if (f ≤ k ∧ k < i) ∧ c0 = 1 ∧ c1 = 1 then 1 else 0) (by split <;> omega) ho t0 t1 (fun lo' hi' a1' a2' a3' a4' a5' a7' a8' a9' a10' a11' u0 u1 A B => ?_)
    rw [if_neg e] at u0 u1
    have B' := B (fun z => e z.1)
    rw [if_neg (show ¬ (i = k ∧ (if f ≤ k ∧ k < i then 0 else c0) = 1 ∧ (if f ≤ k ∧ k < i then 0 else c1) = 1) from fun z => e z.1)]
    refine hp _ _ _ _ _ _ _ _ _ _ _ _ _ ?_
    unfold pq_V
    simp only [DD]
    exact ⟨u0, u1, by trivial, fun z => by rw [B']; exact h9 z⟩
theorem pq_close0 {post : Int32 → St2 → Prop} {f l k c0 c1 : Nat} {x y : Int32} (hl : l < 16)
    (hp : ∀ (o lo hi : Int32) (a1 a2 a3 a4 a5 a6 a7 a8 a9 a10 a11 : Nat → Int32), pq_V f (l + 1) k c0 c1 x y o a1 a2 a3 a4 a5 a9 → pq_R 0 f (l + 1) a6 → pq_R 1 f (l + 1) a6 → post (nI (l + 1 - f)) (o, lo, hi, a1, a2, a3, a4, a5, a6, a7, a8, a9, a10, a11)) :
    ∀ (m i c : Nat) (o lo hi : Int32) (a1 a2 a3 a4 a5 a6 a7 a8 a9 a10 a11 : Nat → Int32), c + f = i → i + m = l + 1 → pq_V f i k c0 c1 x y o a1 a2 a3 a4 a5 a9 → pq_R 0 f i a6 → pq_R 1 f (l + 1) a6 →
      wX_close_33 post (nI 0) (nI l) (m + 1) (nI c) (nI i) o lo hi a1 a2 a3 a4 a5 a6 a7 a8 a9 a10 a11 := by
  intro m
  induction m with
  | zero =>
    intro i c o lo hi a1 a2 a3 a4 a5 a6 a7 a8 a9 a10 a11 hf hm v r0 r1
    have e : i = l + 1 := by omega
    have e2 : c = l + 1 - f := by omega
    subst e2
    rw [e] at v r0 ⊢
    exact pk_lt l (l + 1) (fun _ => hp _ _ _ _ _ _ _ _ _ _ _ _ _ _ v r0 r1) (fun z => absurd z (by omega))
  | succ m ih =>
    intro i c o lo hi a1 a2 a3 a4 a5 a6 a7 a8 a9 a10 a11 hc hm v r0 r1
    have hf : f ≤ i := by omega
    refine pk_lt l i (fun z => absurd z (by omega)) (fun _ => ?_)
    have s1 : (1 : Int32) - nI 0 = nI 1 := by decide
    have R1 : pq_R 1 f (l + 1) (upd a6 (16 * 0 + i) 1) := pq_Ro r1 (by omega) (by omega) (by omega) (by omega)
    rw [s1, pq_16 0 i, pq_16 1 i, nI_clamp (show 16 * 0 + i < 2 ^ 31 by omega), nI_clamp (show 16 * 1 + i < 2 ^ 31 by omega)]
    refine ⟨vp_in_nI (by omega) (by omega), br_t ?_ ⟨vp_in_nI (by omega) (by omega), nm_e ⟨vp_in_nI (by omega) (by omega), br_f ?_ (pq_finV hf (by omega) v (fun o' lo' hi' a1' a2' a3' a4' a5' a7' a8' a9' a10' a11' v' => ?_))⟩⟩⟩
    · rw [r0 i (by omega), if_neg (by omega)]
    · rw [R1 i (by omega), if_pos (by omega)]
      decide
    · dsimp only
      exact nm_r (nI_1 c) (nm_r (nI_1 i) (ih (i + 1) (c + 1) _ _ _ _ _ _ _ _ _ _ _ _ _ _ (by omega) (by omega) v' (pq_Rs r0 hf) R1))
theorem pq_close1 {post : Int32 → St2 → Prop} {f l : Nat} {o lo hi : Int32} {a1 a2 a3 a4 a5 a7 a8 a9 a10 a11 : Nat → Int32} (hl : l < 16)
    (hp : ∀ a6 : Nat → Int32, pq_R 0 f f a6 → pq_R 1 f (l + 1) a6 → post (nI 0) (o, lo, hi, a1, a2, a3, a4, a5, a6, a7, a8, a9, a10, a11)) :
    ∀ (m i : Nat) (a6 : Nat → Int32), f ≤ i → i + m = l + 1 → pq_R 0 f f a6 → pq_R 1 f i a6 →
      wX_close_33 post (nI 1) (nI l) (m + 1) (nI 0) (nI i) o lo hi a1 a2 a3 a4 a5 a6 a7 a8 a9 a10 a11 := by
  intro m
  induction m with
  | zero =>
    intro i a6 hf hm r0 r1
    have e : i = l + 1 := by omega
    subst e
    exact pk_lt l (l + 1) (fun _ => hp _ r0 r1) (fun z => absurd z (by omega))
  | succ m ih =>
    intro i a6 hf hm r0 r1
    refine pk_lt l i (fun z => absurd z (by omega)) (fun _ => ?_)
    have s1 : (1 : Int32) - nI 1 = nI 0 := by decide
    have R0 : pq_R 0 f f (upd a6 (16 * 1 + i) 1) := pq_Ro r0 (by omega) (by omega) (by omega) (by omega)
    rw [s1, pq_16 0 i, pq_16 1 i, nI_clamp (show 16 * 0 + i < 2 ^ 31 by omega), nI_clamp (show 16 * 1 + i < 2 ^ 31 by omega)]
    refine ⟨vp_in_nI (by omega) (by omega), br_t ?_ ⟨vp_in_nI (by omega) (by omega), nm_e ⟨vp_in_nI (by omega) (by omega), br_t ?_ (nm_r (nI_1 i) (ih (i + 1) _ (by omega) (by omega) R0 (pq_Rs r1 hf)))⟩⟩⟩
    · rw [r1 i (by omega), if_neg (by omega)]
    · rw [R0 i (by omega), if_neg (by omega)]
theorem pq_closeRow {post : Int32 → St2 → Prop} {s f l : Nat} {o lo hi : Int32} {a1 a2 a3 a4 a5 a6 a7 a8 a9 a10 a11 : Nat → Int32} (hs : s < 2) (hf : f ≤ l) (hl : l < 16) (H : ∃ n, wX_close_33 post (nI s) (nI l) n (nI 0) (nI f) o lo hi a1 a2 a3 a4 a5 a6 a7 a8 a9 a10 a11) :
    wpX_close post (o, lo, hi, a1, a2, a3, a4, a5, a6, a7, a8, a9, a10, a11) (nI s) (nI f) (nI l) := by
  unfold wpX_close
  dsimp only
  exact pq_isStream hs (br_f (by decide) (br_f (nI_pos (by omega)) (br_f (nI_nlt hf (by omega)) (br_t (nI_lt (b := 16) hl (by omega)) H))))
theorem pq_closeNo {post : Int32 → St2 → Prop} {s : Nat} {x3 x4 : Int32} {o lo hi : Int32} {a1 a2 a3 a4 a5 a6 a7 a8 a9 a10 a11 : Nat → Int32} (hs : s < 2) (h : x3 < 0 ∨ x4 < x3 ∨ ¬ x4 < 16) (hp : post (-2) (o, lo, hi, a1, a2, a3, a4, a5, a6, a7, a8, a9, a10, a11)) :
    wpX_close post (o, lo, hi, a1, a2, a3, a4, a5, a6, a7, a8, a9, a10, a11) (nI s) x3 x4 := by
  unfold wpX_close
  dsimp only
  exact pq_isStream hs (br_f (by decide) (br_c (fun _ => hp) (fun z => br_c (fun _ => hp) (fun z2 => br_f ((h.resolve_left z).resolve_left z2) hp))))
/-! bands -/
theorem pq_band {post : Int32 → Prop} {g f e : Nat} {o lo hi : Int32} {a1 a2 a3 a4 a5 a6 a7 a8 a9 a10 a11 : Nat → Int32} (hg : g < 4) (r0 : pq_R 0 f e a6) (r1 : pq_R 1 f e a6) (h1 : f ≤ 4 * g ∧ 4 * g + 4 ≤ e → post 1) (h0 : ¬ (f ≤ 4 * g ∧ 4 * g + 4 ≤ e) → post 0) :
    wpX_isBandFinished post (o, lo, hi, a1, a2, a3, a4, a5, a6, a7, a8, a9, a10, a11) (nI g) := by
  have e4 : (4 : Int32) * nI g + 4 = nI (4 * g + 4) := pq_ix 4 g 4
  unfold wpX_isBandFinished
  dsimp only
  refine nm_r (pk_mul 4 g) ?_
  refine pk_loop (σ := Unit) (fun n i _ => wX_isBandFinished_4 post (nI g) o lo hi a1 a2 a3 a4 a5 a6 a7 a8 a9 a10 a11 n (nI i)) (fun i _ => 4 * g ≤ i ∧ ∀ j, 4 * g ≤ j → j < i → f ≤ j ∧ j < e) (4 * g + 4) (4 * g) () (by omega) ⟨Nat.le_refl _, fun j a b => absurd a (by omega)⟩ ?_ ?_
  · intro n _ h
    have q1 := h.2 (4 * g) (by omega) (by omega)
    have q2 := h.2 (4 * g + 3) (by omega) (by omega)
    exact pk_le (4 * g + 4) (4 * g + 4) (fun _ => h1 (by omega)) (fun z => absurd z (by omega)) e4
  · intro n i _ hi' h hw
    have q0 : a6 i = if f ≤ i ∧ i < e then 1 else 0 := by
      have q := r0 i (by omega)
      rw [Nat.mul_zero, Nat.zero_add] at q
      exact q
    have q1 : a6 (16 + i) = if f ≤ i ∧ i < e then 1 else 0 := r1 i (by omega)
    have e16 : (16 : Int32) + nI i = nI (16 + i) := nI_add 16 i
    have hge := h.1
    refine pk_le (4 * g + 4) i (fun z => absurd z (by omega)) (fun _ => ?_) e4
    rw [e16, nI_clamp (show i < 2 ^ 31 by omega), nI_clamp (show 16 + i < 2 ^ 31 by omega), q0, q1]
    by_cases d : f ≤ i ∧ i < e
    · rw [if_pos d]
      refine ⟨vp_in_nI (by omega) (by omega), br_f (by decide) ⟨vp_in_nI (by omega) (by omega), br_f (by decide) (nm_r (nI_1 i) (hw () ⟨by omega, ?_⟩))⟩⟩
      intro j hj1 hj2
      by_cases ej : j = i
      · rw [ej]
        exact d
      · exact h.2 j hj1 (by omega)
    · rw [if_neg d]
      exact ⟨vp_in_nI (by omega) (by omega), br_t rfl (h0 (by omega))⟩
def pq_B (f e : Nat) : Nat → Nat
  | 0 => 0
  | g + 1 => pq_B f e g + (if f ≤ 4 * g ∧ 4 * g + 4 ≤ e then 1 else 0)
theorem pq_B1 {f e g : Nat} (h : f ≤ 4 * g ∧ 4 * g + 4 ≤ e) : pq_B f e (g + 1) = pq_B f e g + 1 := by
  show pq_B f e g + (if f ≤ 4 * g ∧ 4 * g + 4 ≤ e then 1 else 0) = _
  rw [if_pos h]
theorem pq_B0 {f e g : Nat} (h : ¬ (f ≤ 4 * g ∧ 4 * g + 4 ≤ e)) : pq_B f e (g + 1) = pq_B f e g := by
  show pq_B f e g + (if f ≤ 4 * g ∧ 4 * g + 4 ≤ e then 1 else 0) = _
  rw [if_neg h]
  rfl
theorem pq_bands {post : Int32 → Prop} {f e : Nat} {o lo hi : Int32} {a1 a2 a3 a4 a5 a6 a7 a8 a9 a10 a11 : Nat → Int32} (r0 : pq_R 0 f e a6) (r1 : pq_R 1 f e a6) (hp : post (nI (pq_B f e 4))) : wpX_bandsFinished post (o, lo, hi, a1, a2, a3, a4, a5, a6, a7, a8, a9, a10, a11) := by
  unfold wpX_bandsFinished
  dsimp only
  refine pk_loop (σ := Unit) (fun n i _ => wX_bandsFinished_4 post o lo hi a1 a2 a3 a4 a5 a6 a7 a8 a9 a10 a11 n (nI (pq_B f e i)) (nI i)) (fun _ _ => True) 4 0 () (by omega) trivial ?_ ?_
  · intro n _ _
    exact pk_le 4 4 (fun _ => hp) (fun z => absurd z (by omega))
  · intro n g _ hg _ hw
    have q : wX_bandsFinished_4 post o lo hi a1 a2 a3 a4 a5 a6 a7 a8 a9 a10 a11 n (nI (pq_B f e (g + 1))) (nI (g + 1)) := hw () trivial
    refine pk_le 4 g (fun z => absurd z (by omega)) (fun _ => pq_band hg r0 r1 (fun d => br_f (by decide) ?_) (fun d => br_t rfl (nm_r (nI_1 g) ?_)))
    · rw [pq_B1 d] at q
      exact nm_r (nI_1 _) (nm_r (nI_1 g) q)
    · rw [pq_B0 d] at q
      exact q
theorem pq_fin : ∀ f, f < 16 → ∀ l, l < 16 → f ≤ l → ((((nI l + 1) / 4) - ((nI f + 3) / 4)) ≤ 0 → nI (pq_B f (l + 1) 4) = 0) ∧ (¬ (((nI l + 1) / 4) - ((nI f + 3) / 4)) ≤ 0 → nI (pq_B f (l + 1) 4) = ((nI l + 1) / 4) - ((nI f + 3) / 4)) := by
  decide +kernel
end
section
/-! the law, from its end backwards -/
/-- behind the two closes: the row, and what is shut -/
def pq_W (x3 x4 x10 : Int32) (a6 : Nat → Int32) : Prop :=
  (x10 = 0 ∧ pq_R 0 0 0 a6 ∧ pq_R 1 0 0 a6) ∨ ∃ f l : Nat, f ≤ l ∧ l < 16 ∧ x3 = nI f ∧ x4 = nI l ∧ x10 = 1 ∧ pq_R 0 f (l + 1) a6 ∧ pq_R 1 f (l + 1) a6
/-- the key is good, or it isn't -/
def pq_K (x0 x6 : Int32) (k : Nat) : Prop := (x6 = 0 ∧ (x0 < 0 ∨ 16 ≤ x0)) ∨ (x6 = 1 ∧ x0 = nI k)
/-- a value is good, or it isn't -/
def pq_G (v x : Int32) : Prop := (v = 1 ∧ ¬ x < -50 ∧ x ≤ 50) ∨ (v = 0 ∧ (x < -50 ∨ ¬ x ≤ 50))
theorem pq_l397 {post : Int32 → St0 → Prop} {mc ms kc ks : Nat} {z0 : Int32} {f e : Nat} {o lo hi : Int32} {a1 a2 a3 a4 a5 a6 a7 a8 a9 a10 a11 : Nat → Int32} (hP : post 1 ()) (r0 : pq_R 0 f e a6) (r1 : pq_R 1 f e a6)
    (hb : (z0 ≤ 0 → nI (pq_B f e 4) = 0) ∧ (¬ z0 ≤ 0 → nI (pq_B f e 4) = z0)) : wL_lawOf_397 post mc ms z0 kc ks o lo hi a1 a2 a3 a4 a5 a6 a7 a8 a9 a10 a11 := by
  unfold wL_lawOf_397
  refine pq_bands r0 r1 ?_
  unfold wL_lawOf_415
  exact br_c (fun h => br_t (hb.1 h) hP) (fun h => br_t (hb.2 h) hP)
theorem pq_l371 {post : Int32 → St0 → Prop} {mc ms kc ks : Nat} {x3 x4 x10 z0 z1 : Int32} {o lo hi : Int32} {a1 a2 a3 a4 a5 a6 a7 a8 a9 a10 a11 : Nat → Int32} (hP : post 1 ()) (hW : pq_W x3 x4 x10 a6) (hz : z1 = z0) :
    wL_lawOf_371 post mc ms x3 x4 x10 z0 z1 kc ks o lo hi a1 a2 a3 a4 a5 a6 a7 a8 a9 a10 a11 := by
  unfold wL_lawOf_371
  refine br_t hz ?_
  rcases hW with ⟨e, r0, r1⟩ | ⟨f, l, hf, hl, rfl, rfl, e, r0, r1⟩
  · exact br_t e (pq_l397 hP r0 r1 ⟨fun _ => by decide, fun h => absurd (by decide) h⟩)
  · subst e
    exact br_f (by decide) ⟨by decide, by decide, pq_l397 hP r0 r1 (pq_fin f (by omega) l hl hf)⟩
theorem pq_pairsK {post : Int32 → Prop} {k d0 d1 : Nat} {x y : Int32} {o lo hi : Int32} {a1 a2 a3 a4 a5 a6 a7 a8 a9 a10 a11 : Nat → Int32} (t0 : pq_T 0 k d0 x a1 a2 a3 a4 a5) (t1 : pq_T 1 k d1 y a1 a2 a3 a4 a5) (hp : post (nI (if d0 = 1 ∧ d1 = 1 then 1 else 0))) :
    wpX_pairs post (o, lo, hi, a1, a2, a3, a4, a5, a6, a7, a8, a9, a10, a11) (nI k) := by
  unfold wpX_pairs
  dsimp only
  refine pq_isKey t0.1 (br_f (by decide) (pq_pairsOf t0.1 t0 t1 ?_))
  have e : (if k = k ∧ d0 = 1 ∧ d1 = 1 then 1 else 0) = (if d0 = 1 ∧ d1 = 1 then 1 else 0) := by simp only [true_and]
  rw [e]
  exact hp
theorem pq_pairsN {post : Int32 → Prop} {x0 : Int32} {o lo hi : Int32} {a1 a2 a3 a4 a5 a6 a7 a8 a9 a10 a11 : Nat → Int32} (hx : x0 < 0 ∨ 16 ≤ x0) (hp : post (-1)) : wpX_pairs post (o, lo, hi, a1, a2, a3, a4, a5, a6, a7, a8, a9, a10, a11) x0 := by
  unfold wpX_pairs
  dsimp only
  exact pq_noKey hx (br_t rfl hp)
/-- what pairs(key) and the rest rest on -/
def pq_C (x0 x3 x4 x6 x9 x10 x11 : Int32) (a1 a2 a3 a4 a5 a6 : Nat → Int32) : Prop :=
  pq_W x3 x4 x10 a6 ∧ ∃ (k d0 d1 : Nat) (x y : Int32), pq_T 0 k d0 x a1 a2 a3 a4 a5 ∧ pq_T 1 k d1 y a1 a2 a3 a4 a5 ∧ pq_K x0 x6 k ∧
    (((x9 = 0 ∨ (x9 = 1 ∧ x11 = 1)) ∧ ¬ (d0 = 1 ∧ d1 = 1)) ∨ (x9 = 1 ∧ x11 = 0 ∧ d0 = 1 ∧ d1 = 1))
theorem pq_l336 {post : Int32 → St0 → Prop} {mc ms kc ks : Nat} {x0 x3 x4 x6 x9 x10 x11 z0 z1 : Int32} {o lo hi : Int32} {a1 a2 a3 a4 a5 a6 a7 a8 a9 a10 a11 : Nat → Int32} (hP : post 1 ()) (hC : pq_C x0 x3 x4 x6 x9 x10 x11 a1 a2 a3 a4 a5 a6) (hz : z1 = z0) :
    wL_lawOf_336 post mc ms x0 x3 x4 x6 x9 x10 x11 z0 z1 kc ks o lo hi a1 a2 a3 a4 a5 a6 a7 a8 a9 a10 a11 := by
  obtain ⟨hW, k, d0, d1, x, y, t0, t1, hK, hM⟩ := hC
  unfold wL_lawOf_336
  refine br_t hz ?_
  rcases hK with ⟨e6, hx⟩ | ⟨e6, ek⟩
  · exact pq_pairsN hx (br_t e6 (pq_l371 hP hW rfl))
  · subst e6 ek
    refine pq_pairsK t0 t1 (br_f (by decide) ?_)
    rcases hM with ⟨h9, hd⟩ | ⟨e9, e11, hd⟩
    · rw [if_neg hd]
      have q : wL_lawOf_370 post mc ms x3 x4 x10 (nI 0) kc ks o lo hi a1 a2 a3 a4 a5 a6 a7 a8 a9 a10 a11 := by
        unfold wL_lawOf_370
        exact pq_l371 hP hW nI_0
      rcases h9 with e9 | ⟨e9, e11⟩
      · exact br_t e9 q
      · subst e9 e11
        exact br_f (by decide) (br_f (by decide) q)
    · subst e9 e11
      rw [if_pos hd]
      exact br_f (by decide) (br_t rfl (pq_l371 hP hW rfl))
theorem pq_resSum {post : Int32 → Prop} {w : Nat} {o lo hi : Int32} {a1 a2 a3 a4 a5 a6 a7 a8 a9 a10 a11 : Nat → Int32} (ho : o = nI w) (hw : w ≤ 1) (h0 : w = 0 → post 0) (h1 : w = 1 → post (a9 0)) : wpX_resultSum post (o, lo, hi, a1, a2, a3, a4, a5, a6, a7, a8, a9, a10, a11) 0 := by
  subst ho
  unfold wpX_resultSum
  dsimp only
  unfold wpX_isResult
  dsimp only
  refine pk_lt 0 0 (fun z => absurd z (by omega)) (fun _ => pk_le w 0 (fun z => br_t rfl (h0 (by omega))) (fun z => br_f (by decide) ⟨pk_in 0 16 (by omega), ?_⟩))
  rw [sb_cl0]
  exact h1 (by omega)
/-- the result, if one is due -/
def pq_Y (x1 x2 x12 o : Int32) (a9 : Nat → Int32) : Prop := (x12 = 0 ∧ o = nI 0) ∨ (x12 = 1 ∧ o = nI 1 ∧ a9 0 = x1 * x2)
theorem pq_l315 {post : Int32 → St0 → Prop} {mc ms kc ks : Nat} {x0 x1 x2 x3 x4 x6 x9 x10 x11 x12 z0 z1 : Int32} {o lo hi : Int32} {a1 a2 a3 a4 a5 a6 a7 a8 a9 a10 a11 : Nat → Int32} (hP : post 1 ()) (hC : pq_C x0 x3 x4 x6 x9 x10 x11 a1 a2 a3 a4 a5 a6) (hY : pq_Y x1 x2 x12 o a9) (hz : z1 = z0) :
    wL_lawOf_315 post mc ms x0 x1 x2 x3 x4 x6 x9 x10 x11 x12 z0 z1 kc ks o lo hi a1 a2 a3 a4 a5 a6 a7 a8 a9 a10 a11 := by
  unfold wL_lawOf_315
  refine br_t hz ?_
  rcases hY with ⟨e, ho⟩ | ⟨e, ho, h9⟩
  · subst e
    exact pq_resSum ho (by omega) (fun _ => br_t rfl (pq_l336 hP hC rfl)) (fun z => absurd z (by decide))
  · subst e
    exact pq_resSum ho (by omega) (fun z => absurd z (by decide)) (fun _ => br_f (by decide) (pq_l336 hP hC h9))
theorem pq_l298 {post : Int32 → St0 → Prop} {mc ms kc ks : Nat} {x0 x1 x2 x3 x4 x6 x9 x10 x11 z0 : Int32} {o lo hi : Int32} {a1 a2 a3 a4 a5 a6 a7 a8 a9 a10 a11 : Nat → Int32} (hP : post 1 ()) (hC : pq_C x0 x3 x4 x6 x9 x10 x11 a1 a2 a3 a4 a5 a6) (hY : pq_Y x1 x2 z0 o a9) :
    wL_lawOf_298 post mc ms x0 x1 x2 x3 x4 x6 x9 x10 x11 z0 kc ks o lo hi a1 a2 a3 a4 a5 a6 a7 a8 a9 a10 a11 := by
  unfold wL_lawOf_298
  unfold wpX_results
  dsimp only
  have hY' := hY
  rcases hY' with ⟨e, ho⟩ | ⟨e, ho, h9⟩
  · exact br_t e (pq_l315 hP hC hY ho)
  · exact br_f (by rw [e]; decide) (pq_l315 hP hC hY ho)
theorem pq_l281 {post : Int32 → St0 → Prop} {mc ms kc ks : Nat} {x0 x1 x2 x3 x4 x6 x9 x10 z0 : Int32} {k d0 d1 : Nat} {x y : Int32} {o lo hi : Int32} {a1 a2 a3 a4 a5 a6 a7 a8 a9 a10 a11 : Nat → Int32} (hP : post 1 ()) (hW : pq_W x3 x4 x10 a6)
    (t0 : pq_T 0 k d0 x a1 a2 a3 a4 a5) (t1 : pq_T 1 k d1 y a1 a2 a3 a4 a5) (hK : pq_K x0 x6 k)
    (hN : (x9 = 0 ∧ o = nI 0 ∧ ¬ (d0 = 1 ∧ d1 = 1)) ∨ (x9 = 1 ∧ z0 = 0 ∧ o = nI 0 ∧ d0 = 1 ∧ d1 = 1) ∨ (x9 = 1 ∧ z0 = 1 ∧ o = nI 1 ∧ a9 0 = x1 * x2 ∧ ¬ (d0 = 1 ∧ d1 = 1))) :
    wL_lawOf_281 post mc ms x0 x1 x2 x3 x4 x6 x9 x10 z0 kc ks o lo hi a1 a2 a3 a4 a5 a6 a7 a8 a9 a10 a11 := by
  unfold wL_lawOf_281 wL_lawOf_297
  rcases hN with ⟨e9, ho, hd⟩ | ⟨e9, ez, ho, hd⟩ | ⟨e9, ez, ho, h9, hd⟩
  · exact br_t e9 (pq_l298 hP ⟨hW, k, d0, d1, x, y, t0, t1, hK, Or.inl ⟨Or.inl e9, hd⟩⟩ (Or.inl ⟨rfl, ho⟩))
  · exact br_f (by rw [e9]; decide) (br_t ez (pq_l298 hP ⟨hW, k, d0, d1, x, y, t0, t1, hK, Or.inr ⟨e9, ez, hd⟩⟩ (Or.inl ⟨rfl, ho⟩)))
  · exact br_f (by rw [e9]; decide) (br_f (by rw [ez]; decide) (pq_l298 hP ⟨hW, k, d0, d1, x, y, t0, t1, hK, Or.inl ⟨Or.inr ⟨e9, ez⟩, hd⟩⟩ (Or.inr ⟨rfl, ho, h9⟩)))
/-- the pair, before the closes -/
def pq_P (x0 x9 : Int32) (k c0 c1 : Nat) : Prop := (x9 = 0 ∧ ¬ (c0 = 1 ∧ c1 = 1)) ∨ (x9 = 1 ∧ x0 = nI k ∧ c0 = 1 ∧ c1 = 1)
theorem pq_l255N {post : Int32 → St0 → Prop} {mc ms kc ks : Nat} {x0 x1 x2 x3 x4 x6 x9 z0 z1 : Int32} {k c0 c1 : Nat} {o lo hi : Int32} {a1 a2 a3 a4 a5 a6 a7 a8 a9 a10 a11 : Nat → Int32} (hP : post 1 ()) (hz : z1 = z0) (r0 : pq_R 0 0 0 a6) (r1 : pq_R 1 0 0 a6)
    (t0 : pq_T 0 k c0 x1 a1 a2 a3 a4 a5) (t1 : pq_T 1 k c1 x2 a1 a2 a3 a4 a5) (hK : pq_K x0 x6 k) (hp : pq_P x0 x9 k c0 c1) (ho : o = nI 0) :
    wL_lawOf_255 post mc ms x0 x1 x2 x3 x4 x6 x9 0 z0 z1 kc ks o lo hi a1 a2 a3 a4 a5 a6 a7 a8 a9 a10 a11 := by
  unfold wL_lawOf_255 wL_lawOf_280
  refine br_t hz (br_t rfl (pq_l281 hP (Or.inl ⟨rfl, r0, r1⟩) t0 t1 hK ?_))
  rcases hp with ⟨e9, hd⟩ | ⟨e9, e0, hd⟩
  · exact Or.inl ⟨e9, ho, hd⟩
  · exact Or.inr (Or.inl ⟨e9, rfl, ho, hd⟩)
theorem pq_l255R {post : Int32 → St0 → Prop} {mc ms kc ks : Nat} {x0 x1 x2 x6 x9 z0 z1 : Int32} {k c0 c1 f l : Nat} {o lo hi : Int32} {a1 a2 a3 a4 a5 a6 a7 a8 a9 a10 a11 : Nat → Int32} (hP : post 1 ()) (hz : z1 = z0) (hf : f ≤ l) (hl : l < 16)
    (r0 : pq_R 0 f (l + 1) a6) (r1 : pq_R 1 f (l + 1) a6) (v : pq_V f (l + 1) k c0 c1 x1 x2 o a1 a2 a3 a4 a5 a9) (hK : pq_K x0 x6 k) (hp : pq_P x0 x9 k c0 c1) :
    wL_lawOf_255 post mc ms x0 x1 x2 (nI f) (nI l) x6 x9 1 z0 z1 kc ks o lo hi a1 a2 a3 a4 a5 a6 a7 a8 a9 a10 a11 := by
  obtain ⟨t0, t1, ho, h9⟩ := v
  have hk := t0.1
  have hW : pq_W (nI f) (nI l) 1 a6 := Or.inr ⟨f, l, hf, hl, rfl, rfl, rfl, r0, r1⟩
  unfold wL_lawOf_255 wL_lawOf_280
  refine br_t hz (br_f (by decide) ?_)
  rcases hp with ⟨e9, hd⟩ | ⟨e9, e0, hd⟩
  · rw [if_neg (show ¬ ((f ≤ k ∧ k < l + 1) ∧ c0 = 1 ∧ c1 = 1) from fun z => hd z.2)] at ho
    have hd' : ¬ ((if f ≤ k ∧ k < l + 1 then 0 else c0) = 1 ∧ (if f ≤ k ∧ k < l + 1 then 0 else c1) = 1) := by
      by_cases D : f ≤ k ∧ k < l + 1
      · rw [if_pos D]
        exact fun z => absurd z.1 (by decide)
      · rw [if_neg D, if_neg D]
        exact hd
    exact br_c (fun _ => pq_l281 hP hW t0 t1 hK (Or.inl ⟨e9, ho, hd'⟩)) (fun _ => br_c (fun _ => pq_l281 hP hW t0 t1 hK (Or.inl ⟨e9, ho, hd'⟩)) (fun _ => pq_l281 hP hW t0 t1 hK (Or.inl ⟨e9, ho, hd'⟩)))
  · subst e0
    have no : ¬ (f ≤ k ∧ k < l + 1) → wL_lawOf_281 post mc ms (nI k) x1 x2 (nI f) (nI l) x6 x9 1 0 kc ks o lo hi a1 a2 a3 a4 a5 a6 a7 a8 a9 a10 a11 := by
      intro D
      rw [if_neg D] at t0 t1
      rw [if_neg (show ¬ ((f ≤ k ∧ k < l + 1) ∧ c0 = 1 ∧ c1 = 1) from fun z => D z.1)] at ho
      exact pq_l281 hP hW t0 t1 hK (Or.inr (Or.inl ⟨e9, rfl, ho, hd⟩))
    refine pk_lt k f (fun z => no (by omega)) (fun z => pk_lt l k (fun z => no (by omega)) (fun z => ?_))
    have D : f ≤ k ∧ k < l + 1 := by omega
    rw [if_pos D] at t0 t1
    rw [if_pos (show (f ≤ k ∧ k < l + 1) ∧ c0 = 1 ∧ c1 = 1 from ⟨D, hd⟩)] at ho
    exact pq_l281 hP hW t0 t1 hK (Or.inr (Or.inr ⟨e9, rfl, ho, h9 ⟨D, hd⟩, fun z => absurd z.1 (by decide)⟩))
theorem pq_R0 {a6 : Nat → Int32} (h6 : ∀ j, a6 j = 0) (s f : Nat) : pq_R s f f a6 := by
  intro j hj
  rw [h6, if_neg (by omega)]
theorem pq_l203N {post : Int32 → St0 → Prop} {mc ms kc ks : Nat} {x0 x1 x2 x3 x4 x6 x9 : Int32} {k c0 c1 : Nat} {o lo hi : Int32} {a1 a2 a3 a4 a5 a6 a7 a8 a9 a10 a11 : Nat → Int32} (hP : post 1 ()) (hr : x3 < 0 ∨ x4 < x3 ∨ ¬ x4 < 16) (h6 : ∀ j, a6 j = 0)
    (t0 : pq_T 0 k c0 x1 a1 a2 a3 a4 a5) (t1 : pq_T 1 k c1 x2 a1 a2 a3 a4 a5) (hK : pq_K x0 x6 k) (hp : pq_P x0 x9 k c0 c1) (ho : o = nI 0) :
    wL_lawOf_203 post mc ms x0 x1 x2 x3 x4 x6 x9 0 kc ks o lo hi a1 a2 a3 a4 a5 a6 a7 a8 a9 a10 a11 := by
  unfold wL_lawOf_203
  refine pq_closeNo (s := 1) (by omega) hr ?_
  dsimp only
  refine br_t rfl ?_
  unfold wL_lawOf_225
  refine br_t rfl (pq_closeNo (s := 0) (by omega) hr ?_)
  dsimp only
  exact br_t rfl (pq_l255N hP rfl (pq_R0 h6 0 0) (pq_R0 h6 1 0) t0 t1 hK hp ho)
theorem pq_l203R {post : Int32 → St0 → Prop} {mc ms kc ks : Nat} {x0 x1 x2 x6 x9 : Int32} {k c0 c1 f l : Nat} {o lo hi : Int32} {a1 a2 a3 a4 a5 a6 a7 a8 a9 a10 a11 : Nat → Int32} (hP : post 1 ()) (hf : f ≤ l) (hl : l < 16) (h6 : ∀ j, a6 j = 0)
    (t0 : pq_T 0 k c0 x1 a1 a2 a3 a4 a5) (t1 : pq_T 1 k c1 x2 a1 a2 a3 a4 a5) (hK : pq_K x0 x6 k) (hp : pq_P x0 x9 k c0 c1) (ho : o = nI 0) :
    wL_lawOf_203 post mc ms x0 x1 x2 (nI f) (nI l) x6 x9 1 kc ks o lo hi a1 a2 a3 a4 a5 a6 a7 a8 a9 a10 a11 := by
  unfold wL_lawOf_203
  refine pq_closeRow (s := 1) (by omega) hf hl ⟨l + 1 - f + 1, pq_close1 hl (fun b6 r0 r1 => ?_) (l + 1 - f) f a6 (Nat.le_refl f) (by omega) (pq_R0 h6 0 f) (pq_R0 h6 1 f)⟩
  dsimp only
  refine br_f (by decide) ?_
  unfold wL_lawOf_225
  refine br_t nI_0 (pq_closeRow (s := 0) (by omega) hf hl ⟨l + 1 - f + 1, pq_close0 (f := f) (k := k) (c0 := c0) (c1 := c1) (x := x1) (y := x2) hl ?_ (l + 1 - f) f 0 o lo hi a1 a2 a3 a4 a5 b6 a7 a8 a9 a10 a11 (by omega) (by omega) (pq_V0 t0 t1 ho) r0 r1⟩)
  intro o lo hi a1 a2 a3 a4 a5 a6 a7 a8 a9 a10 a11 v r0 r1
  dsimp only
  exact br_f (by decide) (pq_l255R hP (by rw [pk_sub hf, nI_1, show l - f + 1 = l + 1 - f by omega]) hf hl r0 r1 v hK hp)
theorem pq_row {x3 x4 : Int32} (h1 : ¬ x3 < 0) (h2 : ¬ x4 < x3) (h3 : ¬ 15 < x4) : ∃ f l : Nat, f ≤ l ∧ l < 16 ∧ x3 = nI f ∧ x4 = nI l := by
  have c0 : (0 : Int32).toInt = 0 := by decide
  have c15 : (15 : Int32).toInt = 15 := by decide
  have h4 : ¬ x4 < 0 := by
    rw [Int32.lt_iff_toInt_lt, c0] at h1
    rw [Int32.lt_iff_toInt_lt] at h2
    rw [Int32.lt_iff_toInt_lt, c0]
    omega
  obtain ⟨f, hf, rfl⟩ := nI_of h1
  obtain ⟨l, hl, rfl⟩ := nI_of h4
  rw [Int32.lt_iff_toInt_lt, nI_toInt hf, nI_toInt hl] at h2
  rw [Int32.lt_iff_toInt_lt, nI_toInt hl, c15] at h3
  exact ⟨f, l, by omega, by omega, rfl, rfl⟩
theorem pq_15 {x : Int32} (h : 15 < x) : 16 ≤ x ∧ ¬ x < 16 := by
  have c15 : (15 : Int32).toInt = 15 := by decide
  have c16 : (16 : Int32).toInt = 16 := by decide
  rw [Int32.lt_iff_toInt_lt, c15] at h
  rw [Int32.lt_iff_toInt_lt, Int32.le_iff_toInt_le, c16]
  omega
theorem pq_l176 {post : Int32 → St0 → Prop} {mc ms kc ks : Nat} {x0 x1 x2 x3 x4 x6 x9 z0 z1 : Int32} {k c0 c1 : Nat} {o lo hi : Int32} {a1 a2 a3 a4 a5 a6 a7 a8 a9 a10 a11 : Nat → Int32} (hP : post 1 ()) (hz : z1 = z0) (h6 : ∀ j, a6 j = 0)
    (t0 : pq_T 0 k c0 x1 a1 a2 a3 a4 a5) (t1 : pq_T 1 k c1 x2 a1 a2 a3 a4 a5) (hK : pq_K x0 x6 k) (hp : pq_P x0 x9 k c0 c1) (ho : o = nI 0) :
    wL_lawOf_176 post mc ms x0 x1 x2 x3 x4 x6 x9 z0 z1 kc ks o lo hi a1 a2 a3 a4 a5 a6 a7 a8 a9 a10 a11 := by
  unfold wL_lawOf_176 wL_lawOf_202
  refine br_t hz (br_c (fun g1 => ?_) (fun g1 => br_c (fun g2 => ?_) (fun g2 => br_c (fun g3 => ?_) (fun g3 => ?_))))
  · exact pq_l203N hP (Or.inl g1) h6 t0 t1 hK hp ho
  · exact pq_l203N hP (Or.inr (Or.inl g2)) h6 t0 t1 hK hp ho
  · exact pq_l203N hP (Or.inr (Or.inr (pq_15 g3).2)) h6 t0 t1 hK hp ho
  · obtain ⟨f, l, hf, hl, rfl, rfl⟩ := pq_row g1 g2 g3
    exact pq_l203R hP hf hl h6 t0 t1 hK hp ho
theorem pq_l152 {post : Int32 → St0 → Prop} {mc ms kc ks : Nat} {x0 x1 x2 x3 x4 x6 z0 : Int32} {k c0 c1 : Nat} {o lo hi : Int32} {a1 a2 a3 a4 a5 a6 a7 a8 a9 a10 a11 : Nat → Int32} (hP : post 1 ()) (h6 : ∀ j, a6 j = 0)
    (t0 : pq_T 0 k c0 x1 a1 a2 a3 a4 a5) (t1 : pq_T 1 k c1 x2 a1 a2 a3 a4 a5) (hx : c0 = 1 → ¬ x1 < -50 ∧ x1 ≤ 50) (hy : c1 = 1 → ¬ x2 < -50 ∧ x2 ≤ 50) (hK : pq_K x0 x6 k) (hp : pq_P x0 z0 k c0 c1) (ho : o = nI 0) :
    wL_lawOf_152 post mc ms x0 x1 x2 x3 x4 x6 z0 kc ks o lo hi a1 a2 a3 a4 a5 a6 a7 a8 a9 a10 a11 := by
  unfold wL_lawOf_152 wL_lawOf_175
  have hp' := hp
  refine pq_pairsFrom t0 t1 hx hy (fun h => ?_) (fun e0 e1 h => ?_)
  · rcases hp' with ⟨e, hd⟩ | ⟨e, _, hd⟩
    · exact br_t e (pq_l176 hP rfl h6 t0 t1 hK hp ho)
    · exact br_f (by rw [e]; decide) (br_t (h hd) (pq_l176 hP rfl h6 t0 t1 hK hp ho))
  · rcases hp' with ⟨e, hd⟩ | ⟨e, _, hd⟩
    · exact absurd ⟨e0, e1⟩ hd
    · exact br_f (by rw [e]; decide) (br_f h (pq_l176 hP rfl h6 t0 t1 hK hp ho))
/-- key bad: nothing fed -/
theorem pq_l127N {post : Int32 → St0 → Prop} {mc ms kc ks : Nat} {x0 x1 x2 x3 x4 x7 x8 z0 z1 : Int32} {k : Nat} {o lo hi : Int32} {a1 a2 a3 a4 a5 a6 a7 a8 a9 a10 a11 : Nat → Int32} (hP : post 1 ()) (hz : z1 = z0) (h6 : ∀ j, a6 j = 0)
    (t0 : pq_T 0 k 0 x1 a1 a2 a3 a4 a5) (t1 : pq_T 1 k 0 x2 a1 a2 a3 a4 a5) (h0 : x0 < 0 ∨ 16 ≤ x0) (ho : o = nI 0) :
    wL_lawOf_127 post mc ms x0 x1 x2 x3 x4 0 x7 x8 z0 z1 kc ks o lo hi a1 a2 a3 a4 a5 a6 a7 a8 a9 a10 a11 := by
  unfold wL_lawOf_127 wL_lawOf_151
  exact br_t hz (br_t rfl (pq_l152 hP h6 t0 t1 (fun z => absurd z (by decide)) (fun z => absurd z (by decide)) (Or.inl ⟨rfl, h0⟩) (Or.inl ⟨rfl, fun z => absurd z.1 (by decide)⟩) ho))
theorem pq_l127K {post : Int32 → St0 → Prop} {mc ms kc ks : Nat} {x1 x2 x3 x4 x7 x8 z0 z1 : Int32} {k c0 c1 : Nat} {o lo hi : Int32} {a1 a2 a3 a4 a5 a6 a7 a8 a9 a10 a11 : Nat → Int32} (hP : post 1 ()) (hz : z1 = z0) (h6 : ∀ j, a6 j = 0)
    (t0 : pq_T 0 k c0 x1 a1 a2 a3 a4 a5) (t1 : pq_T 1 k c1 x2 a1 a2 a3 a4 a5) (hx : c0 = 1 → ¬ x1 < -50 ∧ x1 ≤ 50) (hy : c1 = 1 → ¬ x2 < -50 ∧ x2 ≤ 50) (e7 : x7 = nI c0) (e8 : x8 = nI c1) (ho : o = nI 0) :
    wL_lawOf_127 post mc ms (nI k) x1 x2 x3 x4 1 x7 x8 z0 z1 kc ks o lo hi a1 a2 a3 a4 a5 a6 a7 a8 a9 a10 a11 := by
  subst e7 e8
  have hc0 := t0.2.1
  have hc1 := t1.2.1
  unfold wL_lawOf_127 wL_lawOf_151
  refine br_t hz (br_f (by decide) (pk_eq c0 0 (fun g => ?_) (fun g => pk_eq c1 0 (fun g2 => ?_) (fun g2 => ?_))))
  · exact pq_l152 hP h6 t0 t1 hx hy (Or.inr ⟨rfl, rfl⟩) (Or.inl ⟨rfl, fun z => absurd z.1 (by omega)⟩) ho
  · exact pq_l152 hP h6 t0 t1 hx hy (Or.inr ⟨rfl, rfl⟩) (Or.inl ⟨rfl, fun z => absurd z.2 (by omega)⟩) ho
  · exact pq_l152 hP h6 t0 t1 hx hy (Or.inr ⟨rfl, rfl⟩) (Or.inr ⟨rfl, rfl, by omega, by omega⟩) ho
theorem pq_l93K {post : Int32 → St0 → Prop} {mc ms kc ks : Nat} {x1 x2 x3 x4 x7 x8 z0 z1 : Int32} {k c0 : Nat} {o lo hi : Int32} {a1 a2 a3 a4 a5 a6 a7 a8 a9 a10 a11 : Nat → Int32} (hP : post 1 ()) (hz : z1 = z0) (h6 : ∀ j, a6 j = 0)
    (t0 : pq_T 0 k c0 x1 a1 a2 a3 a4 a5) (t1 : pq_T 1 k 0 x2 a1 a2 a3 a4 a5) (hx : c0 = 1 → ¬ x1 < -50 ∧ x1 ≤ 50) (e7 : x7 = nI c0) (g8 : pq_G x8 x2) (ho : o = nI 0) :
    wL_lawOf_93 post mc ms (nI k) x1 x2 x3 x4 1 x7 x8 z0 z1 kc ks o lo hi a1 a2 a3 a4 a5 a6 a7 a8 a9 a10 a11 := by
  unfold wL_lawOf_93
  refine br_t hz ?_
  rcases g8 with ⟨e8, v1, v2⟩ | ⟨e8, v⟩
  · refine pq_feed (s := 1) (by omega) t1 (h6 _) v1 v2 (fun a1' a2' a3' a4' a5' u F => ?_)
    dsimp only
    refine br_f (by decide) (br_f (by rw [e8]; decide) (pq_l127K (c1 := 1) hP rfl h6 (F 0 k c0 x1 (by omega) (by omega) t0) u hx (fun _ => ⟨v1, v2⟩) e7 e8 ho))
  · refine pq_feedV (s := 1) (by omega) t1.1 v ?_
    dsimp only
    exact br_f (by decide) (br_t e8 (pq_l127K (c1 := 0) hP rfl h6 t0 t1 hx (fun z => absurd z (by decide)) e7 e8 ho))
theorem pq_l62 {post : Int32 → St0 → Prop} {mc ms kc ks : Nat} {x0 x1 x2 x3 x4 x6 x7 z0 : Int32} {o lo hi : Int32} {a1 a2 a3 a4 a5 a6 a7 a8 a9 a10 a11 : Nat → Int32} (hP : post 1 ()) (h6 : ∀ j, a6 j = 0)
    (t : ∀ s k x, k < 16 → pq_T s k 0 x a1 a2 a3 a4 a5) (hK : (x6 = 0 ∧ (x0 < 0 ∨ 16 ≤ x0)) ∨ (x6 = 1 ∧ ∃ k : Nat, k < 16 ∧ x0 = nI k)) (g7 : pq_G x7 x1) (g8 : pq_G z0 x2) (ho : o = nI 0) :
    wL_lawOf_62 post mc ms x0 x1 x2 x3 x4 x6 x7 z0 kc ks o lo hi a1 a2 a3 a4 a5 a6 a7 a8 a9 a10 a11 := by
  unfold wL_lawOf_62
  rcases hK with ⟨e6, h0⟩ | ⟨e6, k, hk, e0⟩
  · subst e6
    refine pq_feedK (s := 0) (by omega) h0 ?_
    dsimp only
    refine br_t rfl ?_
    unfold wL_lawOf_93
    refine br_t rfl (pq_feedK (s := 1) (by omega) h0 ?_)
    dsimp only
    exact br_t rfl (pq_l127N (k := 0) hP rfl h6 (t 0 0 x1 (by omega)) (t 1 0 x2 (by omega)) h0 ho)
  · subst e6 e0
    rcases g7 with ⟨e7, v1, v2⟩ | ⟨e7, v⟩
    · refine pq_feed (s := 0) (by omega) (t 0 k x1 hk) (h6 _) v1 v2 (fun a1' a2' a3' a4' a5' u F => ?_)
      dsimp only
      exact br_f (by decide) (br_f (by rw [e7]; decide) (pq_l93K (c0 := 1) hP rfl h6 u (F 1 k 0 x2 (by omega) (by omega) (t 1 k x2 hk)) (fun _ => ⟨v1, v2⟩) e7 g8 ho))
    · refine pq_feedV (s := 0) (by omega) hk v ?_
      dsimp only
      exact br_f (by decide) (br_t e7 (pq_l93K (c0 := 0) hP rfl h6 (t 0 k x1 hk) (t 1 k x2 hk) (fun z => absurd z (by decide)) e7 g8 ho))
theorem pq_50 {x : Int32} : 50 < x ↔ ¬ x ≤ 50 := by rw [Int32.not_le]
theorem pq_l24 {post : Int32 → St0 → Prop} {mc ms kc ks : Nat} {x0 x1 x2 x3 x4 z0 : Int32} {o lo hi : Int32} {a1 a2 a3 a4 a5 a6 a7 a8 a9 a10 a11 : Nat → Int32} (hP : post 1 ()) (h6 : ∀ j, a6 j = 0)
    (t : ∀ s k x, k < 16 → pq_T s k 0 x a1 a2 a3 a4 a5) (hK : (z0 = 0 ∧ (x0 < 0 ∨ 16 ≤ x0)) ∨ (z0 = 1 ∧ ∃ k : Nat, k < 16 ∧ x0 = nI k)) (ho : o = nI 0) :
    wL_lawOf_24 post mc ms x0 x1 x2 x3 x4 z0 kc ks o lo hi a1 a2 a3 a4 a5 a6 a7 a8 a9 a10 a11 := by
  have q : ∀ x7 : Int32, pq_G x7 x1 → wL_lawOf_43 post mc ms x0 x1 x2 x3 x4 z0 x7 kc ks o lo hi a1 a2 a3 a4 a5 a6 a7 a8 a9 a10 a11 := by
    intro x7 g7
    unfold wL_lawOf_43 wL_lawOf_61
    exact br_c (fun g => pq_l62 hP h6 t hK g7 (Or.inr ⟨rfl, Or.inl g⟩) ho) (fun g => br_c (fun g2 => pq_l62 hP h6 t hK g7 (Or.inr ⟨rfl, Or.inr (pq_50.mp g2)⟩) ho)
      (fun g2 => pq_l62 hP h6 t hK g7 (Or.inl ⟨rfl, g, Decidable.not_not.mp (fun z => g2 (pq_50.mpr z))⟩) ho))
  unfold wL_lawOf_24 wL_lawOf_42
  exact br_c (fun g => q 0 (Or.inr ⟨rfl, Or.inl g⟩)) (fun g => br_c (fun g2 => q 0 (Or.inr ⟨rfl, Or.inr (pq_50.mp g2)⟩)) (fun g2 => q 1 (Or.inl ⟨rfl, g, Decidable.not_not.mp (fun z => g2 (pq_50.mpr z))⟩)))
theorem pq_lawOf {post : Int32 → St0 → Prop} (x0 x1 x2 x3 x4 : Int32) (hP : post 1 ()) : wpL_lawOf post 12 400 () x0 x1 x2 x3 x4 := by
  have t : ∀ s k x, k < 16 → pq_T s k 0 x (fun _ => 0) (fun _ => 0) (fun _ => 0) (fun _ => 0) (fun _ => 0) := by
    intro s k x hk
    refine ⟨hk, by omega, rfl, fun j _ => ?_, fun z => absurd z (by decide), rfl⟩
    rw [ite_self]
    rfl
  unfold wpL_lawOf
  refine ⟨by omega, by omega, 11, 340, by omega, by omega, ?_⟩
  unfold wpX_init
  dsimp only
  refine ⟨by omega, by omega, by omega, by omega, by omega, by omega, by omega, by omega, by omega, by omega, by omega, by omega, by omega, by omega, by omega, by omega, by omega, by omega, by omega, by omega, by omega, by omega, ?_⟩
  unfold wL_lawOf_23
  refine br_c (fun g => pq_l24 hP (fun _ => rfl) t (Or.inl ⟨rfl, Or.inl g⟩) nI_0.symm) (fun g => br_c (fun g2 => pq_l24 hP (fun _ => rfl) t (Or.inl ⟨rfl, Or.inr (pq_15 g2).1⟩) nI_0.symm) (fun g2 => ?_))
  obtain ⟨f, l, hf, hl, e1, e2⟩ := pq_row g (fun z => absurd z (by rw [Int32.lt_iff_toInt_lt]; omega)) g2
  exact pq_l24 hP (fun _ => rfl) t (Or.inr ⟨rfl, l, hl, e2⟩) nI_0.symm
theorem pq_cell {post : Int32 → Prop} {L : Nat} {xs : Nat → Int32} (p : Nat) (hL : L ≤ 5) (hp : p < 5) (h : ∀ r, post r) : wpL_cellAt post L xs () (nI p) := by
  unfold wpL_cellAt
  exact pk_le L p (fun _ => h _) (fun z => ⟨pk_in p L z, h _⟩)
theorem i_vc (xs : Nat → Int32) (L : Nat) (hL : L ≤ 5) : wpL_law (fun r => r = 1) L xs := by
  unfold wpL_law
  refine pq_cell 0 hL (by omega) (fun r1 => pq_cell 1 hL (by omega) (fun r2 => pq_cell 2 hL (by omega) (fun r3 => pq_cell 3 hL (by omega) (fun r4 => pq_cell 4 hL (by omega) (fun r5 => ?_)))))
  exact ⟨12, 400, by omega, by omega, pq_lawOf r1 r2 r3 r4 r5 rfl⟩
end
