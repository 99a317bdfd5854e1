section
/-- a coroutine's own slice: state, value, steps, depth, the four frames' functions and places, the sixteen packed registers -/
abbrev cf_M : Type := Int32 × Int32 × Int32 × Int32 × (Nat → Int32) × (Nat → Int32) × (Nat → Int32)
def cf_R (k : Nat) (m : cf_M) (a7 a8 a9 a10 a11 a12 a13 : Nat → Int32) : Prop :=
  a7 k = m.1 ∧ a8 k = m.2.1 ∧ a9 k = m.2.2.1 ∧ a10 k = m.2.2.2.1 ∧ (∀ j, j < 4 → a11 (k * 4 + j) = m.2.2.2.2.1 j) ∧ (∀ j, j < 4 → a12 (k * 4 + j) = m.2.2.2.2.2.1 j) ∧ (∀ j, j < 16 → a13 (k * 16 + j) = m.2.2.2.2.2.2 j)
def cf_set (Q : Nat → cf_M) (c : Nat) (m : cf_M) : Nat → cf_M := fun k => if k = c then m else Q k
/-- the arrays hold the four slices Q -/
def cf_A (Q : Nat → cf_M) (a7 a8 a9 a10 a11 a12 a13 : Nat → Int32) : Prop := ∀ k, k < 4 → cf_R k (Q k) a7 a8 a9 a10 a11 a12 a13
theorem cf_sets {Q : Nat → cf_M} {c : Nat} {m : cf_M} : cf_set Q c m c = m := if_pos rfl
theorem cf_setn {Q : Nat → cf_M} {c k : Nat} {m : cf_M} (h : k ≠ c) : cf_set Q c m k = Q k := if_neg h
theorem cf_setset {Q : Nat → cf_M} {c : Nat} {m m' : cf_M} : cf_set (cf_set Q c m) c m' = cf_set Q c m' := by
  funext k
  by_cases e : k = c
  · subst e; rw [cf_sets, cf_sets]
  · rw [cf_setn e, cf_setn e, cf_setn e]
theorem cf_setid {Q : Nat → cf_M} {c : Nat} : cf_set Q c (Q c) = Q := by
  funext k
  by_cases e : k = c
  · subst e; rw [cf_sets]
  · rw [cf_setn e]
theorem cf_at {Q : Nat → cf_M} {c : Nat} {m : cf_M} {a7 a8 a9 a10 a11 a12 a13 : Nat → Int32} (hc : c < 4) (h : cf_A (cf_set Q c m) a7 a8 a9 a10 a11 a12 a13) : cf_R c m a7 a8 a9 a10 a11 a12 a13 := by
  have t := h c hc
  rw [cf_sets] at t
  exact t
theorem cf_put {Q : Nat → cf_M} {c : Nat} {m m' : cf_M} {a7 a8 a9 a10 a11 a12 a13 b7 b8 b9 b10 b11 b12 b13 : Nat → Int32} (h : cf_A (cf_set Q c m) a7 a8 a9 a10 a11 a12 a13) (h1 : cf_R c m' b7 b8 b9 b10 b11 b12 b13)
    (h2 : ∀ k, k < 4 → k ≠ c → cf_R k (Q k) a7 a8 a9 a10 a11 a12 a13 → cf_R k (Q k) b7 b8 b9 b10 b11 b12 b13) : cf_A (cf_set Q c m') b7 b8 b9 b10 b11 b12 b13 := by
  intro k hk
  by_cases e : k = c
  · subst e
    rw [cf_sets]
    exact h1
  · rw [cf_setn e]
    have t := h k hk
    rw [cf_setn e] at t
    exact h2 k hk e t
theorem cf_us {f g : Nat → Int32} {b N i t : Nat} {v : Int32} (h : ∀ j, j < N → f (b + j) = g j) (ht : t = b + i) : ∀ j, j < N → upd f t v (b + j) = upd g i v j := by
  intro j hj
  subst ht
  by_cases e : j = i
  · subst e; rw [pk_us, pk_us]
  · rw [pk_un (show b + j ≠ b + i by omega), pk_un e]
    exact h j hj
theorem cf_u4 {f g : Nat → Int32} {c k i t : Nat} {v : Int32} (h : ∀ j, j < 4 → f (k * 4 + j) = g j) (e : k ≠ c) (hi : i < 4) (ht : t = c * 4 + i) : ∀ j, j < 4 → upd f t v (k * 4 + j) = g j := by
  intro j hj
  rw [pk_un (by omega)]
  exact h j hj
theorem cf_u16 {f g : Nat → Int32} {c k i t : Nat} {v : Int32} (h : ∀ j, j < 16 → f (k * 16 + j) = g j) (e : k ≠ c) (hi : i < 16) (ht : t = c * 16 + i) : ∀ j, j < 16 → upd f t v (k * 16 + j) = g j := by
  intro j hj
  rw [pk_un (by omega)]
  exact h j hj
section
variable {Q : Nat → cf_M} {c : Nat} {st vl dn dp v : Int32} {ff fp pk : Nat → Int32} {a7 a8 a9 a10 a11 a12 a13 : Nat → Int32}
theorem cf_w7 (hc : c < 4) (h : cf_A (cf_set Q c (st, vl, dn, dp, ff, fp, pk)) a7 a8 a9 a10 a11 a12 a13) : cf_A (cf_set Q c (v, vl, dn, dp, ff, fp, pk)) (upd a7 c v) a8 a9 a10 a11 a12 a13 := by
  obtain ⟨r1, r2, r3, r4, r5, r6, r7⟩ := cf_at hc h
  exact cf_put h ⟨pk_us, r2, r3, r4, r5, r6, r7⟩ (fun k hk e ⟨s1, s2, s3, s4, s5, s6, s7⟩ => ⟨by rw [pk_un e]; exact s1, s2, s3, s4, s5, s6, s7⟩)
theorem cf_w8 (hc : c < 4) (h : cf_A (cf_set Q c (st, vl, dn, dp, ff, fp, pk)) a7 a8 a9 a10 a11 a12 a13) : cf_A (cf_set Q c (st, v, dn, dp, ff, fp, pk)) a7 (upd a8 c v) a9 a10 a11 a12 a13 := by
  obtain ⟨r1, r2, r3, r4, r5, r6, r7⟩ := cf_at hc h
  exact cf_put h ⟨r1, pk_us, r3, r4, r5, r6, r7⟩ (fun k hk e ⟨s1, s2, s3, s4, s5, s6, s7⟩ => ⟨s1, by rw [pk_un e]; exact s2, s3, s4, s5, s6, s7⟩)
theorem cf_w9 (hc : c < 4) (h : cf_A (cf_set Q c (st, vl, dn, dp, ff, fp, pk)) a7 a8 a9 a10 a11 a12 a13) : cf_A (cf_set Q c (st, vl, v, dp, ff, fp, pk)) a7 a8 (upd a9 c v) a10 a11 a12 a13 := by
  obtain ⟨r1, r2, r3, r4, r5, r6, r7⟩ := cf_at hc h
  exact cf_put h ⟨r1, r2, pk_us, r4, r5, r6, r7⟩ (fun k hk e ⟨s1, s2, s3, s4, s5, s6, s7⟩ => ⟨s1, s2, by rw [pk_un e]; exact s3, s4, s5, s6, s7⟩)
theorem cf_w10 (hc : c < 4) (h : cf_A (cf_set Q c (st, vl, dn, dp, ff, fp, pk)) a7 a8 a9 a10 a11 a12 a13) : cf_A (cf_set Q c (st, vl, dn, v, ff, fp, pk)) a7 a8 a9 (upd a10 c v) a11 a12 a13 := by
  obtain ⟨r1, r2, r3, r4, r5, r6, r7⟩ := cf_at hc h
  exact cf_put h ⟨r1, r2, r3, pk_us, r5, r6, r7⟩ (fun k hk e ⟨s1, s2, s3, s4, s5, s6, s7⟩ => ⟨s1, s2, s3, by rw [pk_un e]; exact s4, s5, s6, s7⟩)
theorem cf_w11 (hc : c < 4) {i t : Nat} (hi : i < 4) (ht : t = c * 4 + i) (h : cf_A (cf_set Q c (st, vl, dn, dp, ff, fp, pk)) a7 a8 a9 a10 a11 a12 a13) : cf_A (cf_set Q c (st, vl, dn, dp, upd ff i v, fp, pk)) a7 a8 a9 a10 (upd a11 t v) a12 a13 := by
  obtain ⟨r1, r2, r3, r4, r5, r6, r7⟩ := cf_at hc h
  exact cf_put h ⟨r1, r2, r3, r4, cf_us r5 ht, r6, r7⟩ (fun k hk e ⟨s1, s2, s3, s4, s5, s6, s7⟩ => ⟨s1, s2, s3, s4, cf_u4 s5 e hi ht, s6, s7⟩)
theorem cf_w12 (hc : c < 4) {i t : Nat} (hi : i < 4) (ht : t = c * 4 + i) (h : cf_A (cf_set Q c (st, vl, dn, dp, ff, fp, pk)) a7 a8 a9 a10 a11 a12 a13) : cf_A (cf_set Q c (st, vl, dn, dp, ff, upd fp i v, pk)) a7 a8 a9 a10 a11 (upd a12 t v) a13 := by
  obtain ⟨r1, r2, r3, r4, r5, r6, r7⟩ := cf_at hc h
  exact cf_put h ⟨r1, r2, r3, r4, r5, cf_us r6 ht, r7⟩ (fun k hk e ⟨s1, s2, s3, s4, s5, s6, s7⟩ => ⟨s1, s2, s3, s4, s5, cf_u4 s6 e hi ht, s7⟩)
theorem cf_w13 (hc : c < 4) {i t : Nat} (hi : i < 16) (ht : t = c * 16 + i) (h : cf_A (cf_set Q c (st, vl, dn, dp, ff, fp, pk)) a7 a8 a9 a10 a11 a12 a13) : cf_A (cf_set Q c (st, vl, dn, dp, ff, fp, upd pk i v)) a7 a8 a9 a10 a11 a12 (upd a13 t v) := by
  obtain ⟨r1, r2, r3, r4, r5, r6, r7⟩ := cf_at hc h
  exact cf_put h ⟨r1, r2, r3, r4, r5, r6, cf_us r7 ht⟩ (fun k hk e ⟨s1, s2, s3, s4, s5, s6, s7⟩ => ⟨s1, s2, s3, s4, s5, s6, cf_u16 s7 e hi ht⟩)
end
theorem cf_x8 (f p : Nat) : nI f * 8 + nI p = nI (f * 8 + p) := by
  show nI f * nI 8 + nI p = _
  rw [pk_mul, nI_add]
theorem cf_x9 (f p : Nat) : nI f * 9 + nI p = nI (f * 9 + p) := by
  show nI f * nI 9 + nI p = _
  rw [pk_mul, nI_add]
theorem cf_x4 (f p : Nat) : nI f * 4 + nI p = nI (f * 4 + p) := by
  show nI f * nI 4 + nI p = _
  rw [pk_mul, nI_add]
theorem cf_x16 (f p : Nat) : nI f * 16 + nI p = nI (f * 16 + p) := by
  show nI f * nI 16 + nI p = _
  rw [pk_mul, nI_add]
theorem cf_y4 (f : Nat) : nI f * 4 = nI (f * 4) := by
  show nI f * nI 4 = _
  rw [pk_mul]
/-- what is known of a program: sizes up to eight, registers 0 to 3 -/
def cf_P (a1 a3 a4 : Nat → Int32) : Prop := (∀ f, f < 3 → ∃ s : Nat, s ≤ 8 ∧ a1 f = nI s) ∧ (∀ j, j < 24 → ∃ r : Nat, r < 4 ∧ a3 j = nI r) ∧ (∀ j, j < 24 → ∃ r : Nat, r < 4 ∧ a4 j = nI r)
/-- the remainder by three, made nonnegative -/
theorem cf_rem3 (x : Int32) : ∃ j : Nat, j < 3 ∧ (0 ≤ x - x / 3 * 3 → x - x / 3 * 3 = nI j) ∧ (¬ 0 ≤ x - x / 3 * 3 → x - x / 3 * 3 + 3 = nI j) := by
  have e3 : (3 : Int32).toInt = 3 := by decide
  have e0 : (0 : Int32).toInt = 0 := by decide
  have l1 := Int32.le_toInt x
  have l2 := Int32.toInt_lt x
  have hq : (x / 3).toInt = x.toInt.tdiv 3 := by
    rw [Int32.toInt_div, e3]
    have b : -(2 ^ 31) ≤ x.toInt.tdiv 3 ∧ x.toInt.tdiv 3 < 2 ^ 31 := by
      rcases Int.le_total 0 x.toInt with z | z
      · rw [Int.tdiv_eq_ediv_of_nonneg z]; omega
      · obtain ⟨y, hy⟩ : ∃ y : Int, x.toInt = -y := ⟨-x.toInt, by omega⟩
        rw [hy, Int.neg_tdiv, Int.tdiv_eq_ediv_of_nonneg (by omega)]; omega
    exact Int.bmod_eq_of_le (by omega) (by omega)
  have hr : (x - x / 3 * 3).toInt = x.toInt - x.toInt.tdiv 3 * 3 ∧ -3 < x.toInt - x.toInt.tdiv 3 * 3 ∧ x.toInt - x.toInt.tdiv 3 * 3 < 3 := by
    have b : -3 < x.toInt - x.toInt.tdiv 3 * 3 ∧ x.toInt - x.toInt.tdiv 3 * 3 < 3 ∧ -(2 ^ 31) ≤ x.toInt.tdiv 3 * 3 ∧ x.toInt.tdiv 3 * 3 < 2 ^ 31 := by
      rcases Int.le_total 0 x.toInt with z | z
      · rw [Int.tdiv_eq_ediv_of_nonneg z]; omega
      · obtain ⟨y, hy⟩ : ∃ y : Int, x.toInt = -y := ⟨-x.toInt, by omega⟩
        rw [hy, Int.neg_tdiv, Int.tdiv_eq_ediv_of_nonneg (by omega)]; omega
    refine ⟨?_, b.1, b.2.1⟩
    rw [Int32.toInt_sub, Int32.toInt_mul, hq, e3, Int.bmod_eq_of_le (n := x.toInt.tdiv 3 * 3) (by omega) (by omega)]
    exact Int.bmod_eq_of_le (by omega) (by omega)
  obtain ⟨h1, h2, h3⟩ := hr
  by_cases z : 0 ≤ x - x / 3 * 3
  · have z' := z
    rw [Int32.le_iff_toInt_le, e0, h1] at z'
    refine ⟨(x.toInt - x.toInt.tdiv 3 * 3).toNat, by omega, fun _ => ?_, fun n => absurd z n⟩
    apply Int32.toInt_inj.mp
    rw [h1, nI_toInt (by omega)]
    omega
  · have z' := z
    rw [Int32.le_iff_toInt_le, e0, h1] at z'
    refine ⟨(x.toInt - x.toInt.tdiv 3 * 3 + 3).toNat, by omega, fun n => absurd n z, fun _ => ?_⟩
    apply Int32.toInt_inj.mp
    rw [Int32.toInt_add, h1, e3, nI_toInt (by omega), Int.bmod_eq_of_le (by omega) (by omega)]
    omega
end
section
section
variable {a1 a2 a3 a4 a5 a6 : Nat → Int32}
theorem cf_readsAt (hP : cf_P a1 a3 a4) {f : Nat} (hf : f < 3) (x : Int32) : ∃ r : Int32, ∀ (post : Int32 → Prop) (an fn pl : Int32) (a7 a8 a9 a10 a11 a12 a13 a14 : Nat → Int32), post r → wpX_readsAt post (an, fn, pl, a1, a2, a3, a4, a5, a6, a7, a8, a9, a10, a11, a12, a13, a14) (nI f) x := by
  by_cases hx : x < 0
  · refine ⟨0, fun post an fn pl a7 a8 a9 a10 a11 a12 a13 a14 hp => ?_⟩
    unfold wpX_readsAt
    dsimp only
    exact br_t hx hp
  · obtain ⟨s, hs, es⟩ := hP.1 f hf
    obtain ⟨p, hp, rfl⟩ := nI_of hx
    by_cases h : p < s
    · refine ⟨a6 (f * 9 + p), fun post an fn pl a7 a8 a9 a10 a11 a12 a13 a14 hp => ?_⟩
      unfold wpX_readsAt
      dsimp only
      rw [nI_clamp (n := f) (by omega), es, cf_x9, nI_clamp (n := f * 9 + p) (by omega)]
      exact br_f hx ⟨pk_in f 3 hf, br_t (nI_lt h (by omega)) ⟨pk_in (f * 9 + p) 27 (by omega), hp⟩⟩
    · refine ⟨0, fun post an fn pl a7 a8 a9 a10 a11 a12 a13 a14 hp => ?_⟩
      unfold wpX_readsAt
      dsimp only
      rw [nI_clamp (n := f) (by omega), es]
      exact br_f hx ⟨pk_in f 3 hf, br_f (nI_nlt (by omega) (by omega)) hp⟩
theorem cf_readsBefore (hP : cf_P a1 a3 a4) {f p : Nat} (hf : f < 3) (hp8 : p < 8) : ∃ r : Int32, ∀ (post : Int32 → Prop) (an fn pl : Int32) (a7 a8 a9 a10 a11 a12 a13 a14 : Nat → Int32), post r → wpX_readsBefore post (an, fn, pl, a1, a2, a3, a4, a5, a6, a7, a8, a9, a10, a11, a12, a13, a14) (nI f) (nI p) := by
  obtain ⟨r1, h1⟩ := cf_readsAt (a2 := a2) (a5 := a5) (a6 := a6) hP hf (nI p + 1)
  obtain ⟨r2, h2⟩ := cf_readsAt (a2 := a2) (a5 := a5) (a6 := a6) hP hf (a5 (f * 8 + p))
  have hi : vp_in (nI (f * 8 + p)) 24 := pk_in (f * 8 + p) 24 (by omega)
  have key : ∀ (post : Int32 → Prop) (an fn pl : Int32) (a7 a8 a9 a10 a11 a12 a13 a14 : Nat → Int32),
      ((a2 (f * 8 + p) < 0 → post ((1 : Int32) <<< (a3 (f * 8 + p) &&& 31))) ∧ (¬ a2 (f * 8 + p) < 0 → ((6 < a2 (f * 8 + p) → post ((1 : Int32) <<< (a3 (f * 8 + p) &&& 31))) ∧ (¬ 6 < a2 (f * 8 + p) →
      ((a2 (f * 8 + p) = 0 → post (r1 &&& (((1 : Int32) <<< (a3 (f * 8 + p) &&& 31)) ^^^ (-1)))) ∧ (¬ a2 (f * 8 + p) = 0 →
      ((a2 (f * 8 + p) = 1 → post ((r1 ||| ((1 : Int32) <<< (a3 (f * 8 + p) &&& 31))) ||| ((1 : Int32) <<< (a4 (f * 8 + p) &&& 31)))) ∧ (¬ a2 (f * 8 + p) = 1 →
      ((a2 (f * 8 + p) = 2 → post ((r1 ||| ((1 : Int32) <<< (a3 (f * 8 + p) &&& 31))) ||| ((1 : Int32) <<< (a4 (f * 8 + p) &&& 31)))) ∧ (¬ a2 (f * 8 + p) = 2 →
      ((a2 (f * 8 + p) = 3 → post r2) ∧ (¬ a2 (f * 8 + p) = 3 →
      ((a2 (f * 8 + p) = 4 → post ((r1 ||| ((1 : Int32) <<< (a3 (f * 8 + p) &&& 31))) ||| r2)) ∧ (¬ a2 (f * 8 + p) = 4 →
      ((a2 (f * 8 + p) = 5 → post ((r1 &&& (((1 : Int32) <<< (a4 (f * 8 + p) &&& 31)) ^^^ (-1))) ||| ((1 : Int32) <<< (a3 (f * 8 + p) &&& 31)))) ∧ (¬ a2 (f * 8 + p) = 5 →
      ((a2 (f * 8 + p) = 6 → post (r1 ||| ((1 : Int32) <<< (a3 (f * 8 + p) &&& 31)))) ∧ (¬ a2 (f * 8 + p) = 6 → True)))))))))))))))))) → wpX_readsBefore post (an, fn, pl, a1, a2, a3, a4, a5, a6, a7, a8, a9, a10, a11, a12, a13, a14) (nI f) (nI p) := by
    intro post an fn pl a7 a8 a9 a10 a11 a12 a13 a14 hp
    unfold wpX_readsBefore
    dsimp only
    rw [cf_x8]
    refine nm_e ⟨hi, ?_⟩
    rw [nI_clamp (n := f * 8 + p) (by omega)]
    refine nm_e ⟨hi, nm_e (h1 _ _ _ _ _ _ _ _ _ _ _ _ ⟨hi, nm_e ?_⟩)⟩
    obtain ⟨q0, q⟩ := hp
    refine ⟨q0, fun z => ?_⟩
    obtain ⟨q0, q⟩ := q z
    refine ⟨q0, fun z => ?_⟩
    obtain ⟨q0, q⟩ := q z
    refine ⟨q0, fun z => ?_⟩
    obtain ⟨q0, q⟩ := q z
    refine ⟨q0, fun z => ?_⟩
    obtain ⟨q0, q⟩ := q z
    refine ⟨q0, fun z => ?_⟩
    obtain ⟨q0, q⟩ := q z
    refine ⟨fun z => ⟨hi, h2 _ _ _ _ _ _ _ _ _ _ _ _ (q0 z)⟩, fun z => ?_⟩
    obtain ⟨q0, q⟩ := q z
    refine ⟨fun z => ⟨hi, h2 _ _ _ _ _ _ _ _ _ _ _ _ (q0 z)⟩, fun z => ?_⟩
    exact q z
  by_cases c0 : a2 (f * 8 + p) < 0
  · exact ⟨_, fun post an fn pl a7 a8 a9 a10 a11 a12 a13 a14 hp => key post an fn pl a7 a8 a9 a10 a11 a12 a13 a14 (br_t c0 hp)⟩
  by_cases c1 : 6 < a2 (f * 8 + p)
  · exact ⟨_, fun post an fn pl a7 a8 a9 a10 a11 a12 a13 a14 hp => key post an fn pl a7 a8 a9 a10 a11 a12 a13 a14 (br_f c0 (br_t c1 hp))⟩
  by_cases k0 : a2 (f * 8 + p) = 0
  · exact ⟨_, fun post an fn pl a7 a8 a9 a10 a11 a12 a13 a14 hp => key post an fn pl a7 a8 a9 a10 a11 a12 a13 a14 (br_f c0 (br_f c1 (br_t k0 hp)))⟩
  by_cases k1 : a2 (f * 8 + p) = 1
  · exact ⟨_, fun post an fn pl a7 a8 a9 a10 a11 a12 a13 a14 hp => key post an fn pl a7 a8 a9 a10 a11 a12 a13 a14 (br_f c0 (br_f c1 (br_f k0 (br_t k1 hp))))⟩
  by_cases k2 : a2 (f * 8 + p) = 2
  · exact ⟨_, fun post an fn pl a7 a8 a9 a10 a11 a12 a13 a14 hp => key post an fn pl a7 a8 a9 a10 a11 a12 a13 a14 (br_f c0 (br_f c1 (br_f k0 (br_f k1 (br_t k2 hp)))))⟩
  by_cases k3 : a2 (f * 8 + p) = 3
  · exact ⟨_, fun post an fn pl a7 a8 a9 a10 a11 a12 a13 a14 hp => key post an fn pl a7 a8 a9 a10 a11 a12 a13 a14 (br_f c0 (br_f c1 (br_f k0 (br_f k1 (br_f k2 (br_t k3 hp))))))⟩
  by_cases k4 : a2 (f * 8 + p) = 4
  · exact ⟨_, fun post an fn pl a7 a8 a9 a10 a11 a12 a13 a14 hp => key post an fn pl a7 a8 a9 a10 a11 a12 a13 a14 (br_f c0 (br_f c1 (br_f k0 (br_f k1 (br_f k2 (br_f k3 (br_t k4 hp)))))))⟩
  by_cases k5 : a2 (f * 8 + p) = 5
  · exact ⟨_, fun post an fn pl a7 a8 a9 a10 a11 a12 a13 a14 hp => key post an fn pl a7 a8 a9 a10 a11 a12 a13 a14 (br_f c0 (br_f c1 (br_f k0 (br_f k1 (br_f k2 (br_f k3 (br_f k4 (br_t k5 hp))))))))⟩
  by_cases k6 : a2 (f * 8 + p) = 6
  · exact ⟨_, fun post an fn pl a7 a8 a9 a10 a11 a12 a13 a14 hp => key post an fn pl a7 a8 a9 a10 a11 a12 a13 a14 (br_f c0 (br_f c1 (br_f k0 (br_f k1 (br_f k2 (br_f k3 (br_f k4 (br_f k5 (br_t k6 hp)))))))))⟩
  · exact ⟨0, fun post an fn pl a7 a8 a9 a10 a11 a12 a13 a14 hp => key post an fn pl a7 a8 a9 a10 a11 a12 a13 a14 (br_f c0 (br_f c1 (br_f k0 (br_f k1 (br_f k2 (br_f k3 (br_f k4 (br_f k5 (br_f k6 trivial)))))))))⟩
theorem cf_analyseAt (hP : cf_P a1 a3 a4) {f p : Nat} (hf : f < 3) (hp8 : p < 8) : ∃ (r : Int32) (b6 : Nat → Int32), ∀ (post : Int32 → St1 → Prop) (an fn pl : Int32) (a7 a8 a9 a10 a11 a12 a13 a14 : Nat → Int32), post r (an, fn, pl, a1, a2, a3, a4, a5, b6, a7, a8, a9, a10, a11, a12, a13, a14) → wpX_analyseAt post (an, fn, pl, a1, a2, a3, a4, a5, a6, a7, a8, a9, a10, a11, a12, a13, a14) (nI f) (nI p) := by
  obtain ⟨s, hs, es⟩ := hP.1 f hf
  by_cases h : p < s
  · obtain ⟨r, hr⟩ := cf_readsBefore (a2 := a2) (a5 := a5) (a6 := a6) hP hf hp8
    have hi : vp_in (nI (f * 9 + p)) 27 := pk_in (f * 9 + p) 27 (by omega)
    by_cases e : r = a6 (f * 9 + p)
    · refine ⟨0, a6, fun post an fn pl a7 a8 a9 a10 a11 a12 a13 a14 hp => ?_⟩
      unfold wpX_analyseAt
      dsimp only
      rw [nI_clamp (n := f) (by omega), es, cf_x9, nI_clamp (n := f * 9 + p) (by omega)]
      exact ⟨pk_in f 3 hf, br_t (nI_lt h (by omega)) (hr _ _ _ _ _ _ _ _ _ _ _ _ ⟨hi, br_t e hp⟩)⟩
    · refine ⟨1, upd a6 (f * 9 + p) r, fun post an fn pl a7 a8 a9 a10 a11 a12 a13 a14 hp => ?_⟩
      unfold wpX_analyseAt
      dsimp only
      rw [nI_clamp (n := f) (by omega), es, cf_x9, nI_clamp (n := f * 9 + p) (by omega)]
      exact ⟨pk_in f 3 hf, br_t (nI_lt h (by omega)) (hr _ _ _ _ _ _ _ _ _ _ _ _ ⟨hi, br_f e ⟨hi, nm_e hp⟩⟩)⟩
  · refine ⟨0, a6, fun post an fn pl a7 a8 a9 a10 a11 a12 a13 a14 hp => ?_⟩
    unfold wpX_analyseAt
    dsimp only
    rw [nI_clamp (n := f) (by omega), es]
    exact ⟨pk_in f 3 hf, br_f (nI_nlt (by omega) (by omega)) hp⟩
theorem cf_keptAt (hP : cf_P a1 a3 a4) {f p : Nat} (hf : f < 3) (hp8 : p < 8) : ∃ r : Int32, ∀ (post : Int32 → Prop) (an fn pl : Int32) (a7 a8 a9 a10 a11 a12 a13 a14 : Nat → Int32), post r → wpX_keptAt post (an, fn, pl, a1, a2, a3, a4, a5, a6, a7, a8, a9, a10, a11, a12, a13, a14) (nI f) (nI p) := by
  obtain ⟨r1, h1⟩ := cf_readsAt (a2 := a2) (a5 := a5) (a6 := a6) hP hf (nI p + 1)
  have hi : vp_in (nI (f * 8 + p)) 24 := pk_in (f * 8 + p) 24 (by omega)
  by_cases e : a2 (f * 8 + p) = 5
  · refine ⟨r1 &&& (((1 : Int32) <<< (a4 (f * 8 + p) &&& 31)) ^^^ (-1)), fun post an fn pl a7 a8 a9 a10 a11 a12 a13 a14 hp => ?_⟩
    unfold wpX_keptAt
    dsimp only
    rw [cf_x8]
    refine nm_e ⟨hi, ?_⟩
    rw [nI_clamp (n := f * 8 + p) (by omega)]
    refine br_t e ⟨hi, ?_⟩
    unfold wX_keptAt_32
    exact h1 _ _ _ _ _ _ _ _ _ _ _ _ hp
  · refine ⟨r1 &&& (((1 : Int32) <<< (a3 (f * 8 + p) &&& 31)) ^^^ (-1)), fun post an fn pl a7 a8 a9 a10 a11 a12 a13 a14 hp => ?_⟩
    unfold wpX_keptAt
    dsimp only
    rw [cf_x8]
    refine nm_e ⟨hi, ?_⟩
    rw [nI_clamp (n := f * 8 + p) (by omega)]
    refine br_f e ⟨hi, ?_⟩
    unfold wX_keptAt_32
    exact h1 _ _ _ _ _ _ _ _ _ _ _ _ hp
end
section
variable {a1 a2 a3 a4 a5 : Nat → Int32}
theorem cf_d8 {i : Nat} (h : i < 24) : nI i / 8 = nI (i / 8) := pk_div (d := 8) (by omega) (by omega) (by omega)
theorem cf_m8 {i : Nat} (h : i < 24) : nI i - nI i / 8 * 8 = nI (i % 8) := pk_rem (d := 8) (by omega) (by omega) (by omega)
theorem cf_an53 (hP : cf_P a1 a3 a4) : ∀ (i : Nat), i ≤ 24 → ∀ (x1 : Int32) (a6 : Nat → Int32), ∃ (y1 : Int32) (b6 : Nat → Int32), ∀ (post : St1 → Prop)
    (J : Int32 → Int32 → Int32 → Int32 → Int32 → (Nat → Int32) → (Nat → Int32) → (Nat → Int32) → (Nat → Int32) → (Nat → Int32) → (Nat → Int32) → (Nat → Int32) → (Nat → Int32) → (Nat → Int32) → (Nat → Int32) → (Nat → Int32) → (Nat → Int32) → (Nat → Int32) → (Nat → Int32) → Prop)
    (x2 : Int32) (an fn pl : Int32) (a7 a8 a9 a10 a11 a12 a13 a14 : Nat → Int32), J y1 (x2 + 1) an fn pl a1 a2 a3 a4 a5 b6 a7 a8 a9 a10 a11 a12 a13 a14 → wX_analyse_53 post J x2 (i + 1) x1 (nI i + (-1)) an fn pl a1 a2 a3 a4 a5 a6 a7 a8 a9 a10 a11 a12 a13 a14 := by
  intro i
  induction i with
  | zero =>
    intro _ x1 a6
    refine ⟨x1, a6, fun post J x2 an fn pl a7 a8 a9 a10 a11 a12 a13 a14 hJ => ?_⟩
    unfold wX_analyse_53
    exact br_t (by decide) (nm_e hJ)
  | succ i ih =>
    intro hi x1 a6
    have hi' : i < 24 := by omega
    obtain ⟨r, c6, hr⟩ := cf_analyseAt (a2 := a2) (a5 := a5) (a6 := a6) hP (f := i / 8) (p := i % 8) (by omega) (by omega)
    by_cases e1 : x1 = 0
    · by_cases e2 : r = 0
      · obtain ⟨y1, b6, h⟩ := ih (by omega) 0 c6
        refine ⟨y1, b6, fun post J x2 an fn pl a7 a8 a9 a10 a11 a12 a13 a14 hJ => ?_⟩
        unfold wX_analyse_53
        rw [pk_m1]
        refine br_f (nI_pos (by omega)) ⟨by decide, by decide, ?_⟩
        rw [cf_m8 hi', cf_d8 hi']
        exact hr _ _ _ _ _ _ _ _ _ _ _ _ (br_t e1 (br_t e2 (nm_e (h post J x2 _ _ _ _ _ _ _ _ _ _ _ hJ))))
      · obtain ⟨y1, b6, h⟩ := ih (by omega) 1 c6
        refine ⟨y1, b6, fun post J x2 an fn pl a7 a8 a9 a10 a11 a12 a13 a14 hJ => ?_⟩
        unfold wX_analyse_53
        rw [pk_m1]
        refine br_f (nI_pos (by omega)) ⟨by decide, by decide, ?_⟩
        rw [cf_m8 hi', cf_d8 hi']
        exact hr _ _ _ _ _ _ _ _ _ _ _ _ (br_t e1 (br_f e2 (nm_e (h post J x2 _ _ _ _ _ _ _ _ _ _ _ hJ))))
    · obtain ⟨y1, b6, h⟩ := ih (by omega) 1 c6
      refine ⟨y1, b6, fun post J x2 an fn pl a7 a8 a9 a10 a11 a12 a13 a14 hJ => ?_⟩
      unfold wX_analyse_53
      rw [pk_m1]
      refine br_f (nI_pos (by omega)) ⟨by decide, by decide, ?_⟩
      rw [cf_m8 hi', cf_d8 hi']
      exact hr _ _ _ _ _ _ _ _ _ _ _ _ (br_f e1 (nm_e (h post J x2 _ _ _ _ _ _ _ _ _ _ _ hJ)))
theorem cf_an38 (hP : cf_P a1 a3 a4) : ∀ (t k : Nat), k + t = 97 → ∀ (x1 : Int32) (a6 : Nat → Int32), ∃ (b6 : Nat → Int32), ∀ (post : St1 → Prop) (an fn pl : Int32) (a7 a8 a9 a10 a11 a12 a13 a14 : Nat → Int32),
    post (an, fn, pl, a1, a2, a3, a4, a5, b6, a7, a8, a9, a10, a11, a12, a13, a14) → wX_analyse_38 post (t + 1) x1 (nI k) an fn pl a1 a2 a3 a4 a5 a6 a7 a8 a9 a10 a11 a12 a13 a14 := by
  intro t
  induction t with
  | zero =>
    intro k hk x1 a6
    refine ⟨a6, fun post an fn pl a7 a8 a9 a10 a11 a12 a13 a14 hp => ?_⟩
    unfold wX_analyse_38
    exact pk_lt 96 k (fun _ => hp) (fun z => absurd z (by omega))
  | succ t ih =>
    intro k hk x1 a6
    by_cases e : x1 = 0
    · refine ⟨a6, fun post an fn pl a7 a8 a9 a10 a11 a12 a13 a14 hp => ?_⟩
      unfold wX_analyse_38
      exact pk_lt 96 k (fun _ => hp) (fun _ => br_t e hp)
    · obtain ⟨y1, c6, h1⟩ := cf_an53 (a2 := a2) (a5 := a5) hP 24 (by omega) 0 a6
      obtain ⟨b6, h⟩ := ih (k + 1) (by omega) y1 c6
      refine ⟨b6, fun post an fn pl a7 a8 a9 a10 a11 a12 a13 a14 hp => ?_⟩
      unfold wX_analyse_38
      refine pk_lt 96 k (fun z => absurd z (by omega)) (fun _ => br_f e ⟨25, ?_⟩)
      refine h1 post _ (nI k) _ _ _ _ _ _ _ _ _ _ _ ?_
      rw [nI_1]
      exact h post _ _ _ _ _ _ _ _ _ _ _ hp
theorem cf_u0 (k : Nat) : upd (fun _ => 0) k 0 = fun _ => 0 := by
  funext j
  by_cases e : j = k
  · subst e; rw [pk_us]
  · rw [pk_un e]
theorem cf_analyse (hP : cf_P a1 a3 a4) : ∃ rd : Nat → Int32, ∀ (post : St1 → Prop) (fn pl : Int32) (a7 a8 a9 a10 a11 a12 a13 a14 : Nat → Int32),
    post (1, fn, pl, a1, a2, a3, a4, a5, rd, a7, a8, a9, a10, a11, a12, a13, a14) → wpX_analyse post (0, fn, pl, a1, a2, a3, a4, a5, fun _ => 0, a7, a8, a9, a10, a11, a12, a13, a14) := by
  obtain ⟨rd, h⟩ := cf_an38 (a2 := a2) (a5 := a5) hP 97 0 (by omega) 1 (fun _ => 0)
  refine ⟨rd, fun post fn pl a7 a8 a9 a10 a11 a12 a13 a14 hp => ?_⟩
  unfold wpX_analyse
  dsimp only
  refine br_t rfl ?_
  exact pk_loop (σ := Unit) (fun n i _ => wX_analyse_15 post 1 fn pl n (nI i) a1 a2 a3 a4 a5 (fun _ => 0) a7 a8 a9 a10 a11 a12 a13 a14) (fun _ _ => True) 27 0 () (by omega) trivial
    (fun n _ _ => pk_le 27 27 (fun _ => ⟨98, h post _ _ _ _ _ _ _ _ _ _ _ hp⟩) (fun z => absurd z (by omega)))
    (fun n i _ hi _ hw => pk_le 27 i (fun z => absurd z (by omega)) (fun _ => ⟨pk_in i 27 hi, nm_r (cf_u0 _) (nm_r (nI_1 i) (hw () trivial))⟩))
end
end
section
section
theorem cf_un91 (kept : Int32) {i : Nat} (hi : i < 4) (pk : Nat → Int32) : ∀ (t r n : Nat), r + t = 4 → n ≤ r → ∀ rg : Nat → Int32, ∃ rh : Nat → Int32, ∀ (post : St1 → Prop) (c : Nat), c < 4 → ∀ (an fn pl : Int32) (a1 a2 a3 a4 a5 a6 a7 a8 a9 a10 a11 a12 a13 a14 : Nat → Int32),
    (∀ j, j < 16 → a13 (c * 16 + j) = pk j) → (∀ j, j < 4 → a14 j = rg j) → (∀ b14 : Nat → Int32, (∀ j, j < 4 → b14 j = rh j) → post (an, fn, pl, a1, a2, a3, a4, a5, a6, a7, a8, a9, a10, a11, a12, a13, b14)) →
    wX_unpack_91 post (nI (c * 4 + i)) kept an fn pl (t + 1) (nI n) (nI r) a1 a2 a3 a4 a5 a6 a7 a8 a9 a10 a11 a12 a13 a14 := by
  intro t
  induction t with
  | zero =>
    intro r n hr hn rg
    refine ⟨rg, fun post c hc an fn pl a1 a2 a3 a4 a5 a6 a7 a8 a9 a10 a11 a12 a13 a14 hk hg H => ?_⟩
    unfold wX_unpack_91
    exact pk_le 4 r (fun _ => H a14 hg) (fun z => absurd z (by omega))
  | succ t ih =>
    intro r n hr hn rg
    by_cases e : ((kept >>> (nI r &&& 31)) &&& 1) = 1
    · obtain ⟨rh, h⟩ := ih (r + 1) (n + 1) (by omega) (by omega) (upd rg r (pk (i * 4 + n)))
      refine ⟨rh, fun post c hc an fn pl a1 a2 a3 a4 a5 a6 a7 a8 a9 a10 a11 a12 a13 a14 hk hg H => ?_⟩
      unfold wX_unpack_91
      refine pk_le 4 r (fun z => absurd z (by omega)) (fun _ => br_t e ?_)
      rw [cf_x4, nI_clamp (n := (c * 4 + i) * 4 + n) (by omega), nI_clamp (n := r) (by omega)]
      refine ⟨pk_in ((c * 4 + i) * 4 + n) 64 (by omega), pk_in r 4 (by omega), nm_e (nm_r (nI_1 n) (nm_r (nI_1 r) (h post c hc an fn pl a1 a2 a3 a4 a5 a6 a7 a8 a9 a10 a11 a12 a13 _ hk (fun j hj => ?_) H)))⟩
      have t13 : a13 ((c * 4 + i) * 4 + n) = pk (i * 4 + n) := by
        rw [show (c * 4 + i) * 4 + n = c * 16 + (i * 4 + n) by omega]
        exact hk _ (by omega)
      rw [t13]
      by_cases ej : j = r
      · subst ej; rw [pk_us, pk_us]
      · rw [pk_un ej, pk_un ej]; exact hg j hj
    · obtain ⟨rh, h⟩ := ih (r + 1) n (by omega) (by omega) rg
      refine ⟨rh, fun post c hc an fn pl a1 a2 a3 a4 a5 a6 a7 a8 a9 a10 a11 a12 a13 a14 hk hg H => ?_⟩
      unfold wX_unpack_91
      exact pk_le 4 r (fun z => absurd z (by omega)) (fun _ => br_f e (nm_r (nI_1 r) (h post c hc an fn pl a1 a2 a3 a4 a5 a6 a7 a8 a9 a10 a11 a12 a13 a14 hk hg H)))
theorem cf_pk46 (kept : Int32) {i : Nat} (hi : i < 4) (rg : Nat → Int32) : ∀ (t r n : Nat), r + t = 4 → n ≤ r → ∀ pk : Nat → Int32, ∃ pk' : Nat → Int32, ∀ (post : St1 → Prop) (c : Nat), c < 4 → ∀ (Q : Nat → cf_M) (st vl dn dp : Int32) (ff fp : Nat → Int32) (an fn pl : Int32) (a1 a2 a3 a4 a5 a6 a7 a8 a9 a10 a11 a12 a13 a14 : Nat → Int32),
    cf_A (cf_set Q c (st, vl, dn, dp, ff, fp, pk)) a7 a8 a9 a10 a11 a12 a13 → (∀ j, j < 4 → a14 j = rg j) → (∀ b13 : Nat → Int32, cf_A (cf_set Q c (st, vl, dn, dp, ff, fp, pk')) a7 a8 a9 a10 a11 a12 b13 → post (an, fn, pl, a1, a2, a3, a4, a5, a6, a7, a8, a9, a10, a11, a12, b13, a14)) →
    wX_pack_46 post (nI (c * 4 + i)) kept an fn pl (t + 1) (nI n) (nI r) a1 a2 a3 a4 a5 a6 a7 a8 a9 a10 a11 a12 a13 a14 := by
  intro t
  induction t with
  | zero =>
    intro r n hr hn pk
    refine ⟨pk, fun post c hc Q st vl dn dp ff fp an fn pl a1 a2 a3 a4 a5 a6 a7 a8 a9 a10 a11 a12 a13 a14 hA hg H => ?_⟩
    unfold wX_pack_46
    exact pk_le 4 r (fun _ => H a13 hA) (fun z => absurd z (by omega))
  | succ t ih =>
    intro r n hr hn pk
    by_cases e : ((kept >>> (nI r &&& 31)) &&& 1) = 1
    · obtain ⟨pk', h⟩ := ih (r + 1) (n + 1) (by omega) (by omega) (upd pk (i * 4 + n) (rg r))
      refine ⟨pk', fun post c hc Q st vl dn dp ff fp an fn pl a1 a2 a3 a4 a5 a6 a7 a8 a9 a10 a11 a12 a13 a14 hA hg H => ?_⟩
      unfold wX_pack_46
      refine pk_le 4 r (fun z => absurd z (by omega)) (fun _ => br_t e ?_)
      rw [cf_x4, nI_clamp (n := (c * 4 + i) * 4 + n) (by omega), nI_clamp (n := r) (by omega), hg r (by omega)]
      exact ⟨pk_in r 4 (by omega), pk_in ((c * 4 + i) * 4 + n) 64 (by omega), nm_e (nm_r (nI_1 n) (nm_r (nI_1 r) (h post c hc Q st vl dn dp ff fp an fn pl a1 a2 a3 a4 a5 a6 a7 a8 a9 a10 a11 a12 _ a14 (cf_w13 hc (by omega) (by omega) hA) hg H)))⟩
    · obtain ⟨pk', h⟩ := ih (r + 1) n (by omega) (by omega) pk
      refine ⟨pk', fun post c hc Q st vl dn dp ff fp an fn pl a1 a2 a3 a4 a5 a6 a7 a8 a9 a10 a11 a12 a13 a14 hA hg H => ?_⟩
      unfold wX_pack_46
      exact pk_le 4 r (fun z => absurd z (by omega)) (fun _ => br_f e (nm_r (nI_1 r) (h post c hc Q st vl dn dp ff fp an fn pl a1 a2 a3 a4 a5 a6 a7 a8 a9 a10 a11 a12 a13 a14 hA hg H)))
end
section
variable {a1 a2 a3 a4 a5 a6 : Nat → Int32}
theorem cf_unpack (hP : cf_P a1 a3 a4) {i f : Nat} (hi : i < 4) (hf : f < 3) {st vl dn dp : Int32} {ff fp pk : Nat → Int32} (hff : ff i = nI f) (hfp : fp i < 0 ∨ ∃ p : Nat, p < 8 ∧ fp i = nI p) :
    ∃ rg : Nat → Int32, ∀ (post : St1 → Prop) (c : Nat), c < 4 → ∀ (Q : Nat → cf_M) (an fn pl : Int32) (a7 a8 a9 a10 a11 a12 a13 a14 : Nat → Int32), cf_A (cf_set Q c (st, vl, dn, dp, ff, fp, pk)) a7 a8 a9 a10 a11 a12 a13 →
      (∀ b14 : Nat → Int32, (∀ j, j < 4 → b14 j = rg j) → post (an, nI f, fp i, a1, a2, a3, a4, a5, a6, a7, a8, a9, a10, a11, a12, a13, b14)) → wpX_unpack post (an, fn, pl, a1, a2, a3, a4, a5, a6, a7, a8, a9, a10, a11, a12, a13, a14) (nI c) (nI i) := by
  have main : ∀ (rg : Nat → Int32), (∀ (post : St1 → Prop) (c : Nat), c < 4 → ∀ (Q : Nat → cf_M) (an : Int32) (a7 a8 a9 a10 a11 a12 a13 a14 : Nat → Int32), cf_A (cf_set Q c (st, vl, dn, dp, ff, fp, pk)) a7 a8 a9 a10 a11 a12 a13 → (∀ j, j < 4 → a14 j = 0) →
      (∀ b14 : Nat → Int32, (∀ j, j < 4 → b14 j = rg j) → post (an, nI f, fp i, a1, a2, a3, a4, a5, a6, a7, a8, a9, a10, a11, a12, a13, b14)) → ∀ n, wX_unpack_29 post (nI (c * 4 + i)) an (nI f) (fp i) (n + 1) (nI 4) a1 a2 a3 a4 a5 a6 a7 a8 a9 a10 a11 a12 a13 a14) →
      ∀ (post : St1 → Prop) (c : Nat), c < 4 → ∀ (Q : Nat → cf_M) (an fn pl : Int32) (a7 a8 a9 a10 a11 a12 a13 a14 : Nat → Int32), cf_A (cf_set Q c (st, vl, dn, dp, ff, fp, pk)) a7 a8 a9 a10 a11 a12 a13 →
      (∀ b14 : Nat → Int32, (∀ j, j < 4 → b14 j = rg j) → post (an, nI f, fp i, a1, a2, a3, a4, a5, a6, a7, a8, a9, a10, a11, a12, a13, b14)) → wpX_unpack post (an, fn, pl, a1, a2, a3, a4, a5, a6, a7, a8, a9, a10, a11, a12, a13, a14) (nI c) (nI i) := by
    intro rg K post c hc Q an fn pl a7 a8 a9 a10 a11 a12 a13 a14 hA H
    obtain ⟨r1, r2, r3, r4, r5, r6, r7⟩ := cf_at hc hA
    have e11 : a11 (c * 4 + i) = nI f := (r5 i hi).trans hff
    have e12 : a12 (c * 4 + i) = fp i := r6 i hi
    unfold wpX_unpack
    dsimp only
    rw [cf_x4]
    refine nm_e ⟨pk_in (c * 4 + i) 16 (by omega), ?_⟩
    rw [nI_clamp (n := c * 4 + i) (by omega), e11, e12]
    refine nm_e ⟨pk_in (c * 4 + i) 16 (by omega), nm_e ?_⟩
    refine pk_loop (fun n k s => wX_unpack_29 post (nI (c * 4 + i)) an (nI f) (fp i) n (nI k) a1 a2 a3 a4 a5 a6 a7 a8 a9 a10 a11 a12 a13 s) (fun k s => ∀ j, j < k → s j = 0) 4 0 a14 (by omega) (fun j hj => absurd hj (by omega))
      (fun n s h => K post c hc Q an a7 a8 a9 a10 a11 a12 a13 s hA h H n) (fun n k s hk h hw => pk_le 4 k (fun z => absurd z (by omega)) (fun _ => ⟨pk_in k 4 hk, ?_⟩))
    rw [nI_clamp (n := k) (by omega)]
    refine nm_e (nm_r (nI_1 k) (hw _ (fun j hj => ?_)))
    by_cases ej : j = k
    · subst ej; rw [pk_us]
    · rw [pk_un ej]; exact h j (by omega)
  rcases hfp with hneg | ⟨p, hp8, ep⟩
  · refine ⟨fun j => if j = 0 then pk (i * 4) else 0, main _ (fun post c hc Q an a7 a8 a9 a10 a11 a12 a13 a14 hA h0 H n => ?_)⟩
    obtain ⟨r1, r2, r3, r4, r5, r6, r7⟩ := cf_at hc hA
    unfold wX_unpack_29
    refine pk_le 4 4 (fun _ => br_f (Int32.not_le.mpr hneg) ?_) (fun z => absurd z (by omega))
    rw [cf_y4, nI_clamp (n := (c * 4 + i) * 4) (by omega)]
    refine ⟨pk_in ((c * 4 + i) * 4) 64 (by omega), nm_e (H _ (fun j hj => ?_))⟩
    by_cases ej : j = 0
    · rw [if_pos ej]
      subst ej
      rw [pk_us, show (c * 4 + i) * 4 = c * 16 + i * 4 by omega]
      exact r7 _ (by omega)
    · rw [if_neg ej, pk_un ej]; exact h0 j hj
  · obtain ⟨kept, hk⟩ := cf_keptAt (a2 := a2) (a5 := a5) (a6 := a6) hP hf hp8
    obtain ⟨rg, h⟩ := cf_un91 kept hi pk 4 0 0 (by omega) (by omega) (fun _ => 0)
    refine ⟨rg, main _ (fun post c hc Q an a7 a8 a9 a10 a11 a12 a13 a14 hA h0 H n => ?_)⟩
    obtain ⟨r1, r2, r3, r4, r5, r6, r7⟩ := cf_at hc hA
    rw [ep] at H ⊢
    unfold wX_unpack_29
    refine pk_le 4 4 (fun _ => br_t (nI_pos' (by omega)) ?_) (fun z => absurd z (by omega))
    exact hk _ _ _ _ _ _ _ _ _ _ _ _ ⟨5, h post c hc _ _ _ _ _ _ _ _ _ _ _ _ _ _ _ _ _ r7 h0 H⟩
theorem cf_pack (hP : cf_P a1 a3 a4) {i f p : Nat} (hi : i < 4) (hf : f < 3) (hp8 : p < 8) (rg pk : Nat → Int32) :
    ∃ pk' : Nat → Int32, ∀ (post : St1 → Prop) (c : Nat), c < 4 → ∀ (Q : Nat → cf_M) (st vl dn dp : Int32) (ff fp : Nat → Int32) (an : Int32) (a7 a8 a9 a10 a11 a12 a13 a14 : Nat → Int32), cf_A (cf_set Q c (st, vl, dn, dp, ff, fp, pk)) a7 a8 a9 a10 a11 a12 a13 → (∀ j, j < 4 → a14 j = rg j) →
      (∀ b11 b12 b13 : Nat → Int32, cf_A (cf_set Q c (st, vl, dn, dp, upd ff i (nI f), upd fp i (nI p), pk')) a7 a8 a9 a10 b11 b12 b13 → post (an, nI f, nI p, a1, a2, a3, a4, a5, a6, a7, a8, a9, a10, b11, b12, b13, a14)) → wpX_pack post (an, nI f, nI p, a1, a2, a3, a4, a5, a6, a7, a8, a9, a10, a11, a12, a13, a14) (nI c) (nI i) := by
  obtain ⟨kept, hk⟩ := cf_keptAt (a2 := a2) (a5 := a5) (a6 := a6) hP hf hp8
  obtain ⟨pk', h⟩ := cf_pk46 kept hi rg 4 0 0 (by omega) (by omega) pk
  refine ⟨pk', fun post c hc Q st vl dn dp ff fp an a7 a8 a9 a10 a11 a12 a13 a14 hA hg H => ?_⟩
  unfold wpX_pack
  dsimp only
  rw [cf_x4]
  refine nm_e ⟨pk_in (c * 4 + i) 16 (by omega), ?_⟩
  rw [nI_clamp (n := c * 4 + i) (by omega)]
  refine nm_e ⟨pk_in (c * 4 + i) 16 (by omega), nm_e ?_⟩
  exact hk _ _ _ _ _ _ _ _ _ _ _ _ ⟨5, h post c hc Q st vl dn dp _ _ _ _ _ _ _ _ _ _ _ _ _ _ _ _ _ _ _ (cf_w12 hc hi rfl (cf_w11 hc hi rfl hA)) hg (fun b13 hb => H _ _ _ hb)⟩
theorem cf_finish {post : St1 → Prop} {c : Nat} (hc : c < 4) {Q : Nat → cf_M} {st vl dn dp s v : Int32} {ff fp pk : Nat → Int32} {an fn pl : Int32} {a7 a8 a9 a10 a11 a12 a13 a14 : Nat → Int32} (hA : cf_A (cf_set Q c (st, vl, dn, dp, ff, fp, pk)) a7 a8 a9 a10 a11 a12 a13)
    (H : ∀ b7 b8 b10 : Nat → Int32, cf_A (cf_set Q c (s, v, dn, 0, ff, fp, pk)) b7 b8 a9 b10 a11 a12 a13 → post (an, fn, pl, a1, a2, a3, a4, a5, a6, b7, b8, a9, b10, a11, a12, a13, a14)) : wpX_finish post (an, fn, pl, a1, a2, a3, a4, a5, a6, a7, a8, a9, a10, a11, a12, a13, a14) (nI c) s v := by
  unfold wpX_finish
  dsimp only
  rw [nI_clamp (n := c) (by omega)]
  exact ⟨pk_in c 4 hc, nm_e ⟨pk_in c 4 hc, nm_e ⟨pk_in c 4 hc, nm_e (H _ _ _ (cf_w10 hc (cf_w8 hc (cf_w7 hc hA))))⟩⟩⟩
end
end
section
def cf_fr (ff fp : Nat → Int32) (i : Nat) : Prop := (∃ f : Nat, f < 3 ∧ ff i = nI f) ∧ (∃ p : Nat, p < 8 ∧ fp i = nI p)
def cf_run (d : Nat) (m : cf_M) (fn : Int32) : Prop := m.1 = 5 ∧ (∃ f : Nat, f < 3 ∧ fn = nI f) ∧ 1 ≤ d ∧ d ≤ 4 ∧ m.2.2.2.1 = nI d ∧ ∀ i, i + 1 < d → cf_fr m.2.2.2.2.1 m.2.2.2.2.2.1 i
def cf_dead (m : cf_M) : Prop := (m.1 = 0 ∨ m.1 = 3 ∨ m.1 = 4) ∧ m.2.2.2.1 = 0
def cf_wait (m : cf_M) : Prop := m.1 = 2 ∧ ∃ d : Nat, 1 ≤ d ∧ d ≤ 4 ∧ m.2.2.2.1 = nI d ∧ ∀ i, i < d → cf_fr m.2.2.2.2.1 m.2.2.2.2.2.1 i
def cf_ready (m : cf_M) : Prop := m.1 = 1 ∧ m.2.2.2.1 = 1 ∧ (∃ f : Nat, f < 3 ∧ m.2.2.2.2.1 0 = nI f) ∧ m.2.2.2.2.2.1 0 = -1
/-- a method takes the slice m and the frame at work (fn, pl, rg) to m' and (fn', pl', rg'), for whichever coroutine, and leaves the others -/
def cf_T (an : Int32) (a1 a2 a3 a4 a5 a6 : Nat → Int32) (W : (St1 → Prop) → St1 → Int32 → Prop) (m : cf_M) (fn pl : Int32) (rg : Nat → Int32) (m' : cf_M) (fn' pl' : Int32) (rg' : Nat → Int32) : Prop :=
  ∀ (post : St1 → Prop) (c : Nat), c < 4 → ∀ (Q : Nat → cf_M) (a7 a8 a9 a10 a11 a12 a13 a14 : Nat → Int32), cf_A (cf_set Q c m) a7 a8 a9 a10 a11 a12 a13 → (∀ j, j < 4 → a14 j = rg j) →
    (∀ b7 b8 b9 b10 b11 b12 b13 b14 : Nat → Int32, cf_A (cf_set Q c m') b7 b8 b9 b10 b11 b12 b13 → (∀ j, j < 4 → b14 j = rg' j) → post (an, fn', pl', a1, a2, a3, a4, a5, a6, b7, b8, b9, b10, b11, b12, b13, b14)) → W post (an, fn, pl, a1, a2, a3, a4, a5, a6, a7, a8, a9, a10, a11, a12, a13, a14) (nI c)
theorem cf_dead5 {m : cf_M} (h : cf_dead m) : ¬ m.1 = 5 := by
  intro e
  rcases h.1 with z | z | z <;> (rw [e] at z; exact absurd z (by decide))
theorem cf_wait5 {m : cf_M} (h : cf_wait m) : ¬ m.1 = 5 := by
  intro e
  have z := h.1
  rw [e] at z
  exact absurd z (by decide)
theorem cf_rgu {b g : Nat → Int32} {k : Nat} {v : Int32} (h : ∀ j, j < 4 → b j = g j) : ∀ j, j < 4 → upd b k v j = upd g k v j := by
  intro j hj
  by_cases e : j = k
  · subst e; rw [pk_us, pk_us]
  · rw [pk_un e, pk_un e]; exact h j hj
theorem cf_frs {ff fp : Nat → Int32} {e f p : Nat} (h : ∀ i, i + 1 < e + 1 → cf_fr ff fp i) (hf : f < 3) (hp : p < 8) : ∀ i, i < e + 1 → cf_fr (upd ff e (nI f)) (upd fp e (nI p)) i := by
  intro i hi
  by_cases ei : i = e
  · subst ei
    exact ⟨⟨f, hf, pk_us⟩, ⟨p, hp, pk_us⟩⟩
  · obtain ⟨⟨f', hf', e1⟩, ⟨p', hp', e2⟩⟩ := h i (by omega)
    exact ⟨⟨f', hf', by rw [pk_un ei]; exact e1⟩, ⟨p', hp', by rw [pk_un ei]; exact e2⟩⟩
section
variable {an : Int32} {a1 a2 a3 a4 a5 a6 : Nat → Int32}
theorem cf_giveBack (hP : cf_P a1 a3 a4) {d : Nat} {m : cf_M} {fn : Int32} (pl : Int32) (rg : Nat → Int32) (v : Int32) (hr : cf_run d m fn) : ∃ (m' : cf_M) (fn' pl' : Int32) (rg' : Nat → Int32),
    (cf_dead m' ∨ ∃ d', d' < d ∧ cf_run d' m' fn') ∧ cf_T an a1 a2 a3 a4 a5 a6 (fun post u x => wpX_giveBack post u x v) m fn pl rg m' fn' pl' rg' := by
  obtain ⟨st, vl, dn, dp, ff, fp, pk⟩ := m
  obtain ⟨h5, ⟨f, hf, rfl⟩, d1, d4, ed, hfr⟩ := hr
  dsimp only at h5 ed hfr
  subst h5 ed
  by_cases ed1 : d = 1
  · subst ed1
    refine ⟨(3, v, dn, 0, ff, fp, pk), nI f, pl, rg, Or.inl ⟨Or.inr (Or.inl rfl), rfl⟩, fun post c hc Q a7 a8 a9 a10 a11 a12 a13 a14 hA hR H => ?_⟩
    obtain ⟨r1, r2, r3, r4, r5, r6, r7⟩ := cf_at hc hA
    dsimp only at r4
    show wpX_giveBack post _ (nI c) v
    unfold wpX_giveBack
    dsimp only
    rw [nI_clamp (n := c) (by omega), r4, nI_pred 0]
    refine ⟨pk_in c 4 hc, pk_in c 4 hc, nm_e ⟨pk_in c 4 hc, ?_⟩⟩
    rw [pk_us]
    exact br_t rfl (cf_finish hc (cf_w10 hc hA) (fun b7 b8 b10 hb => H _ _ _ _ _ _ _ _ hb hR))
  · obtain ⟨e, rfl⟩ : ∃ e, d = e + 2 := ⟨d - 2, by omega⟩
    obtain ⟨⟨f', hf', eff⟩, ⟨p', hp', efp⟩⟩ := hfr e (by omega)
    obtain ⟨rg', hu⟩ := cf_unpack (a2 := a2) (a5 := a5) (a6 := a6) hP (i := e) (by omega) hf' (st := 5) (vl := vl) (dn := dn) (dp := nI (e + 1)) (ff := ff) (fp := fp) (pk := pk) eff (Or.inr ⟨p', hp', efp⟩)
    obtain ⟨ra, hra, era⟩ := hP.2.1 (f' * 8 + p') (by omega)
    refine ⟨(5, vl, dn, nI (e + 1), ff, fp, pk), nI f', nI (p' + 1), upd rg' ra v, Or.inr ⟨e + 1, by omega, rfl, ⟨f', hf', rfl⟩, by omega, by omega, rfl, fun i hi => hfr i (by omega)⟩, fun post c hc Q a7 a8 a9 a10 a11 a12 a13 a14 hA hR H => ?_⟩
    obtain ⟨r1, r2, r3, r4, r5, r6, r7⟩ := cf_at hc hA
    dsimp only at r4
    show wpX_giveBack post _ (nI c) v
    unfold wpX_giveBack
    dsimp only
    rw [nI_clamp (n := c) (by omega), r4, nI_pred (e + 1)]
    refine ⟨pk_in c 4 hc, pk_in c 4 hc, nm_e ⟨pk_in c 4 hc, ?_⟩⟩
    rw [pk_us, nI_pred e]
    refine br_f (nI_ne0 (by omega) (by omega)) ⟨pk_in c 4 hc, hu _ c hc Q _ _ _ _ _ _ _ _ _ _ _ (cf_w10 hc hA) (fun b14 hb => ?_)⟩
    dsimp only
    rw [efp, cf_x8, nI_clamp (n := f' * 8 + p') (by omega), era, nI_clamp (n := ra) (by omega)]
    exact ⟨pk_in (f' * 8 + p') 24 (by omega), pk_in ra 4 hra, nm_e (nm_r (nI_1 p') (H _ _ _ _ _ _ _ _ (cf_w10 hc hA) (cf_rgu hb)))⟩
theorem cf_raeno {post : St1 → Prop} {t k c : Nat} {fn pl : Int32} {a7 a8 a9 a10 a11 a12 a13 a14 : Nat → Int32} (hc : c < 4) (hk : k ≤ 4) (h7 : ¬ a7 c = 5) (hp : post (an, fn, pl, a1, a2, a3, a4, a5, a6, a7, a8, a9, a10, a11, a12, a13, a14)) : wX_returnAtEnd_2 post (nI c) (t + 1) (nI k) an fn pl a1 a2 a3 a4 a5 a6 a7 a8 a9 a10 a11 a12 a13 a14 := by
  unfold wX_returnAtEnd_2
  rw [nI_clamp (n := c) (by omega)]
  exact pk_le 4 k (fun _ => hp) (fun _ => ⟨pk_in c 4 hc, br_f h7 hp⟩)
theorem cf_rae2 (hP : cf_P a1 a3 a4) : ∀ (t k d : Nat) (m : cf_M) (fn pl : Int32) (rg : Nat → Int32), k + t = 4 → d ≤ t → cf_run d m fn → ∃ (m' : cf_M) (fn' pl' : Int32) (rg' : Nat → Int32),
    (cf_dead m' ∨ ((∃ d', cf_run d' m' fn') ∧ ∃ p : Nat, p < 8 ∧ pl' = nI p)) ∧ ∀ (post : St1 → Prop) (c : Nat), c < 4 → ∀ (Q : Nat → cf_M) (a7 a8 a9 a10 a11 a12 a13 a14 : Nat → Int32), cf_A (cf_set Q c m) a7 a8 a9 a10 a11 a12 a13 → (∀ j, j < 4 → a14 j = rg j) →
    (∀ b7 b8 b9 b10 b11 b12 b13 b14 : Nat → Int32, cf_A (cf_set Q c m') b7 b8 b9 b10 b11 b12 b13 → (∀ j, j < 4 → b14 j = rg' j) → post (an, fn', pl', a1, a2, a3, a4, a5, a6, b7, b8, b9, b10, b11, b12, b13, b14)) → wX_returnAtEnd_2 post (nI c) (t + 1) (nI k) an fn pl a1 a2 a3 a4 a5 a6 a7 a8 a9 a10 a11 a12 a13 a14 := by
  intro t
  induction t with
  | zero =>
    intro k d m fn pl rg hk hd hr
    exact absurd hr.2.2.1 (by omega)
  | succ t ih =>
    intro k d m fn pl rg hk hd hr
    have hr' := hr
    obtain ⟨h5, ⟨f, hf, ef⟩, d1, d4, ed, hfr⟩ := hr'
    obtain ⟨s, hs, es⟩ := hP.1 f hf
    by_cases hin : ∃ p : Nat, p < s ∧ pl = nI p
    · obtain ⟨p, hps, rfl⟩ := hin
      refine ⟨m, fn, nI p, rg, Or.inr ⟨⟨d, hr⟩, p, by omega, rfl⟩, fun post c hc Q a7 a8 a9 a10 a11 a12 a13 a14 hA hR H => ?_⟩
      have r1 := (cf_at hc hA).1
      unfold wX_returnAtEnd_2
      rw [nI_clamp (n := c) (by omega)]
      refine pk_le 4 k (fun z => absurd z (by omega)) (fun _ => ⟨pk_in c 4 hc, br_t (r1.trans h5) ?_⟩)
      unfold wpX_pastEnd
      dsimp only
      rw [ef, nI_clamp (n := f) (by omega), es, ← ef]
      exact br_f (nI_pos (by omega)) ⟨by rw [ef]; exact pk_in f 3 hf, br_t (nI_lt hps (by omega)) (br_t rfl (H _ _ _ _ _ _ _ _ hA hR))⟩
    · have hpast : ∀ (post : Int32 → Prop) (a7 a8 a9 a10 a11 a12 a13 a14 : Nat → Int32), post 1 → wpX_pastEnd post (an, fn, pl, a1, a2, a3, a4, a5, a6, a7, a8, a9, a10, a11, a12, a13, a14) := by
        intro post a7 a8 a9 a10 a11 a12 a13 a14 hp
        unfold wpX_pastEnd
        dsimp only
        rw [ef, nI_clamp (n := f) (by omega), es]
        by_cases z : pl < 0
        · exact br_t z hp
        · obtain ⟨p, hp2, rfl⟩ := nI_of z
          have hps : s ≤ p := Nat.not_lt.mp (fun y => hin ⟨p, y, rfl⟩)
          exact br_f z ⟨pk_in f 3 hf, br_f (nI_nlt hps hp2) hp⟩
      obtain ⟨m1, fn1, pl1, rg1, hor, hT⟩ := cf_giveBack (an := an) (a2 := a2) (a5 := a5) (a6 := a6) hP pl rg 0 hr
      rcases hor with hdead | ⟨e, he, hr1⟩
      · refine ⟨m1, fn1, pl1, rg1, Or.inl hdead, fun post c hc Q a7 a8 a9 a10 a11 a12 a13 a14 hA hR H => ?_⟩
        have r1 := (cf_at hc hA).1
        unfold wX_returnAtEnd_2
        rw [nI_clamp (n := c) (by omega)]
        refine pk_le 4 k (fun z => absurd z (by omega)) (fun _ => ⟨pk_in c 4 hc, br_t (r1.trans h5) (hpast _ _ _ _ _ _ _ _ _ (br_f (by decide) (hT _ c hc Q _ _ _ _ _ _ _ _ hA hR (fun b7 b8 b9 b10 b11 b12 b13 b14 hB hS => ?_))))⟩)
        exact nm_r (nI_1 k) (cf_raeno hc (by omega) (fun z => cf_dead5 hdead ((cf_at hc hB).1.symm.trans z)) (H _ _ _ _ _ _ _ _ hB hS))
      · obtain ⟨m2, fn2, pl2, rg2, hor2, h2⟩ := ih (k + 1) e m1 fn1 pl1 rg1 (by omega) (by omega) hr1
        refine ⟨m2, fn2, pl2, rg2, hor2, fun post c hc Q a7 a8 a9 a10 a11 a12 a13 a14 hA hR H => ?_⟩
        have r1 := (cf_at hc hA).1
        unfold wX_returnAtEnd_2
        rw [nI_clamp (n := c) (by omega)]
        refine pk_le 4 k (fun z => absurd z (by omega)) (fun _ => ⟨pk_in c 4 hc, br_t (r1.trans h5) (hpast _ _ _ _ _ _ _ _ _ (br_f (by decide) (hT _ c hc Q _ _ _ _ _ _ _ _ hA hR (fun b7 b8 b9 b10 b11 b12 b13 b14 hB hS => ?_))))⟩)
        exact nm_r (nI_1 k) (h2 post c hc Q _ _ _ _ _ _ _ _ hB hS H)
theorem cf_returnAtEnd (hP : cf_P a1 a3 a4) {d : Nat} {m : cf_M} {fn : Int32} (pl : Int32) (rg : Nat → Int32) (hr : cf_run d m fn) : ∃ (m' : cf_M) (fn' pl' : Int32) (rg' : Nat → Int32),
    (cf_dead m' ∨ ((∃ d', cf_run d' m' fn') ∧ ∃ p : Nat, p < 8 ∧ pl' = nI p)) ∧ cf_T an a1 a2 a3 a4 a5 a6 wpX_returnAtEnd m fn pl rg m' fn' pl' rg' := by
  obtain ⟨m2, fn2, pl2, rg2, hor2, h2⟩ := cf_rae2 (an := an) (a2 := a2) (a5 := a5) (a6 := a6) hP 4 0 d m fn pl rg (by omega) hr.2.2.2.1 hr
  refine ⟨m2, fn2, pl2, rg2, hor2, fun post c hc Q a7 a8 a9 a10 a11 a12 a13 a14 hA hR H => ?_⟩
  unfold wpX_returnAtEnd
  dsimp only
  exact ⟨5, h2 post c hc Q _ _ _ _ _ _ _ _ hA hR H⟩
theorem cf_returnNo {m : cf_M} {fn pl : Int32} {rg : Nat → Int32} (h : ¬ m.1 = 5) : cf_T an a1 a2 a3 a4 a5 a6 wpX_returnAtEnd m fn pl rg m fn pl rg := by
  intro post c hc Q a7 a8 a9 a10 a11 a12 a13 a14 hA hR H
  unfold wpX_returnAtEnd
  dsimp only
  exact ⟨1, cf_raeno (t := 0) (k := 0) hc (by omega) (fun z => h ((cf_at hc hA).1.symm.trans z)) (H _ _ _ _ _ _ _ _ hA hR)⟩
theorem cf_call89 {post : St1 → Prop} {x3 : Int32} {fn pl : Int32} {a7 a8 a9 a10 a11 a12 a13 a14 : Nat → Int32} (H : ∀ b14 : Nat → Int32, (∀ j, j < 4 → b14 j = if j = 0 then x3 else 0) → post (an, fn, pl, a1, a2, a3, a4, a5, a6, a7, a8, a9, a10, a11, a12, a13, b14)) : ∃ n, wX_call_89 post x3 an fn pl n 0 a1 a2 a3 a4 a5 a6 a7 a8 a9 a10 a11 a12 a13 a14 := by
  refine pk_loop (fun n k s => wX_call_89 post x3 an fn pl n (nI k) a1 a2 a3 a4 a5 a6 a7 a8 a9 a10 a11 a12 a13 s) (fun k s => ∀ j, j < k → s j = 0) 4 0 a14 (by omega) (fun j hj => absurd hj (by omega))
    (fun n s h => pk_le 4 4 (fun _ => nm_e (H _ (fun j hj => ?_))) (fun z => absurd z (by omega))) (fun n k s hk h hw => pk_le 4 k (fun z => absurd z (by omega)) (fun _ => ⟨pk_in k 4 hk, ?_⟩))
  · by_cases ej : j = 0
    · rw [if_pos ej, ej, pk_us]
    · rw [if_neg ej, pk_un ej]; exact h j hj
  · rw [nI_clamp (n := k) (by omega)]
    refine nm_e (nm_r (nI_1 k) (hw _ (fun j hj => ?_)))
    by_cases ej : j = k
    · subst ej; rw [pk_us]
    · rw [pk_un ej]; exact h j (by omega)
theorem cf_call (hP : cf_P a1 a3 a4) {d f p : Nat} {m : cf_M} (rg : Nat → Int32) (hf : f < 3) (hp8 : p < 8) (hr : cf_run d m (nI f)) : ∃ (m' : cf_M) (fn' pl' : Int32) (rg' : Nat → Int32),
    (cf_dead m' ∨ ∃ d', cf_run d' m' fn') ∧ cf_T an a1 a2 a3 a4 a5 a6 (fun post u x => wpX_call post u x (nI (f * 8 + p))) m (nI f) (nI p) rg m' fn' pl' rg' := by
  obtain ⟨st, vl, dn, dp, ff, fp, pk⟩ := m
  obtain ⟨h5, _, d1, d4, ed, hfr⟩ := hr
  dsimp only at h5 ed hfr
  subst h5 ed
  obtain ⟨e, rfl⟩ : ∃ e, d = e + 1 := ⟨d - 1, by omega⟩
  by_cases hd : e + 1 < 4
  · obtain ⟨pk', hk⟩ := cf_pack (a2 := a2) (a5 := a5) (a6 := a6) hP (i := e) (by omega) hf hp8 rg pk
    obtain ⟨ra, hra, era⟩ := hP.2.1 (f * 8 + p) (by omega)
    obtain ⟨j, hj, j1, j2⟩ := cf_rem3 (a5 (f * 8 + p))
    refine ⟨(5, vl, dn, nI (e + 2), upd ff e (nI f), upd fp e (nI p), pk'), nI j, 0, fun r => if r = 0 then rg ra else 0, Or.inr ⟨e + 2, rfl, ⟨j, hj, rfl⟩, by omega, by omega, rfl, fun i hi => cf_frs hfr hf hp8 i (by omega)⟩, fun post c hc Q a7 a8 a9 a10 a11 a12 a13 a14 hA hR H => ?_⟩
    have r4 := (cf_at hc hA).2.2.2.1
    dsimp only at r4
    show wpX_call post _ (nI c) _
    unfold wpX_call
    dsimp only
    rw [nI_clamp (n := c) (by omega), nI_clamp (n := f * 8 + p) (by omega), r4, era, nI_clamp (n := ra) (by omega), hR ra hra, nI_pred e]
    refine ⟨pk_in c 4 hc, br_t (nI_lt (b := 4) hd (by omega)) ⟨pk_in (f * 8 + p) 24 (by omega), pk_in ra 4 hra, nm_e ⟨pk_in c 4 hc, hk _ c hc Q _ _ _ _ _ _ _ _ _ _ _ _ _ _ _ hA hR (fun b11 b12 b13 hb => ?_)⟩⟩⟩
    dsimp only
    rw [r4, nI_1]
    refine ⟨pk_in c 4 hc, pk_in c 4 hc, nm_e ⟨pk_in (f * 8 + p) 24 (by omega), by decide, nm_e ?_⟩⟩
    by_cases z : 0 ≤ a5 (f * 8 + p) - a5 (f * 8 + p) / 3 * 3
    · refine br_t z ?_
      rw [j1 z]
      exact cf_call89 (fun b14 h14 => H _ _ _ _ _ _ _ _ (cf_w10 hc hb) h14)
    · refine br_f z ?_
      rw [j2 z]
      exact nm_e (cf_call89 (fun b14 h14 => H _ _ _ _ _ _ _ _ (cf_w10 hc hb) h14))
  · refine ⟨(4, 0, dn, 0, ff, fp, pk), nI f, nI p, rg, Or.inl ⟨Or.inr (Or.inr rfl), rfl⟩, fun post c hc Q a7 a8 a9 a10 a11 a12 a13 a14 hA hR H => ?_⟩
    have r4 := (cf_at hc hA).2.2.2.1
    dsimp only at r4
    show wpX_call post _ (nI c) _
    unfold wpX_call
    dsimp only
    rw [nI_clamp (n := c) (by omega), r4]
    exact ⟨pk_in c 4 hc, br_f (nI_nlt (b := 4) (by omega) (by omega)) (cf_finish hc hA (fun b7 b8 b10 hb => H _ _ _ _ _ _ _ _ hb hR))⟩
end
end
section
section
variable {an : Int32} {a1 a2 a3 a4 a5 a6 : Nat → Int32}
theorem cf_perform (hP : cf_P a1 a3 a4) {d p : Nat} {m : cf_M} {fn : Int32} (rg : Nat → Int32) (hp8 : p < 8) (hr : cf_run d m fn) : ∃ (m' : cf_M) (fn' pl' : Int32) (rg' : Nat → Int32),
    (cf_dead m' ∨ cf_wait m' ∨ ∃ d', cf_run d' m' fn') ∧ cf_T an a1 a2 a3 a4 a5 a6 wpX_perform m fn (nI p) rg m' fn' pl' rg' := by
  obtain ⟨st, vl, dn, dp, ff, fp, pk⟩ := m
  have hr' := hr
  obtain ⟨h5, ⟨f, hf, rfl⟩, d1, d4, ed, hfr⟩ := hr'
  dsimp only at h5 ed hfr
  subst h5 ed
  obtain ⟨ra, hra, era⟩ := hP.2.1 (f * 8 + p) (by omega)
  obtain ⟨rb, hrb, erb⟩ := hP.2.2 (f * 8 + p) (by omega)
  have hi : vp_in (nI (f * 8 + p)) 24 := pk_in (f * 8 + p) 24 (by omega)
  by_cases c0 : a2 (f * 8 + p) < 0
  · obtain ⟨m', fn', pl', rg', hor, hT⟩ := cf_giveBack (an := an) (a2 := a2) (a5 := a5) (a6 := a6) hP (nI p) rg (rg ra) hr
    refine ⟨m', fn', pl', rg', hor.elim Or.inl (fun ⟨e, _, h⟩ => Or.inr (Or.inr ⟨e, h⟩)), fun post c hc Q a7 a8 a9 a10 a11 a12 a13 a14 hA hR H => ?_⟩
    have r4 := (cf_at hc hA).2.2.2.1
    dsimp only at r4
    unfold wpX_perform
    dsimp only
    rw [cf_x8]
    refine nm_e ⟨hi, ?_⟩
    rw [nI_clamp (n := f * 8 + p) (by omega), era, erb]
    refine nm_e ⟨hi, nm_e ⟨hi, nm_e ?_⟩⟩
    rw [nI_clamp (n := ra) (by omega)]
    rw [hR ra hra]
    exact br_t c0 ⟨pk_in ra 4 hra, hT _ c hc Q _ _ _ _ _ _ _ _ hA hR H⟩
  by_cases c1 : 6 < a2 (f * 8 + p)
  · obtain ⟨m', fn', pl', rg', hor, hT⟩ := cf_giveBack (an := an) (a2 := a2) (a5 := a5) (a6 := a6) hP (nI p) rg (rg ra) hr
    refine ⟨m', fn', pl', rg', hor.elim Or.inl (fun ⟨e, _, h⟩ => Or.inr (Or.inr ⟨e, h⟩)), fun post c hc Q a7 a8 a9 a10 a11 a12 a13 a14 hA hR H => ?_⟩
    have r4 := (cf_at hc hA).2.2.2.1
    dsimp only at r4
    unfold wpX_perform
    dsimp only
    rw [cf_x8]
    refine nm_e ⟨hi, ?_⟩
    rw [nI_clamp (n := f * 8 + p) (by omega), era, erb]
    refine nm_e ⟨hi, nm_e ⟨hi, nm_e ?_⟩⟩
    rw [nI_clamp (n := ra) (by omega)]
    rw [hR ra hra]
    exact br_f c0 (br_t c1 ⟨pk_in ra 4 hra, hT _ c hc Q _ _ _ _ _ _ _ _ hA hR H⟩)
  by_cases k0 : a2 (f * 8 + p) = 0
  · refine ⟨(5, vl, dn, nI d, ff, fp, pk), nI f, nI p + 1, upd rg ra (a5 (f * 8 + p)), Or.inr (Or.inr ⟨d, hr⟩), fun post c hc Q a7 a8 a9 a10 a11 a12 a13 a14 hA hR H => ?_⟩
    have r4 := (cf_at hc hA).2.2.2.1
    dsimp only at r4
    unfold wpX_perform
    dsimp only
    rw [cf_x8]
    refine nm_e ⟨hi, ?_⟩
    rw [nI_clamp (n := f * 8 + p) (by omega), era, erb]
    refine nm_e ⟨hi, nm_e ⟨hi, nm_e ?_⟩⟩
    rw [nI_clamp (n := ra) (by omega)]
    exact br_f c0 (br_f c1 (br_t k0 ⟨hi, pk_in ra 4 hra, nm_e (nm_e (H _ _ _ _ _ _ _ _ hA (cf_rgu hR)))⟩))
  by_cases k1 : a2 (f * 8 + p) = 1
  · refine ⟨(5, vl, dn, nI d, ff, fp, pk), nI f, nI p + 1, upd rg ra (rg ra + rg rb), Or.inr (Or.inr ⟨d, hr⟩), fun post c hc Q a7 a8 a9 a10 a11 a12 a13 a14 hA hR H => ?_⟩
    have r4 := (cf_at hc hA).2.2.2.1
    dsimp only at r4
    unfold wpX_perform
    dsimp only
    rw [cf_x8]
    refine nm_e ⟨hi, ?_⟩
    rw [nI_clamp (n := f * 8 + p) (by omega), era, erb]
    refine nm_e ⟨hi, nm_e ⟨hi, nm_e ?_⟩⟩
    rw [nI_clamp (n := ra) (by omega)]
    rw [nI_clamp (n := rb) (by omega), hR ra hra, hR rb hrb]
    exact br_f c0 (br_f c1 (br_f k0 (br_t k1 ⟨pk_in ra 4 hra, pk_in rb 4 hrb, pk_in ra 4 hra, nm_e (nm_e (H _ _ _ _ _ _ _ _ hA (cf_rgu hR)))⟩)))
  by_cases k2 : a2 (f * 8 + p) = 2
  · refine ⟨(5, vl, dn, nI d, ff, fp, pk), nI f, nI p + 1, upd rg ra (rg ra - rg rb), Or.inr (Or.inr ⟨d, hr⟩), fun post c hc Q a7 a8 a9 a10 a11 a12 a13 a14 hA hR H => ?_⟩
    have r4 := (cf_at hc hA).2.2.2.1
    dsimp only at r4
    unfold wpX_perform
    dsimp only
    rw [cf_x8]
    refine nm_e ⟨hi, ?_⟩
    rw [nI_clamp (n := f * 8 + p) (by omega), era, erb]
    refine nm_e ⟨hi, nm_e ⟨hi, nm_e ?_⟩⟩
    rw [nI_clamp (n := ra) (by omega)]
    rw [nI_clamp (n := rb) (by omega), hR ra hra, hR rb hrb]
    exact br_f c0 (br_f c1 (br_f k0 (br_f k1 (br_t k2 ⟨pk_in ra 4 hra, pk_in rb 4 hrb, pk_in ra 4 hra, nm_e (nm_e (H _ _ _ _ _ _ _ _ hA (cf_rgu hR)))⟩))))
  by_cases k3 : a2 (f * 8 + p) = 3
  · refine ⟨(5, vl, dn, nI d, ff, fp, pk), nI f, a5 (f * 8 + p), rg, Or.inr (Or.inr ⟨d, hr⟩), fun post c hc Q a7 a8 a9 a10 a11 a12 a13 a14 hA hR H => ?_⟩
    have r4 := (cf_at hc hA).2.2.2.1
    dsimp only at r4
    unfold wpX_perform
    dsimp only
    rw [cf_x8]
    refine nm_e ⟨hi, ?_⟩
    rw [nI_clamp (n := f * 8 + p) (by omega), era, erb]
    refine nm_e ⟨hi, nm_e ⟨hi, nm_e ?_⟩⟩
    rw [nI_clamp (n := ra) (by omega)]
    exact br_f c0 (br_f c1 (br_f k0 (br_f k1 (br_f k2 (br_t k3 ⟨hi, nm_e (H _ _ _ _ _ _ _ _ hA hR)⟩)))))
  by_cases k4 : a2 (f * 8 + p) = 4
  · by_cases z : rg ra ≤ 0
    · refine ⟨(5, vl, dn, nI d, ff, fp, pk), nI f, nI p + 1, rg, Or.inr (Or.inr ⟨d, hr⟩), fun post c hc Q a7 a8 a9 a10 a11 a12 a13 a14 hA hR H => ?_⟩
      have r4 := (cf_at hc hA).2.2.2.1
      dsimp only at r4
      unfold wpX_perform
      dsimp only
      rw [cf_x8]
      refine nm_e ⟨hi, ?_⟩
      rw [nI_clamp (n := f * 8 + p) (by omega), era, erb]
      refine nm_e ⟨hi, nm_e ⟨hi, nm_e ?_⟩⟩
      rw [nI_clamp (n := ra) (by omega)]
      rw [hR ra hra]
      exact br_f c0 (br_f c1 (br_f k0 (br_f k1 (br_f k2 (br_f k3 (br_t k4 ⟨pk_in ra 4 hra, br_t z (nm_e (H _ _ _ _ _ _ _ _ hA hR))⟩))))))
    · refine ⟨(5, vl, dn, nI d, ff, fp, pk), nI f, a5 (f * 8 + p), rg, Or.inr (Or.inr ⟨d, hr⟩), fun post c hc Q a7 a8 a9 a10 a11 a12 a13 a14 hA hR H => ?_⟩
      have r4 := (cf_at hc hA).2.2.2.1
      dsimp only at r4
      unfold wpX_perform
      dsimp only
      rw [cf_x8]
      refine nm_e ⟨hi, ?_⟩
      rw [nI_clamp (n := f * 8 + p) (by omega), era, erb]
      refine nm_e ⟨hi, nm_e ⟨hi, nm_e ?_⟩⟩
      rw [nI_clamp (n := ra) (by omega)]
      rw [hR ra hra]
      exact br_f c0 (br_f c1 (br_f k0 (br_f k1 (br_f k2 (br_f k3 (br_t k4 ⟨pk_in ra 4 hra, br_f z ⟨hi, nm_e (H _ _ _ _ _ _ _ _ hA hR)⟩⟩))))))
  by_cases k5 : a2 (f * 8 + p) = 5
  · obtain ⟨e, rfl⟩ : ∃ e, d = e + 1 := ⟨d - 1, by omega⟩
    obtain ⟨pk', hk⟩ := cf_pack (a2 := a2) (a5 := a5) (a6 := a6) hP (i := e) (by omega) hf hp8 rg pk
    refine ⟨(2, rg ra, dn, nI (e + 1), upd ff e (nI f), upd fp e (nI p), pk'), nI f, nI p, rg, Or.inr (Or.inl ⟨rfl, e + 1, by omega, by omega, rfl, cf_frs hfr hf hp8⟩), fun post c hc Q a7 a8 a9 a10 a11 a12 a13 a14 hA hR H => ?_⟩
    have r4 := (cf_at hc hA).2.2.2.1
    dsimp only at r4
    unfold wpX_perform
    dsimp only
    rw [cf_x8]
    refine nm_e ⟨hi, ?_⟩
    rw [nI_clamp (n := f * 8 + p) (by omega), era, erb]
    refine nm_e ⟨hi, nm_e ⟨hi, nm_e ?_⟩⟩
    rw [nI_clamp (n := ra) (by omega)]
    rw [nI_clamp (n := c) (by omega), hR ra hra, r4, nI_pred e]
    exact br_f c0 (br_f c1 (br_f k0 (br_f k1 (br_f k2 (br_f k3 (br_f k4 (br_t k5 ⟨pk_in c 4 hc, nm_e ⟨pk_in ra 4 hra, pk_in c 4 hc, nm_e ⟨pk_in c 4 hc, hk _ c hc Q _ _ _ _ _ _ _ _ _ _ _ _ _ _ _ (cf_w8 hc (cf_w7 hc hA)) hR (fun b11 b12 b13 hb => H _ _ _ _ _ _ _ _ hb hR)⟩⟩⟩)))))))
  by_cases k6 : a2 (f * 8 + p) = 6
  · obtain ⟨m', fn', pl', rg', hor, hT⟩ := cf_call (an := an) (a2 := a2) (a5 := a5) (a6 := a6) hP rg hf hp8 hr
    refine ⟨m', fn', pl', rg', hor.elim Or.inl (fun h => Or.inr (Or.inr h)), fun post c hc Q a7 a8 a9 a10 a11 a12 a13 a14 hA hR H => ?_⟩
    have r4 := (cf_at hc hA).2.2.2.1
    dsimp only at r4
    unfold wpX_perform
    dsimp only
    rw [cf_x8]
    refine nm_e ⟨hi, ?_⟩
    rw [nI_clamp (n := f * 8 + p) (by omega), era, erb]
    refine nm_e ⟨hi, nm_e ⟨hi, nm_e ?_⟩⟩
    rw [nI_clamp (n := ra) (by omega)]
    exact br_f c0 (br_f c1 (br_f k0 (br_f k1 (br_f k2 (br_f k3 (br_f k4 (br_f k5 (br_t k6 (hT _ c hc Q _ _ _ _ _ _ _ _ hA hR H)))))))))
  · refine ⟨(5, vl, dn, nI d, ff, fp, pk), nI f, nI p, rg, Or.inr (Or.inr ⟨d, hr⟩), fun post c hc Q a7 a8 a9 a10 a11 a12 a13 a14 hA hR H => ?_⟩
    have r4 := (cf_at hc hA).2.2.2.1
    dsimp only at r4
    unfold wpX_perform
    dsimp only
    rw [cf_x8]
    refine nm_e ⟨hi, ?_⟩
    rw [nI_clamp (n := f * 8 + p) (by omega), era, erb]
    refine nm_e ⟨hi, nm_e ⟨hi, nm_e ?_⟩⟩
    rw [nI_clamp (n := ra) (by omega)]
    exact br_f c0 (br_f c1 (br_f k0 (br_f k1 (br_f k2 (br_f k3 (br_f k4 (br_f k5 (br_f k6 (trivial)))))))))
/-- behind the loop of carryOn -/
theorem cf_co53 (x2 : Int32) {m : cf_M} {fn : Int32} (h : cf_dead m ∨ cf_wait m ∨ ∃ d, cf_run d m fn) : ∃ m' : cf_M, (cf_dead m' ∨ cf_wait m') ∧ ∀ (post : St1 → Prop) (c : Nat), c < 4 → ∀ (Q : Nat → cf_M) (fn pl : Int32) (a7 a8 a9 a10 a11 a12 a13 a14 : Nat → Int32), cf_A (cf_set Q c m) a7 a8 a9 a10 a11 a12 a13 →
    (∀ b7 b8 b9 b10 b11 b12 b13 : Nat → Int32, cf_A (cf_set Q c m') b7 b8 b9 b10 b11 b12 b13 → post (an, fn, pl, a1, a2, a3, a4, a5, a6, b7, b8, b9, b10, b11, b12, b13, a14)) → wX_carryOn_53 post (nI c) x2 an fn pl a1 a2 a3 a4 a5 a6 a7 a8 a9 a10 a11 a12 a13 a14 := by
  obtain ⟨st, vl, dn, dp, ff, fp, pk⟩ := m
  by_cases e : st = 5
  · refine ⟨(4, 0, x2, 0, ff, fp, pk), Or.inl ⟨Or.inr (Or.inr rfl), rfl⟩, fun post c hc Q fn pl a7 a8 a9 a10 a11 a12 a13 a14 hA H => ?_⟩
    have r1 := (cf_at hc hA).1
    unfold wX_carryOn_53
    rw [nI_clamp (n := c) (by omega)]
    exact ⟨pk_in c 4 hc, br_t (r1.trans e) (cf_finish hc hA (fun b7 b8 b10 hb => ⟨pk_in c 4 hc, nm_e (H _ _ _ _ _ _ _ (cf_w9 hc hb))⟩))⟩
  · have hor : cf_dead (st, vl, x2, dp, ff, fp, pk) ∨ cf_wait (st, vl, x2, dp, ff, fp, pk) := by
      rcases h with h | h | ⟨d, h⟩
      · exact Or.inl h
      · exact Or.inr h
      · exact absurd h.1 e
    refine ⟨(st, vl, x2, dp, ff, fp, pk), hor, fun post c hc Q fn pl a7 a8 a9 a10 a11 a12 a13 a14 hA H => ?_⟩
    have r1 := (cf_at hc hA).1
    unfold wX_carryOn_53
    rw [nI_clamp (n := c) (by omega)]
    exact ⟨pk_in c 4 hc, br_f (fun z => e (r1.symm.trans z)) ⟨pk_in c 4 hc, nm_e (H _ _ _ _ _ _ _ (cf_w9 hc hA))⟩⟩
/-- one turn of the loop of carryOn: an instruction, and the frames that are at an end -/
theorem cf_turn (hP : cf_P a1 a3 a4) {d p : Nat} {m : cf_M} {fn : Int32} (rg : Nat → Int32) (hp8 : p < 8) (hr : cf_run d m fn) : ∃ (m1 m' : cf_M) (fn1 pl1 fn' pl' : Int32) (rg1 rg' : Nat → Int32),
    (cf_dead m' ∨ cf_wait m' ∨ ((∃ d', cf_run d' m' fn') ∧ ∃ p : Nat, p < 8 ∧ pl' = nI p)) ∧ cf_T an a1 a2 a3 a4 a5 a6 wpX_perform m fn (nI p) rg m1 fn1 pl1 rg1 ∧ cf_T an a1 a2 a3 a4 a5 a6 wpX_returnAtEnd m1 fn1 pl1 rg1 m' fn' pl' rg' := by
  obtain ⟨m1, fn1, pl1, rg1, hor, hT⟩ := cf_perform (an := an) (a2 := a2) (a5 := a5) (a6 := a6) hP rg hp8 hr
  rcases hor with h | h | ⟨e, h⟩
  · exact ⟨m1, m1, fn1, pl1, fn1, pl1, rg1, rg1, Or.inl h, hT, cf_returnNo (cf_dead5 h)⟩
  · exact ⟨m1, m1, fn1, pl1, fn1, pl1, rg1, rg1, Or.inr (Or.inl h), hT, cf_returnNo (cf_wait5 h)⟩
  · obtain ⟨m', fn', pl', rg', hor, hT2⟩ := cf_returnAtEnd (an := an) (a2 := a2) (a5 := a5) (a6 := a6) hP pl1 rg1 h
    exact ⟨m1, m', fn1, pl1, fn', pl', rg1, rg', hor.elim Or.inl (fun h => Or.inr (Or.inr h)), hT, hT2⟩
theorem cf_co21 (hP : cf_P a1 a3 a4) : ∀ (t k : Nat) (m : cf_M) (fn pl : Int32) (rg : Nat → Int32), k + t = 80 → (cf_dead m ∨ cf_wait m ∨ ((∃ d, cf_run d m fn) ∧ ∃ p : Nat, p < 8 ∧ pl = nI p)) → ∃ m' : cf_M, (cf_dead m' ∨ cf_wait m') ∧
    ∀ (post : St1 → Prop) (c : Nat), c < 4 → ∀ (Q : Nat → cf_M) (a7 a8 a9 a10 a11 a12 a13 a14 : Nat → Int32), cf_A (cf_set Q c m) a7 a8 a9 a10 a11 a12 a13 → (∀ j, j < 4 → a14 j = rg j) →
    (∀ (fn' pl' : Int32) (b7 b8 b9 b10 b11 b12 b13 b14 : Nat → Int32), cf_A (cf_set Q c m') b7 b8 b9 b10 b11 b12 b13 → post (an, fn', pl', a1, a2, a3, a4, a5, a6, b7, b8, b9, b10, b11, b12, b13, b14)) → wX_carryOn_21 post (nI c) (t + 1) (nI k) an fn pl a1 a2 a3 a4 a5 a6 a7 a8 a9 a10 a11 a12 a13 a14 := by
  intro t
  induction t with
  | zero =>
    intro k m fn pl rg hk h
    obtain ⟨m', hor, h53⟩ := cf_co53 (an := an) (a1 := a1) (a2 := a2) (a3 := a3) (a4 := a4) (a5 := a5) (a6 := a6) (nI k) (m := m) (fn := fn) (h.elim Or.inl (fun h => h.elim (fun h => Or.inr (Or.inl h)) (fun h => Or.inr (Or.inr h.1))))
    refine ⟨m', hor, fun post c hc Q a7 a8 a9 a10 a11 a12 a13 a14 hA hR H => ?_⟩
    unfold wX_carryOn_21
    exact pk_le 80 k (fun _ => h53 post c hc Q _ _ _ _ _ _ _ _ _ _ hA (fun b7 b8 b9 b10 b11 b12 b13 hB => H _ _ _ _ _ _ _ _ _ _ hB)) (fun z => absurd z (by omega))
  | succ t ih =>
    intro k m fn pl rg hk h
    by_cases e : m.1 = 5
    · have hrun : (∃ d, cf_run d m fn) ∧ ∃ p : Nat, p < 8 ∧ pl = nI p := by
        rcases h with h | h | h
        · exact absurd e (cf_dead5 h)
        · exact absurd e (cf_wait5 h)
        · exact h
      obtain ⟨⟨d, hr⟩, p, hp8, rfl⟩ := hrun
      obtain ⟨m1, m2, fn1, pl1, fn2, pl2, rg1, rg2, hor, hT1, hT2⟩ := cf_turn (an := an) (a2 := a2) (a5 := a5) (a6 := a6) hP rg hp8 hr
      obtain ⟨m', hor', h'⟩ := ih (k + 1) m2 fn2 pl2 rg2 (by omega) hor
      refine ⟨m', hor', fun post c hc Q a7 a8 a9 a10 a11 a12 a13 a14 hA hR H => ?_⟩
      have r1 := (cf_at hc hA).1
      unfold wX_carryOn_21
      rw [nI_clamp (n := c) (by omega)]
      refine pk_le 80 k (fun z => absurd z (by omega)) (fun _ => ⟨pk_in c 4 hc, br_t (r1.trans e) (hT1 _ c hc Q _ _ _ _ _ _ _ _ hA hR (fun b7 b8 b9 b10 b11 b12 b13 b14 hB hS => ?_))⟩)
      refine nm_r (nI_1 k) (hT2 _ c hc Q _ _ _ _ _ _ _ _ hB hS (fun e7 e8 e9 e10 e11 e12 e13 e14 hE hF => ?_))
      exact h' post c hc Q _ _ _ _ _ _ _ _ hE hF H
    · obtain ⟨m', hor, h53⟩ := cf_co53 (an := an) (a1 := a1) (a2 := a2) (a3 := a3) (a4 := a4) (a5 := a5) (a6 := a6) (nI k) (m := m) (fn := fn) (h.elim Or.inl (fun h => h.elim (fun h => Or.inr (Or.inl h)) (fun h => Or.inr (Or.inr h.1))))
      refine ⟨m', hor, fun post c hc Q a7 a8 a9 a10 a11 a12 a13 a14 hA hR H => ?_⟩
      have r1 := (cf_at hc hA).1
      unfold wX_carryOn_21
      rw [nI_clamp (n := c) (by omega)]
      exact pk_le 80 k (fun z => absurd z (by omega)) (fun _ => ⟨pk_in c 4 hc, br_f (fun z => e (r1.symm.trans z)) (h53 post c hc Q _ _ _ _ _ _ _ _ _ _ hA (fun b7 b8 b9 b10 b11 b12 b13 hB => H _ _ _ _ _ _ _ _ _ _ hB))⟩)
theorem cf_carryOn (hP : cf_P a1 a3 a4) {d : Nat} {st vl dn dp : Int32} {ff fp pk : Nat → Int32} {fn : Int32} (pl : Int32) (rg : Nat → Int32) (hr : cf_run d (5, 0, dn, dp, ff, fp, pk) fn) : ∃ m' : cf_M, (cf_dead m' ∨ cf_wait m') ∧
    ∀ (post : St1 → Prop) (c : Nat), c < 4 → ∀ (Q : Nat → cf_M) (a7 a8 a9 a10 a11 a12 a13 a14 : Nat → Int32), cf_A (cf_set Q c (st, vl, dn, dp, ff, fp, pk)) a7 a8 a9 a10 a11 a12 a13 → (∀ j, j < 4 → a14 j = rg j) →
    (∀ (fn' pl' : Int32) (b7 b8 b9 b10 b11 b12 b13 b14 : Nat → Int32), cf_A (cf_set Q c m') b7 b8 b9 b10 b11 b12 b13 → post (an, fn', pl', a1, a2, a3, a4, a5, a6, b7, b8, b9, b10, b11, b12, b13, b14)) → wpX_carryOn post (an, fn, pl, a1, a2, a3, a4, a5, a6, a7, a8, a9, a10, a11, a12, a13, a14) (nI c) := by
  obtain ⟨m1, fn1, pl1, rg1, hor, hT⟩ := cf_returnAtEnd (an := an) (a2 := a2) (a5 := a5) (a6 := a6) hP pl rg hr
  obtain ⟨m', hor', h'⟩ := cf_co21 (an := an) (a2 := a2) (a5 := a5) (a6 := a6) hP 80 0 m1 fn1 pl1 rg1 (by omega) (hor.elim Or.inl (fun h => Or.inr (Or.inr h)))
  refine ⟨m', hor', fun post c hc Q a7 a8 a9 a10 a11 a12 a13 a14 hA hR H => ?_⟩
  unfold wpX_carryOn
  dsimp only
  rw [nI_clamp (n := c) (by omega)]
  refine ⟨pk_in c 4 hc, nm_e ⟨pk_in c 4 hc, nm_e (hT _ c hc Q _ _ _ _ _ _ _ _ (cf_w8 hc (cf_w7 hc hA)) hR (fun b7 b8 b9 b10 b11 b12 b13 b14 hB hS => ?_))⟩⟩
  exact ⟨81, h' post c hc Q _ _ _ _ _ _ _ _ hB hS H⟩
end
end
section
/-- a coroutine between two calls -/
def cf_ok (m : cf_M) : Prop := cf_ready m ∨ cf_wait m ∨ cf_dead m
/-- the object between two calls: the program a1..a5, the reads rd (once analysed), the slices Q -/
def cf_Z (a1 a2 a3 a4 a5 rd : Nat → Int32) (Q : Nat → cf_M) (u : St1) : Prop := ∃ (an fn pl : Int32) (a6 a7 a8 a9 a10 a11 a12 a13 a14 : Nat → Int32), u = (an, fn, pl, a1, a2, a3, a4, a5, a6, a7, a8, a9, a10, a11, a12, a13, a14) ∧ ((an = 0 ∧ a6 = fun _ => 0) ∨ (an = 1 ∧ a6 = rd)) ∧ cf_A Q a7 a8 a9 a10 a11 a12 a13
/-- what 'analyse' makes of this program -/
def cf_rd (a1 a2 a3 a4 a5 rd : Nat → Int32) : Prop := ∀ (post : St1 → Prop) (fn pl : Int32) (a7 a8 a9 a10 a11 a12 a13 a14 : Nat → Int32), post (1, fn, pl, a1, a2, a3, a4, a5, rd, a7, a8, a9, a10, a11, a12, a13, a14) → wpX_analyse post (0, fn, pl, a1, a2, a3, a4, a5, fun _ => 0, a7, a8, a9, a10, a11, a12, a13, a14)
section
variable {a1 a2 a3 a4 a5 rd : Nat → Int32}
theorem cf_go1 (hP : cf_P a1 a3 a4) {m : cf_M} (h : cf_ready m ∨ cf_wait m) (v : Int32) : ∃ m' : cf_M, (cf_dead m' ∨ cf_wait m') ∧ ∀ (post : Int32 → St1 → Prop) (c : Nat), c < 4 → ∀ (Q : Nat → cf_M) (fn pl : Int32) (a7 a8 a9 a10 a11 a12 a13 a14 : Nat → Int32), cf_A (cf_set Q c m) a7 a8 a9 a10 a11 a12 a13 →
    (∀ (fn' pl' : Int32) (b7 b8 b9 b10 b11 b12 b13 b14 : Nat → Int32), cf_A (cf_set Q c m') b7 b8 b9 b10 b11 b12 b13 → post m'.1 (1, fn', pl', a1, a2, a3, a4, a5, rd, b7, b8, b9, b10, b11, b12, b13, b14)) → wpX_goOn post (1, fn, pl, a1, a2, a3, a4, a5, rd, a7, a8, a9, a10, a11, a12, a13, a14) (nI c) v := by
  obtain ⟨st, vl, dn, dp, ff, fp, pk⟩ := m
  rcases h with ⟨h1, hd, ⟨f, hf, ef⟩, hp⟩ | ⟨h1, d, d1, d4, hd, hfr⟩
  · dsimp only at h1 hd ef hp
    subst h1 hd
    obtain ⟨rg, hu⟩ := cf_unpack (a2 := a2) (a5 := a5) (a6 := rd) hP (i := 0) (by omega) hf (st := 1) (vl := vl) (dn := dn) (dp := 1) (ff := ff) (fp := fp) (pk := pk) ef (Or.inl (by rw [hp]; decide))
    obtain ⟨m', hor, hC⟩ := cf_carryOn (an := 1) (a2 := a2) (a5 := a5) (a6 := rd) hP (d := 1) (st := 1) (vl := vl) (dn := dn) (dp := 1) (ff := ff) (fp := fp) (pk := pk) (fn := nI f) (fp 0 + 1) rg ⟨rfl, ⟨f, hf, rfl⟩, by omega, by omega, rfl, fun i hi => absurd hi (by omega)⟩
    refine ⟨m', hor, fun post c hc Q fn pl a7 a8 a9 a10 a11 a12 a13 a14 hA H => ?_⟩
    obtain ⟨r1, r2, r3, r4, r5, r6, r7⟩ := cf_at hc hA
    dsimp only at r1 r4
    unfold wpX_goOn
    dsimp only
    unfold wpX_analyse
    dsimp only
    rw [nI_clamp (n := c) (by omega)]
    refine br_f (by decide) ⟨pk_in c 4 hc, ?_⟩
    rw [r4]
    refine hu _ c hc Q _ _ _ _ _ _ _ _ _ _ _ hA (fun b14 hb => ?_)
    dsimp only
    refine ⟨pk_in c 4 hc, br_f (by rw [r1]; decide) ?_⟩
    unfold wX_goOn_50
    refine nm_e (hC _ c hc Q _ _ _ _ _ _ _ _ hA hb (fun fn' pl' e7 e8 e9 e10 e11 e12 e13 e14 hE => ?_))
    dsimp only
    rw [nI_clamp (n := c) (by omega), (cf_at hc hE).1]
    exact ⟨pk_in c 4 hc, H _ _ _ _ _ _ _ _ _ _ hE⟩
  · dsimp only at h1 hd hfr
    subst h1 hd
    obtain ⟨e, rfl⟩ : ∃ e, d = e + 1 := ⟨d - 1, by omega⟩
    obtain ⟨⟨f, hf, ef⟩, ⟨p, hp8, ep⟩⟩ := hfr e (by omega)
    obtain ⟨rg, hu⟩ := cf_unpack (a2 := a2) (a5 := a5) (a6 := rd) hP (i := e) (by omega) hf (st := 2) (vl := vl) (dn := dn) (dp := nI (e + 1)) (ff := ff) (fp := fp) (pk := pk) ef (Or.inr ⟨p, hp8, ep⟩)
    obtain ⟨rb, hrb, erb⟩ := hP.2.2 (f * 8 + p) (by omega)
    obtain ⟨m', hor, hC⟩ := cf_carryOn (an := 1) (a2 := a2) (a5 := a5) (a6 := rd) hP (d := e + 1) (st := 2) (vl := vl) (dn := dn) (dp := nI (e + 1)) (ff := ff) (fp := fp) (pk := pk) (fn := nI f) (nI p + 1) (upd rg rb v) ⟨rfl, ⟨f, hf, rfl⟩, by omega, by omega, rfl, fun i hi => hfr i (by omega)⟩
    refine ⟨m', hor, fun post c hc Q fn pl a7 a8 a9 a10 a11 a12 a13 a14 hA H => ?_⟩
    obtain ⟨r1, r2, r3, r4, r5, r6, r7⟩ := cf_at hc hA
    dsimp only at r1 r4
    unfold wpX_goOn
    dsimp only
    unfold wpX_analyse
    dsimp only
    rw [nI_clamp (n := c) (by omega)]
    refine br_f (by decide) ⟨pk_in c 4 hc, ?_⟩
    rw [r4, nI_pred e]
    refine hu _ c hc Q _ _ _ _ _ _ _ _ _ _ _ hA (fun b14 hb => ?_)
    dsimp only
    rw [ep, cf_x8, nI_clamp (n := f * 8 + p) (by omega), erb, nI_clamp (n := rb) (by omega)]
    refine ⟨pk_in c 4 hc, br_t r1 ⟨pk_in (f * 8 + p) 24 (by omega), pk_in rb 4 hrb, nm_e ?_⟩⟩
    unfold wX_goOn_50
    refine nm_e (hC _ c hc Q _ _ _ _ _ _ _ _ hA (cf_rgu hb) (fun fn' pl' e7 e8 e9 e10 e11 e12 e13 e14 hE => ?_))
    dsimp only
    rw [nI_clamp (n := c) (by omega), (cf_at hc hE).1]
    exact ⟨pk_in c 4 hc, H _ _ _ _ _ _ _ _ _ _ hE⟩
theorem cf_goOn (hP : cf_P a1 a3 a4) (hrd : cf_rd a1 a2 a3 a4 a5 rd) {m : cf_M} (h : cf_ready m ∨ cf_wait m) (v : Int32) : ∃ m' : cf_M, (cf_dead m' ∨ cf_wait m') ∧ ∀ (post : Int32 → St1 → Prop) (c : Nat), c < 4 → ∀ (Q : Nat → cf_M) (u : St1), cf_Z a1 a2 a3 a4 a5 rd (cf_set Q c m) u →
    (∀ u' : St1, cf_Z a1 a2 a3 a4 a5 rd (cf_set Q c m') u' → post m'.1 u') → wpX_goOn post u (nI c) v := by
  obtain ⟨m', hor, h1⟩ := cf_go1 (a2 := a2) (a5 := a5) (rd := rd) hP h v
  refine ⟨m', hor, fun post c hc Q u hZ H => ?_⟩
  obtain ⟨an, fn, pl, a6, a7, a8, a9, a10, a11, a12, a13, a14, rfl, hor2, hA⟩ := hZ
  have k1 : wpX_goOn post (1, fn, pl, a1, a2, a3, a4, a5, rd, a7, a8, a9, a10, a11, a12, a13, a14) (nI c) v := h1 post c hc Q _ _ _ _ _ _ _ _ _ _ hA (fun fn' pl' b7 b8 b9 b10 b11 b12 b13 b14 hB => H _ ⟨_, _, _, _, _, _, _, _, _, _, _, _, rfl, Or.inr ⟨rfl, rfl⟩, hB⟩)
  rcases hor2 with ⟨rfl, rfl⟩ | ⟨rfl, rfl⟩
  · unfold wpX_goOn at k1 ⊢
    dsimp only at k1 ⊢
    refine hrd _ _ _ _ _ _ _ _ _ _ _ ?_
    unfold wpX_analyse at k1
    exact k1.2 (by decide)
  · exact k1
theorem cf_bad {post : Int32 → Prop} {u : St2} {c : Nat} (hc : c < 4) (hp : post 0) : wpX_bad post u (nI c) := by
  unfold wpX_bad
  exact br_f (nI_pos (by omega)) (br_t (nI_le (b := 3) (by omega) (by omega)) hp)
/-- the resume of one slice: the same answer and the same new slice, whichever coroutine holds it -/
def cf_step (a1 a2 a3 a4 a5 rd : Nat → Int32) (v : Int32) (m m' : cf_M) : Prop := ∃ r : Int32, ∀ (post : Int32 → St1 → Prop) (c : Nat), c < 4 → ∀ (Q : Nat → cf_M) (u : St1), cf_Z a1 a2 a3 a4 a5 rd (cf_set Q c m) u →
    (∀ u' : St1, cf_Z a1 a2 a3 a4 a5 rd (cf_set Q c m') u' → post r u') → wpX_resume post u (nI c) v
theorem cf_resumeD {m : cf_M} (h : cf_dead m) {v : Int32} {post : Int32 → St1 → Prop} {c : Nat} (hc : c < 4) {Q : Nat → cf_M} {u : St1} (hZ : cf_Z a1 a2 a3 a4 a5 rd (cf_set Q c m) u) (H : post (-4) u) : wpX_resume post u (nI c) v := by
  obtain ⟨an, fn, pl, a6, a7, a8, a9, a10, a11, a12, a13, a14, rfl, hor2, hA⟩ := hZ
  have r1 := (cf_at hc hA).1
  unfold wpX_resume
  dsimp only
  refine cf_bad hc (br_t rfl ?_)
  rw [nI_clamp (n := c) (by omega), r1]
  refine ⟨pk_in c 4 hc, br_f (fun z => ?_) ⟨pk_in c 4 hc, br_f (fun z => ?_) H⟩⟩
  · rcases h.1 with y | y | y <;> (rw [y] at z; exact absurd z (by decide))
  · rcases h.1 with y | y | y <;> (rw [y] at z; exact absurd z (by decide))
theorem cf_echoD {m : cf_M} (h : cf_dead m) {v : Int32} {post : Int32 → St1 → Prop} {c : Nat} (hc : c < 4) {Q : Nat → cf_M} {u : St1} (hZ : cf_Z a1 a2 a3 a4 a5 rd (cf_set Q c m) u) (H : post (-4) u) : wpX_echo post u (nI c) v := by
  obtain ⟨an, fn, pl, a6, a7, a8, a9, a10, a11, a12, a13, a14, rfl, hor2, hA⟩ := hZ
  have r1 := (cf_at hc hA).1
  unfold wpX_echo
  dsimp only
  refine cf_bad hc (br_t rfl ?_)
  rw [nI_clamp (n := c) (by omega), r1]
  refine ⟨pk_in c 4 hc, br_f (fun z => ?_) H⟩
  rcases h.1 with y | y | y <;> (rw [y] at z; exact absurd z (by decide))
theorem cf_resume (hP : cf_P a1 a3 a4) (hrd : cf_rd a1 a2 a3 a4 a5 rd) {m : cf_M} (h : cf_ok m) (v : Int32) : ∃ m' : cf_M, cf_ok m' ∧ cf_step a1 a2 a3 a4 a5 rd v m m' := by
  by_cases hd : cf_dead m
  · exact ⟨m, h, -4, fun post c hc Q u hZ H => cf_resumeD hd hc hZ (H u hZ)⟩
  · have h' : cf_ready m ∨ cf_wait m := by
      rcases h with h | h | h
      · exact Or.inl h
      · exact Or.inr h
      · exact absurd h hd
    obtain ⟨m', hor, hg⟩ := cf_goOn (a2 := a2) (a5 := a5) hP hrd h' v
    refine ⟨m', hor.elim (fun h => Or.inr (Or.inr h)) (fun h => Or.inr (Or.inl h)), m'.1, fun post c hc Q u hZ H => ?_⟩
    have hg' := hg post c hc Q u hZ H
    obtain ⟨an, fn, pl, a6, a7, a8, a9, a10, a11, a12, a13, a14, rfl, hor2, hA⟩ := hZ
    have r1 := (cf_at hc hA).1
    unfold wpX_resume
    dsimp only
    refine cf_bad hc (br_t rfl ?_)
    rw [nI_clamp (n := c) (by omega), r1]
    rcases h' with h | h
    · exact ⟨pk_in c 4 hc, br_t h.1 hg'⟩
    · exact ⟨pk_in c 4 hc, br_f (by rw [h.1]; decide) ⟨pk_in c 4 hc, br_t h.1 hg'⟩⟩
/-! the questions -/
section
variable {Q : Nat → cf_M} {u : St1} {post : Int32 → Prop} {c : Nat}
theorem cf_state (hZ : cf_Z a1 a2 a3 a4 a5 rd Q u) (hc : c < 4) (hp : post (Q c).1) : wpX_state post u (nI c) := by
  obtain ⟨an, fn, pl, a6, a7, a8, a9, a10, a11, a12, a13, a14, rfl, hor2, hA⟩ := hZ
  have r := (hA c hc).1
  unfold wpX_state
  dsimp only
  refine cf_bad hc (br_t rfl ⟨pk_in c 4 hc, ?_⟩)
  rw [nI_clamp (n := c) (by omega), r]
  exact hp
theorem cf_value (hZ : cf_Z a1 a2 a3 a4 a5 rd Q u) (hc : c < 4) (hp : post (Q c).2.1) : wpX_value post u (nI c) := by
  obtain ⟨an, fn, pl, a6, a7, a8, a9, a10, a11, a12, a13, a14, rfl, hor2, hA⟩ := hZ
  have r := (hA c hc).2.1
  unfold wpX_value
  dsimp only
  refine cf_bad hc (br_t rfl ⟨pk_in c 4 hc, ?_⟩)
  rw [nI_clamp (n := c) (by omega), r]
  exact hp
theorem cf_steps (hZ : cf_Z a1 a2 a3 a4 a5 rd Q u) (hc : c < 4) (hp : post (Q c).2.2.1) : wpX_steps post u (nI c) := by
  obtain ⟨an, fn, pl, a6, a7, a8, a9, a10, a11, a12, a13, a14, rfl, hor2, hA⟩ := hZ
  have r := (hA c hc).2.2.1
  unfold wpX_steps
  dsimp only
  refine cf_bad hc (br_t rfl ⟨pk_in c 4 hc, ?_⟩)
  rw [nI_clamp (n := c) (by omega), r]
  exact hp
theorem cf_depth (hZ : cf_Z a1 a2 a3 a4 a5 rd Q u) (hc : c < 4) (hp : post (Q c).2.2.2.1) : wpX_depth post u (nI c) := by
  obtain ⟨an, fn, pl, a6, a7, a8, a9, a10, a11, a12, a13, a14, rfl, hor2, hA⟩ := hZ
  have r := (hA c hc).2.2.2.1
  unfold wpX_depth
  dsimp only
  refine cf_bad hc (br_t rfl ⟨pk_in c 4 hc, ?_⟩)
  rw [nI_clamp (n := c) (by omega), r]
  exact hp
theorem cf_alike (hZ : cf_Z a1 a2 a3 a4 a5 rd Q u) (hc : c < 4) {b : Nat} (hb : b < 4) (e : Q c = Q b) (hp : post 1) : wpX_alike post u (nI c) (nI b) := by
  obtain ⟨an, fn, pl, a6, a7, a8, a9, a10, a11, a12, a13, a14, rfl, hor2, hA⟩ := hZ
  have r1 := (hA c hc).1
  have r2 := (hA c hc).2.1
  have s1 := (hA b hb).1
  have s2 := (hA b hb).2.1
  rw [e] at r1 r2
  unfold wpX_alike
  dsimp only
  refine cf_bad hc (br_t rfl (cf_bad hb (br_t rfl ⟨pk_in c 4 hc, pk_in b 4 hb, ?_⟩)))
  rw [nI_clamp (n := c) (by omega), nI_clamp (n := b) (by omega)]
  exact br_t (r1.trans s1.symm) ⟨pk_in c 4 hc, pk_in b 4 hb, br_t (r2.trans s2.symm) hp⟩
theorem cf_same (hZ : cf_Z a1 a2 a3 a4 a5 rd Q u) (hc : c < 4) {b : Nat} (hb : b < 4) (e : Q c = Q b) (hp : post 1) : wpL_same post u (nI c) (nI b) := by
  have hZ' := hZ
  obtain ⟨an, fn, pl, a6, a7, a8, a9, a10, a11, a12, a13, a14, rfl, hor2, hA⟩ := hZ'
  unfold wpL_same
  dsimp only
  refine cf_state hZ hc (cf_state hZ hb (br_t (by rw [e]) ?_))
  refine cf_value hZ hc (cf_value hZ hb (br_t (by rw [e]) ?_))
  refine cf_depth hZ hc (cf_depth hZ hb (br_t (by rw [e]) ?_))
  refine cf_steps hZ hc (cf_steps hZ hb (br_t (by rw [e]) ?_))
  exact cf_alike hZ hc hb e (br_f (by decide) hp)
end
theorem cf_sound {Q : Nat → cf_M} {u : St1} {post : Int32 → St1 → Prop} (hZ : cf_Z a1 a2 a3 a4 a5 rd Q u) (hQ : ∀ k, k < 4 → cf_ok (Q k)) (hp : post 1 u) : wpL_sound post u := by
  have hZ' := hZ
  obtain ⟨an, fn, pl, a6, a7, a8, a9, a10, a11, a12, a13, a14, rfl, hor2, hA⟩ := hZ'
  unfold wpL_sound
  dsimp only
  refine pk_loop (σ := Unit) (fun n k _ => wL_sound_2 post n (nI k) an fn pl a1 a2 a3 a4 a5 a6 a7 a8 a9 a10 a11 a12 a13 a14) (fun _ _ => True) 4 0 () (by omega) trivial (fun n _ _ => pk_le 4 4 (fun _ => hp) (fun z => absurd z (by omega))) (fun n k _ hk _ hw => pk_le 4 k (fun z => absurd z (by omega)) (fun _ => cf_state hZ hk ?_))
  have hw' := hw () trivial
  have stands : ∀ d : Nat, 1 ≤ d → d ≤ 4 → (Q k).2.2.2.1 = nI d → wL_sound_28 post (wL_sound_2 post n) (nI k) (Q k).1 1 an fn pl a1 a2 a3 a4 a5 a6 a7 a8 a9 a10 a11 a12 a13 a14 := by
    intro d d1 d4 ed
    unfold wL_sound_28
    refine cf_depth hZ hk ?_
    rw [ed]
    refine br_f (nI_nlt (b := 1) d1 (by omega)) ?_
    unfold wL_sound_43
    refine br_t rfl (cf_depth hZ hk ?_)
    rw [ed]
    exact br_t (nI_le (b := 4) d4 (by omega)) (br_f (by decide) (nm_r (nI_1 k) hw'))
  have hself : cf_Z a1 a2 a3 a4 a5 rd (cf_set Q k (Q k)) (an, fn, pl, a1, a2, a3, a4, a5, a6, a7, a8, a9, a10, a11, a12, a13, a14) := by rw [cf_setid]; exact hZ
  rcases hQ k hk with h | h | h
  · refine br_t h.1 ?_
    unfold wL_sound_23
    exact stands 1 (by omega) (by omega) h.2.1
  · refine br_f (by rw [h.1]; decide) (br_t h.1 ?_)
    unfold wL_sound_23
    obtain ⟨_, d, d1, d4, ed, _⟩ := h
    exact stands d d1 d4 ed
  · refine br_f (fun z => ?_) (br_f (fun z => ?_) ?_)
    · rcases h.1 with y | y | y <;> (rw [y] at z; exact absurd z (by decide))
    · rcases h.1 with y | y | y <;> (rw [y] at z; exact absurd z (by decide))
    · unfold wL_sound_28
      refine cf_depth hZ hk ?_
      rw [h.2]
      refine br_t (by decide) ?_
      unfold wL_sound_43
      refine br_t rfl (cf_depth hZ hk ?_)
      rw [h.2]
      refine br_t (by decide) (br_t rfl ?_)
      refine cf_resumeD h hk hself ?_
      refine br_t rfl (cf_echoD h hk hself ?_)
      exact br_t rfl (cf_state hZ hk (br_t rfl (nm_r (nI_1 k) hw')))
theorem cf_start {Q : Nat → cf_M} {u : St1} {post : Int32 → St1 → Prop} (hZ : cf_Z a1 a2 a3 a4 a5 rd Q u) {f : Nat} (hf : f < 3) (v : Int32) (H : ∀ (m' : cf_M) (u' : St1), cf_ok m' → cf_Z a1 a2 a3 a4 a5 rd (cf_set Q 0 m') u' → post 0 u') : wpX_start post u 0 (nI f) v := by
  obtain ⟨an, fn, pl, a6, a7, a8, a9, a10, a11, a12, a13, a14, rfl, hor2, hA⟩ := hZ
  have h0 : (0 : Int32).toNatClampNeg = 0 := by decide
  have h4 : ((0 : Int32) * 4).toNatClampNeg = 0 := by decide
  have h16 : ((0 : Int32) * 4 * 4).toNatClampNeg = 0 := by decide
  have hA' : cf_A (cf_set Q 0 ((Q 0).1, (Q 0).2.1, (Q 0).2.2.1, (Q 0).2.2.2.1, (Q 0).2.2.2.2.1, (Q 0).2.2.2.2.2.1, (Q 0).2.2.2.2.2.2)) a7 a8 a9 a10 a11 a12 a13 := by
    rw [show ((Q 0).1, (Q 0).2.1, (Q 0).2.2.1, (Q 0).2.2.2.1, (Q 0).2.2.2.2.1, (Q 0).2.2.2.2.2.1, (Q 0).2.2.2.2.2.2) = Q 0 from rfl, cf_setid]
    exact hA
  unfold wpX_start
  dsimp only
  refine cf_bad (c := 0) (by omega) (br_t rfl (br_f (nI_pos (by omega)) (br_t (nI_lt (b := 3) hf (by omega)) ?_)))
  rw [h0, h4, h16]
  refine ⟨pk_in 0 4 (by omega), nm_e ⟨pk_in 0 4 (by omega), nm_e ⟨pk_in 0 4 (by omega), nm_e ⟨pk_in 0 4 (by omega), nm_e ⟨pk_in 0 16 (by omega), nm_e ⟨pk_in 0 16 (by omega), nm_e ⟨pk_in 0 64 (by omega), nm_e ?_⟩⟩⟩⟩⟩⟩⟩
  exact H (1, 0, 0, 1, upd (Q 0).2.2.2.2.1 0 (nI f), upd (Q 0).2.2.2.2.2.1 0 (-1), upd (Q 0).2.2.2.2.2.2 0 v) _ (Or.inl ⟨rfl, rfl, ⟨f, hf, by dsimp only; exact pk_us⟩, by dsimp only; exact pk_us⟩)
    ⟨_, _, _, _, _, _, _, _, _, _, _, _, rfl, hor2, cf_w13 (i := 0) (by omega) (by omega) (by omega) (cf_w12 (i := 0) (by omega) (by omega) (by omega) (cf_w11 (i := 0) (by omega) (by omega) (by omega) (cf_w10 (by omega) (cf_w9 (by omega) (cf_w8 (by omega) (cf_w7 (by omega) hA'))))))⟩
end
end
section
section
variable {a1 a2 a3 a4 a5 rd : Nat → Int32}
theorem cf_fin {Q : Nat → cf_M} {b : Nat} {st vl dn dp : Int32} {ff fp pk fg fq pl : Nat → Int32} {a7 a8 a9 a10 a11 a12 a13 : Nat → Int32} (hb : b < 4) (h : cf_A (cf_set Q b (st, vl, dn, dp, ff, fp, pk)) a7 a8 a9 a10 a11 a12 a13)
    (e1 : ∀ j, j < 4 → ff j = fg j) (e2 : ∀ j, j < 4 → fp j = fq j) (e3 : ∀ j, j < 16 → pk j = pl j) : cf_A (cf_set Q b (st, vl, dn, dp, fg, fq, pl)) a7 a8 a9 a10 a11 a12 a13 := by
  obtain ⟨r1, r2, r3, r4, r5, r6, r7⟩ := cf_at hb h
  exact cf_put h ⟨r1, r2, r3, r4, fun j hj => (r5 j hj).trans (e1 j hj), fun j hj => (r6 j hj).trans (e2 j hj), fun j hj => (r7 j hj).trans (e3 j hj)⟩ (fun k hk e s => s)
theorem cf_nx {f g : Nat → Int32} {i : Nat} (h : ∀ j, j < i → f j = g j) : ∀ j, j < i + 1 → upd f i (g i) j = g j := by
  intro j hj
  by_cases e : j = i
  · subst e; rw [pk_us]
  · rw [pk_un e]; exact h j (by omega)
theorem cf_cp119 {post : Int32 → St1 → Prop} {a b : Nat} (ha : a < 4) (hb : b < 4) (hab : a ≠ b) {Q : Nat → cf_M} {st vl dn dp : Int32} {ff fp pk : Nat → Int32} (hQ : Q a = (st, vl, dn, dp, ff, fp, pk)) {an fn pl : Int32} {a6 a7 a8 a9 a10 a11 a12 : Nat → Int32} {a14 : Nat → Int32}
    (H : ∀ b13 : Nat → Int32, cf_A (cf_set Q b (st, vl, dn, dp, ff, fp, pk)) a7 a8 a9 a10 a11 a12 b13 → post st (an, fn, pl, a1, a2, a3, a4, a5, a6, a7, a8, a9, a10, a11, a12, b13, a14)) :
    ∀ (t i : Nat), i + t = 16 → ∀ (a13 px : Nat → Int32), (∀ j, j < i → px j = pk j) → cf_A (cf_set Q b (st, vl, dn, dp, ff, fp, px)) a7 a8 a9 a10 a11 a12 a13 → wX_copy_119 post (nI a) (nI b) an fn pl (t + 1) (nI i) a1 a2 a3 a4 a5 a6 a7 a8 a9 a10 a11 a12 a13 a14 := by
  intro t
  induction t with
  | zero =>
    intro i hi a13 px hx hA
    have r1 := (cf_at hb hA).1
    unfold wX_copy_119
    rw [nI_clamp (n := b) (by omega), r1]
    exact pk_le 16 i (fun _ => ⟨pk_in b 4 hb, H a13 (cf_fin hb hA (fun _ _ => rfl) (fun _ _ => rfl) (fun j hj => hx j (by omega)))⟩) (fun z => absurd z (by omega))
  | succ t ih =>
    intro i hi a13 px hx hA
    have s := hA a ha
    rw [cf_setn hab, hQ] at s
    have s7 : a13 (a * 16 + i) = pk i := s.2.2.2.2.2.2 i (by omega)
    unfold wX_copy_119
    rw [cf_x16, cf_x16, nI_clamp (n := a * 16 + i) (by omega), nI_clamp (n := b * 16 + i) (by omega), s7]
    exact pk_le 16 i (fun z => absurd z (by omega)) (fun _ => ⟨pk_in (a * 16 + i) 64 (by omega), pk_in (b * 16 + i) 64 (by omega), nm_e (nm_r (nI_1 i) (ih (i + 1) (by omega) _ _ (cf_nx hx) (cf_w13 hb (by omega) rfl hA)))⟩)
theorem cf_cp66 {post : Int32 → St1 → Prop} {a b : Nat} (ha : a < 4) (hb : b < 4) (hab : a ≠ b) {Q : Nat → cf_M} {st vl dn dp : Int32} {ff fp pk px : Nat → Int32} (hQ : Q a = (st, vl, dn, dp, ff, fp, pk)) {an fn pl : Int32} {a6 a7 a8 a9 a10 : Nat → Int32} {a13 a14 : Nat → Int32}
    (H : ∀ b11 b12 b13 : Nat → Int32, cf_A (cf_set Q b (st, vl, dn, dp, ff, fp, pk)) a7 a8 a9 a10 b11 b12 b13 → post st (an, fn, pl, a1, a2, a3, a4, a5, a6, a7, a8, a9, a10, b11, b12, b13, a14)) :
    ∀ (t i : Nat), i + t = 4 → ∀ (a11 a12 fx fy : Nat → Int32), (∀ j, j < i → fx j = ff j) → (∀ j, j < i → fy j = fp j) → cf_A (cf_set Q b (st, vl, dn, dp, fx, fy, px)) a7 a8 a9 a10 a11 a12 a13 → wX_copy_66 post (nI a) (nI b) an fn pl (t + 1) (nI i) a1 a2 a3 a4 a5 a6 a7 a8 a9 a10 a11 a12 a13 a14 := by
  intro t
  induction t with
  | zero =>
    intro i hi a11 a12 fx fy hx hy hA
    unfold wX_copy_66
    exact pk_le 4 i (fun _ => ⟨17, cf_cp119 ha hb hab hQ (fun b13 h13 => H _ _ _ h13) 16 0 (by omega) a13 px (fun j hj => absurd hj (by omega)) (cf_fin hb hA (fun j hj => hx j (by omega)) (fun j hj => hy j (by omega)) (fun _ _ => rfl))⟩) (fun z => absurd z (by omega))
  | succ t ih =>
    intro i hi a11 a12 fx fy hx hy hA
    have s := hA a ha
    rw [cf_setn hab, hQ] at s
    have s5 : a11 (a * 4 + i) = ff i := s.2.2.2.2.1 i (by omega)
    have s6 : a12 (a * 4 + i) = fp i := s.2.2.2.2.2.1 i (by omega)
    unfold wX_copy_66
    rw [cf_x4, cf_x4, nI_clamp (n := a * 4 + i) (by omega), nI_clamp (n := b * 4 + i) (by omega), s5, s6]
    exact pk_le 4 i (fun z => absurd z (by omega)) (fun _ => ⟨pk_in (a * 4 + i) 16 (by omega), pk_in (b * 4 + i) 16 (by omega), nm_e ⟨pk_in (a * 4 + i) 16 (by omega), pk_in (b * 4 + i) 16 (by omega), nm_e (nm_r (nI_1 i) (ih (i + 1) (by omega) _ _ _ _ (cf_nx hx) (cf_nx hy) (cf_w12 hb (by omega) rfl (cf_w11 hb (by omega) rfl hA))))⟩⟩)
theorem cf_copy {Q : Nat → cf_M} {u : St1} {post : Int32 → St1 → Prop} {a b : Nat} (hZ : cf_Z a1 a2 a3 a4 a5 rd Q u) (ha : a < 4) (hb : b < 4) (hab : a ≠ b) (H : ∀ u' : St1, cf_Z a1 a2 a3 a4 a5 rd (cf_set Q b (Q a)) u' → post (Q a).1 u') : wpX_copy post u (nI a) (nI b) := by
  obtain ⟨an, fn, pl, a6, a7, a8, a9, a10, a11, a12, a13, a14, rfl, hor2, hA⟩ := hZ
  rcases hqa : Q a with ⟨st, vl, dn, dp, ff, fp, pk⟩
  rcases hqb : Q b with ⟨su, vm, dx, dq, fx, fy, px⟩
  have hA' : cf_A (cf_set Q b (su, vm, dx, dq, fx, fy, px)) a7 a8 a9 a10 a11 a12 a13 := by
    rw [← hqb, cf_setid]
    exact hA
  have s := hA a ha
  rw [hqa] at s H
  obtain ⟨s1, s2, s3, s4, s5, s6, s7⟩ := s
  dsimp only at s1 s2 s3 s4 H
  unfold wpX_copy
  dsimp only
  refine cf_bad ha (br_t rfl (cf_bad hb (br_t rfl ?_)))
  rw [nI_clamp (n := a) (by omega), nI_clamp (n := b) (by omega), s1, s2, s3, s4]
  refine ⟨pk_in a 4 ha, pk_in b 4 hb, nm_e ⟨pk_in a 4 ha, pk_in b 4 hb, nm_e ⟨pk_in a 4 ha, pk_in b 4 hb, nm_e ⟨pk_in a 4 ha, pk_in b 4 hb, nm_e ⟨5, ?_⟩⟩⟩⟩⟩
  exact cf_cp66 ha hb hab hqa (fun b11 b12 b13 h => H _ ⟨_, _, _, _, _, _, _, _, _, _, _, _, rfl, hor2, h⟩) 4 0 (by omega) _ _ fx fy (fun j hj => absurd hj (by omega)) (fun j hj => absurd hj (by omega)) (cf_w10 hb (cf_w9 hb (cf_w8 hb (cf_w7 hb hA'))))
end
end
section
section
theorem cf_emit {post : Int32 → St1 → Prop} {fn pl : Int32} {a1 a2 a3 a4 a5 a6 a7 a8 a9 a10 a11 a12 a13 a14 : Nat → Int32} (hP : cf_P a1 a3 a4) (p0 p1 p2 p3 : Int32)
    (H : ∀ (r : Int32) (b1 b2 b3 b4 b5 : Nat → Int32), cf_P b1 b3 b4 → post r (0, fn, pl, b1, b2, b3, b4, b5, a6, a7, a8, a9, a10, a11, a12, a13, a14)) : wpX_emit post (0, fn, pl, a1, a2, a3, a4, a5, a6, a7, a8, a9, a10, a11, a12, a13, a14) p0 p1 p2 p3 := by
  unfold wpX_emit
  dsimp only
  refine br_c (fun _ => H _ _ _ _ _ _ hP) (fun z0 => br_c (fun _ => H _ _ _ _ _ _ hP) (fun z3 => br_c (fun _ => H _ _ _ _ _ _ hP) (fun _ => br_c (fun _ => ?_) (fun _ => H _ _ _ _ _ _ hP))))
  obtain ⟨f, hf, rfl⟩ : ∃ f : Nat, f < 3 ∧ p0 = nI f := by
    rcases pk_ix p0 (n := 3) (by omega) with y | y | y
    · exact absurd y z0
    · exact absurd y z3
    · exact y
  obtain ⟨s, hs, es⟩ := hP.1 f hf
  refine pk_loop (σ := Unit) (fun n i _ => wX_emit_24 post (nI f) p1 p2 p3 0 fn pl a1 a2 a3 a4 a5 a6 a7 a8 a9 a10 a11 a12 a13 a14 n (nI i)) (fun _ _ => True) 4 0 () (by omega) trivial (fun n _ _ => pk_le 4 4 (fun _ => ⟨pk_in f 3 hf, ?_⟩) (fun z => absurd z (by omega)))
    (fun n i _ hi _ hw => pk_le 4 i (fun z => absurd z (by omega)) (fun _ => ⟨pk_in i 4 hi, br_c (fun _ => nm_r (nI_1 i) (hw () trivial)) (fun _ => H _ _ _ _ _ _ hP)⟩))
  rw [nI_clamp (n := f) (by omega), es, cf_x8]
  refine pk_lt s 8 (fun hs8 => ⟨pk_in f 3 hf, nm_e ⟨pk_in (f * 8 + s) 24 (by omega), ?_⟩⟩) (fun _ => H _ _ _ _ _ _ hP)
  rw [nI_clamp (n := f * 8 + s) (by omega)]
  refine nm_e ⟨pk_in (f * 8 + s) 24 (by omega), nm_e ⟨pk_in (f * 8 + s) 24 (by omega), nm_e ⟨pk_in (f * 8 + s) 24 (by omega), nm_e ⟨pk_in f 3 hf, pk_in f 3 hf, nm_e ⟨pk_in f 3 hf, H _ _ _ _ _ _ ⟨fun g hg => ?_, fun j hj => ?_, fun j hj => ?_⟩⟩⟩⟩⟩⟩
  · by_cases e : g = f
    · subst e
      exact ⟨s + 1, by omega, by rw [pk_us, nI_1]⟩
    · rw [pk_un e]
      exact hP.1 g hg
  · by_cases e : j = f * 8 + s
    · subst e
      rw [pk_us]
      exact pk_andE p2 2 (by decide)
    · rw [pk_un e]
      exact hP.2.1 j hj
  · by_cases e : j = f * 8 + s
    · subst e
      rw [pk_us]
      exact pk_andE _ 2 (by decide)
    · rw [pk_un e]
      exact hP.2.2 j hj
section
variable {post : St1 → Prop} {L : Nat} {xs : Nat → Int32} {J : Int32 → Int32 → Int32 → Int32 → (Nat → Int32) → (Nat → Int32) → (Nat → Int32) → (Nat → Int32) → (Nat → Int32) → (Nat → Int32) → (Nat → Int32) → (Nat → Int32) → (Nat → Int32) → (Nat → Int32) → (Nat → Int32) → (Nat → Int32) → (Nat → Int32) → (Nat → Int32) → Prop}
  {x2 x3 x4 : Int32} {fn pl : Int32} {a1 a2 a3 a4 a5 a6 a7 a8 a9 a10 a11 a12 a13 a14 : Nat → Int32}
theorem cf_pr114 (hP : cf_P a1 a3 a4) (H : ∀ b1 b2 b3 b4 b5 : Nat → Int32, cf_P b1 b3 b4 → J (x4 + 1) 0 fn pl b1 b2 b3 b4 b5 a6 a7 a8 a9 a10 a11 a12 a13 a14) (x5 x6 z0 : Int32) : wL_program_114 post L xs J x2 x3 x4 x5 x6 z0 0 fn pl a1 a2 a3 a4 a5 a6 a7 a8 a9 a10 a11 a12 a13 a14 := by
  unfold wL_program_114
  exact ⟨by decide, cf_emit hP _ _ _ _ (fun r b1 b2 b3 b4 b5 hB => nm_e (H _ _ _ _ _ hB))⟩
theorem cf_pr79 (hP : cf_P a1 a3 a4) (H : ∀ b1 b2 b3 b4 b5 : Nat → Int32, cf_P b1 b3 b4 → J (x4 + 1) 0 fn pl b1 b2 b3 b4 b5 a6 a7 a8 a9 a10 a11 a12 a13 a14) (x5 z0 : Int32) : wL_program_79 post L xs J x2 x3 x4 x5 z0 0 fn pl a1 a2 a3 a4 a5 a6 a7 a8 a9 a10 a11 a12 a13 a14 := by
  unfold wL_program_79
  refine br_c (fun _ => ?_) (fun _ => br_c (fun _ => ?_) (fun _ => cf_pr114 hP H _ _ _))
  · unfold wL_program_93
    exact cf_pr114 hP H _ _ _
  · unfold wL_program_93
    exact cf_pr114 hP H _ _ _
theorem cf_pr26 (hP : cf_P a1 a3 a4) (H : ∀ b1 b2 b3 b4 b5 : Nat → Int32, cf_P b1 b3 b4 → J (x4 + 1) 0 fn pl b1 b2 b3 b4 b5 a6 a7 a8 a9 a10 a11 a12 a13 a14) (z0 : Int32) : wL_program_26 post L xs J x2 x3 x4 z0 0 fn pl a1 a2 a3 a4 a5 a6 a7 a8 a9 a10 a11 a12 a13 a14 := by
  unfold wL_program_26
  exact br_c (fun _ => br_c (fun _ => br_c (fun _ => cf_pr79 hP H _ _) (fun _ => cf_pr79 hP H _ _)) (fun _ => cf_pr79 hP H _ _)) (fun _ => cf_pr79 hP H _ _)
end
theorem cf_program {post : St1 → Prop} {L : Nat} (hL : L ≤ 260) {xs : Nat → Int32} {n : Nat} (hn : n < 200) {fn pl : Int32} {a1 a2 a3 a4 a5 a6 a7 a8 a9 a10 a11 a12 a13 a14 : Nat → Int32} (hP : cf_P a1 a3 a4)
    (H : ∀ b1 b2 b3 b4 b5 : Nat → Int32, cf_P b1 b3 b4 → post (0, fn, pl, b1, b2, b3, b4, b5, a6, a7, a8, a9, a10, a11, a12, a13, a14)) : wpL_program post L xs (0, fn, pl, a1, a2, a3, a4, a5, a6, a7, a8, a9, a10, a11, a12, a13, a14) (nI 2) (nI n) := by
  have main : ∀ (t i : Nat), i + t = n → ∀ a1 a2 a3 a4 a5 : Nat → Int32, cf_P a1 a3 a4 → wL_program_3 post L xs (nI 2) (nI n) (t + 1) (nI (2 + i)) 0 fn pl a1 a2 a3 a4 a5 a6 a7 a8 a9 a10 a11 a12 a13 a14 := by
    intro t
    induction t with
    | zero =>
      intro i hi a1 a2 a3 a4 a5 hP
      unfold wL_program_3
      rw [nI_add]
      exact pk_le (2 + n) (2 + i) (fun _ => H _ _ _ _ _ hP) (fun z => absurd z (by omega))
    | succ t ih =>
      intro i hi a1 a2 a3 a4 a5 hP
      have hK : ∀ b1 b2 b3 b4 b5 : Nat → Int32, cf_P b1 b3 b4 → wL_program_3 post L xs (nI 2) (nI n) (t + 1) (nI (2 + i) + 1) 0 fn pl b1 b2 b3 b4 b5 a6 a7 a8 a9 a10 a11 a12 a13 a14 := by
        intro b1 b2 b3 b4 b5 hB
        rw [nI_1]
        exact ih (i + 1) (by omega) _ _ _ _ _ hB
      unfold wL_program_3
      rw [nI_add]
      refine pk_le (2 + n) (2 + i) (fun z => absurd z (by omega)) (fun _ => pk_le L (2 + i) (fun _ => cf_pr26 hP hK _) (fun y => ⟨pk_in (2 + i) L y, cf_pr26 hP hK _⟩))
  unfold wpL_program
  dsimp only
  exact ⟨n + 1, main n 0 (by omega) _ _ _ _ _ hP⟩
end
end
section
theorem cf_trace {P : cf_M → Prop} {R : Nat → cf_M → cf_M → Prop} (h : ∀ i m, P m → ∃ m', P m' ∧ R i m m') (m0 : cf_M) (h0 : P m0) : ∃ tr : Nat → cf_M, tr 0 = m0 ∧ ∀ i, P (tr i) ∧ R i (tr i) (tr (i + 1)) := by
  let g : Nat → {m : cf_M // P m} := fun n => Nat.rec (motive := fun _ => {m : cf_M // P m}) ⟨m0, h0⟩ (fun i p => ⟨Classical.choose (h i p.1 p.2), (Classical.choose_spec (h i p.1 p.2)).1⟩) n
  exact ⟨fun n => (g n).1, rfl, fun i => ⟨(g i).2, (Classical.choose_spec (h i (g i).1 (g i).2)).2⟩⟩
theorem cf_okset {Q : Nat → cf_M} {c : Nat} {m : cf_M} (h : ∀ k, k < 4 → cf_ok (Q k)) (hm : cf_ok m) : ∀ k, k < 4 → cf_ok (cf_set Q c m k) := by
  intro k hk
  by_cases e : k = c
  · subst e; rw [cf_sets]; exact hm
  · rw [cf_setn e]; exact h k hk
/-- the value that the law's second and third loop hand in at turn i -/
def cf_v (xs : Nat → Int32) (k i : Nat) : Int32 := (((xs (nI k + 1).toNatClampNeg) >>> ((5 * nI i) &&& 31)) &&& 31) - 12
section
variable {a1 a2 a3 a4 a5 rd : Nat → Int32}
theorem cf_go {Q : Nat → cf_M} {u : St1} {v : Int32} {m m' : cf_M} {c : Nat} (hZ : cf_Z a1 a2 a3 a4 a5 rd Q u) (e : Q c = m) : cf_Z a1 a2 a3 a4 a5 rd (cf_set Q c m) u := by
  rw [← e, cf_setid]
  exact hZ
section
variable {post : Int32 → Prop} {L : Nat} {xs : Nat → Int32} {kc ks : Nat} {k : Nat} {J : Int32 → Int32 → Int32 → Int32 → (Nat → Int32) → (Nat → Int32) → (Nat → Int32) → (Nat → Int32) → (Nat → Int32) → (Nat → Int32) → (Nat → Int32) → (Nat → Int32) → (Nat → Int32) → (Nat → Int32) → (Nat → Int32) → (Nat → Int32) → (Nat → Int32) → (Nat → Int32) → Prop}
theorem cf_l311 (hL : L ≤ 260) (hk : k + 1 < L) (hJ : ∀ (Q : Nat → cf_M) (an fn pl : Int32) (a6 a7 a8 a9 a10 a11 a12 a13 a14 : Nat → Int32), (∀ i, i < 4 → cf_ok (Q i)) → cf_Z a1 a2 a3 a4 a5 rd Q (an, fn, pl, a1, a2, a3, a4, a5, a6, a7, a8, a9, a10, a11, a12, a13, a14) → J (nI k + 2) an fn pl a1 a2 a3 a4 a5 a6 a7 a8 a9 a10 a11 a12 a13 a14)
    (tr : Nat → cf_M) (htr : ∀ i, cf_ok (tr i) ∧ cf_step a1 a2 a3 a4 a5 rd (cf_v xs k i) (tr i) (tr (i + 1))) :
    ∀ (t i : Nat), i + t = 6 → ∀ (Q : Nat → cf_M) (an fn pl : Int32) (a6 a7 a8 a9 a10 a11 a12 a13 a14 : Nat → Int32), (∀ i, i < 4 → cf_ok (Q i)) → cf_Z a1 a2 a3 a4 a5 rd Q (an, fn, pl, a1, a2, a3, a4, a5, a6, a7, a8, a9, a10, a11, a12, a13, a14) → Q 0 = tr 6 → Q 2 = tr i →
      wL_law_311 post L xs J (nI k) kc ks (t + 1) (nI i) an fn pl a1 a2 a3 a4 a5 a6 a7 a8 a9 a10 a11 a12 a13 a14 := by
  intro t
  induction t with
  | zero =>
    intro i hi Q an fn pl a6 a7 a8 a9 a10 a11 a12 a13 a14 hQ hZ e0 e2
    obtain rfl : i = 6 := by omega
    unfold wL_law_311
    exact pk_le 6 6 (fun _ => cf_same (c := 0) (b := 2) hZ (by omega) (by omega) (e0.trans e2.symm) (br_f (by decide) (cf_sound hZ hQ (br_f (by decide) (nm_e (hJ Q _ _ _ _ _ _ _ _ _ _ _ _ hQ hZ)))))) (fun z => absurd z (by omega))
  | succ t ih =>
    intro i hi Q an fn pl a6 a7 a8 a9 a10 a11 a12 a13 a14 hQ hZ e0 e2
    obtain ⟨r, hr⟩ := (htr i).2
    unfold wL_law_311
    refine pk_le 6 i (fun z => absurd z (by omega)) (fun _ => ⟨pk_in (k + 1) L hk (nI_1 k), hr _ 2 (by omega) Q _ (cf_go (v := 0) (m' := tr 0) hZ e2) (fun u hU => ?_)⟩)
    have hU' := hU
    obtain ⟨bn, gn, ql, b6, b7, b8, b9, b10, b11, b12, b13, b14, rfl, hor2, hA⟩ := hU'
    refine nm_r (nI_1 i) (ih (i + 1) (by omega) _ _ _ _ _ _ _ _ _ _ _ _ _ (cf_okset hQ (htr (i + 1)).1) hU ?_ ?_)
    · rw [cf_setn (by omega)]; exact e0
    · rw [cf_sets]
theorem cf_l206 (hL : L ≤ 260) (hk : k + 1 < L) (hJ : ∀ (Q : Nat → cf_M) (an fn pl : Int32) (a6 a7 a8 a9 a10 a11 a12 a13 a14 : Nat → Int32), (∀ i, i < 4 → cf_ok (Q i)) → cf_Z a1 a2 a3 a4 a5 rd Q (an, fn, pl, a1, a2, a3, a4, a5, a6, a7, a8, a9, a10, a11, a12, a13, a14) → J (nI k + 2) an fn pl a1 a2 a3 a4 a5 a6 a7 a8 a9 a10 a11 a12 a13 a14)
    (tr : Nat → cf_M) (htr : ∀ i, cf_ok (tr i) ∧ cf_step a1 a2 a3 a4 a5 rd (cf_v xs k i) (tr i) (tr (i + 1))) :
    ∀ (t i : Nat), i + t = 6 → ∀ (Q : Nat → cf_M) (an fn pl : Int32) (a6 a7 a8 a9 a10 a11 a12 a13 a14 : Nat → Int32), (∀ i, i < 4 → cf_ok (Q i)) → cf_Z a1 a2 a3 a4 a5 rd Q (an, fn, pl, a1, a2, a3, a4, a5, a6, a7, a8, a9, a10, a11, a12, a13, a14) → Q 0 = tr i → Q 1 = tr i → Q 2 = tr 0 →
      wL_law_206 post L xs J (nI k) (tr 0).1 (tr 0).2.1 (tr 0).2.2.2.1 kc ks (t + 1) (nI i) an fn pl a1 a2 a3 a4 a5 a6 a7 a8 a9 a10 a11 a12 a13 a14 := by
  intro t
  induction t with
  | zero =>
    intro i hi Q an fn pl a6 a7 a8 a9 a10 a11 a12 a13 a14 hQ hZ e0 e1 e2
    obtain rfl : i = 6 := by omega
    unfold wL_law_206
    exact pk_le 6 6 (fun _ => ⟨7, cf_l311 hL hk hJ tr htr 6 0 (by omega) Q _ _ _ _ _ _ _ _ _ _ _ _ hQ hZ e0 e2⟩) (fun z => absurd z (by omega))
  | succ t ih =>
    intro i hi Q an fn pl a6 a7 a8 a9 a10 a11 a12 a13 a14 hQ hZ e0 e1 e2
    obtain ⟨r, hr⟩ := (htr i).2
    unfold wL_law_206
    refine pk_le 6 i (fun z => absurd z (by omega)) (fun _ => ⟨pk_in (k + 1) L hk (nI_1 k), nm_e (hr _ 0 (by omega) Q _ (cf_go (v := 0) (m' := tr 0) hZ e0) (fun u hU => ?_))⟩)
    have hU' := hU
    obtain ⟨bn, gn, ql, b6, b7, b8, b9, b10, b11, b12, b13, b14, rfl, hor2, hA⟩ := hU'
    have f2 : cf_set Q 0 (tr (i + 1)) 2 = tr 0 := by rw [cf_setn (by omega)]; exact e2
    have f1 : cf_set Q 0 (tr (i + 1)) 1 = tr i := by rw [cf_setn (by omega)]; exact e1
    refine cf_state (c := 2) hU (by omega) (br_t (by rw [f2]) (cf_value (c := 2) hU (by omega) (br_t (by rw [f2]) (cf_depth (c := 2) hU (by omega) (br_t (by rw [f2]) ?_)))))
    refine hr _ 1 (by omega) _ _ (cf_go (v := 0) (m' := tr 0) hU f1) (fun w hW => ?_)
    have hW' := hW
    obtain ⟨cn, hn, sl, c6, c7, c8, c9, c10, c11, c12, c13, c14, rfl, hor3, hB⟩ := hW'
    have g0 : cf_set (cf_set Q 0 (tr (i + 1))) 1 (tr (i + 1)) 0 = tr (i + 1) := by rw [cf_setn (by omega), cf_sets]
    have g1 : cf_set (cf_set Q 0 (tr (i + 1))) 1 (tr (i + 1)) 1 = tr (i + 1) := by rw [cf_sets]
    have g2 : cf_set (cf_set Q 0 (tr (i + 1))) 1 (tr (i + 1)) 2 = tr 0 := by rw [cf_setn (by omega)]; exact f2
    have hq := cf_okset (c := 1) (cf_okset (c := 0) hQ (htr (i + 1)).1) (htr (i + 1)).1
    refine br_t rfl (cf_same (c := 0) (b := 1) hW (by omega) (by omega) (g0.trans g1.symm) (br_f (by decide) (cf_sound hW hq (br_f (by decide) (nm_r (nI_1 i) ?_)))))
    exact ih (i + 1) (by omega) _ _ _ _ _ _ _ _ _ _ _ _ _ hq hW g0 g1 g2
theorem cf_l92 (hP : cf_P a1 a3 a4) (hrd : cf_rd a1 a2 a3 a4 a5 rd) (hL : L ≤ 260) (hk : k + 1 < L) (hJ : ∀ (Q : Nat → cf_M) (an fn pl : Int32) (a6 a7 a8 a9 a10 a11 a12 a13 a14 : Nat → Int32), (∀ i, i < 4 → cf_ok (Q i)) → cf_Z a1 a2 a3 a4 a5 rd Q (an, fn, pl, a1, a2, a3, a4, a5, a6, a7, a8, a9, a10, a11, a12, a13, a14) → J (nI k + 2) an fn pl a1 a2 a3 a4 a5 a6 a7 a8 a9 a10 a11 a12 a13 a14) (x5 : Int32) :
    ∀ (t i : Nat), i + t = 7 → ∀ (Q : Nat → cf_M) (an fn pl : Int32) (a6 a7 a8 a9 a10 a11 a12 a13 a14 : Nat → Int32), (∀ i, i < 4 → cf_ok (Q i)) → cf_Z a1 a2 a3 a4 a5 rd Q (an, fn, pl, a1, a2, a3, a4, a5, a6, a7, a8, a9, a10, a11, a12, a13, a14) →
      wL_law_92 post L xs J (nI k) x5 kc ks (t + 1) (nI i) an fn pl a1 a2 a3 a4 a5 a6 a7 a8 a9 a10 a11 a12 a13 a14 := by
  intro t
  induction t with
  | zero =>
    intro i hi Q an fn pl a6 a7 a8 a9 a10 a11 a12 a13 a14 hQ hZ
    obtain rfl : i = 7 := by omega
    obtain ⟨tr, ht0, htr⟩ := cf_trace (P := cf_ok) (R := fun i m m' => cf_step a1 a2 a3 a4 a5 rd (cf_v xs k i) m m') (fun i m hm => cf_resume hP hrd hm (cf_v xs k i)) (Q 0) (hQ 0 (by omega))
    unfold wL_law_92
    refine pk_le 7 7 (fun _ => ?_) (fun z => absurd z (by omega))
    refine cf_copy (a := 0) (b := 1) hZ (by omega) (by omega) (by omega) (fun u hU => ?_)
    have hU' := hU
    obtain ⟨bn, gn, ql, b6, b7, b8, b9, b10, b11, b12, b13, b14, rfl, hor2, hA⟩ := hU'
    have f0 : cf_set Q 1 (Q 0) 0 = Q 0 := cf_setn (by omega)
    have f1 : cf_set Q 1 (Q 0) 1 = Q 0 := cf_sets
    refine cf_state (c := 0) hU (by omega) (br_t (by rw [f0]) (cf_same (c := 0) (b := 1) hU (by omega) (by omega) (f0.trans f1.symm) (br_f (by decide) ?_)))
    refine cf_copy (a := 1) (b := 2) hU (by omega) (by omega) (by omega) (fun w hW => ?_)
    have hW' := hW
    obtain ⟨cn, hn, sl, c6, c7, c8, c9, c10, c11, c12, c13, c14, rfl, hor3, hB⟩ := hW'
    rw [f1] at hW ⊢
    have g0 : cf_set (cf_set Q 1 (Q 0)) 2 (Q 0) 0 = Q 0 := by rw [cf_setn (by omega)]; exact f0
    have g1 : cf_set (cf_set Q 1 (Q 0)) 2 (Q 0) 1 = Q 0 := by rw [cf_setn (by omega)]; exact f1
    have g2 : cf_set (cf_set Q 1 (Q 0)) 2 (Q 0) 2 = Q 0 := cf_sets
    have hq := cf_okset (c := 2) (cf_okset (c := 1) hQ (hQ 0 (by omega))) (hQ 0 (by omega))
    refine cf_state (c := 0) hW (by omega) (br_t (by rw [g0]) (cf_same (c := 0) (b := 2) hW (by omega) (by omega) (g0.trans g2.symm) (br_f (by decide) ?_)))
    refine cf_state (c := 2) hW (by omega) (cf_value (c := 2) hW (by omega) (cf_depth (c := 2) hW (by omega) ⟨7, ?_⟩))
    rw [g2, ← ht0]
    exact cf_l206 hL hk hJ tr htr 6 0 (by omega) _ _ _ _ _ _ _ _ _ _ _ _ _ hq hW (g0.trans ht0.symm) (g1.trans ht0.symm) (g2.trans ht0.symm)
  | succ t ih =>
    intro i hi Q an fn pl a6 a7 a8 a9 a10 a11 a12 a13 a14 hQ hZ
    unfold wL_law_92
    refine pk_le 7 i (fun z => absurd z (by omega)) (fun _ => br_c (fun _ => nm_r (nI_1 i) (ih (i + 1) (by omega) Q _ _ _ _ _ _ _ _ _ _ _ _ hQ hZ)) (fun _ => ⟨pk_in (k + 1) L hk (nI_1 k), ?_⟩))
    obtain ⟨m', hm', r, hr⟩ := cf_resume (a2 := a2) (a5 := a5) hP hrd (hQ 0 (by omega)) ((((xs (nI k + 1).toNatClampNeg) >>> ((4 * nI i) &&& 31)) &&& 15) - 6)
    refine hr _ 0 (by omega) Q _ (cf_go (v := 0) (m' := m') hZ rfl) (fun u hU => ?_)
    have hU' := hU
    obtain ⟨bn, gn, ql, b6, b7, b8, b9, b10, b11, b12, b13, b14, rfl, hor2, hA⟩ := hU'
    exact nm_r (nI_1 i) (ih (i + 1) (by omega) _ _ _ _ _ _ _ _ _ _ _ _ _ (cf_okset hQ hm') hU)
theorem cf_l371 {Q : Nat → cf_M} {an fn pl : Int32} {a6 a7 a8 a9 a10 a11 a12 a13 a14 : Nat → Int32} (hp : post 1) (hQ : ∀ i, i < 4 → cf_ok (Q i)) (hZ : cf_Z a1 a2 a3 a4 a5 rd Q (an, fn, pl, a1, a2, a3, a4, a5, a6, a7, a8, a9, a10, a11, a12, a13, a14)) : wL_law_371 post L xs kc ks an fn pl a1 a2 a3 a4 a5 a6 a7 a8 a9 a10 a11 a12 a13 a14 := by
  unfold wL_law_371
  exact cf_sound hZ hQ hp
theorem cf_l36 (hP : cf_P a1 a3 a4) (hrd : cf_rd a1 a2 a3 a4 a5 rd) (hL : L ≤ 260) (hp : post 1) :
    ∀ (t k : Nat), k ≤ 61 → 60 ≤ k + 2 * t → ∀ (Q : Nat → cf_M) (an fn pl : Int32) (a6 a7 a8 a9 a10 a11 a12 a13 a14 : Nat → Int32), (∀ i, i < 4 → cf_ok (Q i)) → cf_Z a1 a2 a3 a4 a5 rd Q (an, fn, pl, a1, a2, a3, a4, a5, a6, a7, a8, a9, a10, a11, a12, a13, a14) →
      wL_law_36 post L xs kc ks (t + 1) (nI k) an fn pl a1 a2 a3 a4 a5 a6 a7 a8 a9 a10 a11 a12 a13 a14 := by
  intro t
  induction t with
  | zero =>
    intro k hk61 hk Q an fn pl a6 a7 a8 a9 a10 a11 a12 a13 a14 hQ hZ
    unfold wL_law_36
    rw [nI_1]
    exact pk_le L (k + 1) (fun _ => cf_l371 hp hQ hZ) (fun _ => pk_le 60 k (fun _ => cf_l371 hp hQ hZ) (fun z => absurd z (by omega)))
  | succ t ih =>
    intro k hk61 hk Q an fn pl a6 a7 a8 a9 a10 a11 a12 a13 a14 hQ hZ
    unfold wL_law_36
    rw [nI_1]
    refine pk_le L (k + 1) (fun _ => cf_l371 hp hQ hZ) (fun y => pk_le 60 k (fun _ => cf_l371 hp hQ hZ) (fun z => ⟨pk_in k L (by omega), nm_e ⟨by decide, ?_⟩⟩))
    obtain ⟨j, hj, ej⟩ := pk_andE (xs (nI k).toNatClampNeg) (m := 255) 8 (by decide)
    rw [ej, show nI j - nI j / 3 * 3 = nI (j % 3) from pk_rem (d := 3) (by omega) (by omega) (by omega)]
    refine cf_start hZ (by omega) _ (fun m' u hm' hU => ?_)
    have hU' := hU
    obtain ⟨bn, gn, ql, b6, b7, b8, b9, b10, b11, b12, b13, b14, rfl, hor2, hA⟩ := hU'
    refine nm_e ⟨8, cf_l92 hP hrd hL y (fun Q an fn pl a6 a7 a8 a9 a10 a11 a12 a13 a14 hQ hZ => ?_) _ 7 0 (by omega) _ _ _ _ _ _ _ _ _ _ _ _ _ (cf_okset hQ hm') hU⟩
    rw [show nI k + 2 = nI (k + 2) from nI_add k 2]
    exact ih (k + 2) (by omega) (by omega) Q _ _ _ _ _ _ _ _ _ _ _ _ hQ hZ
end
end
theorem cf_l24 {post : Int32 → Prop} {L : Nat} {xs : Nat → Int32} {kc ks n : Nat} (hL : L ≤ 260) (hn : n ≤ 18) (hp : post 1) : wL_law_24 post L xs (nI n) kc ks 0 0 0 (fun _ => 0) (fun _ => 0) (fun _ => 0) (fun _ => 0) (fun _ => 0) (fun _ => 0) (fun _ => 0) (fun _ => 0) (fun _ => 0) (fun _ => 0) (fun _ => 0) (fun _ => 0) (fun _ => 0) (fun _ => 0) := by
  unfold wL_law_24
  refine cf_program (n := n) hL (by omega) ⟨fun f hf => ⟨0, by omega, rfl⟩, fun j hj => ⟨0, by omega, rfl⟩, fun j hj => ⟨0, by omega, rfl⟩⟩ (fun b1 b2 b3 b4 b5 hB => ?_)
  obtain ⟨rd, hrd⟩ := cf_analyse (a2 := b2) (a5 := b5) hB
  refine nm_r (nI_add 2 n) ⟨31, cf_l36 (rd := rd) hB hrd hL hp 30 (2 + n) (by omega) (by omega) (fun _ => (0, 0, 0, 0, (fun _ => 0), (fun _ => 0), (fun _ => 0))) _ _ _ _ _ _ _ _ _ _ _ _ (fun i hi => Or.inr (Or.inr ⟨Or.inl rfl, rfl⟩)) ?_⟩
  exact ⟨_, _, _, _, _, _, _, _, _, _, _, _, rfl, Or.inl ⟨rfl, rfl⟩, fun k hk => ⟨rfl, rfl, rfl, rfl, fun _ _ => rfl, fun _ _ => rfl, fun _ _ => rfl⟩⟩
theorem i_vc (xs : Nat → Int32) (L : Nat) (hL : L ≤ 260) : wpL_law (fun r => r = 1) L xs := by
  unfold wpL_law
  refine ⟨14, 242, by omega, by omega, ?_⟩
  unfold wpX_init
  dsimp only
  refine ⟨by omega, by omega, by omega, by omega, by omega, by omega, by omega, by omega, by omega, by omega, by omega, by omega, by omega, by omega, by omega, by omega, by omega, by omega, by omega, by omega, by omega, by omega, by omega, by omega, by omega, by omega, by omega, by omega, ?_⟩
  exact pk_le 24 L (fun _ => cf_l24 (n := 18) hL (by omega) rfl) (fun z => ⟨by decide, by
    rw [show Int32.ofNat L / 2 = nI (L / 2) from pk_div (a := L) (d := 2) (by omega) (by omega) (by omega)]
    exact cf_l24 (n := L / 2) hL (by omega) rfl⟩)
end
