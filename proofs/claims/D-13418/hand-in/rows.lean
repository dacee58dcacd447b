section
/-! ===== numbers: shifts, remainders, bit lengths ===== -/
theorem rf_nI {c : Int32} {k : Nat} (hc : c.toInt = (k : Int)) (hk : k < 2 ^ 31) : c = nI k := Int32.toInt_inj.mp (by rw [hc, nI_toInt hk])
theorem rf_c64 : ∀ k, k < 64 → (((nI k).toInt64 &&& 63).toBitVec.smod 64).toNat = k := by decide +kernel
theorem rf_cnt {c : Int32} {k : Nat} (hc : c.toInt = (k : Int)) (hk : k < 64) : ((c.toInt64 &&& 63).toBitVec.smod 64).toNat = k := by
  rw [rf_nI hc (by omega)]
  exact rf_c64 k hk
theorem rf_shl {x : Int64} {c : Int32} {k : Nat} (hc : c.toInt = (k : Int)) (hk : k < 64) (h1 : -2 ^ 63 ≤ x.toInt * 2 ^ k) (h2 : x.toInt * 2 ^ k < 2 ^ 63) : (x <<< (c.toInt64 &&& 63)).toInt = x.toInt * 2 ^ k :=
  Jvm.Kit.i64_shl x _ (rf_cnt hc hk) h1 h2
theorem rf_shlN {x : Int64} {c : Int32} {q k : Nat} (hx : x.toInt = (q : Int)) (hc : c.toInt = (k : Int)) (hk : k < 64) (h : q * 2 ^ k < 2 ^ 63) : (x <<< (c.toInt64 &&& 63)).toInt = ((q * 2 ^ k : Nat) : Int) := by
  have e : x.toInt * 2 ^ k = ((q * 2 ^ k : Nat) : Int) := by
    rw [hx]
    rfl
  obtain ⟨Q, hQ⟩ : ∃ Q, Q = q * 2 ^ k := ⟨_, rfl⟩
  rw [← hQ] at h e ⊢
  rw [rf_shl hc hk (by rw [e]; omega) (by rw [e]; omega), e]
theorem rf_shrN {x : Int64} {c : Int32} {q k : Nat} (hx : x.toInt = (q : Int)) (hc : c.toInt = (k : Int)) (hk : k < 64) : (x >>> (c.toInt64 &&& 63)).toInt = ((q / 2 ^ k : Nat) : Int) := by
  rw [Jvm.Kit.i64_shr x _ (rf_cnt hc hk), hx]
  rfl
theorem rf_one {c : Int32} {k : Nat} (hc : c.toInt = (k : Int)) (hk : k < 62) : ((1 : Int64) <<< (c.toInt64 &&& 63)).toInt = ((2 ^ k : Nat) : Int) := by
  have hp : 2 ^ k < 2 ^ 62 := Nat.pow_lt_pow_right (by decide) hk
  have h := rf_shlN (x := 1) (q := 1) (c := c) (k := k) (by decide) hc (by omega) (by omega)
  rwa [Nat.one_mul] at h
theorem rf_P {p : Nat} (h2 : 2 ≤ p) (h9 : p ≤ 9) : 4 ≤ 2 ^ p ∧ 2 ^ p ≤ 512 :=
  ⟨Nat.pow_le_pow_right (n := 2) (by decide) h2, Nat.pow_le_pow_right (n := 2) (by decide) h9⟩
theorem rf_most1 {c : Int32} {p : Nat} (hc : c.toInt = (p : Int)) (h2 : 2 ≤ p) (h9 : p ≤ 9) : (((1 : Int64) <<< (c.toInt64 &&& 63)) - 1).toInt = ((2 ^ p - 1 : Nat) : Int) := by
  have h1 := rf_one hc (by omega)
  have hP := rf_P h2 h9
  have h11 : (1 : Int64).toInt = 1 := by decide
  generalize (1 : Int64) <<< (c.toInt64 &&& 63) = y at *
  generalize 2 ^ p = P at *
  rw [Jvm.Kit.i64_sub (by rw [h1, h11]; omega) (by rw [h1, h11]; omega), h1, h11]
  omega
theorem rf_most2 {c : Int32} {p : Nat} (hc : c.toInt = (p : Int)) (h2 : 2 ≤ p) (h9 : p ≤ 9) : ((((1 : Int64) <<< (c.toInt64 &&& 63)) - 1) <<< ((23 : Int32).toInt64 &&& 63)).toInt = (((2 ^ p - 1) * 2 ^ 23 : Nat) : Int) := by
  have hP := rf_P h2 h9
  exact rf_shlN (k := 23) (rf_most1 hc h2 h9) (by decide) (by decide) (by
    generalize 2 ^ p = P at *
    omega)
theorem rf_rem32 (x y : Int32) : (x - (x / y) * y).toInt = x.toInt.tmod y.toInt := by
  have a := (x % y).toInt_lt; have b := (x % y).le_toInt
  rw [Int32.toInt_mod] at a b
  rw [Int32.toInt_sub, Int32.toInt_mul, Int32.toInt_div, Int.bmod_mul_bmod, Int.sub_bmod_bmod, Int.mul_comm, ← Int.tmod_def]
  exact Jvm.Kit.bmod32 b a
theorem rf_len {q N : Nat} (h : q < 2 ^ N) : ∃ n, n ≤ N ∧ q < 2 ^ n ∧ ∀ j, j < n → 2 ^ j ≤ q := by
  obtain ⟨n, h1, h2⟩ := pk_least (fun n => q < 2 ^ n) ⟨N, h⟩
  refine ⟨n, ?_, h1, fun j hj => Nat.le_of_not_lt (h2 j hj)⟩
  rcases Nat.lt_or_ge N n with z | z
  · exact absurd h (h2 N z)
  · exact z
theorem rf_z64 : (0 : Int64).toInt = 0 := by decide
theorem rf_z32 : (0 : Int32).toInt = 0 := by decide
theorem rf_nz64 {x : Int64} {q : Nat} (hx : x.toInt = (q : Int)) : x = 0 ↔ q = 0 := by
  rw [← Int64.toInt_inj, hx, rf_z64]
  omega
theorem rf_par {x : Int64} {k : Nat} (hx : x.toInt = (k : Int)) : (x &&& 1) = 0 ↔ k % 2 = 0 := by
  rw [← Int64.toInt_inj, Jvm.Kit.i64_mask x 1 (k := 1) (by decide) (by decide), hx, rf_z64]
  omega
theorem rf_half {x : Int64} {k : Nat} (hx : x.toInt = (k : Int)) : (x >>> ((1 : Int32).toInt64 &&& 63)).toInt = ((k / 2 : Nat) : Int) :=
  rf_shrN (c := 1) (k := 1) hx (by decide) (by decide)
theorem rf_toI32 {z : Int64} {v : Int} (hz : z.toInt = v) (h1 : -1024 ≤ v) (h2 : v ≤ 1024) : z.toInt32.toInt = v := by
  rw [Jvm.Kit.i32_of_i64 (by omega) (by omega), hz]
/-! ===== the picture ===== -/
/-- a register's mantissa and exponent stand for V, in units of 2^-12 -/
def rf_val (m e : Int32) (V : Int) : Prop := ∃ E : Nat, e.toInt = (E : Int) - 12 ∧ E ≤ 32 ∧ -1024 ≤ m.toInt ∧ m.toInt ≤ 1024 ∧ V = m.toInt * 2 ^ E
def rf_regs (a1 a2 : Nat → Int32) : Prop := ∀ j, j < 4 → ∃ V, rf_val (a1 j) (a2 j) V
def rf_sg (b : Int32) (n : Nat) : Int := if b = 0 then (n : Int) else -(n : Int)
/-- what lies k units of u and l from 0 is rounded away from 0 -/
def rf_away (md : Nat) (b : Int32) (k l u : Nat) : Prop := (md = 0 ∧ (u < 2 * l ∨ (2 * l = u ∧ k % 2 = 1))) ∨ (md = 2 ∧ b = 0) ∨ (md = 1 ∧ ¬ b = 0)
/-- the unit of a size S is 2^j; S is k units and l -/
def rf_dec (p S j k l : Nat) : Prop := j ≤ 23 ∧ S = k * 2 ^ j + l ∧ l < 2 ^ j ∧ S < 2 ^ (j + p) ∧ ∀ i, i < j → 2 ^ (i + p) ≤ S
/-- a size S of sign b rounds to the size D, with the flags c -/
def rf_spec (p md : Nat) (b : Int32) (S D c : Nat) : Prop :=
  ((2 ^ p - 1) * 2 ^ 23 < S ∧ D = (2 ^ p - 1) * 2 ^ 23 ∧ c = 3) ∨
  (S ≤ (2 ^ p - 1) * 2 ^ 23 ∧ ∃ j k l, rf_dec p S j k l ∧ ((l = 0 ∧ D = S ∧ c = 0) ∨ (0 < l ∧ c = 1 ∧ ((rf_away md b k l (2 ^ j) ∧ D = (k + 1) * 2 ^ j) ∨ (¬ rf_away md b k l (2 ^ j) ∧ D = k * 2 ^ j)))))
def rf_round (p md : Nat) (X V : Int) (c : Nat) : Prop := ∃ b S D, X = rf_sg b S ∧ (¬ b = 0 → 0 < S) ∧ S < 2 ^ 60 ∧ rf_spec p md b S D c ∧ V = rf_sg b D
theorem rf_sg0 {b : Int32} {n : Nat} (h : b = 0) : rf_sg b n = (n : Int) := if_pos h
theorem rf_sg1 {b : Int32} {n : Nat} (h : ¬ b = 0) : rf_sg b n = -(n : Int) := if_neg h
theorem rf_regs_upd {a1 a2 : Nat → Int32} {r : Nat} {m e : Int32} {V : Int} (h : rf_regs a1 a2) (hv : rf_val m e V) : rf_regs (upd a1 r m) (upd a2 r e) := by
  intro j hj
  by_cases z : j = r
  · subst z
    rw [pk_us, pk_us]
    exact ⟨V, hv⟩
  · rw [pk_un z, pk_un z]
    exact h j hj
theorem rf_away_scale {md : Nat} {b : Int32} {k l u w : Nat} (hw : 0 < w) : rf_away md b k (l * w) (u * w) ↔ rf_away md b k l u := by
  have h1 : u * w < 2 * (l * w) ↔ u < 2 * l := by
    rw [← Nat.mul_assoc]
    exact Nat.mul_lt_mul_right hw
  have h2 : 2 * (l * w) = u * w ↔ 2 * l = u := by
    rw [← Nat.mul_assoc]
    exact Nat.mul_left_inj (by omega)
  unfold rf_away
  rw [h1, h2]
/-! ===== sizes ===== -/
theorem rf_lowS {q E n i : Nat} (h2 : ∀ j, j < n → 2 ^ j ≤ q) (hn : 1 ≤ n) (h : i < n + E) : 2 ^ i ≤ q * 2 ^ E := by
  refine Nat.le_trans (Nat.pow_le_pow_right (by decide) (show i ≤ (n - 1) + E by omega)) ?_
  rw [Nat.pow_add]
  exact Nat.mul_le_mul_right _ (h2 (n - 1) (by omega))
theorem rf_highS {q E n i : Nat} (h1 : q < 2 ^ n) (h : n + E ≤ i) : q * 2 ^ E < 2 ^ i := by
  refine Nat.lt_of_lt_of_le ?_ (Nat.pow_le_pow_right (by decide) h)
  rw [Nat.pow_add]
  exact (Nat.mul_lt_mul_right (Nat.two_pow_pos E)).mpr h1
theorem rf_most_lt {p : Nat} : (2 ^ p - 1) * 2 ^ 23 < 2 ^ (p + 23) := by
  rw [Nat.pow_add]
  have := Nat.two_pow_pos p
  generalize 2 ^ p = P at *
  omega
theorem rf_unit_le {p j k : Nat} (hj : j ≤ 23) (hk : k < 2 ^ p) : k * 2 ^ j ≤ (2 ^ p - 1) * 2 ^ 23 :=
  Nat.mul_le_mul (by omega) (Nat.pow_le_pow_right (by decide) hj)
/-- nothing is cut off -/
theorem rf_spA {p md q E n j : Nat} {b : Int32} (hp : p ≤ 9) (h1 : q < 2 ^ n) (h2 : ∀ i, i < n → 2 ^ i ≤ q) (hj : n + E - p = j) (hE : j ≤ E) (h23 : q = 0 ∨ j ≤ 23) :
    rf_spec p md b (q * 2 ^ E) (q * 2 ^ E) 0 ∧ q * 2 ^ E ≤ (2 ^ p - 1) * 2 ^ 23 ∧ q < 2 ^ p := by
  have hq : q < 2 ^ p := Nat.lt_of_lt_of_le h1 (Nat.pow_le_pow_right (by decide) (by omega))
  by_cases z : q = 0
  · subst z
    rw [Nat.zero_mul]
    exact ⟨Or.inr ⟨Nat.zero_le _, 0, 0, 0, ⟨by omega, rfl, by decide, Nat.two_pow_pos _, fun i hi => absurd hi (by omega)⟩, Or.inl ⟨rfl, rfl, rfl⟩⟩, Nat.zero_le _, hq⟩
  · have hj23 : j ≤ 23 := by omega
    have hn : 1 ≤ n := by
      rcases Nat.eq_zero_or_pos n with y | y
      · subst y
        omega
      · exact y
    have hS : q * 2 ^ E < 2 ^ (j + p) := rf_highS h1 (by omega)
    have e : q * 2 ^ E = q * 2 ^ (E - j) * 2 ^ j := by
      rw [Nat.mul_assoc, ← Nat.pow_add]
      congr 2
      omega
    have hk : q * 2 ^ (E - j) < 2 ^ p := by
      rw [e, Nat.add_comm, Nat.pow_add] at hS
      exact Nat.lt_of_mul_lt_mul_right hS
    have hm : q * 2 ^ E ≤ (2 ^ p - 1) * 2 ^ 23 := by
      rw [e]
      exact rf_unit_le hj23 hk
    exact ⟨Or.inr ⟨hm, j, q * 2 ^ (E - j), 0, ⟨hj23, e, Nat.two_pow_pos _, hS, fun i hi => rf_lowS h2 hn (by omega)⟩, Or.inl ⟨rfl, rfl, rfl⟩⟩, hm, hq⟩
/-- c bits are cut off -/
theorem rf_spB {p q E n j c : Nat} (h1 : q < 2 ^ n) (h2 : ∀ i, i < n → 2 ^ i ≤ q) (hn : n = c + p) (hj : j = c + E) (hc : 1 ≤ c) (h23 : j ≤ 23) :
    rf_dec p (q * 2 ^ E) j (q / 2 ^ c) (q % 2 ^ c * 2 ^ E) ∧ q / 2 ^ c < 2 ^ p := by
  subst hn hj
  refine ⟨⟨h23, ?_, ?_, rf_highS h1 (by omega), fun i hi => rf_lowS h2 (by omega) (by omega)⟩, ?_⟩
  · rw [Nat.pow_add, ← Nat.mul_assoc, ← Nat.add_mul, Nat.div_add_mod']
  · rw [Nat.pow_add]
    exact (Nat.mul_lt_mul_right (Nat.two_pow_pos E)).mpr (Nat.mod_lt _ (Nat.two_pow_pos c))
  · rw [Nat.pow_add] at h1
    exact Nat.div_lt_of_lt_mul h1
theorem rf_le_most {p S j k l : Nat} (h2 : 2 ≤ p) (h9 : p ≤ 9) (h : rf_dec p S j k l) (hk : k < 2 ^ p) (hn : ¬ (j = 23 ∧ k = 2 ^ p - 1)) : S ≤ (2 ^ p - 1) * 2 ^ 23 := by
  obtain ⟨h23, e, hl, hS, -⟩ := h
  have hP := rf_P h2 h9
  by_cases z : j = 23
  · subst z
    generalize 2 ^ p = P at *
    omega
  · have h22 : 2 ^ (j + p) ≤ 2 ^ (22 + p) := Nat.pow_le_pow_right (by decide) (by omega)
    rw [Nat.pow_add 2 22 p] at h22
    generalize 2 ^ (j + p) = Q at *
    generalize 2 ^ p = P at *
    omega
theorem rf_gt_most {p S j k l : Nat} (h : rf_dec p S j k l) (hj : j = 23) (hk : k = 2 ^ p - 1) (hl : 0 < l) : (2 ^ p - 1) * 2 ^ 23 < S := by
  obtain ⟨h23, e, -, -, -⟩ := h
  subst hj hk
  omega
end
section
/-! ===== bitsOf, store, limit ===== -/
theorem rf_bitsOf {post : Int32 → Prop} {x : Int64} {q n : Nat} (hx : x.toInt = (q : Int)) (hn : n < 62) (h1 : q < 2 ^ n) (h2 : ∀ j, j < n → 2 ^ j ≤ q) (hp : post (nI n)) : wpX_bitsOf post () x :=
  pk_loop (σ := Unit) (fun f i _ => wX_bitsOf_2 post x f (nI i)) (fun _ _ => True) n 0 () (by omega) trivial
    (fun f _ _ => pk_le 62 n (fun z => absurd z (by omega)) (fun _ => br_t ((rf_nz64 (rf_shrN hx (nI_toInt (by omega)) (by omega))).mpr (Nat.div_eq_of_lt h1)) hp))
    (fun f i _ hi _ hw => pk_le 62 i (fun z => absurd z (by omega)) (fun _ => br_f (fun z => by
      have z1 := (rf_nz64 (rf_shrN hx (nI_toInt (by omega)) (by omega))).mp z
      have z2 := Nat.div_pos (h2 i hi) (Nat.two_pow_pos i)
      omega) (nm_r (nI_1 i) (hw () trivial))))
theorem rf_st_val {b : Int32} {x6 z0 : Int64} {x8 : Int32} {q E o i : Nat} (hq : q ≤ 1024) (hv : q * 2 ^ E ≤ 2 ^ 32) (h6 : x6.toInt = (o : Int)) (h8 : x8.toInt = ((E + i : Nat) : Int) - 12) (ho : o * 2 ^ i = q) (hz : z0.toInt = rf_sg b o) (hn : ¬ x6 = 0) : rf_val z0.toInt32 x8 (rf_sg b (q * 2 ^ E)) := by
  have ho0 : o ≠ 0 := fun z => hn ((rf_nz64 h6).mpr z)
  have hoq : o ≤ q := by
    rw [← ho]
    exact Nat.le_mul_of_pos_right o (Nat.two_pow_pos i)
  have e : q * 2 ^ E = o * 2 ^ (E + i) := by rw [← ho, Nat.mul_assoc, ← Nat.pow_add, Nat.add_comm]
  have hE : E + i ≤ 32 := by
    rcases Nat.lt_or_ge 32 (E + i) with z | z
    · have a : 2 ^ 33 ≤ 2 ^ (E + i) := Nat.pow_le_pow_right (by decide) z
      have c : 2 ^ (E + i) ≤ o * 2 ^ (E + i) := Nat.le_mul_of_pos_left _ (by omega)
      rw [e] at hv
      omega
    · exact z
  have hr : -1024 ≤ rf_sg b o ∧ rf_sg b o ≤ 1024 := by
    unfold rf_sg
    split <;> omega
  refine ⟨E + i, h8, hE, ?_, ?_, ?_⟩
  · rw [rf_toI32 hz hr.1 hr.2]
    exact hr.1
  · rw [rf_toI32 hz hr.1 hr.2]
    exact hr.2
  · rw [rf_toI32 hz hr.1 hr.2, e]
    unfold rf_sg
    split
    · rfl
    · rw [Int.neg_mul]
      rfl
theorem rf_st_0 {b : Int32} {x6 z0 : Int64} {q E o i : Nat} (h6 : x6.toInt = (o : Int)) (ho : o * 2 ^ i = q) (hz : z0.toInt = rf_sg b o) (hn : x6 = 0) : rf_val z0.toInt32 0 (rf_sg b (q * 2 ^ E)) := by
  have ho0 : o = 0 := (rf_nz64 h6).mp hn
  subst ho0
  rw [Nat.zero_mul] at ho
  subst ho
  have e0 : rf_sg b 0 = 0 := by
    unfold rf_sg
    split <;> rfl
  rw [Nat.zero_mul, e0]
  have t := rf_toI32 hz (by rw [e0]; decide) (by rw [e0]; decide)
  rw [e0] at t
  exact ⟨12, by decide, by decide, by rw [t]; decide, by rw [t]; decide, by rw [t, Int.zero_mul]⟩
theorem rf_store_48 {post : St1 → Prop} {fb fm ff b x8 : Int32} {a1 a2 : Nat → Int32} {x6 : Int64} {r q E o i : Nat} (hr : r < 4) (hq : q ≤ 1024) (hv : q * 2 ^ E ≤ 2 ^ 32) (h6 : x6.toInt = (o : Int)) (h8 : x8.toInt = ((E + i : Nat) : Int) - 12) (ho : o * 2 ^ i = q)
    (H : ∀ m e', rf_val m e' (rf_sg b (q * 2 ^ E)) → post (fb, fm, ff, upd a1 r m, upd a2 r e')) : wX_store_48 post (nI r) b x6 x8 fb fm ff a1 a2 := by
  have key : ∀ z0 : Int64, z0.toInt = rf_sg b o → wX_store_65 post (nI r) x6 x8 z0 (nI r) fb fm ff a1 a2 := by
    intro z0 hz
    refine ⟨pk_in r 4 hr, nm_e ?_⟩
    rw [nI_clamp (show r < 2 ^ 31 by omega)]
    exact br_c (fun h0 => ⟨pk_in r 4 hr, nm_e (H _ _ (rf_st_0 h6 ho hz h0))⟩) (fun h0 => ⟨pk_in r 4 hr, nm_e (H _ _ (rf_st_val hq hv h6 h8 ho hz h0))⟩)
  exact br_c (fun hb => key x6 (by rw [rf_sg0 hb]; exact h6)) (fun hb => key (-x6) (by rw [rf_sg1 hb, Jvm.Kit.i64_neg (by omega), h6]))
theorem rf_store {post : St1 → Prop} {fb fm ff b e : Int32} {a1 a2 : Nat → Int32} {x : Int64} {r q E : Nat} (hr : r < 4) (hx : x.toInt = (q : Int)) (he : e.toInt = (E : Int) - 12) (hE : E ≤ 100) (hq : q ≤ 1024) (hv : q * 2 ^ E ≤ 2 ^ 32)
    (H : ∀ m e', rf_val m e' (rf_sg b (q * 2 ^ E)) → post (fb, fm, ff, upd a1 r m, upd a2 r e')) : wpX_store post (fb, fm, ff, a1, a2) (nI r) b x e :=
  pk_loop (σ := Int64 × Int32) (fun n i s => wX_store_10 post (nI r) b fb fm ff a1 a2 n s.1 s.2 (nI i)) (fun i s => ∃ o : Nat, s.1.toInt = (o : Int) ∧ s.2.toInt = ((E + i : Nat) : Int) - 12 ∧ o * 2 ^ i = q) 62 0 (x, e) (by omega) ⟨q, hx, he, Nat.mul_one q⟩
    (fun n s h => by
      obtain ⟨o, h6, h8, ho⟩ := h
      exact pk_le 62 62 (fun _ => rf_store_48 hr hq hv h6 h8 ho H) (fun z => absurd z (by omega)))
    (fun n i s hi h hw => by
      obtain ⟨o, h6, h8, ho⟩ := h
      have hh := rf_store_48 (post := post) (fb := fb) (fm := fm) (ff := ff) (b := b) (a1 := a1) (a2 := a2) hr hq hv h6 h8 ho H
      refine pk_le 62 i (fun z => absurd z (by omega)) (fun _ => br_c (fun _ => hh) (fun _ => br_c (fun z => nm_e (nm_e (nm_r (nI_1 i) ?_))) (fun _ => hh)))
      have hp := (rf_par h6).mp z
      have h81 : (s.2 + 1).toInt = ((E + (i + 1) : Nat) : Int) - 12 := by
        have h11 : (1 : Int32).toInt = 1 := by decide
        rw [Jvm.Kit.i32_add (by rw [h8, h11]; omega) (by rw [h8, h11]; omega), h8, h11]
        omega
      exact hw (s.1 >>> ((1 : Int32).toInt64 &&& 63), s.2 + 1) ⟨o / 2, rf_half h6, h81, by
        rw [← ho, Nat.pow_succ, Nat.mul_comm (2 ^ i) 2, ← Nat.mul_assoc]
        congr 1
        omega⟩)
theorem rf_limit {post : Int32 → St1 → Prop} {fm ff b : Int32} {a1 a2 : Nat → Int32} {r p : Nat} (hr : r < 4) (h2 : 2 ≤ p) (h9 : p ≤ 9)
    (H : ∀ m e', rf_val m e' (rf_sg b ((2 ^ p - 1) * 2 ^ 23)) → post 3 (nI p, fm, ff ||| 3, upd a1 r m, upd a2 r e')) : wpX_limit post (nI p, fm, ff, a1, a2) (nI r) b := by
  have hP := rf_P h2 h9
  unfold wpX_limit
  dsimp only
  refine rf_store (q := 2 ^ p - 1) (E := 23) hr (rf_most1 (nI_toInt (by omega)) h2 h9) (by decide) (by decide) (by omega) ?_ (fun m e' hv => nm_e (H m e' hv))
  generalize 2 ^ p = P at *
  omega
/-! ===== rounding ===== -/
theorem rf_goes65 {post : Int32 → Prop} {fb ff b : Int32} {a1 a2 : Nat → Int32} {md k l u : Nat} (hmd : md < 4) (hm : md ≠ 0) (hn : ¬ (md = 2 ∧ b = 0))
    (H1 : rf_away md b k l u → post 1) (H0 : ¬ rf_away md b k l u → post 0) : wX_goesAway_65 post b fb (nI md) ff a1 a2 :=
  pk_eq md 1
    (fun h => br_c
      (fun hb => H0 (fun z => by
        rcases z with ⟨z, _⟩ | ⟨z, g⟩ | ⟨z, g⟩
        · omega
        · exact hn ⟨z, g⟩
        · exact g hb))
      (fun hb => H1 (Or.inr (Or.inr ⟨h, hb⟩))))
    (fun h => H0 (fun z => by
      rcases z with ⟨z, _⟩ | ⟨z, g⟩ | ⟨z, g⟩
      · omega
      · exact hn ⟨z, g⟩
      · exact h z))
theorem rf_goes {post : Int32 → Prop} {fb ff b o p3 : Int32} {a1 a2 : Nat → Int32} {p2 : Int64} {md k l c : Nat} (hmd : md < 4) (h2 : p2.toInt = (l : Int)) (h3 : p3.toInt = (c : Int)) (hc1 : 1 ≤ c) (hc : c ≤ 60) (ho0 : o = 0 → k % 2 = 0) (ho1 : ¬ o = 0 → k % 2 = 1)
    (H1 : rf_away md b k l (2 ^ c) → post 1) (H0 : ¬ rf_away md b k l (2 ^ c) → post 0) : wpX_goesAway post (fb, nI md, ff, a1, a2) b o p2 p3 0 := by
  refine pk_eq md 0 (fun hm => ?_) (fun hm => ?_)
  · have h60 : p3 ≤ 60 := by
      rw [Int32.le_iff_toInt_le, h3, show (60 : Int32).toInt = 60 by decide]
      omega
    refine br_t h60 (fun x7 e7 => ?_)
    have h7 : x7.toInt = ((2 ^ (c - 1) : Nat) : Int) := by
      rw [e7]
      refine rf_one ?_ (by omega)
      have h11 : (1 : Int32).toInt = 1 := by decide
      rw [Jvm.Kit.i32_sub (by rw [h3, h11]; omega) (by rw [h3, h11]; omega), h3, h11]
      omega
    have hc2 : 2 ^ c = 2 * 2 ^ (c - 1) := by
      rw [Nat.mul_comm, ← Nat.pow_succ]
      congr 1
      omega
    rw [hc2] at H0 H1
    generalize 2 ^ (c - 1) = h at *
    have hlt : x7 < p2 ↔ h < l := by
      rw [Int64.lt_iff_toInt_lt, h7, h2]
      omega
    have heq : p2 = x7 ↔ l = h := by
      rw [← Int64.toInt_inj, h7, h2]
      omega
    have hno : ∀ P : Prop, (P → md = 0 ∧ (2 * h < 2 * l ∨ (2 * l = 2 * h ∧ k % 2 = 1))) → (¬ P → ¬ (2 * h < 2 * l ∨ (2 * l = 2 * h ∧ k % 2 = 1))) → (P → post 1) ∧ (¬ P → post 0) := by
      intro P g1 g0
      refine ⟨fun z => H1 (Or.inl (g1 z)), fun z => H0 (fun y => ?_)⟩
      rcases y with ⟨_, y⟩ | ⟨y, _⟩ | ⟨y, _⟩
      · exact g0 z y
      · omega
      · omega
    refine br_c (fun z => ?_) (fun z => br_c (fun y => br_t rfl (br_c (fun w => ?_) (fun w => ?_))) (fun y => ?_))
    · have z' := hlt.mp z
      exact (hno True (fun _ => ⟨hm, by omega⟩) (fun t => absurd trivial t)).1 trivial
    · have y' := heq.mp y
      have w' := ho0 w
      exact (hno False (fun t => t.elim) (fun _ => by omega)).2 (fun t => t)
    · have y' := heq.mp y
      have w' := ho1 w
      exact (hno True (fun _ => ⟨hm, by omega⟩) (fun t => absurd trivial t)).1 trivial
    · have z' : ¬ h < l := fun t => z (hlt.mpr t)
      have y' : ¬ l = h := fun t => y (heq.mpr t)
      exact (hno False (fun t => t.elim) (fun _ => by omega)).2 (fun t => t)
  · exact pk_eq md 2
      (fun h => br_c (fun hb => H1 (Or.inr (Or.inl ⟨h, hb⟩))) (fun hb => rf_goes65 hmd hm (fun t => hb t.2) H1 H0))
      (fun h => rf_goes65 hmd hm (fun t => h t.1) H1 H0)
section
variable {post : Int32 → St1 → Prop} {b e ff x8 x9 : Int32} {x x10 x12 : Int64} {a1 a2 : Nat → Int32} {p md r q E n j c k l K : Nat}
theorem rf_211 (hr : r < 4) (hK : K ≤ 512) (hj : j ≤ 23) (hx : x.toInt = (K : Int)) (h8 : x8.toInt = (j : Int) - 12)
    (H : ∀ m e', rf_val m e' (rf_sg b (K * 2 ^ j)) → post 1 (nI p, nI md, ff ||| 1, upd a1 r m, upd a2 r e')) : wX_round_211 post x8 x b (nI r) (nI p) (nI md) ff a1 a2 := by
  have hv : K * 2 ^ j ≤ 512 * 2 ^ 23 := Nat.mul_le_mul hK (Nat.pow_le_pow_right (by decide) hj)
  unfold wX_round_211
  exact rf_store (q := K) (E := j) hr hx h8 (by omega) (by omega) hv (fun m e' hv => nm_e (H m e' hv))
theorem rf_183 {o : Int32} (hr : r < 4) (hmd : md < 4) (hk : k < 512) (hj : j ≤ 23) (h10 : x10.toInt = (k : Int)) (h12 : x12.toInt = (l : Int)) (h8 : x8.toInt = (j : Int) - 12) (h9 : x9.toInt = (c : Int)) (hc1 : 1 ≤ c) (hc : c ≤ 60) (ho0 : o = 0 → k % 2 = 0) (ho1 : ¬ o = 0 → k % 2 = 1)
    (H1 : rf_away md b k l (2 ^ c) → ∀ m e', rf_val m e' (rf_sg b ((k + 1) * 2 ^ j)) → post 1 (nI p, nI md, ff ||| 1, upd a1 r m, upd a2 r e'))
    (H0 : ¬ rf_away md b k l (2 ^ c) → ∀ m e', rf_val m e' (rf_sg b (k * 2 ^ j)) → post 1 (nI p, nI md, ff ||| 1, upd a1 r m, upd a2 r e')) :
    wX_round_183 post (nI r) b 0 x8 x9 x10 x12 o b (nI p) (nI md) ff a1 a2 := by
  have h11 : (1 : Int64).toInt = 1 := by decide
  have hk1 : (x10 + 1).toInt = ((k + 1 : Nat) : Int) := by
    rw [Jvm.Kit.i64_add (by rw [h10, h11]; omega) (by rw [h10, h11]; omega), h10, h11]
    rfl
  unfold wX_round_183
  exact rf_goes hmd h12 h9 hc1 hc ho0 ho1 (fun ha => br_f (by decide) (rf_211 hr (by omega) hj hk1 h8 (H1 ha))) (fun ha => br_t rfl (rf_211 hr (by omega) hj h10 h8 (H0 ha)))
theorem rf_167 (hr : r < 4) (hmd : md < 4) (hk : k < 512) (hj : j ≤ 23) (h10 : x10.toInt = (k : Int)) (h12 : x12.toInt = (l : Int)) (h8 : x8.toInt = (j : Int) - 12) (h9 : x9.toInt = (c : Int)) (hc1 : 1 ≤ c) (hc : c ≤ 60)
    (H1 : rf_away md b k l (2 ^ c) → ∀ m e', rf_val m e' (rf_sg b ((k + 1) * 2 ^ j)) → post 1 (nI p, nI md, ff ||| 1, upd a1 r m, upd a2 r e'))
    (H0 : ¬ rf_away md b k l (2 ^ c) → ∀ m e', rf_val m e' (rf_sg b (k * 2 ^ j)) → post 1 (nI p, nI md, ff ||| 1, upd a1 r m, upd a2 r e')) :
    wX_round_167 post (nI r) b 0 x8 x9 x10 x12 (nI p) (nI md) ff a1 a2 :=
  br_c (fun z => rf_183 hr hmd hk hj h10 h12 h8 h9 hc1 hc (fun _ => (rf_par h10).mp z) (fun t => absurd rfl t) H1 H0)
    (fun z => rf_183 hr hmd hk hj h10 h12 h8 h9 hc1 hc (fun t => absurd t (by decide)) (fun _ => by
      have : ¬ k % 2 = 0 := fun t => z ((rf_par h10).mpr t)
      omega) H1 H0)
/-- what a rounding method owes to its caller -/
def rf_H (post : Int32 → St1 → Prop) (p md r : Nat) (ff b : Int32) (a1 a2 : Nat → Int32) (S : Nat) : Prop :=
  ∀ D c m e', rf_spec p md b S D c → rf_val m e' (rf_sg b D) → post (nI c) (nI p, nI md, ff ||| nI c, upd a1 r m, upd a2 r e')
theorem rf_H0 {S : Nat} {m e' : Int32} (H : rf_H post p md r ff b a1 a2 S) (hs : rf_spec p md b S S 0) (hv : rf_val m e' (rf_sg b S)) : post 0 (nI p, nI md, ff, upd a1 r m, upd a2 r e') := by
  have h := H S 0 m e' hs hv
  rw [nI_0, Int32.or_zero] at h
  exact h
theorem rf_139 {S l' : Nat} (hr : r < 4) (hmd : md < 4) (hp2 : 2 ≤ p) (hp9 : p ≤ 9) (hd : rf_dec p S j k l') (hk : k < 2 ^ p) (hl : 0 < l') (ha : rf_away md b k l' (2 ^ j) ↔ rf_away md b k l (2 ^ c)) (h10 : x10.toInt = (k : Int)) (h12 : x12.toInt = (l : Int)) (h8 : x8.toInt = (j : Int) - 12) (h9 : x9.toInt = (c : Int)) (hc1 : 1 ≤ c) (hc : c ≤ 60)
    (H : rf_H post p md r ff b a1 a2 S) : wX_round_139 post (nI r) b 0 x8 x9 x10 x12 (nI p) (nI md) ff a1 a2 := by
  have hP := rf_P hp2 hp9
  have hm1 := rf_most1 (c := nI p) (nI_toInt (by omega)) hp2 hp9
  have e8 : x8 = 11 ↔ j = 23 := by
    rw [← Int32.toInt_inj, h8, show (11 : Int32).toInt = 11 by decide]
    omega
  have e10 : x10 = ((1 : Int64) <<< ((nI p).toInt64 &&& 63)) - 1 ↔ k = 2 ^ p - 1 := by
    rw [← Int64.toInt_inj, hm1, h10]
    generalize 2 ^ p - 1 = P
    omega
  have hj : j ≤ 23 := hd.1
  have go : ¬ (j = 23 ∧ k = 2 ^ p - 1) → wX_round_167 post (nI r) b 0 x8 x9 x10 x12 (nI p) (nI md) ff a1 a2 := by
    intro hn
    have hS := rf_le_most hp2 hp9 hd hk hn
    exact rf_167 hr hmd (by omega) hj h10 h12 h8 h9 hc1 hc
      (fun g m e' hv => H _ 1 m e' (Or.inr ⟨hS, j, k, l', hd, Or.inr ⟨hl, rfl, Or.inl ⟨ha.mpr g, rfl⟩⟩⟩) hv)
      (fun g m e' hv => H _ 1 m e' (Or.inr ⟨hS, j, k, l', hd, Or.inr ⟨hl, rfl, Or.inr ⟨fun t => g (ha.mp t), rfl⟩⟩⟩) hv)
  exact br_c (fun z => br_c (fun y => rf_limit hr hp2 hp9 (fun m e' hv => H _ 3 m e' (Or.inl ⟨rf_gt_most hd (e8.mp z) (e10.mp y) hl, rfl, rfl⟩) hv)) (fun y => go (fun t => y (e10.mpr t.2)))) (fun z => go (fun t => z (e8.mpr t.1)))
theorem rf_55 (hr : r < 4) (hmd : md < 4) (hp2 : 2 ≤ p) (hp9 : p ≤ 9) (hx : x.toInt = (q : Int)) (he : e.toInt = (E : Int) - 12) (hE : E ≤ 32) (hn : n ≤ 50) (h1 : q < 2 ^ n) (h2 : ∀ i, i < n → 2 ^ i ≤ q) (hj : n + E - p = j) (h8 : x8.toInt = (j : Int) - 12) (h23 : q = 0 ∨ j ≤ 23)
    (H : rf_H post p md r ff b a1 a2 (q * 2 ^ E)) : wX_round_55 post (nI r) b x e 0 x8 (nI p) (nI md) ff a1 a2 := by
  have hP := rf_P hp2 hp9
  intro x9 e9
  have h9 : x9.toInt = (j : Int) - E := by
    rw [e9, Jvm.Kit.i32_sub (by rw [h8, he]; omega) (by rw [h8, he]; omega), h8, he]
    omega
  clear e9
  have hpos : 0 < x9 ↔ E < j := by
    rw [Int32.lt_iff_toInt_lt, h9, rf_z32]
    omega
  refine br_c (fun z => ?_) (fun z => ?_)
  · have hEj := hpos.mp z
    obtain ⟨c, hc⟩ : ∃ c, c = j - E := ⟨_, rfl⟩
    have h9' : x9.toInt = (c : Int) := by
      rw [h9]
      omega
    have h60 : x9 ≤ 60 := by
      rw [Int32.le_iff_toInt_le, h9', show (60 : Int32).toInt = 60 by decide]
      omega
    have hnc : n = c + p := by omega
    have hj23 : j ≤ 23 := by
      rcases h23 with y | y
      · subst y
        have := h2 0 (by omega)
        omega
      · exact y
    obtain ⟨hd, hk⟩ := rf_spB (p := p) (E := E) (j := j) h1 h2 hnc (by omega) (by omega) hj23
    have hkx : (x >>> (x9.toInt64 &&& 63)).toInt = ((q / 2 ^ c : Nat) : Int) := rf_shrN hx h9' (by omega)
    have hdm := Nat.div_add_mod' q (2 ^ c)
    have hq50 : q < 2 ^ 50 := Nat.lt_of_lt_of_le h1 (Nat.pow_le_pow_right (by decide) hn)
    have hlx : (x - ((x >>> (x9.toInt64 &&& 63)) <<< (x9.toInt64 &&& 63))).toInt = ((q % 2 ^ c : Nat) : Int) := by
      have hs := rf_shlN hkx h9' (by omega) (by omega)
      generalize (x >>> (x9.toInt64 &&& 63)) <<< (x9.toInt64 &&& 63) = y at *
      generalize q / 2 ^ c * 2 ^ c = A at *
      generalize q % 2 ^ c = B at *
      rw [Jvm.Kit.i64_sub (by rw [hx, hs]; omega) (by rw [hx, hs]; omega), hx, hs]
      omega
    refine br_t h60 (br_t h60 ?_)
    generalize x - ((x >>> (x9.toInt64 &&& 63)) <<< (x9.toInt64 &&& 63)) = xl at *
    generalize x >>> (x9.toInt64 &&& 63) = xk at *
    have ha : rf_away md b (q / 2 ^ c) (q % 2 ^ c * 2 ^ E) (2 ^ j) ↔ rf_away md b (q / 2 ^ c) (q % 2 ^ c) (2 ^ c) := by
      rw [show 2 ^ j = 2 ^ c * 2 ^ E by rw [← Nat.pow_add]; congr 1; omega]
      exact rf_away_scale (Nat.two_pow_pos E)
    have hk5 : q / 2 ^ c < 512 := by omega
    have hv : q / 2 ^ c * 2 ^ j ≤ 512 * 2 ^ 23 := Nat.mul_le_mul (by omega) (Nat.pow_le_pow_right (by decide) hj23)
    refine br_c (fun y => br_t rfl ?_) (fun y => ?_)
    · have hl0 := (rf_nz64 hlx).mp y
      have hS : q * 2 ^ E = q / 2 ^ c * 2 ^ j := by
        have := hd.2.1
        rw [hl0, Nat.zero_mul, Nat.add_zero] at this
        exact this
      have hS2 : q * 2 ^ E ≤ (2 ^ p - 1) * 2 ^ 23 := by
        rw [hS]
        exact rf_unit_le hj23 hk
      refine rf_store (q := q / 2 ^ c) (E := j) hr hkx h8 (by omega) (by omega) hv (fun m e' hw => ?_)
      rw [← hS] at hw
      exact rf_H0 H (Or.inr ⟨hS2, j, _, _, hd, Or.inl ⟨by rw [hl0, Nat.zero_mul], rfl, rfl⟩⟩) hw
    · have hl0 : 0 < q % 2 ^ c * 2 ^ E := by
        have : q % 2 ^ c ≠ 0 := fun t => y ((rf_nz64 hlx).mpr t)
        exact Nat.mul_pos (by omega) (Nat.two_pow_pos E)
      exact rf_139 hr hmd hp2 hp9 hd hk hl0 ha hkx hlx h8 h9' (by omega) (by omega) H
  · have hEj : j ≤ E := by
      have : ¬ E < j := fun t => z (hpos.mpr t)
      omega
    obtain ⟨hs, hv, hq⟩ := rf_spA (md := md) (b := b) hp9 h1 h2 hj hEj h23
    refine rf_store (q := q) (E := E) hr hx he (by omega) (by omega) ?_ (fun m e' hw => rf_H0 H hs hw)
    generalize q * 2 ^ E = S at *
    generalize 2 ^ p = P at *
    omega
theorem rf_33 {z0 : Int32} (hr : r < 4) (hmd : md < 4) (hp2 : 2 ≤ p) (hp9 : p ≤ 9) (hx : x.toInt = (q : Int)) (he : e.toInt = (E : Int) - 12) (hE : E ≤ 32) (hn : n ≤ 50) (h1 : q < 2 ^ n) (h2 : ∀ i, i < n → 2 ^ i ≤ q) (hj : n + E - p = j) (h8 : z0.toInt = (j : Int) - 12)
    (H : rf_H post p md r ff b a1 a2 (q * 2 ^ E)) : wX_round_33 post (nI r) b x e 0 z0 (nI p) (nI md) ff a1 a2 := by
  have e11 : z0 ≤ 11 ↔ j ≤ 23 := by
    rw [Int32.le_iff_toInt_le, h8, show (11 : Int32).toInt = 11 by decide]
    omega
  refine br_c (fun z => rf_55 hr hmd hp2 hp9 hx he hE hn h1 h2 hj h8 (Or.inl ((rf_nz64 hx).mp z)) H) (fun z => br_c (fun y => rf_55 hr hmd hp2 hp9 hx he hE hn h1 h2 hj h8 (Or.inr (e11.mp y)) H) (fun y => ?_))
  have hq : q ≠ 0 := fun t => z ((rf_nz64 hx).mpr t)
  have hj24 : ¬ j ≤ 23 := fun t => y (e11.mpr t)
  have hn1 : 1 ≤ n := by
    rcases Nat.eq_zero_or_pos n with w | w
    · subst w
      omega
    · exact w
  have hS : (2 ^ p - 1) * 2 ^ 23 < q * 2 ^ E := Nat.lt_of_lt_of_le rf_most_lt (rf_lowS h2 hn1 (by omega))
  exact rf_limit hr hp2 hp9 (fun m e' hv => H _ 3 m e' (Or.inl ⟨hS, rfl, rfl⟩) hv)
theorem rf_rnd (hr : r < 4) (hmd : md < 4) (hp2 : 2 ≤ p) (hp9 : p ≤ 9) (hx : x.toInt = (q : Int)) (hq : q < 2 ^ 50) (he : e.toInt = (E : Int) - 12) (hE : E ≤ 32)
    (H : rf_H post p md r ff b a1 a2 (q * 2 ^ E)) : wpX_round post (nI p, nI md, ff, a1, a2) (nI r) b x e 0 := by
  obtain ⟨n, hn, h1, h2⟩ := rf_len hq
  have hni : (nI n).toInt = (n : Int) := nI_toInt (by omega)
  have hpi : (nI p).toInt = (p : Int) := nI_toInt (by omega)
  refine rf_bitsOf hx (by omega) h1 h2 (fun x7 e7 => ?_)
  have h7 : x7.toInt = (n : Int) + E - 12 := by
    rw [e7, Jvm.Kit.i32_add (by rw [hni, he]; omega) (by rw [hni, he]; omega), hni, he]
    omega
  clear e7
  have h7p : (x7 - nI p).toInt = (n : Int) + E - 12 - p := by
    rw [Jvm.Kit.i32_sub (by rw [h7, hpi]; omega) (by rw [h7, hpi]; omega), h7, hpi]
  have e12 : (-12 : Int32) ≤ x7 - nI p ↔ p ≤ n + E := by
    rw [Int32.le_iff_toInt_le, h7p, show (-12 : Int32).toInt = -12 by decide]
    omega
  refine br_c (fun z => rf_33 (n := n) hr hmd hp2 hp9 hx he hE hn h1 h2 rfl ?_ H) (fun z => rf_33 (n := n) hr hmd hp2 hp9 hx he hE hn h1 h2 rfl ?_ H)
  · have := e12.mp z
    rw [h7p]
    omega
  · have : ¬ p ≤ n + E := fun t => z (e12.mpr t)
    rw [show (-12 : Int32).toInt = -12 by decide]
    omega
end
end
section
/-! ===== exactly, sum, add, sub, load, get ===== -/
theorem rf_mulb {m : Int} {a : Nat} (h1 : -1024 ≤ m) (h2 : m ≤ 1024) (ha : a ≤ 32) : -2 ^ 42 ≤ m * 2 ^ a ∧ m * 2 ^ a ≤ 2 ^ 42 := by
  have hT : (2 ^ a : Nat) ≤ 2 ^ 32 := Nat.pow_le_pow_right (by decide) ha
  have e : (2 : Int) ^ a = ((2 ^ a : Nat) : Int) := rfl
  rw [e]
  generalize 2 ^ a = T at *
  have g1 := Int.mul_le_mul_of_nonneg_right h1 (show (0 : Int) ≤ (T : Int) by omega)
  have g2 := Int.mul_le_mul_of_nonneg_right h2 (show (0 : Int) ≤ (T : Int) by omega)
  omega
/-- what an operation owes to its caller -/
def rf_G (post : Int32 → St1 → Prop) (p md r : Nat) (ff : Int32) (a1 a2 : Nat → Int32) (X : Int) : Prop :=
  ∀ V c m e', rf_round p md X V c → rf_val m e' V → post (nI c) (nI p, nI md, ff ||| nI c, upd a1 r m, upd a2 r e')
theorem rf_isReg {post : Int32 → Prop} {r : Nat} (hr : r < 4) (h : post 1) : wpX_isRegister post () (nI r) :=
  br_f (nI_pos (by omega)) (br_f (nI_ge (b := 4) hr (by decide)) h)
section
variable {post : Int32 → St1 → Prop} {e f ff fb fm : Int32} {x y : Int64} {a1 a2 : Nat → Int32} {p md r E F : Nat} {M m n X V : Int}
theorem rf_exactly (hr : r < 4) (hmd : md < 4) (hp2 : 2 ≤ p) (hp9 : p ≤ 9) (hx : x.toInt = M) (hM1 : -2 ^ 50 < M) (hM2 : M < 2 ^ 50) (he : e.toInt = (E : Int) - 12) (hE : E ≤ 32) (hX1 : -2 ^ 60 < M * 2 ^ E) (hX2 : M * 2 ^ E < 2 ^ 60)
    (H : rf_G post p md r ff a1 a2 (M * 2 ^ E)) : wpX_exactly post (nI p, nI md, ff, a1, a2) (nI r) x e := by
  have h0 : 0 ≤ x ↔ 0 ≤ M := by rw [Int64.le_iff_toInt_le, hx, rf_z64]
  have key : ∀ (y : Int64) (b : Int32) (q : Nat), y.toInt = (q : Int) → M = rf_sg b q → (¬ b = 0 → 0 < q) → wX_exactly_19 post e y b (nI r) (nI p) (nI md) ff a1 a2 := by
    intro y b q hy hM hb
    have hX : M * 2 ^ E = rf_sg b (q * 2 ^ E) := by
      rw [hM]
      unfold rf_sg
      split
      · rfl
      · rw [Int.neg_mul]
        rfl
    have hq : q < 2 ^ 50 := by
      unfold rf_sg at hM
      split at hM <;> omega
    have hS : q * 2 ^ E < 2 ^ 60 := by
      rw [hX] at hX1 hX2
      generalize q * 2 ^ E = S at *
      unfold rf_sg at hX1 hX2
      by_cases z : b = 0
      · rw [if_pos z] at hX2
        omega
      · rw [if_neg z] at hX1
        omega
    unfold wX_exactly_19
    exact rf_rnd hr hmd hp2 hp9 hy hq he hE (fun D c m e' hs hv => H _ c m e' ⟨b, q * 2 ^ E, D, hX, fun t => Nat.mul_pos (hb t) (Nat.two_pow_pos E), hS, hs, rfl⟩ hv)
  unfold wpX_exactly
  dsimp only
  refine br_c (fun z => br_t z ?_) (fun z => br_f z ?_)
  · have z' := h0.mp z
    exact key x 0 M.toNat (by rw [hx]; omega) (by rw [rf_sg0 rfl]; omega) (fun t => absurd rfl t)
  · have z' : ¬ 0 ≤ M := fun t => z (h0.mpr t)
    exact key (-x) 1 (-M).toNat (by rw [Jvm.Kit.i64_neg (by omega), hx]; omega) (by rw [rf_sg1 (by decide)]; omega) (fun _ => by omega)
theorem rf_sum14 {z0 : Int32} {L : Nat} (hr : r < 4) (hmd : md < 4) (hp2 : 2 ≤ p) (hp9 : p ≤ 9) (hx : x.toInt = m) (hm1 : -1024 ≤ m) (hm2 : m ≤ 1024) (hy : y.toInt = n) (hn1 : -1024 ≤ n) (hn2 : n ≤ 1024) (he : e.toInt = (E : Int) - 12) (hE : E ≤ 32) (hf : f.toInt = (F : Int) - 12) (hF : F ≤ 32) (hz : z0.toInt = (L : Int) - 12) (hLE : L ≤ E) (hLF : L ≤ F)
    (H : rf_G post p md r ff a1 a2 (m * 2 ^ E + n * 2 ^ F)) : wX_sum_14 post (nI r) x e y f z0 (nI p) (nI md) ff a1 a2 := by
  intro x9 e9
  have c1 : (e - z0).toInt = ((E - L : Nat) : Int) := by
    rw [Jvm.Kit.i32_sub (by rw [he, hz]; omega) (by rw [he, hz]; omega), he, hz]
    omega
  have c2 : (f - z0).toInt = ((F - L : Nat) : Int) := by
    rw [Jvm.Kit.i32_sub (by rw [hf, hz]; omega) (by rw [hf, hz]; omega), hf, hz]
    omega
  have b1 := rf_mulb (a := E - L) hm1 hm2 (by omega)
  have b2 := rf_mulb (a := F - L) hn1 hn2 (by omega)
  have b3 := rf_mulb (a := E) hm1 hm2 hE
  have b4 := rf_mulb (a := F) hn1 hn2 hF
  have s1 := rf_shl (x := x) c1 (by omega) (by rw [hx]; omega) (by rw [hx]; omega)
  have s2 := rf_shl (x := y) c2 (by omega) (by rw [hy]; omega) (by rw [hy]; omega)
  rw [hx] at s1
  rw [hy] at s2
  have hT : (m * 2 ^ (E - L) + n * 2 ^ (F - L)) * 2 ^ L = m * 2 ^ E + n * 2 ^ F := by
    rw [Int.add_mul, Int.mul_assoc, Int.mul_assoc, ← Int.pow_add, ← Int.pow_add, Nat.sub_add_cancel hLE, Nat.sub_add_cancel hLF]
  have h9 : x9.toInt = m * 2 ^ (E - L) + n * 2 ^ (F - L) := by
    rw [e9, Jvm.Kit.i64_add (by rw [s1, s2]; omega) (by rw [s1, s2]; omega), s1, s2]
  rw [← hT] at H
  refine rf_exactly (E := L) hr hmd hp2 hp9 h9 (by omega) (by omega) hz (by omega) ?_ ?_ (fun V c m e' h1 h2 => H V c m e' h1 h2)
  · rw [hT]
    omega
  · rw [hT]
    omega
theorem rf_sum (hr : r < 4) (hmd : md < 4) (hp2 : 2 ≤ p) (hp9 : p ≤ 9) (hx : x.toInt = m) (hm1 : -1024 ≤ m) (hm2 : m ≤ 1024) (hy : y.toInt = n) (hn1 : -1024 ≤ n) (hn2 : n ≤ 1024) (he : e.toInt = (E : Int) - 12) (hE : E ≤ 32) (hf : f.toInt = (F : Int) - 12) (hF : F ≤ 32)
    (H : rf_G post p md r ff a1 a2 (m * 2 ^ E + n * 2 ^ F)) : wpX_sum post (nI p, nI md, ff, a1, a2) (nI r) x e y f := by
  have hle : f ≤ e ↔ F ≤ E := by
    rw [Int32.le_iff_toInt_le, he, hf]
    omega
  refine br_c (fun z => rf_sum14 hr hmd hp2 hp9 hx hm1 hm2 hy hn1 hn2 he hE hf hF hf (hle.mp z) (by omega) H) (fun z => rf_sum14 hr hmd hp2 hp9 hx hm1 hm2 hy hn1 hn2 he hE hf hF he (by omega) ?_ H)
  have : ¬ F ≤ E := fun t => z (hle.mpr t)
  omega
theorem rf_add {a b : Nat} {V1 V2 : Int} (hr : r < 4) (ha : a < 4) (hb : b < 4) (hmd : md < 4) (hp2 : 2 ≤ p) (hp9 : p ≤ 9) (hv1 : rf_val (a1 a) (a2 a) V1) (hv2 : rf_val (a1 b) (a2 b) V2)
    (H : rf_G post p md r ff a1 a2 (V1 + V2)) : wpX_add post (nI p, nI md, ff, a1, a2) (nI r) (nI a) (nI b) := by
  obtain ⟨E, he, hE, hm1, hm2, rfl⟩ := hv1
  obtain ⟨F, hf, hF, hn1, hn2, rfl⟩ := hv2
  unfold wpX_add
  dsimp only
  rw [nI_clamp (show a < 2 ^ 31 by omega), nI_clamp (show b < 2 ^ 31 by omega)]
  exact rf_isReg hr (br_f (by decide) (rf_isReg ha (br_f (by decide) (rf_isReg hb (br_f (by decide) ⟨pk_in a 4 ha, pk_in a 4 ha, pk_in b 4 hb, pk_in b 4 hb,
    rf_sum hr hmd hp2 hp9 (Jvm.Kit.i64_of_i32 _) hm1 hm2 (Jvm.Kit.i64_of_i32 _) hn1 hn2 he hE hf hF (fun V c m e' h1 h2 => H V c m e' h1 h2)⟩)))))
theorem rf_sub {a b : Nat} {V1 V2 : Int} (hr : r < 4) (ha : a < 4) (hb : b < 4) (hmd : md < 4) (hp2 : 2 ≤ p) (hp9 : p ≤ 9) (hv1 : rf_val (a1 a) (a2 a) V1) (hv2 : rf_val (a1 b) (a2 b) V2)
    (H : rf_G post p md r ff a1 a2 (V1 - V2)) : wpX_sub post (nI p, nI md, ff, a1, a2) (nI r) (nI a) (nI b) := by
  obtain ⟨E, he, hE, hm1, hm2, rfl⟩ := hv1
  obtain ⟨F, hf, hF, hn1, hn2, rfl⟩ := hv2
  have hneg : ((-(a1 b)).toInt64).toInt = -(a1 b).toInt := by rw [Jvm.Kit.i64_of_i32, Jvm.Kit.i32_neg (by omega)]
  rw [Int.sub_eq_add_neg, ← Int.neg_mul] at H
  unfold wpX_sub
  dsimp only
  rw [nI_clamp (show a < 2 ^ 31 by omega), nI_clamp (show b < 2 ^ 31 by omega)]
  exact rf_isReg hr (br_f (by decide) (rf_isReg ha (br_f (by decide) (rf_isReg hb (br_f (by decide) ⟨pk_in a 4 ha, pk_in a 4 ha, pk_in b 4 hb, pk_in b 4 hb,
    rf_sum hr hmd hp2 hp9 (Jvm.Kit.i64_of_i32 _) hm1 hm2 hneg (by omega) (by omega) he hE hf hF (fun V c m e' h1 h2 => H V c m e' h1 h2)⟩)))))
theorem rf_load {u : Int32} (hr : r < 4) (hmd : md < 4) (hp2 : 2 ≤ p) (hp9 : p ≤ 9) (hu : u.toInt = m) (hm1 : -1000000 < m) (hm2 : m < 1000000) (he : e.toInt = (E : Int) - 12) (hE : E ≤ 32) (hX1 : -2 ^ 60 < m * 2 ^ E) (hX2 : m * 2 ^ E < 2 ^ 60)
    (H : rf_G post p md r ff a1 a2 (m * 2 ^ E)) : wpX_load post (nI p, nI md, ff, a1, a2) (nI r) u e := by
  have t1 : ¬ u < -1000000 := by
    rw [Int32.lt_iff_toInt_lt, hu, show (-1000000 : Int32).toInt = -1000000 by decide]
    omega
  have t2 : ¬ 1000000 < u := by
    rw [Int32.lt_iff_toInt_lt, hu, show (1000000 : Int32).toInt = 1000000 by decide]
    omega
  have t3 : ¬ e < -20 := by
    rw [Int32.lt_iff_toInt_lt, he, show (-20 : Int32).toInt = -20 by decide]
    omega
  have t4 : e ≤ 20 := by
    rw [Int32.le_iff_toInt_le, he, show (20 : Int32).toInt = 20 by decide]
    omega
  have hx : u.toInt64.toInt = m := by rw [Jvm.Kit.i64_of_i32, hu]
  unfold wpX_load
  dsimp only
  exact rf_isReg hr (br_f (by decide) (br_f t1 (br_f t2 (br_f t3 (br_t t4 (rf_exactly hr hmd hp2 hp9 hx (by omega) (by omega) he hE hX1 hX2 (fun V c m e' h1 h2 => H V c m e' h1 h2)))))))
end
theorem rf_get {post : Int64 → Prop} {fb fm ff : Int32} {a1 a2 : Nat → Int32} {r : Nat} {V : Int} (hr : r < 4) (hv : rf_val (a1 r) (a2 r) V) (H : ∀ x, x.toInt = V → post x) : wpL_get post (fb, fm, ff, a1, a2) (nI r) := by
  obtain ⟨E, he, hE, hm1, hm2, rfl⟩ := hv
  unfold wpL_get
  dsimp only
  unfold wpX_mantissa wpX_exponent
  dsimp only
  rw [nI_clamp (show r < 2 ^ 31 by omega)]
  refine rf_isReg hr (br_f (by decide) ⟨pk_in r 4 hr, rf_isReg hr (br_f (by decide) ⟨pk_in r 4 hr, H _ ?_⟩)⟩)
  have h12 : (12 : Int32).toInt = 12 := by decide
  have hc : (a2 r + 12).toInt = (E : Int) := by
    rw [Jvm.Kit.i32_add (by rw [he, h12]; omega) (by rw [he, h12]; omega), he, h12]
    omega
  have hb := rf_mulb (a := E) hm1 hm2 hE
  rw [rf_shl hc (by omega) (by rw [Jvm.Kit.i64_of_i32]; omega) (by rw [Jvm.Kit.i64_of_i32]; omega), Jvm.Kit.i64_of_i32]
end
section
/-! ===== the law's own rounding ===== -/
/-- the law takes the lower of its two neighbours A and B -/
def rf_first (md : Nat) (X A B : Int) (ev : Prop) : Prop := (md = 0 ∧ (2 * X < A + B ∨ (2 * X = A + B ∧ ev))) ∨ md = 1 ∨ (md = 3 ∧ 0 ≤ X)
theorem rf_fa0 {md : Nat} {b : Int32} {k l u : Nat} {A X : Int} (hmd : md < 4) (hb : b = 0) (hX : X = A + l) (h0 : 0 ≤ X) : rf_first md X A (A + u) ((k : Int) % 2 = 0) ↔ ¬ rf_away md b k l u := by
  unfold rf_first rf_away
  simp only [hb, not_true_eq_false, and_true, and_false, or_false]
  omega
theorem rf_fa1 {md : Nat} {b : Int32} {k l u : Nat} {A X : Int} (hmd : md < 4) (hb : ¬ b = 0) (hX : X = A + u - l) (h0 : X < 0) : rf_first md X A (A + u) ((-((k : Int) + 1)) % 2 = 0) ↔ rf_away md b k l u := by
  unfold rf_first rf_away
  simp only [hb, not_false_eq_true, and_true, and_false, false_or]
  omega
theorem rf_140 {post : Int64 → Prop} {x lo hi : Int64} {z0 : Int32} {md : Nat} {X A B : Int} {ev : Prop} (hmd : md < 4) (hx : x.toInt = X) (hA : lo.toInt = A) (hB : hi.toInt = B) (hX1 : -2 ^ 61 < X) (hX2 : X < 2 ^ 61) (hA1 : -2 ^ 61 < A) (hA2 : A < 2 ^ 61) (hB1 : -2 ^ 61 < B) (hB2 : B < 2 ^ 61)
    (he0 : z0 = 0 → ¬ ev) (he1 : ¬ z0 = 0 → ev) (H1 : rf_first md X A B ev → post lo) (H0 : ¬ rf_first md X A B ev → post hi) : wL_round_140 post x (nI md) lo hi z0 := by
  intro x15 e15
  have h22 : (2 : Int64).toInt = 2 := by decide
  have h15 : x15.toInt = 2 * X := by rw [e15, Jvm.Kit.i64_mul (by rw [h22, hx]; omega) (by rw [h22, hx]; omega), h22, hx]
  have hs : (lo + hi).toInt = A + B := by rw [Jvm.Kit.i64_add (by rw [hA, hB]; omega) (by rw [hA, hB]; omega), hA, hB]
  have hlt : x15 < lo + hi ↔ 2 * X < A + B := by rw [Int64.lt_iff_toInt_lt, h15, hs]
  have heq : x15 = lo + hi ↔ 2 * X = A + B := by rw [← Int64.toInt_inj, h15, hs]
  have hneg : x < 0 ↔ X < 0 := by rw [Int64.lt_iff_toInt_lt, hx, rf_z64]
  have T : post lo → wL_round_209 post lo hi 1 := fun h => br_f (by decide) h
  have N : post hi → wL_round_209 post lo hi 0 := fun h => br_t rfl h
  refine pk_eq md 0
    (fun hm => br_c (fun z => T (H1 (Or.inl ⟨hm, Or.inl (hlt.mp z)⟩))) (fun z => br_c (fun y => br_c (fun w => N (H0 ?_)) (fun w => T (H1 (Or.inl ⟨hm, Or.inr ⟨heq.mp y, he1 w⟩⟩)))) (fun y => N (H0 ?_))))
    (fun hm => pk_eq md 1 (fun h => T (H1 (Or.inr (Or.inl h)))) (fun h1 => pk_eq md 3 (fun h => br_c (fun z => N (H0 ?_)) (fun z => T (H1 (Or.inr (Or.inr ⟨h, ?_⟩))))) (fun h => N (H0 ?_))))
  · intro t
    rcases t with ⟨_, t | ⟨_, t⟩⟩ | t | ⟨t, _⟩
    · exact z (hlt.mpr t)
    · exact he0 w t
    · omega
    · omega
  · intro t
    rcases t with ⟨_, t | ⟨t, _⟩⟩ | t | ⟨t, _⟩
    · exact z (hlt.mpr t)
    · exact y (heq.mpr t)
    · omega
    · omega
  · have z' := hneg.mp z
    intro t
    rcases t with ⟨t, _⟩ | t | ⟨_, t⟩
    · omega
    · omega
    · omega
  · have z' : ¬ X < 0 := fun t => z (hneg.mpr t)
    omega
  · intro t
    rcases t with ⟨t, _⟩ | t | ⟨t, _⟩
    · omega
    · omega
    · omega
theorem rf_119 {post : Int64 → Prop} {x u8 lo hi : Int64} {md u : Nat} {X K B : Int} (hmd : md < 4) (hx : x.toInt = X) (hu : u8.toInt = (u : Int)) (hu0 : 1 ≤ u) (hlo : lo.toInt = K * u) (hB : hi.toInt = B) (hX1 : -2 ^ 61 < X) (hX2 : X < 2 ^ 61) (hA1 : -2 ^ 61 < K * u) (hA2 : K * u < 2 ^ 61) (hB1 : -2 ^ 61 < B) (hB2 : B < 2 ^ 61)
    (H1 : rf_first md X (K * u) B (K % 2 = 0) → post lo) (H0 : ¬ rf_first md X (K * u) B (K % 2 = 0) → post hi) : wL_round_119 post x (nI md) u8 lo hi := by
  have hne : ¬ u8 = 0 := by
    rw [← Int64.toInt_inj, hu, rf_z64]
    omega
  have hq : (lo / u8).toInt = K := by rw [Jvm.Kit.i64_div (by rw [hu]; omega), hlo, hu, Int.mul_tdiv_cancel K (by omega)]
  have h22 : (2 : Int64).toInt = 2 := by decide
  have hev : (lo / u8 - lo / u8 / 2 * 2) = 0 ↔ K % 2 = 0 := by
    rw [← Int64.toInt_inj, Jvm.Kit.i64_rem, hq, h22, rf_z64]
    constructor
    · intro h
      have := Int.dvd_of_tmod_eq_zero h
      omega
    · intro h
      exact Int.tmod_eq_zero_of_dvd (by omega)
  exact ⟨hne, by decide, br_c
    (fun z => rf_140 (z0 := 1) hmd hx hlo hB hX1 hX2 hA1 hA2 hB1 hB2 (fun t => absurd t (by decide)) (fun _ => hev.mp z) H1 H0)
    (fun z => rf_140 (z0 := 0) hmd hx hlo hB hX1 hX2 hA1 hA2 hB1 hB2 (fun _ t => z (hev.mpr t)) (fun t => absurd rfl t) H1 H0)⟩
def rf_lo (x u8 : Int64) : Int64 := x - (((x - x / u8 * u8) + u8) - ((x - x / u8 * u8) + u8) / u8 * u8)
theorem rf_rem2 {x u8 : Int64} {T u : Nat} (hx : x.toInt = (T : Int)) (hu : u8.toInt = (u : Int)) : (x - x / u8 * u8).toInt = ((T % u : Nat) : Int) := by
  rw [Jvm.Kit.i64_rem, hx, hu]
  rfl
theorem rf_rem3 {x u8 : Int64} {T u : Nat} (hx : x.toInt = -(T : Int)) (hu : u8.toInt = (u : Int)) : (x - x / u8 * u8).toInt = -((T % u : Nat) : Int) := by
  rw [Jvm.Kit.i64_rem, hx, hu, Int.neg_tmod]
  rfl
theorem rf_lo_val {x u8 : Int64} {b : Int32} {S k l u : Nat} (hx : x.toInt = rf_sg b S) (hS60 : S < 2 ^ 60) (hu : u8.toInt = (u : Int)) (hu23 : u ≤ 2 ^ 23) (hS : S = k * u + l) (hl : l < u) :
    ∃ K : Int, (rf_lo x u8).toInt = K * u ∧ ((b = 0 ∧ K = (k : Int)) ∨ (¬ b = 0 ∧ l = 0 ∧ K = -(k : Int)) ∨ (¬ b = 0 ∧ 0 < l ∧ K = -((k : Int) + 1))) := by
  have hmod : S % u = l := by
    rw [hS]
    exact Nat.mul_add_mod_of_lt hl
  have eku : (k : Int) * u = ((k * u : Nat) : Int) := rfl
  by_cases hb : b = 0
  · rw [rf_sg0 hb] at hx
    have r1 := rf_rem2 hx hu
    rw [hmod] at r1
    have r2 : ((x - x / u8 * u8) + u8).toInt = ((l + u : Nat) : Int) := by
      rw [Jvm.Kit.i64_add (by rw [r1, hu]; omega) (by rw [r1, hu]; omega), r1, hu]
      rfl
    have r3 := rf_rem2 r2 hu
    rw [Nat.add_mod_right, Nat.mod_eq_of_lt hl] at r3
    refine ⟨k, ?_, Or.inl ⟨hb, rfl⟩⟩
    unfold rf_lo
    rw [Jvm.Kit.i64_sub (by rw [hx, r3]; omega) (by rw [hx, r3]; omega), hx, r3, eku]
    generalize k * u = A at *
    omega
  · rw [rf_sg1 hb] at hx
    have r1 := rf_rem3 hx hu
    rw [hmod] at r1
    have r2 : ((x - x / u8 * u8) + u8).toInt = ((u - l : Nat) : Int) := by
      rw [Jvm.Kit.i64_add (by rw [r1, hu]; omega) (by rw [r1, hu]; omega), r1, hu]
      omega
    have r3 := rf_rem2 r2 hu
    by_cases hl0 : l = 0
    · refine ⟨-(k : Int), ?_, Or.inr (Or.inl ⟨hb, hl0, rfl⟩)⟩
      rw [hl0, Nat.sub_zero, Nat.mod_self] at r3
      unfold rf_lo
      rw [Jvm.Kit.i64_sub (by rw [hx, r3]; omega) (by rw [hx, r3]; omega), hx, r3, Int.neg_mul, eku]
      generalize k * u = A at *
      omega
    · refine ⟨-((k : Int) + 1), ?_, Or.inr (Or.inr ⟨hb, by omega, rfl⟩)⟩
      rw [Nat.mod_eq_of_lt (by omega)] at r3
      unfold rf_lo
      rw [Jvm.Kit.i64_sub (by rw [hx, r3]; omega) (by rw [hx, r3]; omega), hx, r3, Int.neg_mul, Int.add_mul, Int.one_mul, eku]
      generalize k * u = A at *
      omega
theorem rf_exit {post : Int64 → Prop} {x u8 : Int64} {b : Int32} {md S k l u : Nat} (hmd : md < 4) (hx : x.toInt = rf_sg b S) (hS60 : S < 2 ^ 60) (hu : u8.toInt = (u : Int)) (hu23 : u ≤ 2 ^ 23) (hS : S = k * u + l) (hl : l < u)
    (H0 : l = 0 → ∀ d : Int64, d.toInt = rf_sg b S → post d)
    (H1 : 0 < l → rf_away md b k l u → ∀ d : Int64, d.toInt = rf_sg b ((k + 1) * u) → post d)
    (H2 : 0 < l → ¬ rf_away md b k l u → ∀ d : Int64, d.toInt = rf_sg b (k * u) → post d) :
    (rf_lo x u8 = x → wL_round_119 post x (nI md) u8 (rf_lo x u8) x) ∧ (¬ rf_lo x u8 = x → wL_round_119 post x (nI md) u8 (rf_lo x u8) (rf_lo x u8 + u8)) := by
  obtain ⟨K, hlo, hK⟩ := rf_lo_val hx hS60 hu hu23 hS hl
  generalize rf_lo x u8 = lo at *
  have eku : (k : Int) * u = ((k * u : Nat) : Int) := rfl
  have eku1 : (((k + 1) * u : Nat) : Int) = ((k * u : Nat) : Int) + u := by
    rw [Nat.add_mul, Nat.one_mul]
    rfl
  have hsb : -2 ^ 60 < rf_sg b S ∧ rf_sg b S < 2 ^ 60 := by
    unfold rf_sg
    split <;> omega
  by_cases hl0 : l = 0
  · have hKS : K * u = rf_sg b S := by
      rcases hK with ⟨hb, hK⟩ | ⟨hb, _, hK⟩ | ⟨_, g, _⟩
      · rw [hK, eku, rf_sg0 hb, hS, hl0]
        rfl
      · rw [hK, Int.neg_mul, eku, rf_sg1 hb, hS, hl0]
        rfl
      · omega
    have e : lo = x := Int64.toInt_inj.mp (by rw [hlo, hx, hKS])
    have hp : post x := H0 hl0 x hx
    refine br_t e (rf_119 hmd hx hu (by omega) hlo hx (by omega) (by omega) (by rw [hKS]; omega) (by rw [hKS]; omega) (by omega) (by omega) (fun _ => ?_) (fun _ => hp))
    rw [e]
    exact hp
  · have hhi : (lo + u8).toInt = K * u + u → -2 ^ 61 < K * u → K * u < 2 ^ 60 → (rf_first md (rf_sg b S) (K * u) (K * u + u) (K % 2 = 0) → post lo) → (¬ rf_first md (rf_sg b S) (K * u) (K * u + u) (K % 2 = 0) → post (lo + u8)) → ¬ lo = x → (lo = x → wL_round_119 post x (nI md) u8 lo x) ∧ (¬ lo = x → wL_round_119 post x (nI md) u8 lo (lo + u8)) := by
      intro g1 g2 g3 g4 g5 g6
      exact br_f g6 (rf_119 hmd hx hu (by omega) hlo g1 (by omega) (by omega) g2 (by omega) (by omega) (by omega) g4 g5)
    rcases hK with ⟨hb, hK⟩ | ⟨_, g, _⟩ | ⟨hb, g, hK⟩
    · have hA : K * u = ((k * u : Nat) : Int) := by rw [hK, eku]
      have hfa := rf_fa0 (md := md) (b := b) (k := k) (l := l) (u := u) (A := K * u) (X := rf_sg b S) hmd hb (by
        rw [hA, rf_sg0 hb, hS]
        rfl) (by
        rw [rf_sg0 hb]
        omega)
      rw [← hK] at hfa
      have hlo' : lo.toInt = rf_sg b (k * u) := by rw [hlo, hA, rf_sg0 hb]
      have hne : ¬ lo = x := by
        rw [← Int64.toInt_inj, hlo, hx, hA, rf_sg0 hb, hS]
        generalize k * u = A at *
        omega
      have hAb : k * u ≤ S := by omega
      have hhi' : (lo + u8).toInt = K * u + u := by
        rw [hA] at hlo
        rw [Jvm.Kit.i64_add (by rw [hlo, hu]; omega) (by rw [hlo, hu]; omega), hlo, hu, hA]
      refine hhi hhi' (by rw [hA]; omega) (by rw [hA]; omega) (fun t => H2 (by omega) (hfa.mp t) lo hlo') (fun t => H1 (by omega) (Classical.byContradiction (fun w => t (hfa.mpr w))) _ ?_) hne
      rw [hhi', hA, rf_sg0 hb, eku1]
    · omega
    · have hA : K * u = -((k * u : Nat) : Int) - u := by
        rw [hK, Int.neg_mul, Int.add_mul, Int.one_mul, eku]
        generalize k * u = A at *
        omega
      have hfa := rf_fa1 (md := md) (b := b) (k := k) (l := l) (u := u) (A := K * u) (X := rf_sg b S) hmd hb (by
        rw [hA, rf_sg1 hb, hS]
        generalize k * u = A at *
        omega) (by
        rw [rf_sg1 hb]
        omega)
      rw [← hK] at hfa
      have hlo' : lo.toInt = rf_sg b ((k + 1) * u) := by
        rw [hlo, hA, rf_sg1 hb, eku1]
        generalize k * u = A at *
        omega
      have hne : ¬ lo = x := by
        rw [← Int64.toInt_inj, hlo, hx, hA, rf_sg1 hb, hS]
        generalize k * u = A at *
        omega
      have hAb : k * u ≤ S := by omega
      have hhi' : (lo + u8).toInt = K * u + u := by
        rw [hA] at hlo
        generalize k * u = A at *
        rw [Jvm.Kit.i64_add (by rw [hlo, hu]; omega) (by rw [hlo, hu]; omega), hlo, hu, hA]
      refine hhi hhi' ?_ ?_ (fun t => H1 (by omega) (hfa.mp t) lo hlo') (fun t => H2 (by omega) (fun w => t (hfa.mpr w)) _ ?_) hne
      · rw [hA]
        generalize k * u = A at *
        omega
      · rw [hA]
        generalize k * u = A at *
        omega
      · rw [hhi', hA, rf_sg1 hb]
        generalize k * u = A at *
        omega
theorem rf_lround {post : Int64 → Prop} {x : Int64} {p md c : Nat} {X V : Int} (hmd : md < 4) (hp2 : 2 ≤ p) (hp9 : p ≤ 9) (hx : x.toInt = X) (hr : rf_round p md X V c) (H : ∀ d : Int64, d.toInt = V → post d) : wpL_round post () x (nI p) (nI md) := by
  obtain ⟨b, S, D, rfl, hb, hS60, hs, rfl⟩ := hr
  have hP := rf_P hp2 hp9
  have hpi : (nI p).toInt = (p : Int) := nI_toInt (by omega)
  have hsb : -2 ^ 60 < rf_sg b S ∧ rf_sg b S < 2 ^ 60 := by
    unfold rf_sg
    split <;> omega
  have hnn : 0 ≤ x ↔ b = 0 := by
    rw [Int64.le_iff_toInt_le, hx, rf_z64]
    by_cases hb0 : b = 0
    · rw [rf_sg0 hb0]
      exact ⟨fun _ => hb0, fun _ => by omega⟩
    · rw [rf_sg1 hb0]
      have := hb hb0
      exact ⟨fun t => by omega, fun t => absurd t hb0⟩
  have key : ∀ z0 : Int64, z0.toInt = (S : Int) → wL_round_12 post x (nI p) (nI md) z0 := by
    intro z0 hz x6 e6
    have h6 : x6.toInt = (((2 ^ p - 1) * 2 ^ 23 : Nat) : Int) := by
      rw [e6]
      exact rf_most2 hpi hp2 hp9
    have hmb : (2 ^ p - 1) * 2 ^ 23 < 2 ^ 40 := by
      generalize 2 ^ p = P at *
      omega
    have hle : z0 ≤ x6 ↔ S ≤ (2 ^ p - 1) * 2 ^ 23 := by
      rw [Int64.le_iff_toInt_le, hz, h6]
      generalize (2 ^ p - 1) * 2 ^ 23 = Q at *
      omega
    rcases hs with ⟨g1, g2, g3⟩ | ⟨g1, j, k, l, hd, hc⟩
    · have hn : ¬ z0 ≤ x6 := fun t => absurd (hle.mp t) (by omega)
      refine br_f hn (br_c (fun z => H _ (by rw [h6, rf_sg0 (hnn.mp z), g2])) (fun z => H _ ?_))
      rw [Jvm.Kit.i64_neg (by rw [h6]; omega), h6, rf_sg1 (fun t => z (hnn.mpr t)), g2]
    · obtain ⟨hj, hS, hl, hSh, hSl⟩ := hd
      have hu23 : 2 ^ j ≤ 2 ^ 23 := Nat.pow_le_pow_right (by decide) hj
      refine br_t (hle.mpr g1) (pk_loop (σ := Int64) (fun n i s => wL_round_53 post x (nI p) (nI md) z0 n s (nI i)) (fun i s => s.toInt = ((2 ^ (min i j) : Nat) : Int)) 23 0 1 (by omega) ?_ ?_ ?_)
      · show (1 : Int64).toInt = _
        rw [Nat.zero_min]
        decide
      · intro n s hI
        rw [show min 23 j = j by omega] at hI
        have hne : ¬ s = 0 := by
          rw [rf_nz64 hI]
          exact Nat.ne_of_gt (Nat.two_pow_pos j)
        refine pk_le 23 23 (fun _ => ⟨hne, hne, nm_e ?_⟩) (fun z => absurd z (by omega))
        refine rf_exit hmd hx hS60 hI hu23 hS hl ?_ ?_ ?_
        · intro g d hd
          rcases hc with ⟨_, c2, _⟩ | ⟨c1, _⟩
          · exact H d (by rw [hd, c2])
          · omega
        · intro g ga d hd
          rcases hc with ⟨c1, _⟩ | ⟨_, _, ⟨_, c2⟩ | ⟨c2, _⟩⟩
          · omega
          · exact H d (by rw [hd, c2])
          · exact absurd ga c2
        · intro g ga d hd
          rcases hc with ⟨c1, _⟩ | ⟨_, _, ⟨c2, _⟩ | ⟨_, c2⟩⟩
          · omega
          · exact absurd c2 ga
          · exact H d (by rw [hd, c2])
      · intro n i s hi hI hw
        have hI' : s.toInt = ((2 ^ (min i j) : Nat) : Int) := hI
        have hmi : 2 ^ (min i j) ≤ 2 ^ 23 := Nat.pow_le_pow_right (by decide) (by omega)
        have hsh : (s <<< ((nI p).toInt64 &&& 63)).toInt = ((2 ^ (min i j + p) : Nat) : Int) := by
          have hb2 : 2 ^ (min i j) * 2 ^ p ≤ 2 ^ 23 * 512 := Nat.mul_le_mul hmi hP.2
          rw [Nat.pow_add]
          exact rf_shlN hI' hpi (by omega) (by omega)
        have hlt : z0 < s <<< ((nI p).toInt64 &&& 63) ↔ S < 2 ^ (min i j + p) := by
          rw [Int64.lt_iff_toInt_lt, hz, hsh]
          generalize 2 ^ (min i j + p) = Q
          omega
        refine pk_le 23 i (fun z => absurd z (by omega)) (fun _ => br_c (fun z => nm_r (nI_1 i) (hw s ?_)) (fun z => nm_e (nm_r (nI_1 i) (hw (s * 2) ?_))))
        · have hji : j ≤ i := by
            rcases Nat.lt_or_ge i j with y | y
            · have z' := hlt.mp z
              rw [show min i j = i by omega] at z'
              have := hSl i y
              omega
            · exact y
          show s.toInt = ((2 ^ (min (i + 1) j) : Nat) : Int)
          rw [hI', show min (i + 1) j = min i j by omega]
        · have hji : i < j := by
            rcases Nat.lt_or_ge i j with y | y
            · exact y
            · have z' : ¬ S < 2 ^ (min i j + p) := fun t => z (hlt.mpr t)
              rw [show min i j = j by omega] at z'
              exact absurd hSh z'
          have h22 : (2 : Int64).toInt = 2 := by decide
          show (s * 2).toInt = ((2 ^ (min (i + 1) j) : Nat) : Int)
          rw [show min (i + 1) j = min i j + 1 by omega, Nat.pow_succ]
          generalize 2 ^ (min i j) = Q at *
          rw [Jvm.Kit.i64_mul (by rw [hI', h22]; omega) (by rw [hI', h22]; omega), hI', h22]
          omega
  exact br_c (fun z => key x (by rw [hx, rf_sg0 (hnn.mp z)])) (fun z => key (-x) (by rw [Jvm.Kit.i64_neg (by rw [hx]; omega), hx, rf_sg1 (fun t => z (hnn.mpr t)), Int.neg_neg]))
end
section
/-! ===== the law ===== -/
theorem rf_mine {p md c : Nat} {X V : Int} (h : rf_round p md X V c) :
    (c = 3 ∧ ((((2 ^ p - 1) * 2 ^ 23 : Nat) : Int) < X ∨ X < -(((2 ^ p - 1) * 2 ^ 23 : Nat) : Int))) ∨
    (¬ (((2 ^ p - 1) * 2 ^ 23 : Nat) : Int) < X ∧ -(((2 ^ p - 1) * 2 ^ 23 : Nat) : Int) ≤ X ∧ ((c = 0 ∧ V = X) ∨ (c = 1 ∧ ¬ V = X))) := by
  obtain ⟨b, S, D, rfl, hb, -, hs, rfl⟩ := h
  rcases hs with ⟨g1, g2, g3⟩ | ⟨g1, j, k, l, ⟨_, hS, hl, _, _⟩, hc⟩
  · left
    refine ⟨g3, ?_⟩
    generalize (2 ^ p - 1) * 2 ^ 23 = Q at *
    by_cases hb0 : b = 0
    · rw [rf_sg0 hb0]
      omega
    · rw [rf_sg1 hb0]
      omega
  · right
    have hc' : (c = 0 ∧ D = S) ∨ (c = 1 ∧ D ≠ S) := by
      rcases hc with ⟨_, c2, c3⟩ | ⟨c1, c2, ⟨_, c3⟩ | ⟨_, c3⟩⟩
      · exact Or.inl ⟨c3, c2⟩
      · refine Or.inr ⟨c2, ?_⟩
        rw [c3, hS, Nat.add_mul, Nat.one_mul]
        generalize k * 2 ^ j = A at *
        omega
      · refine Or.inr ⟨c2, ?_⟩
        rw [c3, hS]
        omega
    clear hc hS hl
    generalize (2 ^ p - 1) * 2 ^ 23 = Q at *
    by_cases hb0 : b = 0
    · rw [rf_sg0 hb0, rf_sg0 hb0]
      omega
    · rw [rf_sg1 hb0, rf_sg1 hb0]
      omega
theorem rf_val_b {m e : Int32} {V : Int} (h : rf_val m e V) : -2 ^ 42 ≤ V ∧ V ≤ 2 ^ 42 := by
  obtain ⟨E, _, hE, h1, h2, rfl⟩ := h
  exact rf_mulb h1 h2 hE
theorem rf_mulc {m : Int} {a : Nat} (h1 : -1000000 < m) (h2 : m < 1000000) (ha : a ≤ 32) : -2 ^ 60 < m * 2 ^ a ∧ m * 2 ^ a < 2 ^ 60 := by
  have hT : (2 ^ a : Nat) ≤ 2 ^ 32 := Nat.pow_le_pow_right (by decide) ha
  have e : (2 : Int) ^ a = ((2 ^ a : Nat) : Int) := rfl
  rw [e]
  generalize 2 ^ a = T at *
  have g1 := Int.mul_le_mul_of_nonneg_right (show (-1000000 : Int) ≤ m by omega) (show (0 : Int) ≤ (T : Int) by omega)
  have g2 := Int.mul_le_mul_of_nonneg_right (show m ≤ (1000000 : Int) by omega) (show (0 : Int) ≤ (T : Int) by omega)
  omega
section
variable {post : Int32 → Prop} {L : Nat} {xs : Nat → Int32} {J : Int32 → Int32 → Int32 → Int32 → Int32 → Int32 → (Nat → Int32) → (Nat → Int32) → Prop} {x1 x3 x4 x8 fb fm : Int32} {x5 x16 x19 : Int64} {k kc ks r p md c : Nat} {a1 a2 : Nat → Int32} {X V : Int}
theorem rf_357 (hk : k < L) (hL : L ≤ 260) (HJ : ∀ f, J x3 f (nI (k + 2)) fb fm f a1 a2) : wL_law_357 post L xs J x1 x3 x4 x5 (nI k) kc ks fb fm x4 a1 a2 :=
  ⟨pk_in k L hk, br_c (fun _ => br_t rfl (nm_r (nI_add k 2) (HJ 0))) (fun _ => nm_r (nI_add k 2) (HJ x4))⟩
theorem rf_327 {z0 : Int32} (hk : k < L) (hL : L ≤ 260) (hr : r < 4) (hv : rf_val (a1 r) (a2 r) V) (h19 : x19.toInt = V) (HJ : ∀ f, J x3 f (nI (k + 2)) fb fm f a1 a2) : wL_law_327 post L xs J x1 x3 x4 x5 (nI k) (nI r) z0 x19 z0 kc ks fb fm (x4 ||| z0) a1 a2 :=
  nm_e (br_t rfl (rf_get hr hv (fun x hx => br_t (Int64.toInt_inj.mp (hx.trans h19.symm)) (rf_357 hk hL HJ))))
theorem rf_266 (hk : k < L) (hL : L ≤ 260) (hr : r < 4) (hmd : md < 4) (hp2 : 2 ≤ p) (hp9 : p ≤ 9) (h8 : ¬ x8 < 2) (h16 : x16.toInt = X) (h5 : x5.toInt = (((2 ^ p - 1) * 2 ^ 23 : Nat) : Int)) (hR : rf_round p md X V c) (hv : rf_val (a1 r) (a2 r) V) (HJ : ∀ f, J (nI md) f (nI (k + 2)) fb fm f a1 a2) :
    wL_law_266 post L xs J (nI p) (nI md) x4 x5 (nI k) x8 (nI r) x16 (nI c) kc ks fb fm (x4 ||| nI c) a1 a2 := by
  have hP := rf_P hp2 hp9
  have hmb : (2 ^ p - 1) * 2 ^ 23 < 2 ^ 40 := by
    generalize 2 ^ p = P at *
    omega
  have hgt : x5 < x16 ↔ (((2 ^ p - 1) * 2 ^ 23 : Nat) : Int) < X := by rw [Int64.lt_iff_toInt_lt, h5, h16]
  have hge : -x5 ≤ x16 ↔ -(((2 ^ p - 1) * 2 ^ 23 : Nat) : Int) ≤ X := by
    rw [Int64.le_iff_toInt_le, Jvm.Kit.i64_neg (by rw [h5]; omega), h5, h16]
  refine br_f h8 (rf_lround hmd hp2 hp9 h16 hR (fun d hd => ?_))
  have heq : d = x16 ↔ V = X := by rw [← Int64.toInt_inj, hd, h16]
  rcases rf_mine hR with ⟨hc, h⟩ | ⟨h1, h2, h⟩
  · subst hc
    have g : wL_law_298 post L xs J (nI p) (nI md) x4 x5 (nI k) (nI r) x16 (nI 3) d kc ks fb fm (x4 ||| nI 3) a1 a2 := br_f (by decide) (rf_327 (z0 := nI 3) hk hL hr hv hd HJ)
    refine br_c (fun _ => g) (fun z => br_f (fun t => ?_) g)
    rcases h with h | h
    · exact z (hgt.mpr h)
    · have := hge.mp t
      omega
  · refine br_f (fun t => h1 (hgt.mp t)) (br_t (hge.mpr h2) (br_t rfl ?_))
    rcases h with ⟨hc, h⟩ | ⟨hc, h⟩
    · subst hc
      exact br_t (heq.mpr h) (rf_327 (z0 := nI 0) hk hL hr hv hd HJ)
    · subst hc
      exact br_f (fun t => h (heq.mp t)) (rf_327 (z0 := nI 1) hk hL hr hv hd HJ)
end
theorem rf_loop {xs : Nat → Int32} {L p kc ks : Nat} {x5 : Int64} (hL : L ≤ 260) (hp2 : 2 ≤ p) (hp9 : p ≤ 9) (h5 : x5.toInt = (((2 ^ p - 1) * 2 ^ 23 : Nat) : Int)) :
    ∀ (n k md : Nat) (x4 : Int32) (a1 a2 : Nat → Int32), 1 ≤ n → L + 1 ≤ k + 2 * n → k ≤ L + 1 → md < 4 → rf_regs a1 a2 → wL_law_45 (fun r => r = 1) L xs (nI p) x5 kc ks n (nI md) x4 (nI k) (nI p) (nI md) x4 a1 a2 := by
  intro n
  induction n with
  | zero => exact fun k md x4 a1 a2 h => absurd h (by omega)
  | succ n ih =>
    intro k md x4 a1 a2 _ hkn hkL hmd hreg
    refine pk_le L (k + 1) (fun _ => rfl) (fun hk => ?_) rfl (nI_1 k) (by omega) (by omega)
    obtain ⟨w, hw, ew⟩ := pk_andE (xs k) (m := 15) 4 (by decide)
    obtain ⟨r, hr, er⟩ := pk_andE (xs k >>> ((4 : Int32) &&& 31)) (m := 3) 2 (by decide)
    obtain ⟨a, ha, ea⟩ := pk_andE (xs k >>> ((6 : Int32) &&& 31)) (m := 3) 2 (by decide)
    obtain ⟨b, hb, eb⟩ := pk_andE (xs k >>> ((8 : Int32) &&& 31)) (m := 3) 2 (by decide)
    obtain ⟨t, ht, et⟩ := pk_andE (xs k >>> ((10 : Int32) &&& 31)) (m := 255) 8 (by decide)
    obtain ⟨md', hmd', em⟩ := pk_andE (xs (k + 1)) (m := 3) 2 (by decide)
    have hkin : vp_in (nI k) L := pk_in k L (by omega)
    have hkin1 : vp_in (nI (k + 1)) L := pk_in (k + 1) L (by omega)
    rw [nI_1 k, nI_clamp (show k < 2 ^ 31 by omega), nI_clamp (show k + 1 < 2 ^ 31 by omega)]
    refine ⟨hkin, nm_r ew ⟨hkin, nm_r er ⟨hkin, nm_r ea ⟨hkin, nm_r eb ?_⟩⟩⟩⟩
    obtain ⟨V1, hV1⟩ := hreg a ha
    obtain ⟨V2, hV2⟩ := hreg b hb
    have b1 := rf_val_b hV1
    have b2 := rf_val_b hV2
    have next : ∀ (m e' : Int32) (V : Int) (f : Int32), rf_val m e' V → k + 2 ≤ L → wL_law_45 (fun r => r = 1) L xs (nI p) x5 kc ks n (nI md) f (nI (k + 2)) (nI p) (nI md) f (upd a1 r m) (upd a2 r e') :=
      fun m e' V f hv h => ih (k + 2) md f _ _ (by omega) (by omega) (by omega) hmd (rf_regs_upd hreg hv)
    have hvu : ∀ (m e' : Int32) (V : Int), rf_val m e' V → rf_val (upd a1 r m r) (upd a2 r e' r) V := by
      intro m e' V hv
      rw [pk_us, pk_us]
      exact hv
    refine rf_get ha hV1 (fun x hx => rf_get hb hV2 (fun y hy => ?_))
    refine pk_le 2 w (fun h2 => ?_) (fun h2 => ?_)
    · have hw2 : ¬ nI w < 2 := nI_nlt (b := 2) h2 (by omega)
      refine pk_le 8 w (fun h8 => ?_) (fun h8 => ?_)
      · refine pk_le 12 w (fun h12 => ?_) (fun h12 => ?_)
        · have hxy : (x - y).toInt = V1 - V2 := by rw [Jvm.Kit.i64_sub (by rw [hx, hy]; omega) (by rw [hx, hy]; omega), hx, hy]
          exact br_t (nI_le (a := 12) h12 (by omega)) (rf_sub hr ha hb hmd hp2 hp9 hV1 hV2 (fun V c m e' g1 g2 => rf_266 (by omega) hL hr hmd hp2 hp9 hw2 hxy h5 g1 (hvu m e' V g2) (fun f => next m e' V f g2 (by omega))))
        · have hxy : (x + y).toInt = V1 + V2 := by rw [Jvm.Kit.i64_add (by rw [hx, hy]; omega) (by rw [hx, hy]; omega), hx, hy]
          exact br_f (nI_ge (b := 12) h12 (by omega)) (rf_add hr ha hb hmd hp2 hp9 hV1 hV2 (fun V c m e' g1 g2 => rf_266 (by omega) hL hr hmd hp2 hp9 hw2 hxy h5 g1 (hvu m e' V g2) (fun f => next m e' V f g2 (by omega))))
      · refine ⟨hkin1, by decide, fun x19 e19 => ⟨hkin, by decide, fun x20 e20 x16 e16 => ?_⟩⟩
        obtain ⟨m, hm⟩ : ∃ m, m = (xs (k + 1)).toInt.tmod 1000000 := ⟨_, rfl⟩
        have h19 : x19.toInt = m := by
          rw [e19, rf_rem32, hm]
          rfl
        have hm1 : -1000000 < m := by
          rw [hm]
          exact Int.lt_tmod_of_pos _ (by decide)
        have hm2 : m < 1000000 := by
          rw [hm]
          exact Int.tmod_lt_of_pos _ (by decide)
        have h20 : x20.toInt = ((t % 33 : Nat) : Int) - 12 := by
          have e33 : nI t - nI t / 33 * 33 = nI (t % 33) := pk_rem (d := 33) (by omega) (by decide) (by decide)
          have hti : (nI (t % 33)).toInt = ((t % 33 : Nat) : Int) := nI_toInt (by omega)
          have h12 : (12 : Int32).toInt = 12 := by decide
          rw [e20, et, e33, Jvm.Kit.i32_sub (by rw [hti, h12]; omega) (by rw [hti, h12]; omega), hti, h12]
        have hE : t % 33 ≤ 32 := by omega
        have hcb := rf_mulc (a := t % 33) hm1 hm2 hE
        have h16 : x16.toInt = m * 2 ^ (t % 33) := by
          have h12 : (12 : Int32).toInt = 12 := by decide
          have hc : (x20 + 12).toInt = ((t % 33 : Nat) : Int) := by
            rw [Jvm.Kit.i32_add (by rw [h20, h12]; omega) (by rw [h20, h12]; omega), h20, h12]
            omega
          have h19' : x19.toInt64.toInt = m := by rw [Jvm.Kit.i64_of_i32, h19]
          rw [e16, rf_shl hc (by omega) (by rw [h19']; omega) (by rw [h19']; omega), h19']
        exact rf_load hr hmd hp2 hp9 h19 hm1 hm2 h20 hE hcb.1 hcb.2 (fun V c m e' g1 g2 => rf_266 (by omega) hL hr hmd hp2 hp9 hw2 h16 h5 g1 (hvu m e' V g2) (fun f => next m e' V f g2 (by omega)))
    · refine ⟨hkin1, nm_r em ?_⟩
      exact br_f (nI_pos (by omega)) (br_t (nI_le (b := 3) (by omega) (by decide)) (br_f (by decide) (br_t (nI_lt (b := 2) h2 (by decide)) (rf_357 (by omega) hL (fun f => ih (k + 2) md' f _ _ (by omega) (by omega) (by omega) hmd' hreg)))))
theorem i_vc (xs : Nat → Int32) (L : Nat) (hL : L ≤ 260) : wpL_law (fun r => r = 1) L xs := by
  have go : ∀ p, 2 ≤ p → p ≤ 9 → wL_law_17 (fun r => r = 1) L xs (nI p) 0 0 := by
    intro p h2 h9
    refine ⟨by decide, by decide, 2, 8, by decide, by decide, ?_⟩
    refine ⟨by decide, by decide, by decide, by decide, br_t (nI_le (a := 2) h2 (by omega)) (br_t (nI_le (b := 10) (by omega) (by decide)) (fun x5 e5 => ⟨L + 2, ?_⟩))⟩
    have h5 : x5.toInt = (((2 ^ p - 1) * 2 ^ 23 : Nat) : Int) := by
      rw [e5]
      exact rf_most2 (nI_toInt (by omega)) h2 h9
    exact rf_loop hL h2 h9 h5 (L + 2) 1 0 0 _ _ (by omega) (by omega) (by omega) (by decide) (fun j _ => ⟨0, 12, by decide, by decide, by decide, by decide, by decide⟩)
  refine pk_le L 0 (fun _ => go 5 (by decide) (by decide)) (fun h => ⟨pk_in 0 L h, ?_⟩)
  obtain ⟨j, hj, ej⟩ := pk_andE (xs 0) (m := 7) 3 (by decide)
  have e : 2 + (xs (0 : Int32).toNatClampNeg &&& 7) = nI (2 + j) := by
    rw [sb_cl0, ej]
    exact nI_add 2 j
  rw [e]
  exact go (2 + j) (by omega) (by omega)
end
