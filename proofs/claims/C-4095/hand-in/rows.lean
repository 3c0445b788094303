section
theorem pk_us {f : Nat → Int32} {k : Nat} {x : Int32} : upd f k x k = x := if_pos rfl
theorem pk_un {f : Nat → Int32} {k j : Nat} {x : Int32} (h : j ≠ k) : upd f k x j = f j := if_neg h
theorem pk_mul (a b : Nat) : nI a * nI b = nI (a * b) := (Int32.ofNat_mul a b).symm
theorem pk_ix (x : Int32) {n : Nat} (hn : n < 2 ^ 31) : x < 0 ∨ nI n ≤ x ∨ ∃ j : Nat, j < n ∧ x = nI j := by
  by_cases h : x < 0
  · exact Or.inl h
  · obtain ⟨j, hj, rfl⟩ := nI_of h
    by_cases h2 : j < n
    · exact Or.inr (Or.inr ⟨j, h2, rfl⟩)
    · exact Or.inr (Or.inl (nI_le (by omega) hj))
theorem pk_tn {n : Nat} (h : n < 2 ^ 32) : (nI n).toBitVec.toNat = n := Nat.mod_eq_of_lt h
theorem pk_and (x : Int32) {m : Int32} (k : Nat) (hm : m.toBitVec.toNat = 2 ^ k - 1) : x &&& m = nI (x.toBitVec.toNat % 2 ^ k) := by
  apply Int32.toBitVec_inj.mp
  apply BitVec.eq_of_toNat_eq
  rw [Int32.toBitVec_and, BitVec.toNat_and, hm, Nat.and_two_pow_sub_one_eq_mod]
  show _ = (BitVec.ofNat 32 _).toNat
  rw [BitVec.toNat_ofNat]
  exact (Nat.mod_eq_of_lt (Nat.lt_of_le_of_lt (Nat.mod_le _ _) x.toBitVec.isLt)).symm
theorem pk_andE (x : Int32) {m : Int32} (k : Nat) (hm : m.toBitVec.toNat = 2 ^ k - 1) : ∃ j : Nat, j < 2 ^ k ∧ x &&& m = nI j := ⟨_, Nat.mod_lt _ (Nat.two_pow_pos k), pk_and x k hm⟩
theorem pk_ushr (x s : Int32) (k : Nat) (hs : ((s.toUInt32 &&& Int32.toUInt32 31).toBitVec % 32).toNat = k) : (x.toUInt32 >>> (s.toUInt32 &&& Int32.toUInt32 31)).toInt32.toBitVec.toNat = x.toBitVec.toNat / 2 ^ k := by
  have e : (x.toUInt32 >>> (s.toUInt32 &&& Int32.toUInt32 31)).toInt32.toBitVec = x.toBitVec >>> k := by
    rw [← hs]
    exact UInt32.toBitVec_shiftRight _ _
  rw [e, BitVec.toNat_ushiftRight, Nat.shiftRight_eq_div_pow]
end
section
theorem ow_mul {a b c d : Int} (h : a % 251 = b % 251) (g : c % 251 = d % 251) : (a * c) % 251 = (b * d) % 251 := by
  rw [Int.mul_emod, h, g, ← Int.mul_emod]
theorem ow_add {a b c d : Int} (h : a % 251 = b % 251) (g : c % 251 = d % 251) : (a + c) % 251 = (b + d) % 251 := by omega
theorem ow_inv : ∀ k : Nat, k < 251 → k ≠ 0 → k ^ 249 % 251 * k % 251 = 1 := by decide +kernel
theorem ow_inv2 {k : Int} (h : ¬ k % 251 = 0) : ∃ i : Int, (k * i) % 251 = 1 := by
  obtain ⟨q, hq⟩ := Int.eq_ofNat_of_zero_le (Int.emod_nonneg k (by decide : (251 : Int) ≠ 0))
  have hl : k % 251 < 251 := Int.emod_lt_of_pos k (by decide)
  have h1 := ow_inv q (by omega) (by omega)
  refine ⟨((q ^ 249 % 251 : Nat) : Int), ?_⟩
  have e : (k * ((q ^ 249 % 251 : Nat) : Int)) % 251 = ((q : Int) * ((q ^ 249 % 251 : Nat) : Int)) % 251 := ow_mul (by omega) rfl
  rw [e, Int.mul_comm, ← Int.natCast_mul]
  generalize q ^ 249 % 251 * q = z at h1 ⊢
  omega
/-- 251 is a prime: what gives 0 with the key is 0 -/
theorem ow_cancel {k x : Int} (h : ¬ k % 251 = 0) (hx : (x * k) % 251 = 0) : x % 251 = 0 := by
  obtain ⟨i, hi⟩ := ow_inv2 h
  have h1 : ((x * k) * i) % 251 = (0 * i) % 251 := ow_mul (by omega) rfl
  have h2 : (x * (k * i)) % 251 = (x * 1) % 251 := ow_mul rfl (by omega)
  rw [Int.mul_assoc] at h1
  rw [Int.zero_mul] at h1
  rw [Int.mul_one] at h2
  omega
theorem ow_sndE {A B N E k : Int} (hk : ¬ k % 251 = 0) (hA : A % 251 = (N + E) % 251) (hB : B % 251 = (N * k) % 251) : (A * k) % 251 = B % 251 ↔ E % 251 = 0 := by
  have h1 : (A * k) % 251 = ((N + E) * k) % 251 := ow_mul hA rfl
  rw [Int.add_mul] at h1
  constructor
  · intro h
    exact ow_cancel hk (by omega)
  · intro h
    have h2 : (E * k) % 251 = (0 * k) % 251 := ow_mul (by omega) rfl
    rw [Int.zero_mul] at h2
    omega

/-- a number below 251 -/
def ow_in (x : Int32) : Prop := 0 ≤ x.toInt ∧ x.toInt < 251
def ow_md (p : Int32) : Int32 := Int32.ofInt (p.toInt % 251)
theorem ow_md_i (p : Int32) : (ow_md p).toInt = p.toInt % 251 := Int32.toInt_ofInt_of_le (by omega) (by omega)
theorem ow_md_in (p : Int32) : ow_in (ow_md p) := by
  unfold ow_in
  rw [ow_md_i]
  omega
theorem ow_251 : (251 : Int32).toInt = 251 := by decide
theorem ow_n251 : ¬ (251 : Int32) = 0 := by decide
theorem ow_0 : (0 : Int32).toInt = 0 := by decide
theorem ow_1 : (1 : Int32).toInt = 1 := by decide
theorem ow_in0 : ow_in 0 := by unfold ow_in; rw [ow_0]; omega
theorem ow_in1 : ow_in 1 := by unfold ow_in; rw [ow_1]; omega
theorem ow_250 : (250 : Int32).toInt = 250 := by decide
theorem ow_in250 : ow_in 250 := by unfold ow_in; rw [ow_250]; omega
theorem ow_tm (a : Int) : (0 ≤ a.tmod 251 → a.tmod 251 = a % 251) ∧ (¬ 0 ≤ a.tmod 251 → a.tmod 251 + 251 = a % 251) := by
  rcases Int.le_total 0 a with h | h
  · rw [Int.tmod_eq_emod_of_nonneg h]
    omega
  · have e : a.tmod 251 = -((-a) % 251) := by
      have t := Int.neg_tmod (-a) 251
      rw [Int.neg_neg] at t
      rw [t, Int.tmod_eq_emod_of_nonneg (by omega)]
    rw [e]
    omega
theorem ow_modw {post : Int32 → Prop} {p : Int32} (h : post (ow_md p)) : ¬ (251 : Int32) = 0 ∧ (∀ x : Int32, x = p - p / 251 * 251 → ((0 ≤ x → (post x)) ∧ (¬ 0 ≤ x → (post (x + 251))))) := by
  refine ⟨ow_n251, ?_⟩
  intro x ex
  have hx : x.toInt = p.toInt.tmod 251 := by rw [ex, rem_toInt, ow_251]
  have ht := ow_tm p.toInt
  have hb := tmod_bounds (a := p.toInt) (M := 251) (by decide)
  rw [← hx] at ht hb
  refine br_c (fun h0 => ?_) (fun h0 => ?_)
  · have g := Int32.le_iff_toInt_le.mp h0
    rw [ow_0] at g
    have e : x = ow_md p := Int32.toInt_inj.mp (by rw [ow_md_i]; exact ht.1 g)
    rw [e]
    exact h
  · have g : ¬ 0 ≤ x.toInt := fun z => h0 (Int32.le_iff_toInt_le.mpr (by rw [ow_0]; exact z))
    have e : x + 251 = ow_md p := Int32.toInt_inj.mp (by rw [ow_md_i, Jvm.Kit.i32_add (by rw [ow_251]; omega) (by rw [ow_251]; omega), ow_251]; exact ht.2 g)
    rw [e]
    exact h
theorem ow_rem {x : Int32} (h : 0 ≤ x.toInt) : x - x / 251 * 251 = ow_md x := Int32.toInt_inj.mp (by rw [rem_toInt, ow_251, ow_md_i, Int.tmod_eq_emod_of_nonneg h])
theorem ow_ush (x : Int32) : 0 ≤ (x.toUInt32 >>> ((8 : Int32).toUInt32 &&& Int32.toUInt32 31)).toInt32.toInt := by
  have h := pk_ushr x 8 8 (by decide)
  have l := x.toBitVec.isLt
  generalize (x.toUInt32 >>> ((8 : Int32).toUInt32 &&& Int32.toUInt32 31)).toInt32 = y at h ⊢
  have e : y.toInt = y.toBitVec.toInt := rfl
  rw [e, BitVec.toInt_eq_toNat_of_lt (by omega)]
  omega

theorem ow_m {x y : Int32} (hx : ow_in x) (hy : ow_in y) : (x * y).toInt = x.toInt * y.toInt ∧ 0 ≤ x.toInt * y.toInt ∧ x.toInt * y.toInt ≤ 62500 := by
  obtain ⟨a, b⟩ := hx
  obtain ⟨c, d⟩ := hy
  have h0 : 0 ≤ x.toInt * y.toInt := Int.mul_nonneg a c
  have h1 : x.toInt * y.toInt ≤ 250 * 250 := Int.mul_le_mul (by omega) (by omega) c (by decide)
  exact ⟨Jvm.Kit.i32_mul (by omega) (by omega), h0, by omega⟩
theorem ow_a3 {x y z : Int32} (hx : ow_in x) (hy : ow_in y) (hz : ow_in z) : (x + y + z).toInt = x.toInt + y.toInt + z.toInt := by
  obtain ⟨a, b⟩ := hx
  obtain ⟨c, d⟩ := hy
  obtain ⟨e, f⟩ := hz
  have h1 : (x + y).toInt = x.toInt + y.toInt := Jvm.Kit.i32_add (by omega) (by omega)
  rw [Jvm.Kit.i32_add (by omega) (by omega), h1]
theorem ow_a2 {x y : Int32} (hx : ow_in x) (hy : ow_in y) : (x + y).toInt = x.toInt + y.toInt := by
  obtain ⟨a, b⟩ := hx
  obtain ⟨c, d⟩ := hy
  exact Jvm.Kit.i32_add (by omega) (by omega)
theorem ow_d2 {x y : Int32} (hx : ow_in x) (hy : ow_in y) : (x - y).toInt = x.toInt - y.toInt := by
  obtain ⟨a, b⟩ := hx
  obtain ⟨c, d⟩ := hy
  exact Jvm.Kit.i32_sub (by omega) (by omega)
theorem ow_s3 {w x y : Int32} (h0 : 0 ≤ w.toInt) (h1 : w.toInt ≤ 62500) (hx : ow_in x) (hy : ow_in y) : (ow_md (w - x - y)).toInt = (w.toInt - x.toInt - y.toInt) % 251 := by
  obtain ⟨a, b⟩ := hx
  obtain ⟨c, d⟩ := hy
  have e1 : (w - x).toInt = w.toInt - x.toInt := Jvm.Kit.i32_sub (by omega) (by omega)
  rw [ow_md_i, Jvm.Kit.i32_sub (by omega) (by omega), e1]
theorem ow_at {x y c : Int32} (hx : ow_in x) (hy : ow_in y) (hc : ow_in c) : (ow_md (x + y * c)).toInt = (x.toInt + y.toInt * c.toInt) % 251 := by
  obtain ⟨h1, h2, h3⟩ := ow_m hy hc
  obtain ⟨a, b⟩ := hx
  rw [ow_md_i, Jvm.Kit.i32_add (by omega) (by omega), h1]
theorem ow_mm {x y : Int32} (hx : ow_in x) (hy : ow_in y) : x * y - x * y / 251 * 251 = ow_md (x * y) ∧ (ow_md (x * y)).toInt = (x.toInt * y.toInt) % 251 := by
  obtain ⟨h1, h2, h3⟩ := ow_m hx hy
  exact ⟨ow_rem (by omega), by rw [ow_md_i, h1]⟩
theorem ow_eq {x y : Int32} : x = y ↔ x.toInt = y.toInt := Int32.toInt_inj.symm

theorem ow_ix (t p : Nat) : nI t * 3 + nI p = nI (3 * t + p) := by
  show nI t * nI 3 + nI p = _
  rw [pk_mul, nI_add, Nat.mul_comm]
theorem ow_i3 (t : Nat) : nI t * 3 = nI (3 * t) := by
  show nI t * nI 3 = _
  rw [pk_mul, Nat.mul_comm]
theorem ow_54 {n : Nat} (h : n < 54) : vp_in (nI n) 54 := vp_in_nI h (by decide)
theorem ow_12 {n : Nat} (h : n < 12) : vp_in (nI n) 12 := vp_in_nI h (by decide)
theorem ow_cl {n : Nat} (h : n < 54) : (nI n).toNatClampNeg = n := nI_clamp (by omega)
end
section
def ow_sm (P : Nat → Int32) (s : Nat) : Int := (P (3 * s)).toInt + (P (3 * s + 1)).toInt + (P (3 * s + 2)).toInt
def ow_uz (N : Nat → Int) (t : Nat) (x : Int) : Nat → Int := fun s => if s = t then x else N s
theorem ow_uzs {N : Nat → Int} {t : Nat} {x : Int} : ow_uz N t x t = x := if_pos rfl
theorem ow_uzn {N : Nat → Int} {t s : Nat} {x : Int} (h : s ≠ t) : ow_uz N t x s = N s := if_neg h
/-- the parts P, T, K stand for the numbers N with the errors E under the key k -/
def ow_ab (P T K : Nat → Int32) (N E : Nat → Int) (k : Int) : Prop :=
  (∀ j, ow_in (P j)) ∧ (∀ j, ow_in (T j)) ∧ (∀ j, ow_in (K j)) ∧ ((K 0).toInt + (K 1).toInt + (K 2).toInt) % 251 = k % 251 ∧ ¬ k % 251 = 0 ∧ ∀ s, s < 18 → ow_sm P s % 251 = (N s + E s) % 251 ∧ ow_sm T s % 251 = (N s * k) % 251
theorem ow_set {P T K P' T' : Nat → Int32} {N E : Nat → Int} {k n e : Int} {t : Nat} (I : ow_ab P T K N E k) (hP : ∀ j, ow_in (P' j)) (hT : ∀ j, ow_in (T' j)) (oP : ∀ s, s ≠ t → ow_sm P' s = ow_sm P s) (oT : ∀ s, s ≠ t → ow_sm T' s = ow_sm T s) (sP : ow_sm P' t % 251 = (n + e) % 251) (sT : ow_sm T' t % 251 = (n * k) % 251) : ow_ab P' T' K (ow_uz N t n) (ow_uz E t e) k := by
  obtain ⟨_, _, c, d, f, g⟩ := I
  refine ⟨hP, hT, c, d, f, ?_⟩
  intro s hs
  by_cases h : s = t
  · subst h
    rw [ow_uzs, ow_uzs]
    exact ⟨sP, sT⟩
  · rw [ow_uzn h, ow_uzn h, oP s h, oT s h]
    exact g s hs
theorem ow_cong {P T K : Nat → Int32} {N E N' E' : Nat → Int} {k : Int} (I : ow_ab P T K N E k) (h : ∀ s, s < 18 → N' s % 251 = N s % 251 ∧ E' s % 251 = E s % 251) : ow_ab P T K N' E' k := by
  obtain ⟨a, b, c, d, f, g⟩ := I
  refine ⟨a, b, c, d, f, ?_⟩
  intro s hs
  obtain ⟨g1, g2⟩ := g s hs
  obtain ⟨h1, h2⟩ := h s hs
  exact ⟨by omega, g2.trans (ow_mul h1.symm rfl)⟩
def ow_u3 (P : Nat → Int32) (t : Nat) (x y z : Int32) : Nat → Int32 := upd (upd (upd P (3 * t) x) (3 * t + 1) y) (3 * t + 2) z
theorem ow_uin {P : Nat → Int32} {i : Nat} {x : Int32} (h : ∀ j, ow_in (P j)) (hx : ow_in x) : ∀ j, ow_in (upd P i x j) := by
  intro j
  by_cases e : j = i
  · subst e
    rw [pk_us]
    exact hx
  · rw [pk_un e]
    exact h j
theorem ow_u3in {P : Nat → Int32} {t : Nat} {x y z : Int32} (h : ∀ j, ow_in (P j)) (hx : ow_in x) (hy : ow_in y) (hz : ow_in z) : ∀ j, ow_in (ow_u3 P t x y z j) := ow_uin (ow_uin (ow_uin h hx) hy) hz
theorem ow_u3s {P : Nat → Int32} {t : Nat} {x y z : Int32} : ow_sm (ow_u3 P t x y z) t = x.toInt + y.toInt + z.toInt := by
  unfold ow_sm ow_u3
  rw [pk_un (by omega), pk_un (by omega), pk_us, pk_un (by omega), pk_us, pk_us]
theorem ow_u3n {P : Nat → Int32} {t : Nat} {x y z : Int32} (s : Nat) (h : s ≠ t) : ow_sm (ow_u3 P t x y z) s = ow_sm P s := by
  unfold ow_sm ow_u3
  rw [pk_un (by omega), pk_un (by omega), pk_un (by omega), pk_un (by omega), pk_un (by omega), pk_un (by omega), pk_un (by omega), pk_un (by omega), pk_un (by omega)]
theorem ow_set3 {P T K : Nat → Int32} {N E : Nat → Int} {k n e : Int} {t : Nat} {x y z x' y' z' : Int32} (I : ow_ab P T K N E k) (hx : ow_in x) (hy : ow_in y) (hz : ow_in z) (hx' : ow_in x') (hy' : ow_in y') (hz' : ow_in z') (sP : (x.toInt + y.toInt + z.toInt) % 251 = (n + e) % 251) (sT : (x'.toInt + y'.toInt + z'.toInt) % 251 = (n * k) % 251) : ow_ab (ow_u3 P t x y z) (ow_u3 T t x' y' z') K (ow_uz N t n) (ow_uz E t e) k :=
  ow_set I (ow_u3in I.1 hx hy hz) (ow_u3in I.2.1 hx' hy' hz') ow_u3n ow_u3n (by rw [ow_u3s]; exact sP) (by rw [ow_u3s]; exact sT)
theorem ow_r1 {P : Nat → Int32} {t a : Nat} {x : Int32} (h : t ≠ a) : upd P (3 * t) x (3 * a + 1) = P (3 * a + 1) := pk_un (by omega)
theorem ow_r2 {P : Nat → Int32} {t a : Nat} {x y : Int32} (h : t ≠ a) : upd (upd P (3 * t) x) (3 * t + 1) y (3 * a + 2) = P (3 * a + 2) := by
  rw [pk_un (by omega), pk_un (by omega)]
theorem ow_q1 {P : Nat → Int32} {t : Nat} {x : Int32} : upd P (3 * t) x (3 * t + 1) = P (3 * t + 1) := pk_un (by omega)
theorem ow_q2 {P : Nat → Int32} {t : Nat} {x y : Int32} : upd (upd P (3 * t) x) (3 * t + 1) y (3 * t + 2) = P (3 * t + 2) := by
  rw [pk_un (by omega), pk_un (by omega)]
end
section
theorem xa_mod {post : Int32 → Prop} {p : Int32} (h : post (ow_md p)) : wpX_mod post p := by
  unfold wpX_mod
  exact ow_modw h
theorem ya_mod {post : Int32 → Prop} {h n e : Nat → Int32} {p : Int32} (H : post (ow_md p)) : wpY_mod post (h, n, e) p := by
  unfold wpY_mod
  exact ow_modw H
section
variable {f : Int32} {h P T K : Nat → Int32} {N E : Nat → Int} {k : Int}
theorem xa_draw {post : Int32 → SX → Prop} (H : ∀ r f', ow_in r → post r (f', h, P, T, K)) : wpX_draw post (f, h, P, T, K) := by
  unfold wpX_draw
  dsimp only
  intro f1 e1
  refine ⟨ow_n251, ?_⟩
  refine H _ _ ?_
  rw [ow_rem (ow_ush f1)]
  exact ow_md_in _
theorem xa_key {post : Int32 → Prop} {P' T' : Nat → Int32} (I : ow_ab P T K N E k) (H : ∀ r, ow_in r → r.toInt = k % 251 → post r) : wpX_key post (f, h, P', T', K) := by
  obtain ⟨a, b, c, d, _, g⟩ := I
  unfold wpX_key
  dsimp only
  refine ⟨ow_n251, ?_⟩
  have e := ow_a3 (c 0) (c 1) (c 2)
  have c0 := (c 0).1
  have c1 := (c 1).1
  have c2 := (c 2).1
  rw [ow_rem (by omega)]
  exact H _ (ow_md_in _) (by rw [ow_md_i, e, d])
theorem xa_sum {post : Int32 → Prop} {s : Nat} (I : ow_ab P T K N E k) (hs : s < 18) (H : ∀ r, ow_in r → r.toInt = (N s + E s) % 251 → post r) : wpX_sumOfParts post (f, h, P, T, K) (nI s) := by
  obtain ⟨a, b, c, d, _, g⟩ := I
  have g1 := (g s hs).1
  unfold wpX_sumOfParts
  dsimp only
  refine nm_r (ow_i3 s) ?_
  have e1 : nI (3 * s) + 1 = nI (3 * s + 1) := nI_1 _
  have e2 : nI (3 * s) + 2 = nI (3 * s + 2) := nI_add (3 * s) 2
  simp only [e1, e2, ow_cl (n := 3 * s) (by omega), ow_cl (n := 3 * s + 1) (by omega), ow_cl (n := 3 * s + 2) (by omega)]
  refine ⟨ow_54 (by omega), ow_54 (by omega), ow_54 (by omega), ow_n251, ?_⟩
  have e := ow_a3 (a (3 * s)) (a (3 * s + 1)) (a (3 * s + 2))
  have c0 := (a (3 * s)).1
  have c1 := (a (3 * s + 1)).1
  have c2 := (a (3 * s + 2)).1
  rw [ow_rem (by omega)]
  refine H _ (ow_md_in _) ?_
  rw [ow_md_i, e]
  exact g1
theorem xa_sound {post : Int32 → Prop} {s : Nat} (I : ow_ab P T K N E k) (hs : s < 18) (H1 : E s % 251 = 0 → post 1) (H0 : ¬ E s % 251 = 0 → post 0) : wpX_sound post (f, h, P, T, K) (nI s) := by
  have I' := I
  obtain ⟨a, b, c, d, hk, g⟩ := I'
  have g2 := (g s hs).2
  unfold wpX_sound
  dsimp only
  refine nm_r (ow_i3 s) ?_
  have e1 : nI (3 * s) + 1 = nI (3 * s + 1) := nI_1 _
  have e2 : nI (3 * s) + 2 = nI (3 * s + 2) := nI_add (3 * s) 2
  simp only [e1, e2, ow_cl (n := 3 * s) (by omega), ow_cl (n := 3 * s + 1) (by omega), ow_cl (n := 3 * s + 2) (by omega)]
  have e := ow_a3 (b (3 * s)) (b (3 * s + 1)) (b (3 * s + 2))
  have c0 := (b (3 * s)).1
  have c1 := (b (3 * s + 1)).1
  have c2 := (b (3 * s + 2)).1
  refine ⟨ow_54 (by omega), ow_54 (by omega), ow_54 (by omega), ow_n251, nm_r (ow_rem (by omega)) ?_⟩
  refine xa_sum I hs fun r hr er => ?_
  refine xa_key I fun q hq eq => ?_
  refine ⟨ow_n251, ?_⟩
  obtain ⟨m1, m2⟩ := ow_mm hr hq
  have t : ow_md (r * q) = ow_md (T (3 * s) + T (3 * s + 1) + T (3 * s + 2)) ↔ E s % 251 = 0 := by
    rw [ow_eq, m2, ow_md_i, e, ← ow_sndE hk (A := r.toInt) (B := ow_sm T s) (by omega) g2]
    have z : (r.toInt * q.toInt) % 251 = (r.toInt * k) % 251 := ow_mul rfl (by omega)
    rw [z]
    exact Iff.rfl
  rw [m1]
  exact br_c (fun z => H1 (t.mp z)) (fun z => H0 (fun y => z (t.mpr y)))
theorem xa_soundB {post : Int32 → Prop} {s : Nat} (I : ow_ab P T K N E k) (hs : s < 18) (H : ∀ r : Int32, (r = 0 ↔ ¬ E s % 251 = 0) → post r) : wpX_sound post (f, h, P, T, K) (nI s) :=
  xa_sound I hs (fun z => H 1 ⟨fun w => absurd w (by decide), fun w => absurd z w⟩) (fun z => H 0 ⟨fun _ => z, fun _ => rfl⟩)
end
end
section
section
variable {f : Int32} {h P T K : Nat → Int32} {N E : Nat → Int} {k : Int}
theorem xc_step {post : SX → Prop} {t a : Nat} (ht : t < 18) (ha : a < 18) (n p : Nat) (hp : p < 3) {v w : Int32} (hv : P (3 * a + p) = v) (hw : T (3 * a + p) = w) (H : wX_copyParts_2 post (nI t) (nI a) f n (nI (p + 1)) h (upd P (3 * t + p) v) (upd T (3 * t + p) w) K) : wX_copyParts_2 post (nI t) (nI a) f (n + 1) (nI p) h P T K := by
  subst hv hw
  rw [wX_copyParts_2]
  simp only [ow_ix, ow_cl (n := 3 * t + p) (by omega), ow_cl (n := 3 * a + p) (by omega)]
  exact br_f (nI_ge (b := 3) hp (by decide)) ⟨ow_54 (by omega), ow_54 (by omega), nm_e ⟨ow_54 (by omega), ow_54 (by omega), nm_e (nm_r (nI_1 p) H)⟩⟩
theorem xc_end {post : SX → Prop} {x y : Int32} (n : Nat) (H : post (f, h, P, T, K)) : wX_copyParts_2 post x y f (n + 1) (nI 3) h P T K := by
  rw [wX_copyParts_2]
  exact br_t (nI_le (a := 3) (b := 3) (by decide) (by decide)) H
theorem xa_copy {post : SX → Prop} {t a : Nat} (I : ow_ab P T K N E k) (ht : t < 18) (ha : a < 18) (hne : t ≠ a) (H : ∀ f' P' T', ow_ab P' T' K (ow_uz N t (N a)) (ow_uz E t (E a)) k → post (f', h, P', T', K)) : wpX_copyParts post (f, h, P, T, K) (nI t) (nI a) := by
  unfold wpX_copyParts
  dsimp only
  refine ⟨4, xc_step ht ha 3 0 (by decide) (v := P (3 * a)) (w := T (3 * a)) rfl rfl (xc_step ht ha 2 1 (by decide) (v := P (3 * a + 1)) (w := T (3 * a + 1)) (ow_r1 hne) (ow_r1 hne) (xc_step ht ha 1 2 (by decide) (v := P (3 * a + 2)) (w := T (3 * a + 2)) (ow_r2 hne) (ow_r2 hne) (xc_end 0 ?_)))⟩
  have g := I.2.2.2.2.2 a ha
  exact H _ _ _ (ow_set3 (t := t) I (I.1 _) (I.1 _) (I.1 _) (I.2.1 _) (I.2.1 _) (I.2.1 _) g.1 g.2)
theorem xt_step {post : SX → Prop} {t a : Nat} {c : Int32} (ht : t < 18) (ha : a < 18) (n p : Nat) (hp : p < 3) {v w : Int32} (hv : ow_md (P (3 * t + p) + P (3 * a + p) * c) = v) (hw : ow_md (T (3 * t + p) + T (3 * a + p) * c) = w) (H : wX_addTimes_3 post (nI t) (nI a) c f n (nI (p + 1)) h (upd P (3 * t + p) v) (upd T (3 * t + p) w) K) : wX_addTimes_3 post (nI t) (nI a) c f (n + 1) (nI p) h P T K := by
  subst hv hw
  rw [wX_addTimes_3]
  refine br_f (nI_ge (b := 3) hp (by decide)) (nm_r (ow_ix t p) (nm_r (ow_ix a p) ?_))
  simp only [ow_cl (n := 3 * t + p) (by omega), ow_cl (n := 3 * a + p) (by omega)]
  exact ⟨ow_54 (by omega), ow_54 (by omega), xa_mod ⟨ow_54 (by omega), nm_e ⟨ow_54 (by omega), ow_54 (by omega), xa_mod ⟨ow_54 (by omega), nm_e (nm_r (nI_1 p) H)⟩⟩⟩⟩
theorem xt_end {post : SX → Prop} {x y c : Int32} (n : Nat) (H : post (f, h, P, T, K)) : wX_addTimes_3 post x y c f (n + 1) (nI 3) h P T K := by
  rw [wX_addTimes_3]
  exact br_t (nI_le (a := 3) (b := 3) (by decide) (by decide)) H
theorem ow_tsum {x0 x1 x2 y0 y1 y2 c : Int32} (h0 : ow_in x0) (h1 : ow_in x1) (h2 : ow_in x2) (g0 : ow_in y0) (g1 : ow_in y1) (g2 : ow_in y2) (hc : ow_in c) {A B : Int} (hA : (x0.toInt + x1.toInt + x2.toInt) % 251 = A % 251) (hB : (y0.toInt + y1.toInt + y2.toInt) % 251 = B % 251) : ((ow_md (x0 + y0 * c)).toInt + (ow_md (x1 + y1 * c)).toInt + (ow_md (x2 + y2 * c)).toInt) % 251 = (A + B * c.toInt) % 251 := by
  rw [ow_at h0 g0 hc, ow_at h1 g1 hc, ow_at h2 g2 hc]
  have m : ((y0.toInt + y1.toInt + y2.toInt) * c.toInt) % 251 = (B * c.toInt) % 251 := ow_mul hB rfl
  rw [Int.add_mul, Int.add_mul] at m
  omega
theorem xa_times {post : SX → Prop} {t a : Nat} {c : Int32} (I : ow_ab P T K N E k) (ht : t < 18) (ha : a < 18) (hne : t ≠ a) (hc : ow_in c) (H : ∀ f' P' T', ow_ab P' T' K (ow_uz N t (N t + N a * c.toInt)) (ow_uz E t (E t + E a * c.toInt)) k → post (f', h, P', T', K)) : wpX_addTimes post (f, h, P, T, K) (nI t) (nI a) c := by
  unfold wpX_addTimes
  dsimp only
  refine ⟨4, xt_step ht ha 3 0 (by decide) (v := ow_md (P (3 * t) + P (3 * a) * c)) (w := ow_md (T (3 * t) + T (3 * a) * c)) rfl rfl (xt_step ht ha 2 1 (by decide) (v := ow_md (P (3 * t + 1) + P (3 * a + 1) * c)) (w := ow_md (T (3 * t + 1) + T (3 * a + 1) * c)) ?_ ?_ (xt_step ht ha 1 2 (by decide) (v := ow_md (P (3 * t + 2) + P (3 * a + 2) * c)) (w := ow_md (T (3 * t + 2) + T (3 * a + 2) * c)) ?_ ?_ (xt_end 0 ?_)))⟩
  · rw [show 3 * t + 0 = 3 * t from rfl, ow_q1, ow_r1 hne]
  · rw [show 3 * t + 0 = 3 * t from rfl, ow_q1, ow_r1 hne]
  · rw [show 3 * t + 0 = 3 * t from rfl, ow_q2, ow_r2 hne]
  · rw [show 3 * t + 0 = 3 * t from rfl, ow_q2, ow_r2 hne]
  · have g := I.2.2.2.2.2 a ha
    have g' := I.2.2.2.2.2 t ht
    refine H _ _ _ (ow_set3 (t := t) I (ow_md_in _) (ow_md_in _) (ow_md_in _) (ow_md_in _) (ow_md_in _) (ow_md_in _) ?_ ?_)
    · rw [ow_tsum (I.1 _) (I.1 _) (I.1 _) (I.1 _) (I.1 _) (I.1 _) hc g'.1 g.1]
      exact congrArg (· % 251) (by rw [Int.add_mul]; omega)
    · rw [ow_tsum (I.2.1 _) (I.2.1 _) (I.2.1 _) (I.2.1 _) (I.2.1 _) (I.2.1 _) hc g'.2 g.2]
      exact congrArg (· % 251) (by rw [Int.add_mul, Int.mul_assoc, Int.mul_assoc, Int.mul_comm k])
theorem xk_step {post : SX → Prop} {t : Nat} {c : Int32} (ht : t < 18) (n p : Nat) (hp : p < 3) {w : Int32} (hw : ow_md (T (3 * t + p) + K p * c) = w) (H : wX_addKnown_23 post (nI t) c f n (nI (p + 1)) h P (upd T (3 * t + p) w) K) : wX_addKnown_23 post (nI t) c f (n + 1) (nI p) h P T K := by
  subst hw
  rw [wX_addKnown_23]
  refine br_f (nI_ge (b := 3) hp (by decide)) (nm_r (ow_ix t p) ?_)
  simp only [ow_cl (n := 3 * t + p) (by omega), ow_cl (n := p) (by omega)]
  exact ⟨ow_54 (by omega), vp_in_nI hp (by decide), xa_mod ⟨ow_54 (by omega), nm_e (nm_r (nI_1 p) H)⟩⟩
theorem xk_end {post : SX → Prop} {x c : Int32} (n : Nat) (H : post (f, h, P, T, K)) : wX_addKnown_23 post x c f (n + 1) (nI 3) h P T K := by
  rw [wX_addKnown_23]
  exact br_t (nI_le (a := 3) (b := 3) (by decide) (by decide)) H
theorem ow_u1 {P : Nat → Int32} {t : Nat} {x : Int32} : upd P (3 * t) x = ow_u3 P t x (P (3 * t + 1)) (P (3 * t + 2)) := by
  funext j
  unfold ow_u3 upd
  by_cases h2 : j = 3 * t + 2
  · subst h2
    rw [if_neg (by omega), if_pos rfl]
  · rw [if_neg (c := j = 3 * t + 2) h2]
    by_cases h1 : j = 3 * t + 1
    · subst h1
      rw [if_neg (by omega), if_pos rfl]
    · rw [if_neg (c := j = 3 * t + 1) h1]
theorem xa_known {post : SX → Prop} {t : Nat} {c : Int32} (I : ow_ab P T K N E k) (ht : t < 18) (hc : ow_in c) (H : ∀ f' P' T', ow_ab P' T' K (ow_uz N t (N t + c.toInt)) (ow_uz E t (E t)) k → post (f', h, P', T', K)) : wpX_addKnown post (f, h, P, T, K) (nI t) c := by
  unfold wpX_addKnown
  dsimp only
  simp only [ow_i3, ow_cl (n := 3 * t) (by omega)]
  refine ⟨ow_54 (by omega), xa_mod ⟨ow_54 (by omega), nm_e ?_⟩⟩
  refine ⟨4, xk_step ht 3 0 (by decide) (w := ow_md (T (3 * t) + K 0 * c)) rfl (xk_step ht 2 1 (by decide) (w := ow_md (T (3 * t + 1) + K 1 * c)) ?_ (xk_step ht 1 2 (by decide) (w := ow_md (T (3 * t + 2) + K 2 * c)) ?_ (xk_end 0 ?_)))⟩
  · rw [show 3 * t + 0 = 3 * t from rfl, ow_q1]
  · rw [show 3 * t + 0 = 3 * t from rfl, ow_q2]
  · have g := I.2.2.2.2.2 t ht
    have hK := I.2.2.1
    rw [ow_u1]
    refine H _ _ _ (ow_set3 (t := t) I (ow_md_in _) (I.1 _) (I.1 _) (ow_md_in _) (ow_md_in _) (ow_md_in _) ?_ ?_)
    · have g1 := g.1
      unfold ow_sm at g1
      rw [ow_md_i, ow_a2 (I.1 _) hc]
      omega
    · rw [ow_tsum (I.2.1 _) (I.2.1 _) (I.2.1 _) (hK _) (hK _) (hK _) hc g.2 I.2.2.2.1]
      exact congrArg (· % 251) (by rw [Int.add_mul, Int.mul_comm k])
theorem xz_step {post : SX → Prop} {t : Nat} (ht : t < 18) (n p : Nat) (hp : p < 3) (H : wX_zero_2 post (nI t) f n (nI (p + 1)) h (upd P (3 * t + p) 0) (upd T (3 * t + p) 0) K) : wX_zero_2 post (nI t) f (n + 1) (nI p) h P T K := by
  rw [wX_zero_2]
  simp only [ow_ix, ow_cl (n := 3 * t + p) (by omega)]
  exact br_f (nI_ge (b := 3) hp (by decide)) ⟨ow_54 (by omega), nm_e ⟨ow_54 (by omega), nm_e (nm_r (nI_1 p) H)⟩⟩
theorem xz_end {post : SX → Prop} {x : Int32} (n : Nat) (H : post (f, h, P, T, K)) : wX_zero_2 post x f (n + 1) (nI 3) h P T K := by
  rw [wX_zero_2]
  exact br_t (nI_le (a := 3) (b := 3) (by decide) (by decide)) H
theorem xa_zero {post : SX → Prop} {t : Nat} (I : ow_ab P T K N E k) (ht : t < 18) (H : ∀ f' P' T', ow_ab P' T' K (ow_uz N t 0) (ow_uz E t 0) k → post (f', h, P', T', K)) : wpX_zero post (f, h, P, T, K) (nI t) := by
  unfold wpX_zero
  dsimp only
  refine ⟨4, xz_step ht 3 0 (by decide) (xz_step ht 2 1 (by decide) (xz_step ht 1 2 (by decide) (xz_end 0 ?_)))⟩
  refine H _ _ _ (ow_set3 (t := t) I ow_in0 ow_in0 ow_in0 ow_in0 ow_in0 ow_in0 ?_ ?_)
  · rw [ow_0]
    rfl
  · rw [ow_0, Int.zero_mul]
    rfl
theorem xa_split {post : SX → Prop} {t : Nat} {c : Int32} (I : ow_ab P T K N E k) (ht : t < 18) (hc : ow_in c) (H : ∀ f' P' T', ow_ab P' T' K (ow_uz N t c.toInt) (ow_uz E t 0) k → post (f', h, P', T', K)) : wpX_split post (f, h, P, T, K) (nI t) c := by
  unfold wpX_split
  dsimp only
  refine nm_r (ow_i3 t) ?_
  have e1 : nI (3 * t) + 1 = nI (3 * t + 1) := nI_1 _
  have e2 : nI (3 * t) + 2 = nI (3 * t + 2) := nI_add (3 * t) 2
  simp only [e1, e2, ow_cl (n := 3 * t) (by omega), ow_cl (n := 3 * t + 1) (by omega), ow_cl (n := 3 * t + 2) (by omega)]
  have i0 : vp_in (nI (3 * t)) 54 := ow_54 (by omega)
  have i1 : vp_in (nI (3 * t + 1)) 54 := ow_54 (by omega)
  have i2 : vp_in (nI (3 * t + 2)) 54 := ow_54 (by omega)
  refine xa_draw fun r0 f0 h0 => ?_
  refine ⟨i0, nm_e ?_⟩
  refine xa_draw fun r1 f1 h1 => ?_
  refine ⟨i1, nm_e ⟨i0, i1, xa_mod ⟨i2, nm_e ?_⟩⟩⟩
  refine xa_draw fun q0 f2 g0 => ?_
  refine ⟨i0, nm_e ?_⟩
  refine xa_draw fun q1 f3 g1 => ?_
  refine ⟨i1, nm_e ?_⟩
  have d0 : ∀ (A : Nat → Int32) (x y : Int32), upd (upd A (3 * t) x) (3 * t + 1) y (3 * t) = x := fun A x y => by rw [pk_un (by omega), pk_us]
  have d1 : ∀ (A : Nat → Int32) (x y : Int32), upd (upd A (3 * t) x) (3 * t + 1) y (3 * t + 1) = y := fun A x y => pk_us
  simp only [d0, d1]
  have c1 := hc.1
  have c2 := hc.2
  have s1 := ow_s3 c1 (by omega) h0 h1
  refine xa_key I fun r hr er => ?_
  refine nm_e ⟨i0, i1, xa_mod ⟨i2, nm_e ?_⟩⟩
  obtain ⟨m1, m2, m3⟩ := ow_m hc hr
  have s2 := ow_s3 (w := c * r) (by omega) (by omega) g0 g1
  refine H _ _ _ (ow_set3 (t := t) I h0 h1 (ow_md_in _) g0 g1 (ow_md_in _) ?_ ?_)
  · rw [s1]
    omega
  · rw [s2, m1]
    have z : (c.toInt * r.toInt) % 251 = (c.toInt * k) % 251 := ow_mul rfl (by omega)
    omega
end
end
section
section
variable {f : Int32} {h P T K : Nat → Int32} {N E : Nat → Int} {k : Int}
theorem ow_prod {x y a b d e : Int} (hd : d % 251 = (x + a * 250) % 251) (he : e % 251 = (y + b * 250) % 251) : ((a * b) % 251 + b * d + a * e + (d * e) % 251) % 251 = (x * y) % 251 := by
  have e1 : (b * d) % 251 = (b * (x + a * 250)) % 251 := ow_mul rfl hd
  have e2 : (a * e) % 251 = (a * (y + b * 250)) % 251 := ow_mul rfl he
  have e3 : (d * e) % 251 = ((x + a * 250) * (y + b * 250)) % 251 := ow_mul hd he
  have e4 : (a * b) + b * (x + a * 250) + a * (y + b * 250) + (x + a * 250) * (y + b * 250) = x * y + 251 * (b * x + a * y + 251 * (a * b)) := by grind
  omega
theorem xm_111 {post : Int32 → SX → Prop} {x6 : Int32} (I : ow_ab P T K N E k) (h6 : ow_in x6) (H : ∀ r, ow_in r → r.toInt = (N 12 + E 12) % 251 → ∀ f' P' T' N' E', ow_ab P' T' K N' E' k → (∀ s, s ≠ 12 → N' s = N s ∧ E' s = E s) → N' 12 = N 15 + N 14 * x6.toInt + N 13 * r.toInt + (x6.toInt * r.toInt) % 251 → E' 12 = E 15 + E 14 * x6.toInt + E 13 * r.toInt → post 1 (f', h, P', T', K)) : wX_multiplyParts_111 post x6 1 f h P T K := by
  unfold wX_multiplyParts_111
  refine xa_sum (s := 12) I (by decide) fun r hr er => ?_
  refine br_f (by decide) ?_
  refine xa_copy (t := 12) (a := 15) I (by decide) (by decide) (by decide) fun f1 P1 T1 I1 => ?_
  refine xa_times (t := 12) (a := 14) I1 (by decide) (by decide) (by decide) h6 fun f2 P2 T2 I2 => ?_
  refine xa_times (t := 12) (a := 13) I2 (by decide) (by decide) (by decide) hr fun f3 P3 T3 I3 => ?_
  refine ⟨ow_n251, ?_⟩
  obtain ⟨m1, m2⟩ := ow_mm h6 hr
  rw [m1]
  refine xa_known (t := 12) I3 (by decide) (ow_md_in _) fun f4 P4 T4 I4 => ?_
  refine H r hr er _ _ _ _ _ I4 ?_ ?_ ?_
  · intro s hs
    simp only [ow_uzn hs, and_self]
  · rw [m2]
    simp [ow_uz]
  · simp [ow_uz]
theorem xm_110 {post : Int32 → SX → Prop} {x6 : Int32} (I : ow_ab P T K N E k) (H : post 0 (f, h, P, T, K)) : wX_multiplyParts_110 post x6 f h P T K := by
  unfold wX_multiplyParts_110 wX_multiplyParts_111
  refine xa_sum (s := 12) I (by decide) fun r hr er => ?_
  exact br_t rfl H
theorem xa_mult {post : Int32 → SX → Prop} {a b : Nat} (I : ow_ab P T K N E k) (ha : a < 18) (hb : b < 18) (ha' : a < 12 ∨ 15 < a) (hb' : b < 12 ∨ 15 < b)
    (H1 : E a % 251 = 0 → E b % 251 = 0 → ∀ f' P' T' N' E', ow_ab P' T' K N' E' k → (∀ s, (s < 12 ∨ 15 < s) → N' s = N s ∧ E' s = E s) → N' 12 = N a * N b → E' 12 = 0 → post 1 (f', h, P', T', K))
    (H0 : ¬ (E a % 251 = 0 ∧ E b % 251 = 0) → ∀ f' P' T' N' E', ow_ab P' T' K N' E' k → (∀ s, (s < 12 ∨ 15 < s) → N' s = N s ∧ E' s = E s) → post 0 (f', h, P', T', K)) : wpX_multiplyParts post (f, h, P, T, K) (nI a) (nI b) := by
  unfold wpX_multiplyParts
  refine xa_draw fun x f1 hx => ?_
  refine xa_draw fun y f2 hy => ?_
  refine xa_split (t := 13) I (by decide) hx fun f3 P3 T3 I3 => ?_
  refine xa_split (t := 14) I3 (by decide) hy fun f4 P4 T4 I4 => ?_
  refine ⟨ow_n251, ?_⟩
  obtain ⟨m1, m2⟩ := ow_mm hx hy
  rw [m1]
  refine xa_split (t := 15) I4 (by decide) (ow_md_in _) fun f5 P5 T5 I5 => ?_
  rw [m2] at I5
  obtain ⟨N5, E5, J5, fr, n13, n14, n15, e13, e14, e15⟩ : ∃ N5 E5, ow_ab P5 T5 K N5 E5 k ∧ (∀ s, (s < 12 ∨ 15 < s) → N5 s = N s ∧ E5 s = E s) ∧ N5 13 = x.toInt ∧ N5 14 = y.toInt ∧ N5 15 = (x.toInt * y.toInt) % 251 ∧ E5 13 = 0 ∧ E5 14 = 0 ∧ E5 15 = 0 := by
    refine ⟨_, _, I5, ?_, rfl, rfl, rfl, rfl, rfl, rfl⟩
    intro s hs
    have q1 : s ≠ 13 := by omega
    have q2 : s ≠ 14 := by omega
    have q3 : s ≠ 15 := by omega
    rw [ow_uzn q3, ow_uzn q2, ow_uzn q1, ow_uzn q3, ow_uzn q2, ow_uzn q1]
    exact ⟨rfl, rfl⟩
  clear I5
  obtain ⟨fa1, fa2⟩ := fr a ha'
  obtain ⟨fb1, fb2⟩ := fr b hb'
  refine xa_copy (t := 12) (a := a) J5 (by decide) ha (by omega) fun f6 P6 T6 I6 => ?_
  refine xa_times (t := 12) (a := 13) (c := 250) I6 (by decide) (by decide) (by decide) ow_in250 fun f7 P7 T7 I7 => ?_
  obtain ⟨N7, E7, J7, fr7, n7, e7⟩ : ∃ N7 E7, ow_ab P7 T7 K N7 E7 k ∧ (∀ s, s ≠ 12 → N7 s = N5 s ∧ E7 s = E5 s) ∧ N7 12 = N a + x.toInt * 250 ∧ E7 12 = E a := by
    refine ⟨_, _, I7, ?_, ?_, ?_⟩
    · intro s hs
      rw [ow_uzn hs, ow_uzn hs, ow_uzn hs, ow_uzn hs]
      exact ⟨rfl, rfl⟩
    · rw [ow_uzs, ow_uzs, ow_uzn (by decide), n13, fa1, ow_250]
    · rw [ow_uzs, ow_uzs, ow_uzn (by decide), e13, fa2, Int.zero_mul, Int.add_zero]
  clear I6 I7
  refine xa_soundB (s := 12) J7 (by decide) fun r44 e44 => ?_
  refine xa_sum (s := 12) J7 (by decide) fun d hd ed => ?_
  refine xa_copy (t := 12) (a := b) J7 (by decide) hb (by omega) fun f8 P8 T8 I8 => ?_
  refine xa_times (t := 12) (a := 14) (c := 250) I8 (by decide) (by decide) (by decide) ow_in250 fun f9 P9 T9 I9 => ?_
  obtain ⟨N9, E9, J9, fr9, n9, e9⟩ : ∃ N9 E9, ow_ab P9 T9 K N9 E9 k ∧ (∀ s, s ≠ 12 → N9 s = N5 s ∧ E9 s = E5 s) ∧ N9 12 = N b + y.toInt * 250 ∧ E9 12 = E b := by
    obtain ⟨g1, g2⟩ := fr7 b (by omega)
    obtain ⟨g3, g4⟩ := fr7 14 (by decide)
    refine ⟨_, _, I9, ?_, ?_, ?_⟩
    · intro s hs
      rw [ow_uzn hs, ow_uzn hs, ow_uzn hs, ow_uzn hs]
      exact fr7 s hs
    · rw [ow_uzs, ow_uzs, ow_uzn (by decide), g3, n14, g1, fb1, ow_250]
    · rw [ow_uzs, ow_uzs, ow_uzn (by decide), g4, e14, g2, fb2, Int.zero_mul, Int.add_zero]
  clear I8 I9
  have fr9' : ∀ s, (s < 12 ∨ 15 < s) → N9 s = N s ∧ E9 s = E s := by
    intro s hs
    obtain ⟨g1, g2⟩ := fr9 s (by omega)
    obtain ⟨g3, g4⟩ := fr s hs
    exact ⟨g1.trans g3, g2.trans g4⟩
  rw [e7] at e44
  refine br_c (fun z => xm_110 J9 (H0 (fun w => e44.mp z w.1) _ _ _ _ _ J9 fr9')) (fun z => ?_)
  have za : E a % 251 = 0 := Classical.byContradiction fun w => z (e44.mpr w)
  refine xa_soundB (s := 12) J9 (by decide) fun r101 e101 => ?_
  rw [e9] at e101
  refine br_c (fun z' => xm_110 J9 (H0 (fun w => e101.mp z' w.2) _ _ _ _ _ J9 fr9')) (fun z' => ?_)
  have zb : E b % 251 = 0 := Classical.byContradiction fun w => z' (e101.mpr w)
  refine xm_111 J9 hd fun r hr er f10 P10 T10 N10 E10 J10 fr10 n10 e10 => ?_
  have k1 := fr9 13 (by decide)
  have k2 := fr9 14 (by decide)
  have k3 := fr9 15 (by decide)
  rw [k3.1, k2.1, k1.1, n13, n14, n15] at n10
  rw [k3.2, k2.2, k1.2, e13, e14, e15, Int.zero_mul, Int.zero_mul] at e10
  rw [n7, e7] at ed
  rw [n9, e9] at er
  have pr := ow_prod (x := N a) (y := N b) (a := x.toInt) (b := y.toInt) (d := d.toInt) (e := r.toInt) (by omega) (by omega)
  refine H1 za zb f10 P10 T10 (ow_uz N10 12 (N a * N b)) (ow_uz E10 12 0) (ow_cong J10 ?_) ?_ ow_uzs ow_uzs
  · intro s _
    by_cases hs : s = 12
    · subst hs
      rw [ow_uzs, ow_uzs, n10, e10]
      exact ⟨pr.symm, rfl⟩
    · rw [ow_uzn hs, ow_uzn hs]
      exact ⟨rfl, rfl⟩
  · intro s hs
    have q : s ≠ 12 := by omega
    obtain ⟨g1, g2⟩ := fr10 s q
    obtain ⟨g3, g4⟩ := fr9' s hs
    rw [ow_uzn q, ow_uzn q]
    exact ⟨g1.trans g3, g2.trans g4⟩
end
end
section
def ow_yb (n e : Nat → Int32) (N E : Nat → Int) : Prop := ∀ s, s < 12 → (n s).toInt = N s % 251 ∧ (e s).toInt = E s % 251
/-- a slot is held or not: 1 or 0 -/
def ow_hb (h : Nat → Int32) : Prop := ∀ j, h j = 0 ∨ h j = vp_nar .boolean 1
theorem ow_hb1 {h : Nat → Int32} {t : Nat} (C : ow_hb h) : ow_hb (upd h t (vp_nar .boolean 1)) := by
  intro j
  by_cases z : j = t
  · subst z
    exact Or.inr pk_us
  · rw [pk_un z]
    exact C j
theorem ow_hb0 {h : Nat → Int32} {t : Nat} (C : ow_hb h) : ow_hb (upd h t (vp_nar .boolean 0)) := by
  intro j
  by_cases z : j = t
  · subst z
    rw [pk_us]
    exact Or.inl rfl
  · rw [pk_un z]
    exact C j
theorem ow_hbe {h : Nat → Int32} {t : Nat} (C : ow_hb h) (z : ¬ h t = 0) : upd h t (vp_nar .boolean 1) = h := by
  funext j
  by_cases w : j = t
  · subst w
    rw [pk_us]
    exact ((C j).resolve_left z).symm
  · rw [pk_un w]
/-- both hold the same slots; the parts stand for numbers and errors that the reference has, modulo 251 -/
def i_Rel (_ : Nat) (u : SX) (v : SY) : Prop :=
  ∃ (f : Int32) (h P T K n e : Nat → Int32) (N E : Nat → Int) (kk : Int), u = (f, h, P, T, K) ∧ v = (h, n, e) ∧ ow_ab P T K N E kk ∧ ow_yb n e N E ∧ ow_hb h
theorem i_up {k : Nat} {u : SX} {v : SY} (h : i_Rel k u v) : i_Rel (k + 4) u v := h
theorem ow_mk {k : Nat} {f : Int32} {h P T K n e : Nat → Int32} {N E N' E' : Nat → Int} {kk : Int} (C : ow_hb h) (I : ow_ab P T K N E kk) (J : ow_yb n e N' E') (H : ∀ s, s < 12 → N s % 251 = N' s % 251 ∧ E s % 251 = E' s % 251) : i_Rel k (f, h, P, T, K) (h, n, e) := by
  refine ⟨f, h, P, T, K, n, e, N, E, kk, rfl, rfl, I, ?_, C⟩
  intro s hs
  obtain ⟨a, b⟩ := J s hs
  obtain ⟨c, d⟩ := H s hs
  exact ⟨a.trans c.symm, b.trans d.symm⟩
theorem ow_up {k : Nat} {f : Int32} {h P T K n e : Nat → Int32} {N E N' E' : Nat → Int} {kk x y : Int} {t : Nat} (C : ow_hb h) (I : ow_ab P T K (ow_uz N t x) (ow_uz E t y) kk) (J : ow_yb n e (ow_uz N' t x) (ow_uz E' t y)) (H : ∀ s, s < 12 → N s = N' s ∧ E s = E' s) : i_Rel k (f, upd h t (vp_nar .boolean 1), P, T, K) (upd h t (vp_nar .boolean 1), n, e) := by
  refine ow_mk (ow_hb1 C) I J ?_
  intro s hs
  by_cases q : s = t
  · subst q
    rw [ow_uzs, ow_uzs, ow_uzs, ow_uzs]
    exact ⟨rfl, rfl⟩
  · obtain ⟨a, b⟩ := H s hs
    rw [ow_uzn q, ow_uzn q, ow_uzn q, ow_uzn q, a, b]
    exact ⟨rfl, rfl⟩
theorem ya_fill {post : Int32 → SY → Prop} {h n e : Nat → Int32} {N E : Nat → Int} {t : Nat} {p q : Int32} (a b : Int) (J : ow_yb n e N E) (ht : t < 12) (ha : p.toInt % 251 = a % 251) (hb : q.toInt % 251 = b % 251) (H : ∀ n' e', ow_yb n' e' (ow_uz N t a) (ow_uz E t b) → post 0 (upd h t (vp_nar .boolean 1), n', e')) : wpY_fill post (h, n, e) (nI t) p q := by
  unfold wpY_fill
  dsimp only
  simp only [ow_cl (n := t) (by omega)]
  refine ⟨ow_12 ht, nm_e (ya_mod ⟨ow_12 ht, nm_e (ya_mod ⟨ow_12 ht, nm_e ?_⟩)⟩)⟩
  refine H _ _ ?_
  intro s hs
  by_cases z : s = t
  · subst z
    rw [pk_us, pk_us, ow_uzs, ow_uzs, ow_md_i, ow_md_i]
    exact ⟨ha, hb⟩
  · rw [pk_un z, pk_un z, ow_uzn z, ow_uzn z]
    exact J s hs
theorem xa_keep {post : Int32 → SX → Prop} {f : Int32} {h P T K : Nat → Int32} {N E : Nat → Int} {k : Int} {t a : Nat} (I : ow_ab P T K N E k) (ht : t < 12) (ha : a < 18) (ha' : 12 ≤ a) (H : ∀ f' P' T', ow_ab P' T' K (ow_uz N t (N a)) (ow_uz E t (E a)) k → post 0 (f', upd h t (vp_nar .boolean 1), P', T', K)) : wpX_keep post (f, h, P, T, K) (nI t) (nI a) := by
  unfold wpX_keep
  dsimp only
  simp only [ow_cl (n := t) (by omega)]
  refine xa_copy I (by omega) ha (by omega) fun f1 P1 T1 I1 => ?_
  exact ⟨ow_12 ht, nm_e (H f1 P1 T1 I1)⟩
def ow_bad (x : Int32) : Prop := x < 0 ∨ nI 12 ≤ x
theorem ow_badC (x : Int32) : ow_bad x ∨ ∃ j : Nat, j < 12 ∧ x = nI j := by
  rcases pk_ix x (n := 12) (by decide) with h | h | h
  · exact Or.inl (Or.inl h)
  · exact Or.inl (Or.inr h)
  · exact Or.inr h
theorem ow_ngt {x : Int32} (h : nI 12 ≤ x) : ¬ x < 12 ∧ ¬ x ≤ 11 := by
  have h1 := Int32.le_iff_toInt_le.mp h
  have e : (nI 12).toInt = 12 := by decide
  have e1 : (12 : Int32).toInt = 12 := by decide
  have e2 : (11 : Int32).toInt = 11 := by decide
  refine ⟨fun z => ?_, fun z => ?_⟩
  · have h2 := Int32.lt_iff_toInt_lt.mp z
    omega
  · have h2 := Int32.le_iff_toInt_le.mp z
    omega
theorem xa_bad1 {post : Int32 → Prop} {x : Int32} (h : ow_bad x) (H : post 1) : wpX_bad post x := by
  unfold wpX_bad
  rcases h with h | h
  · exact br_t h H
  · exact br_c (fun _ => H) (fun _ => br_f (ow_ngt h).1 H)
theorem xa_bad0 {post : Int32 → Prop} {j : Nat} (h : j < 12) (H : post 0) : wpX_bad post (nI j) := by
  unfold wpX_bad
  exact br_f (nI_pos (by omega)) (br_t (nI_lt (b := 12) h (by decide)) H)
theorem ya_bad1 {post : Int32 → Prop} {v : SY} {x : Int32} (h : ow_bad x) (H : post 1) : wpY_bad post v x := by
  obtain ⟨a, b, c⟩ := v
  unfold wpY_bad
  rcases h with h | h
  · exact br_t h H
  · exact br_c (fun _ => H) (fun _ => br_f (ow_ngt h).2 H)
theorem ya_bad0 {post : Int32 → Prop} {v : SY} {j : Nat} (h : j < 12) (H : post 0) : wpY_bad post v (nI j) := by
  obtain ⟨a, b, c⟩ := v
  unfold wpY_bad
  exact br_f (nI_pos (by omega)) (br_t (nI_le (b := 11) (by omega) (by decide)) H)
theorem ow_10 : ¬ (1 : Int32) = 0 := by decide
/-- refused on both sides alike, or on none -/
theorem ow_ref (h : Nat → Int32) (x y z : Int32) :
    (∃ r : Int32, (r = -1 ∨ r = -2) ∧ (∀ (post : Int32 → Prop) (f : Int32) (P T K : Nat → Int32), post r → wpX_refusal post (f, h, P, T, K) x y z) ∧ (∀ (post : Int32 → Prop) (n e : Nat → Int32), post r → wpY_refusal post (h, n, e) x y z)) ∨
    (∃ t a b : Nat, t < 12 ∧ a < 12 ∧ b < 12 ∧ x = nI t ∧ y = nI a ∧ z = nI b ∧ (∀ (post : Int32 → Prop) (f : Int32) (P T K : Nat → Int32), post 0 → wpX_refusal post (f, h, P, T, K) x y z) ∧ (∀ (post : Int32 → Prop) (n e : Nat → Int32), post 0 → wpY_refusal post (h, n, e) x y z)) := by
  unfold wpX_refusal wpY_refusal
  dsimp only
  rcases ow_badC x with hx | ⟨t, ht, rfl⟩
  · exact Or.inl ⟨-1, Or.inl rfl, fun _ _ _ _ _ p => xa_bad1 hx (br_f ow_10 p), fun _ _ _ p => ya_bad1 hx (br_f ow_10 p)⟩
  rcases ow_badC y with hy | ⟨a, ha, rfl⟩
  · exact Or.inl ⟨-1, Or.inl rfl, fun _ _ _ _ _ p => xa_bad0 ht (br_t rfl (xa_bad1 hy (br_f ow_10 p))), fun _ _ _ p => ya_bad0 ht (br_t rfl (ya_bad1 hy (br_f ow_10 p)))⟩
  rcases ow_badC z with hz | ⟨b, hb, rfl⟩
  · exact Or.inl ⟨-1, Or.inl rfl, fun _ _ _ _ _ p => xa_bad0 ht (br_t rfl (xa_bad0 ha (br_t rfl (xa_bad1 hz (br_f ow_10 p))))), fun _ _ _ p => ya_bad0 ht (br_t rfl (ya_bad0 ha (br_t rfl (ya_bad1 hz (br_f ow_10 p)))))⟩
  simp only [ow_cl (n := a) (by omega), ow_cl (n := b) (by omega)]
  by_cases h1 : h a = 0
  · exact Or.inl ⟨-2, Or.inr rfl, fun _ _ _ _ _ p => xa_bad0 ht (br_t rfl (xa_bad0 ha (br_t rfl (xa_bad0 hb (br_t rfl ⟨ow_12 ha, br_t h1 p⟩))))), fun _ _ _ p => ya_bad0 ht (br_t rfl (ya_bad0 ha (br_t rfl (ya_bad0 hb (br_t rfl ⟨ow_12 ha, br_t h1 p⟩)))))⟩
  by_cases h2 : h b = 0
  · exact Or.inl ⟨-2, Or.inr rfl, fun _ _ _ _ _ p => xa_bad0 ht (br_t rfl (xa_bad0 ha (br_t rfl (xa_bad0 hb (br_t rfl ⟨ow_12 ha, br_f h1 ⟨ow_12 hb, br_t h2 p⟩⟩))))), fun _ _ _ p => ya_bad0 ht (br_t rfl (ya_bad0 ha (br_t rfl (ya_bad0 hb (br_t rfl ⟨ow_12 ha, br_f h1 ⟨ow_12 hb, br_t h2 p⟩⟩)))))⟩
  exact Or.inr ⟨t, a, b, ht, ha, hb, rfl, rfl, rfl, fun _ _ _ _ _ p => xa_bad0 ht (br_t rfl (xa_bad0 ha (br_t rfl (xa_bad0 hb (br_t rfl ⟨ow_12 ha, br_f h1 ⟨ow_12 hb, br_f h2 p⟩⟩))))), fun _ _ _ p => ya_bad0 ht (br_t rfl (ya_bad0 ha (br_t rfl (ya_bad0 hb (br_t rfl ⟨ow_12 ha, br_f h1 ⟨ow_12 hb, br_f h2 p⟩⟩)))))⟩
theorem ow_no {r : Int32} (h : r = -1 ∨ r = -2) : ¬ r = 0 ∧ ¬ 0 ≤ r := by
  rcases h with rfl | rfl
  · decide
  · decide
theorem ow_00 : (0 : Int32) ≤ 0 := by decide
theorem ow_yin {n e : Nat → Int32} {N E : Nat → Int} (J : ow_yb n e N E) {s : Nat} (hs : s < 12) : ow_in (n s) ∧ ow_in (e s) := by
  obtain ⟨a, b⟩ := J s hs
  unfold ow_in
  rw [a, b]
  omega
end
section
theorem i_vc0 (k0 : Int32) : wpX_init (fun u => wpY_init (fun v => i_Rel 1 u v) k0) k0 := by
  unfold wpX_init
  refine xa_draw fun a f1 ha => ?_
  refine nm_e ?_
  refine xa_draw fun b f2 hb => ?_
  refine nm_e ?_
  refine xa_draw fun c f3 hc => ?_
  have K0 : ∀ z : Int32, ow_in z → ¬ z = 0 → wX_init_74 (fun u => wpY_init (fun v => i_Rel 1 u v) k0) z f3 (fun _ => 0) (fun _ => 0) (fun _ => 0) (upd (upd (fun _ => 0) 0 a) 1 b) := by
    intro z hz z0
    unfold wX_init_74
    refine xa_mod (nm_e ?_)
    unfold wpY_init
    have e0 : upd (upd (fun _ => 0) 0 a) 1 b 0 = a := rfl
    have e1 : upd (upd (fun _ => 0) 0 a) 1 b 1 = b := rfl
    rw [e0, e1]
    refine ⟨f3, fun _ => 0, fun _ => 0, fun _ => 0, _, fun _ => 0, fun _ => 0, fun _ => 0, fun _ => 0, z.toInt, rfl, rfl, ⟨fun _ => ow_in0, fun _ => ow_in0, ow_uin (ow_uin (ow_uin (fun _ => ow_in0) ha) hb) (ow_md_in _), ?_, ?_, ?_⟩, ?_, fun _ => Or.inl rfl⟩
    · show (a.toInt + b.toInt + (ow_md (z - a - b)).toInt) % 251 = _
      rw [ow_s3 hz.1 (by have := hz.2; omega) ha hb]
      omega
    · intro w
      obtain ⟨h1, h2⟩ := hz
      exact z0 (ow_eq.mpr (by rw [ow_0]; omega))
    · intro s _
      have e : ow_sm (fun _ => 0) s = 0 := by
        show (0 : Int32).toInt + (0 : Int32).toInt + (0 : Int32).toInt = 0
        decide
      rw [e, Int.zero_mul]
      exact ⟨rfl, rfl⟩
    · intro s _
      show (0 : Int32).toInt = _ ∧ (0 : Int32).toInt = _
      rw [ow_0]
      exact ⟨rfl, rfl⟩
  exact br_c (fun _ => K0 1 ow_in1 ow_10) (fun z => K0 c hc z)
theorem i_vc_put {k : Nat} {u : SX} {v : SY} (I : i_Rel k u v) (hk : k + 4 ≤ 2049) (v1 : Int32) (v2 : Int32) : wpX_put (fun r u' => wpY_put (fun r' v' => r' = r ∧ i_Rel (k + 4) u' v') v v1 v2) u v1 v2 := by
  have I0 := I
  obtain ⟨f, h, P, T, K, n, e, N, E, kk, rfl, rfl, A, B, C⟩ := I
  unfold wpX_put wpY_put
  dsimp only
  rcases ow_badC v1 with hb | ⟨t, ht, rfl⟩
  · exact xa_bad1 hb (br_f ow_10 (ya_bad1 hb (br_f ow_10 ⟨rfl, I0⟩)))
  · simp only [ow_cl (n := t) (by omega)]
    refine xa_bad0 ht (br_t rfl (xa_mod ?_))
    refine xa_split A (by omega) (ow_md_in _) fun f1 P1 T1 A1 => ?_
    refine ⟨ow_12 ht, nm_e ?_⟩
    refine ya_bad0 ht (br_t rfl ?_)
    refine ya_fill (ow_md v2).toInt 0 B ht ?_ ?_ fun n' e' B1 => ?_
    · rw [ow_md_i]
      omega
    · rw [ow_0]
    · exact ⟨rfl, ow_up C A1 B1 fun _ _ => ⟨rfl, rfl⟩⟩
theorem i_vc_add {k : Nat} {u : SX} {v : SY} (I : i_Rel k u v) (hk : k + 4 ≤ 2049) (v1 : Int32) (v2 : Int32) (v3 : Int32) : wpX_add (fun r u' => wpY_add (fun r' v' => r' = r ∧ i_Rel (k + 4) u' v') v v1 v2 v3) u v1 v2 v3 := by
  have I0 := I
  obtain ⟨f, h, P, T, K, n, e, N, E, kk, rfl, rfl, A, B, C⟩ := I
  unfold wpX_add wpY_add
  dsimp only
  rcases ow_ref h v1 v2 v3 with ⟨r, hr, hX, hY⟩ | ⟨t, a, b, ht, ha, hb, rfl, rfl, rfl, hX, hY⟩
  · obtain ⟨r1, r2⟩ := ow_no hr
    exact hX _ _ _ _ _ (br_f r1 (hY _ _ _ (br_f r2 ⟨rfl, I0⟩)))
  · simp only [ow_cl (n := a) (by omega), ow_cl (n := b) (by omega)]
    refine hX _ _ _ _ _ (br_t rfl ?_)
    refine xa_copy (t := 12) A (by decide) (by omega) (by omega) fun f1 P1 T1 A1 => ?_
    refine xa_times (t := 12) A1 (by decide) (by omega) (by omega) ow_in1 fun f2 P2 T2 A2 => ?_
    refine xa_keep (a := 12) A2 ht (by decide) (by decide) fun f3 P3 T3 A3 => ?_
    refine hY _ _ _ (br_t ow_00 ⟨ow_12 ha, ow_12 hb, ow_12 ha, ow_12 hb, ?_⟩)
    obtain ⟨a1, a2⟩ := B a ha
    obtain ⟨b1, b2⟩ := B b hb
    refine ya_fill _ _ B ht ?_ ?_ fun n' e' B1 => ⟨rfl, ow_up C A3 B1 ?_⟩
    · rw [ow_uzs, ow_uzs, ow_uzn (by omega), ow_1, ow_a2 (ow_yin B ha).1 (ow_yin B hb).1, a1, b1]
      omega
    · rw [ow_uzs, ow_uzs, ow_uzn (by omega), ow_1, ow_a2 (ow_yin B ha).2 (ow_yin B hb).2, a2, b2]
      omega
    · intro s hs
      have q : s ≠ 12 := by omega
      rw [ow_uzn q, ow_uzn q, ow_uzn q, ow_uzn q]
      exact ⟨rfl, rfl⟩
theorem i_vc_subtract {k : Nat} {u : SX} {v : SY} (I : i_Rel k u v) (hk : k + 4 ≤ 2049) (v1 : Int32) (v2 : Int32) (v3 : Int32) : wpX_subtract (fun r u' => wpY_subtract (fun r' v' => r' = r ∧ i_Rel (k + 4) u' v') v v1 v2 v3) u v1 v2 v3 := by
  have I0 := I
  obtain ⟨f, h, P, T, K, n, e, N, E, kk, rfl, rfl, A, B, C⟩ := I
  unfold wpX_subtract wpY_subtract
  dsimp only
  rcases ow_ref h v1 v2 v3 with ⟨r, hr, hX, hY⟩ | ⟨t, a, b, ht, ha, hb, rfl, rfl, rfl, hX, hY⟩
  · obtain ⟨r1, r2⟩ := ow_no hr
    exact hX _ _ _ _ _ (br_f r1 (hY _ _ _ (br_f r2 ⟨rfl, I0⟩)))
  · simp only [ow_cl (n := a) (by omega), ow_cl (n := b) (by omega)]
    refine hX _ _ _ _ _ (br_t rfl ?_)
    refine xa_copy (t := 12) A (by decide) (by omega) (by omega) fun f1 P1 T1 A1 => ?_
    refine xa_times (t := 12) A1 (by decide) (by omega) (by omega) ow_in250 fun f2 P2 T2 A2 => ?_
    refine xa_keep (a := 12) A2 ht (by decide) (by decide) fun f3 P3 T3 A3 => ?_
    refine hY _ _ _ (br_t ow_00 ⟨ow_12 ha, ow_12 hb, ow_12 ha, ow_12 hb, ?_⟩)
    obtain ⟨a1, a2⟩ := B a ha
    obtain ⟨b1, b2⟩ := B b hb
    refine ya_fill _ _ B ht ?_ ?_ fun n' e' B1 => ⟨rfl, ow_up C A3 B1 ?_⟩
    · rw [ow_uzs, ow_uzs, ow_uzn (by omega), ow_250, ow_d2 (ow_yin B ha).1 (ow_yin B hb).1, a1, b1]
      omega
    · rw [ow_uzs, ow_uzs, ow_uzn (by omega), ow_250, ow_d2 (ow_yin B ha).2 (ow_yin B hb).2, a2, b2]
      omega
    · intro s hs
      have q : s ≠ 12 := by omega
      rw [ow_uzn q, ow_uzn q, ow_uzn q, ow_uzn q]
      exact ⟨rfl, rfl⟩
theorem i_vc_scale {k : Nat} {u : SX} {v : SY} (I : i_Rel k u v) (hk : k + 4 ≤ 2049) (v1 : Int32) (v2 : Int32) (v3 : Int32) : wpX_scale (fun r u' => wpY_scale (fun r' v' => r' = r ∧ i_Rel (k + 4) u' v') v v1 v2 v3) u v1 v2 v3 := by
  have I0 := I
  obtain ⟨f, h, P, T, K, n, e, N, E, kk, rfl, rfl, A, B, C⟩ := I
  unfold wpX_scale wpY_scale
  dsimp only
  rcases ow_ref h v1 v2 v2 with ⟨r, hr, hX, hY⟩ | ⟨t, a, b, ht, ha, hb, rfl, rfl, eb, hX, hY⟩
  · obtain ⟨r1, r2⟩ := ow_no hr
    exact hX _ _ _ _ _ (br_f r1 (hY _ _ _ (ya_mod (br_f r2 ⟨rfl, I0⟩))))
  · simp only [ow_cl (n := a) (by omega)]
    refine hX _ _ _ _ _ (br_t rfl (xa_mod ?_))
    have hm := ow_md_in v3
    refine xa_zero (t := 12) A (by decide) fun f1 P1 T1 A1 => ?_
    refine xa_times (t := 12) A1 (by decide) (by omega) (by omega) hm fun f2 P2 T2 A2 => ?_
    refine xa_keep (a := 12) A2 ht (by decide) (by decide) fun f3 P3 T3 A3 => ?_
    refine hY _ _ _ (ya_mod (br_t ow_00 ⟨ow_12 ha, ow_12 ha, ?_⟩))
    obtain ⟨a1, a2⟩ := B a ha
    refine ya_fill _ _ B ht ?_ ?_ fun n' e' B1 => ⟨rfl, ow_up C A3 B1 ?_⟩
    · rw [ow_uzs, ow_uzs, ow_uzn (by omega), (ow_m hm (ow_yin B ha).1).1, Int.zero_add, Int.mul_comm]
      exact ow_mul (by omega) rfl
    · rw [ow_uzs, ow_uzs, ow_uzn (by omega), (ow_m hm (ow_yin B ha).2).1, Int.zero_add, Int.mul_comm]
      exact ow_mul (by omega) rfl
    · intro s hs
      have q : s ≠ 12 := by omega
      rw [ow_uzn q, ow_uzn q, ow_uzn q, ow_uzn q]
      exact ⟨rfl, rfl⟩
theorem i_vc_shift {k : Nat} {u : SX} {v : SY} (I : i_Rel k u v) (hk : k + 4 ≤ 2049) (v1 : Int32) (v2 : Int32) (v3 : Int32) : wpX_shift (fun r u' => wpY_shift (fun r' v' => r' = r ∧ i_Rel (k + 4) u' v') v v1 v2 v3) u v1 v2 v3 := by
  have I0 := I
  obtain ⟨f, h, P, T, K, n, e, N, E, kk, rfl, rfl, A, B, C⟩ := I
  unfold wpX_shift wpY_shift
  dsimp only
  rcases ow_ref h v1 v2 v2 with ⟨r, hr, hX, hY⟩ | ⟨t, a, b, ht, ha, hb, rfl, rfl, eb, hX, hY⟩
  · obtain ⟨r1, r2⟩ := ow_no hr
    exact hX _ _ _ _ _ (br_f r1 (hY _ _ _ (ya_mod (br_f r2 ⟨rfl, I0⟩))))
  · simp only [ow_cl (n := a) (by omega)]
    refine hX _ _ _ _ _ (br_t rfl (xa_mod ?_))
    have hm := ow_md_in v3
    refine xa_copy (t := 12) A (by decide) (by omega) (by omega) fun f1 P1 T1 A1 => ?_
    refine xa_known (t := 12) A1 (by decide) hm fun f2 P2 T2 A2 => ?_
    refine xa_keep (a := 12) A2 ht (by decide) (by decide) fun f3 P3 T3 A3 => ?_
    refine hY _ _ _ (ya_mod (br_t ow_00 ⟨ow_12 ha, ow_12 ha, ?_⟩))
    obtain ⟨a1, a2⟩ := B a ha
    refine ya_fill _ _ B ht ?_ ?_ fun n' e' B1 => ⟨rfl, ow_up C A3 B1 ?_⟩
    · rw [ow_uzs, ow_uzs, ow_a2 (ow_yin B ha).1 hm, a1]
      omega
    · rw [ow_uzs, ow_uzs, a2]
      omega
    · intro s hs
      have q : s ≠ 12 := by omega
      rw [ow_uzn q, ow_uzn q, ow_uzn q, ow_uzn q]
      exact ⟨rfl, rfl⟩
end
section
theorem ow_e0 {n e : Nat → Int32} {N E : Nat → Int} (J : ow_yb n e N E) {s : Nat} (hs : s < 12) : e s = 0 ↔ E s % 251 = 0 := by
  rw [ow_eq, ow_0, (J s hs).2]
theorem i_vc_multiply {k : Nat} {u : SX} {v : SY} (I : i_Rel k u v) (hk : k + 4 ≤ 2049) (v1 : Int32) (v2 : Int32) (v3 : Int32) : wpX_multiply (fun r u' => wpY_multiply (fun r' v' => r' = r ∧ i_Rel (k + 4) u' v') v v1 v2 v3) u v1 v2 v3 := by
  have I0 := I
  obtain ⟨f, h, P, T, K, n, e, N, E, kk, rfl, rfl, A, B, C⟩ := I
  unfold wpX_multiply wpY_multiply
  dsimp only
  rcases ow_ref h v1 v2 v3 with ⟨r, hr, hX, hY⟩ | ⟨t, a, b, ht, ha, hb, rfl, rfl, rfl, hX, hY⟩
  · obtain ⟨r1, r2⟩ := ow_no hr
    exact hX _ _ _ _ _ (br_f r1 (hY _ _ _ (br_f r2 ⟨by trivial, I0⟩)))
  · simp only [ow_cl (n := a) (by omega), ow_cl (n := b) (by omega)]
    obtain ⟨a1, a2⟩ := B a ha
    obtain ⟨b1, b2⟩ := B b hb
    refine hX _ _ _ _ _ (br_t rfl ?_)
    refine xa_mult A (by omega) (by omega) (Or.inl ha) (Or.inl hb) (fun za zb f1 P1 T1 N1 E1 A1 fr n12 e12 => ?_) (fun nz f1 P1 T1 N1 E1 A1 fr => ?_)
    · refine br_f ow_10 ?_
      refine xa_keep (a := 12) A1 ht (by decide) (by decide) fun f3 P3 T3 A3 => ?_
      refine hY _ _ _ (br_t ow_00 ⟨ow_12 ha, br_t ((ow_e0 B ha).mpr za) ⟨ow_12 hb, br_t ((ow_e0 B hb).mpr zb) ⟨ow_12 ha, ow_12 hb, ?_⟩⟩⟩)
      refine ya_fill _ _ B ht ?_ ?_ fun n' e' B1 => ⟨rfl, ow_up C A3 B1 fun s hs => fr s (Or.inl hs)⟩
      · rw [n12, (ow_m (ow_yin B ha).1 (ow_yin B hb).1).1]
        exact ow_mul (by omega) (by omega)
      · rw [e12, ow_0]
    · refine br_t rfl ?_
      have R : i_Rel (k + 4) (f1, h, P1, T1, K) (h, n, e) := ow_mk C A1 B fun s hs => by
        obtain ⟨g1, g2⟩ := fr s (Or.inl hs)
        rw [g1, g2]
        exact ⟨rfl, rfl⟩
      refine hY _ _ _ (br_t ow_00 ⟨ow_12 ha, br_c (fun z1 => ⟨ow_12 hb, br_f (fun z2 => nz ⟨(ow_e0 B ha).mp z1, (ow_e0 B hb).mp z2⟩) ⟨by trivial, R⟩⟩) (fun _ => ⟨by trivial, R⟩)⟩)
theorem xp_loop {post : Int32 → SX → Prop} {h K : Nat → Int32} {N0 E0 : Nat → Int} {kk g : Int} {x3 : Int32} {t m : Nat} (ht : t < 12) (hm : m < 16) (e3 : x3 &&& 15 = nI m) (H : ∀ f' P' T' N1 E1, ow_ab P' T' K (ow_uz N1 t (g ^ m)) (ow_uz E1 t 0) kk → (∀ s, s < 12 → N1 s = N0 s ∧ E1 s = E0 s) → post 0 (f', upd h t (vp_nar .boolean 1), P', T', K)) : ∀ (d i : Nat) (f : Int32) (P T : Nat → Int32) (N E : Nat → Int), i + d = m → ow_ab P T K N E kk → N 16 = g ^ i → E 16 = 0 → N 17 = g → E 17 % 251 = 0 → (∀ s, s < 12 → N s = N0 s ∧ E s = E0 s) → wX_power_49 post (nI t) x3 (d + 1) (nI i) f h P T K := by
  intro d
  induction d with
  | zero =>
    intro i f P T N E hi A n16 e16 n17 e17 fr
    have hi' : i = m := by omega
    subst hi'
    rw [wX_power_49]
    rw [e3]
    refine br_t (nI_le (by omega) (by omega)) ?_
    refine xa_keep (a := 16) A ht (by decide) (by decide) fun f3 P3 T3 A3 => ?_
    rw [n16, e16] at A3
    exact H f3 P3 T3 N E A3 fr
  | succ d ih =>
    intro i f P T N E hi A n16 e16 n17 e17 fr
    rw [wX_power_49]
    rw [e3]
    refine br_f (nI_ge (by omega) (by omega)) ?_
    refine xa_mult (a := 16) (b := 17) A (by decide) (by decide) (by decide) (by decide) (fun za zb f1 P1 T1 N1 E1 A1 fr1 n12 e12 => ?_) (fun nz => absurd ⟨by rw [e16]; rfl, e17⟩ nz)
    refine xa_copy (t := 16) (a := 12) A1 (by decide) (by decide) (by decide) fun f2 P2 T2 A2 => ?_
    refine nm_r (nI_1 i) (ih (i + 1) f2 P2 T2 _ _ (by omega) A2 ?_ ?_ ?_ ?_ ?_)
    · rw [ow_uzs, n12, n16, n17, Int.pow_succ]
    · rw [ow_uzs, e12]
    · rw [ow_uzn (by decide), (fr1 17 (by decide)).1, n17]
    · rw [ow_uzn (by decide), (fr1 17 (by decide)).2, e17]
    · intro s hs
      have q : s ≠ 16 := by omega
      obtain ⟨g1, g2⟩ := fr1 s (Or.inl hs)
      obtain ⟨g3, g4⟩ := fr s hs
      rw [ow_uzn q, ow_uzn q]
      exact ⟨g1.trans g3, g2.trans g4⟩
theorem yp_loop {post : Int32 → SY → Prop} {h n e : Nat → Int32} {N E : Nat → Int} {x3 : Int32} {t a m : Nat} (B : ow_yb n e N E) (ht : t < 12) (ha : a < 12) (hm : m < 16) (e3 : x3 &&& 15 = nI m) (H : ∀ n' e', ow_yb n' e' (ow_uz N t (N a ^ m)) (ow_uz E t 0) → post 0 (upd h t (vp_nar .boolean 1), n', e')) : ∀ (d i : Nat) (x : Int32), i + d = m → ow_in x → x.toInt % 251 = (N a ^ i) % 251 → wY_power_35 post (nI t) (nI a) x3 h n e (d + 1) x (nI i) := by
  intro d
  induction d with
  | zero =>
    intro i x hi hx ex
    have hi' : i = m := by omega
    subst hi'
    rw [wY_power_35]
    rw [e3]
    refine br_t (nI_le (by omega) (by omega)) ?_
    exact ya_fill (N a ^ i) 0 B ht ex (by rw [ow_0]) H
  | succ d ih =>
    intro i x hi hx ex
    rw [wY_power_35]
    rw [e3]
    simp only [ow_cl (n := a) (by omega)]
    obtain ⟨m1, m2⟩ := ow_mm hx (ow_yin B ha).1
    refine br_f (nI_ge (by omega) (by omega)) ⟨ow_12 ha, ow_n251, nm_r m1 (nm_r (nI_1 i) (ih (i + 1) _ (by omega) (ow_md_in _) ?_))⟩
    have q : (x.toInt * (n a).toInt) % 251 = (N a ^ i * N a) % 251 := ow_mul ex (by rw [(B a ha).1]; omega)
    rw [m2, Int.pow_succ, ← q]
    omega
theorem i_vc_power {k : Nat} {u : SX} {v : SY} (I : i_Rel k u v) (hk : k + 4 ≤ 2049) (v1 : Int32) (v2 : Int32) (v3 : Int32) : wpX_power (fun r u' => wpY_power (fun r' v' => r' = r ∧ i_Rel (k + 4) u' v') v v1 v2 v3) u v1 v2 v3 := by
  have I0 := I
  obtain ⟨f, h, P, T, K, n, e, N, E, kk, rfl, rfl, A, B, C⟩ := I
  unfold wpX_power wpY_power
  dsimp only
  rcases ow_ref h v1 v2 v2 with ⟨r, hr, hX, hY⟩ | ⟨t, a, b, ht, ha, hb, rfl, rfl, eb, hX, hY⟩
  · obtain ⟨r1, r2⟩ := ow_no hr
    exact hX _ _ _ _ _ (br_f r1 (hY _ _ _ (br_f r2 ⟨by trivial, I0⟩)))
  · simp only [ow_cl (n := a) (by omega)]
    obtain ⟨m, hm, e3⟩ := pk_andE v3 (m := 15) 4 (by decide)
    refine hX _ _ _ _ _ (br_t rfl ?_)
    refine xa_sound A (by omega) (fun z => ?_) (fun z => ?_)
    · refine br_f ow_10 ?_
      refine xa_copy (t := 17) A (by decide) (by omega) (by omega) fun f1 P1 T1 A1 => ?_
      refine xa_split (t := 16) (c := 1) A1 (by decide) ow_in1 fun f2 P2 T2 A2 => ?_
      refine ⟨m + 1, xp_loop (N0 := N) (E0 := E) (kk := kk) (g := N a) (m := m) ht hm e3 (fun f3 P3 T3 N3 E3 A3 fr => ?_) m 0 f2 P2 T2 _ _ (by omega) A2 ?_ ?_ ?_ ?_ ?_⟩
      · refine hY _ _ _ (br_t ow_00 ⟨ow_12 ha, br_t ((ow_e0 B ha).mpr z) ?_⟩)
        exact ⟨m + 1, yp_loop B ht ha hm e3 (fun n' e' B1 => ⟨rfl, ow_up C A3 B1 fr⟩) m 0 1 (by omega) ow_in1 (by rw [ow_1, Int.pow_zero])⟩
      · rw [ow_uzs, ow_1, Int.pow_zero]
      · rw [ow_uzs]
      · rw [ow_uzn (by decide), ow_uzs]
      · rw [ow_uzn (by decide), ow_uzs, z]
      · intro s hs
        have q1 : s ≠ 16 := by omega
        have q2 : s ≠ 17 := by omega
        rw [ow_uzn q1, ow_uzn q2, ow_uzn q1, ow_uzn q2]
        exact ⟨rfl, rfl⟩
    · refine br_t rfl ?_
      exact hY _ _ _ (br_t ow_00 ⟨ow_12 ha, br_f (fun w => z ((ow_e0 B ha).mp w)) ⟨by trivial, I0⟩⟩)
end
section
theorem ow_v1 {P : Nat → Int32} {s p : Nat} {v : Int32} (hp : p < 3) : ow_sm (upd P (3 * s + p) v) s = ow_sm P s - (P (3 * s + p)).toInt + v.toInt := by
  have hp' : p = 0 ∨ p = 1 ∨ p = 2 := by omega
  unfold ow_sm
  rcases hp' with rfl | rfl | rfl
  · rw [show 3 * s + 0 = 3 * s from rfl, pk_us, pk_un (by omega), pk_un (by omega)]
    omega
  · rw [pk_un (by omega), pk_us, pk_un (by omega)]
    omega
  · rw [pk_un (by omega), pk_un (by omega), pk_us]
    omega
theorem ow_v2 {P : Nat → Int32} {s p : Nat} {v : Int32} (hp : p < 3) (q : Nat) (h : q ≠ s) : ow_sm (upd P (3 * s + p) v) q = ow_sm P q := by
  unfold ow_sm
  rw [pk_un (by omega), pk_un (by omega), pk_un (by omega)]
theorem ow_3 {x : Int32} (h : nI 3 ≤ x) : ¬ x < 0 ∧ ¬ x < 3 ∧ ¬ x ≤ 2 := by
  have h1 := Int32.le_iff_toInt_le.mp h
  have e : (nI 3).toInt = 3 := by decide
  have e1 : (3 : Int32).toInt = 3 := by decide
  have e2 : (2 : Int32).toInt = 2 := by decide
  have e0 := ow_0
  refine ⟨fun z => ?_, fun z => ?_, fun z => ?_⟩
  · have h2 := Int32.lt_iff_toInt_lt.mp z
    omega
  · have h2 := Int32.lt_iff_toInt_lt.mp z
    omega
  · have h2 := Int32.le_iff_toInt_le.mp z
    omega
theorem i_vc_change {k : Nat} {u : SX} {v : SY} (I : i_Rel k u v) (hk : k + 4 ≤ 2049) (v1 : Int32) (v2 : Int32) (v3 : Int32) : wpX_change (fun r u' => wpY_change (fun r' v' => r' = r ∧ i_Rel (k + 4) u' v') v v1 v2 v3) u v1 v2 v3 := by
  have I0 := I
  obtain ⟨f, h, P, T, K, n, e, N, E, kk, rfl, rfl, A, B, C⟩ := I
  unfold wpX_change wpY_change
  dsimp only
  rcases ow_badC v2 with hb | ⟨s, hs, rfl⟩
  · exact xa_bad1 hb (br_f ow_10 (ya_bad1 hb (br_f ow_10 ⟨by trivial, I0⟩)))
  rcases pk_ix v1 (n := 3) (by decide) with hp | hp | ⟨p, hp, rfl⟩
  · exact xa_bad0 hs (br_t rfl (br_t hp (ya_bad0 hs (br_t rfl (br_t hp ⟨by trivial, I0⟩)))))
  · obtain ⟨q0, q1, q2⟩ := ow_3 hp
    exact xa_bad0 hs (br_t rfl (br_f q0 (br_f q1 (ya_bad0 hs (br_t rfl (br_f q0 (br_f q2 ⟨by trivial, I0⟩)))))))
  simp only [ow_cl (n := s) (by omega)]
  have q0 : ¬ nI p < 0 := nI_pos (by omega)
  have q1 : nI p < 3 := nI_lt (b := 3) hp (by decide)
  have q2 : nI p ≤ 2 := nI_le (b := 2) (by omega) (by decide)
  by_cases hh : h s = 0
  · exact xa_bad0 hs (br_t rfl (br_f q0 (br_t q1 ⟨ow_12 hs, br_t hh (ya_bad0 hs (br_t rfl (br_f q0 (br_t q2 ⟨ow_12 hs, br_t hh ⟨by trivial, I0⟩⟩))))⟩)))
  refine xa_bad0 hs (br_t rfl (br_f q0 (br_t q1 ⟨ow_12 hs, br_f hh (xa_mod (nm_r (ow_ix s p) ?_))⟩)))
  simp only [ow_cl (n := 3 * s + p) (by omega)]
  refine ⟨ow_54 (by omega), ow_n251, ow_54 (by omega), nm_e ?_⟩
  refine ya_bad0 hs (br_t rfl (br_f q0 (br_t q2 ⟨ow_12 hs, br_f hh (ya_mod ⟨ow_12 hs, ow_12 hs, ?_⟩)⟩)))
  have hm := ow_md_in v3
  obtain ⟨b1, b2⟩ := B s hs
  refine ya_fill (N s) (E s + (ow_md v3).toInt) B hs ?_ ?_ fun n' e' B1 => ⟨rfl, ?_⟩
  · rw [b1]
    omega
  · rw [ow_a2 (ow_yin B hs).2 hm, b2]
    omega
  · rw [ow_hbe C hh]
    have x2 := ow_a2 (A.1 (3 * s + p)) hm
    have x3 := (A.1 (3 * s + p)).1
    have x4 := hm.1
    rw [ow_rem (by omega)]
    obtain ⟨g1, g2⟩ := A.2.2.2.2.2 s (by omega)
    refine ow_mk C (ow_set (t := s) (n := N s) (e := E s + (ow_md v3).toInt) A (ow_uin A.1 (ow_md_in _)) A.2.1 (fun q hq => ow_v2 hp q hq) (fun _ _ => rfl) ?_ g2) B1 fun _ _ => ⟨rfl, rfl⟩
    rw [ow_v1 hp, ow_md_i, x2]
    omega
theorem i_vc_refresh {k : Nat} {u : SX} {v : SY} (I : i_Rel k u v) (hk : k + 4 ≤ 2049) (v1 : Int32) : wpX_refresh (fun r u' => wpY_refresh (fun r' => r' = r ∧ i_Rel (k + 4) u' v) v v1) u v1 := by
  have I0 := I
  obtain ⟨f, h, P, T, K, n, e, N, E, kk, rfl, rfl, A, B, C⟩ := I
  unfold wpX_refresh wpY_refresh
  dsimp only
  rcases ow_badC v1 with hb | ⟨s, hs, rfl⟩
  · exact xa_bad1 hb (br_f ow_10 (ya_bad1 hb (br_f ow_10 ⟨by trivial, I0⟩)))
  simp only [ow_cl (n := s) (by omega)]
  by_cases hh : h s = 0
  · exact xa_bad0 hs (br_t rfl ⟨ow_12 hs, br_t hh (ya_bad0 hs (br_t rfl ⟨ow_12 hs, br_t hh ⟨by trivial, I0⟩⟩))⟩)
  refine xa_bad0 hs (br_t rfl ⟨ow_12 hs, br_f hh ?_⟩)
  refine xa_split (t := 12) A (by decide) ow_in0 fun f1 P1 T1 A1 => ?_
  refine xa_times (t := s) (a := 12) A1 (by omega) (by decide) (by omega) ow_in1 fun f2 P2 T2 A2 => ?_
  refine ya_bad0 hs (br_t rfl ⟨ow_12 hs, br_f hh ⟨by trivial, ow_mk C A2 B ?_⟩⟩)
  intro q hq
  have z1 : q ≠ 12 := by omega
  by_cases z : q = s
  · subst z
    rw [ow_uzs, ow_uzs, ow_uzs, ow_uzs, ow_uzn z1, ow_uzn z1, ow_0, Int.zero_mul, Int.add_zero, Int.add_zero]
    exact ⟨rfl, rfl⟩
  · rw [ow_uzn z, ow_uzn z, ow_uzn z1, ow_uzn z1]
    exact ⟨rfl, rfl⟩
theorem i_vc_clear {k : Nat} {u : SX} {v : SY} (I : i_Rel k u v) (hk : k + 4 ≤ 2049) (v1 : Int32) : wpX_clear (fun r u' => wpY_clear (fun r' v' => r' = r ∧ i_Rel (k + 4) u' v') v v1) u v1 := by
  have I0 := I
  obtain ⟨f, h, P, T, K, n, e, N, E, kk, rfl, rfl, A, B, C⟩ := I
  unfold wpX_clear wpY_clear
  dsimp only
  rcases ow_badC v1 with hb | ⟨s, hs, rfl⟩
  · exact xa_bad1 hb (br_f ow_10 (ya_bad1 hb (br_f ow_10 ⟨by trivial, I0⟩)))
  unfold wX_clear_23 wY_clear_24
  simp only [ow_cl (n := s) (by omega)]
  have R : i_Rel (k + 4) (f, upd h s (vp_nar .boolean 0), P, T, K) (upd h s (vp_nar .boolean 0), n, e) := ow_mk (ow_hb0 C) A B fun _ _ => ⟨rfl, rfl⟩
  by_cases hh : h s = 0
  · exact xa_bad0 hs (br_t rfl ⟨ow_12 hs, br_t hh ⟨ow_12 hs, nm_e (ya_bad0 hs (br_t rfl ⟨ow_12 hs, br_t hh ⟨ow_12 hs, nm_e ⟨by trivial, R⟩⟩⟩))⟩⟩)
  · exact xa_bad0 hs (br_t rfl ⟨ow_12 hs, br_f hh ⟨ow_12 hs, nm_e (ya_bad0 hs (br_t rfl ⟨ow_12 hs, br_f hh ⟨ow_12 hs, nm_e ⟨by trivial, R⟩⟩⟩))⟩⟩)
theorem i_vc_open {k : Nat} {u : SX} {v : SY} (I : i_Rel k u v) (hk : k + 4 ≤ 2049) (v1 : Int32) : wpX_open (fun r => wpY_open (fun r' => r' = r ∧ i_Rel (k + 4) u v) v v1) u v1 := by
  have I0 := I
  obtain ⟨f, h, P, T, K, n, e, N, E, kk, rfl, rfl, A, B, C⟩ := I
  unfold wpX_open wpY_open
  dsimp only
  rcases ow_badC v1 with hb | ⟨s, hs, rfl⟩
  · exact xa_bad1 hb (br_f ow_10 (ya_bad1 hb (br_f ow_10 ⟨by trivial, I0⟩)))
  simp only [ow_cl (n := s) (by omega)]
  by_cases hh : h s = 0
  · exact xa_bad0 hs (br_t rfl ⟨ow_12 hs, br_t hh (ya_bad0 hs (br_t rfl ⟨ow_12 hs, br_t hh ⟨by trivial, I0⟩⟩))⟩)
  refine xa_bad0 hs (br_t rfl ⟨ow_12 hs, br_f hh ?_⟩)
  refine xa_sound A (by omega) (fun z => ?_) (fun z => ?_)
  · refine br_f ow_10 (xa_sum A (by omega) fun r hr er => ?_)
    refine ya_bad0 hs (br_t rfl ⟨ow_12 hs, br_f hh ⟨ow_12 hs, br_t ((ow_e0 B hs).mpr z) ⟨ow_12 hs, ?_, I0⟩⟩⟩)
    refine ow_eq.mpr ?_
    rw [(B s hs).1, er]
    omega
  · exact br_t rfl (ya_bad0 hs (br_t rfl ⟨ow_12 hs, br_f hh ⟨ow_12 hs, br_f (fun w => z ((ow_e0 B hs).mp w)) ⟨by trivial, I0⟩⟩⟩))
theorem i_vc_same {k : Nat} {u : SX} {v : SY} (I : i_Rel k u v) (hk : k + 4 ≤ 2049) (v1 : Int32) (v2 : Int32) : wpX_same (fun r u' => wpY_same (fun r' => r' = r ∧ i_Rel (k + 4) u' v) v v1 v2) u v1 v2 := by
  have I0 := I
  obtain ⟨f, h, P, T, K, n, e, N, E, kk, rfl, rfl, A, B, C⟩ := I
  unfold wpX_same wpY_same
  dsimp only
  rcases ow_badC v1 with hb | ⟨a, ha, rfl⟩
  · exact xa_bad1 hb (br_f ow_10 (ya_bad1 hb (br_f ow_10 ⟨by trivial, I0⟩)))
  rcases ow_badC v2 with hb | ⟨b, hb, rfl⟩
  · exact xa_bad0 ha (br_t rfl (xa_bad1 hb (br_f ow_10 (ya_bad0 ha (br_t rfl (ya_bad1 hb (br_f ow_10 ⟨by trivial, I0⟩)))))))
  simp only [ow_cl (n := a) (by omega), ow_cl (n := b) (by omega)]
  have ia := ow_12 ha
  have ib := ow_12 hb
  by_cases h1 : h a = 0
  · exact xa_bad0 ha (br_t rfl (xa_bad0 hb (br_t rfl ⟨ia, br_t h1 (ya_bad0 ha (br_t rfl (ya_bad0 hb (br_t rfl ⟨ia, br_t h1 ⟨by trivial, I0⟩⟩))))⟩)))
  by_cases h2 : h b = 0
  · exact xa_bad0 ha (br_t rfl (xa_bad0 hb (br_t rfl ⟨ia, br_f h1 ⟨ib, br_t h2 (ya_bad0 ha (br_t rfl (ya_bad0 hb (br_t rfl ⟨ia, br_f h1 ⟨ib, br_t h2 ⟨by trivial, I0⟩⟩⟩))))⟩⟩)))
  refine xa_bad0 ha (br_t rfl (xa_bad0 hb (br_t rfl ⟨ia, br_f h1 ⟨ib, br_f h2 ?_⟩⟩)))
  refine xa_copy (t := 12) A (by decide) (by omega) (by omega) fun f1 P1 T1 A1 => ?_
  refine xa_times (t := 12) A1 (by decide) (by omega) (by omega) ow_in250 fun f2 P2 T2 A2 => ?_
  obtain ⟨N2, E2, A3, fr, n12, e12⟩ : ∃ N2 E2, ow_ab P2 T2 K N2 E2 kk ∧ (∀ s, s ≠ 12 → N2 s = N s ∧ E2 s = E s) ∧ N2 12 = N a + N b * 250 ∧ E2 12 = E a + E b * 250 := by
    refine ⟨_, _, A2, ?_, ?_, ?_⟩
    · intro s hs
      rw [ow_uzn hs, ow_uzn hs, ow_uzn hs, ow_uzn hs]
      exact ⟨rfl, rfl⟩
    · rw [ow_uzs, ow_uzs, ow_uzn (by omega), ow_250]
    · rw [ow_uzs, ow_uzs, ow_uzn (by omega), ow_250]
  clear A1 A2
  have R : i_Rel (k + 4) (f2, h, P2, T2, K) (h, n, e) := ow_mk C A3 B fun s hs => by
    obtain ⟨g1, g2⟩ := fr s (by omega)
    rw [g1, g2]
    exact ⟨rfl, rfl⟩
  obtain ⟨a1, a2⟩ := B a ha
  obtain ⟨b1, b2⟩ := B b hb
  have ke : e a = e b ↔ E2 12 % 251 = 0 := by
    rw [ow_eq, a2, b2, e12]
    omega
  have kn : E2 12 % 251 = 0 → ∀ r : Int32, r.toInt = (N2 12 + E2 12) % 251 → (n a = n b ↔ r = 0) := by
    intro z r er
    rw [ow_eq, ow_eq, a1, b1, ow_0, er, n12]
    omega
  refine xa_sound (s := 12) A3 (by decide) (fun z => ?_) (fun z => ?_)
  · refine xa_sum (s := 12) A3 (by decide) fun r hr er => ?_
    have kr := kn z r er
    refine br_f ow_10 (br_c (fun w => ?_) (fun w => ?_))
    · exact ya_bad0 ha (br_t rfl (ya_bad0 hb (br_t rfl ⟨ia, br_f h1 ⟨ib, br_f h2 ⟨ia, ib, br_t (ke.mpr z) ⟨ia, ib, br_t (kr.mpr w) ⟨by trivial, R⟩⟩⟩⟩⟩)))
    · exact ya_bad0 ha (br_t rfl (ya_bad0 hb (br_t rfl ⟨ia, br_f h1 ⟨ib, br_f h2 ⟨ia, ib, br_t (ke.mpr z) ⟨ia, ib, br_f (fun y => w (kr.mp y)) ⟨by trivial, R⟩⟩⟩⟩⟩)))
  · refine xa_sum (s := 12) A3 (by decide) fun r hr er => ?_
    exact br_t rfl (ya_bad0 ha (br_t rfl (ya_bad0 hb (br_t rfl ⟨ia, br_f h1 ⟨ib, br_f h2 ⟨ia, ib, br_f (fun y => z (ke.mp y)) ⟨by trivial, R⟩⟩⟩⟩))))
theorem ow_scan (f : Int32) (h P T K n e : Nat → Int32) : ∀ (d j : Nat) (c : Int32), j + d = 12 → ∃ r : Int32, (∀ post : Int32 → Prop, post r → wX_filled_4 post f h P T K (d + 1) c (nI j)) ∧ (∀ post : Int32 → Prop, post r → wY_filled_4 post h n e (d + 1) c (nI j)) := by
  intro d
  induction d with
  | zero =>
    intro j c hj
    have g : (12 : Int32) ≤ nI j := nI_le (a := 12) (by omega) (by omega)
    exact ⟨c, fun _ hp => br_t g hp, fun _ hp => br_t g hp⟩
  | succ d ih =>
    intro j c hj
    have g : ¬ (12 : Int32) ≤ nI j := nI_ge (b := 12) (by omega) (by decide)
    have hi : vp_in (nI j) 12 := ow_12 (by omega)
    by_cases z : h (nI j).toNatClampNeg = 0
    · obtain ⟨r, hX, hY⟩ := ih (j + 1) c (by omega)
      exact ⟨r, fun post hp => br_f g ⟨hi, br_t z (nm_r (nI_1 j) (hX post hp))⟩, fun post hp => br_f g ⟨hi, br_t z (nm_r (nI_1 j) (hY post hp))⟩⟩
    · obtain ⟨r, hX, hY⟩ := ih (j + 1) (c + 1) (by omega)
      exact ⟨r, fun post hp => br_f g ⟨hi, br_f z (nm_e (nm_r (nI_1 j) (hX post hp)))⟩, fun post hp => br_f g ⟨hi, br_f z (nm_e (nm_r (nI_1 j) (hY post hp)))⟩⟩
theorem i_vc_filled {k : Nat} {u : SX} {v : SY} (I : i_Rel k u v) (hk : k + 4 ≤ 2049) : wpX_filled (fun r => wpY_filled (fun r' => r' = r ∧ i_Rel (k + 4) u v) v) u := by
  have I0 := I
  obtain ⟨f, h, P, T, K, n, e, N, E, kk, rfl, rfl, A, B, C⟩ := I
  unfold wpX_filled wpY_filled
  dsimp only
  obtain ⟨r, hX, hY⟩ := ow_scan f h P T K n e 12 0 0 rfl
  exact ⟨13, hX _ ⟨13, hY _ ⟨by trivial, I0⟩⟩⟩
end
