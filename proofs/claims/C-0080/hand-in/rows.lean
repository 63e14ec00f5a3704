section
/-! rows pasted from the kit (PURE-ROWS) -/
theorem pk_us {f : Nat → Int32} {k : Nat} {x : Int32} : upd f k x k = x := if_pos rfl
theorem pk_un {f : Nat → Int32} {k j : Nat} {x : Int32} (h : j ≠ k) : upd f k x j = f j := if_neg h
theorem pk_sub {a b : Nat} (h : b ≤ a) : nI a - nI b = nI (a - b) := by
  obtain ⟨c, rfl⟩ : ∃ c, a = c + b := ⟨a - b, by omega⟩
  rw [← nI_add, Int32.add_sub_cancel, Nat.add_sub_cancel]
theorem pk_mul (a b : Nat) : nI a * nI b = nI (a * b) := (Int32.ofNat_mul a b).symm
theorem pk_div {a d : Nat} (ha : a < 2 ^ 31) (h0 : 0 < d) (hd : d < 2 ^ 31) : nI a / nI d = nI (a / d) := by
  apply Int32.toInt_inj.mp
  rw [lg_idiv_nonneg (by rw [nI_toInt ha]; omega) (by rw [nI_toInt hd]; omega), nI_toInt ha, nI_toInt hd, nI_toInt (Nat.lt_of_le_of_lt (Nat.div_le_self a d) ha)]
  first | rfl | exact (Int.natCast_ediv _ _).symm
theorem pk_rem {a d : Nat} (ha : a < 2 ^ 31) (h0 : 0 < d) (hd : d < 2 ^ 31) : nI a - nI a / nI d * nI d = nI (a % d) := by
  rw [pk_div ha h0 hd, pk_mul, pk_sub (Nat.div_mul_le_self a d)]
  exact congrArg nI (by have := Nat.div_add_mod' a d; omega)
theorem pk_sub_toInt {a b : Nat} (ha : a < 2 ^ 30) (hb : b < 2 ^ 30) : (nI a - nI b).toInt = (a : Int) - b := by
  rw [Int32.toInt_sub, nI_toInt (by omega), nI_toInt (by omega)]
  exact Int.bmod_eq_of_le (by omega) (by omega)
theorem pk_sneg {a b : Nat} (hb : b < 2 ^ 30) (h : a < b) : nI a - nI b < 0 := by
  rw [Int32.lt_iff_toInt_lt, pk_sub_toInt (by omega) hb, show (0 : Int32).toInt = 0 from by decide]
  omega
theorem pk_tn {n : Nat} (h : n < 2 ^ 32) : (nI n).toBitVec.toNat = n := Nat.mod_eq_of_lt h
theorem pk_and (x : Int32) {m : Int32} (k : Nat) (hm : m.toBitVec.toNat = 2 ^ k - 1) : x &&& m = nI (x.toBitVec.toNat % 2 ^ k) := by
  apply Int32.toBitVec_inj.mp
  apply BitVec.eq_of_toNat_eq
  rw [Int32.toBitVec_and, BitVec.toNat_and, hm, Nat.and_two_pow_sub_one_eq_mod]
  show _ = (BitVec.ofNat 32 _).toNat
  rw [BitVec.toNat_ofNat]
  exact (Nat.mod_eq_of_lt (Nat.lt_of_le_of_lt (Nat.mod_le _ _) x.toBitVec.isLt)).symm
theorem pk_andN {n : Nat} (h : n < 2 ^ 32) {m : Int32} (k : Nat) (hm : m.toBitVec.toNat = 2 ^ k - 1) : nI n &&& m = nI (n % 2 ^ k) := by
  rw [pk_and _ k hm, pk_tn h]
theorem pk_andE (x : Int32) {m : Int32} (k : Nat) (hm : m.toBitVec.toNat = 2 ^ k - 1) : ∃ j : Nat, j < 2 ^ k ∧ x &&& m = nI j := ⟨_, Nat.mod_lt _ (Nat.two_pow_pos k), pk_and x k hm⟩
theorem pk_andIn (x : Int32) {m : Int32} (k : Nat) (hm : m.toBitVec.toNat = 2 ^ k - 1) (hk : k ≤ 30) : vp_in (x &&& m) (2 ^ k) := by
  obtain ⟨j, hj, e⟩ := pk_andE x k hm
  rw [e]
  exact vp_in_nI hj (Nat.lt_of_le_of_lt (Nat.pow_le_pow_right (by decide) hk) (by decide))
theorem pk_shr (a s : Int32) (k : Nat) (hs : (s.toBitVec.smod 32).toNat = k) : (a >>> s).toInt = a.toInt >>> k := by
  show (a.toBitVec.sshiftRight (s.toBitVec.smod 32).toNat).toInt = _
  rw [hs, BitVec.toInt_sshiftRight]
  rfl
theorem pk_vb (z : Int32) : vp_nar .byte z.toInt8.toInt32 = z.toInt8.toInt32 := by rw [vp_nar_byte]; simp
end
section
/-! the pure picture: sums and counts of the known values, the floor, steps, rows -/
def ra_sm (b : Nat → Int32) (t : Nat) : Nat → Int32
  | 0 => 0
  | n + 1 => if b (t + n) = -100000 then ra_sm b t n else ra_sm b t n + b (t + n)
def ra_cn (b : Nat → Int32) (t : Nat) : Nat → Nat
  | 0 => 0
  | n + 1 => if b (t + n) = -100000 then ra_cn b t n else ra_cn b t n + 1
def ra_lo (v : Nat → Int32) (t : Nat) : Nat → Int32
  | 0 => 0
  | n + 1 => if v (t + n) = -100000 then ra_lo v t n else if ra_cn v t n = 0 then v (t + n) else if ra_lo v t n ≤ v (t + n) then ra_lo v t n else v (t + n)
def ra_hi (v : Nat → Int32) (t : Nat) : Nat → Int32
  | 0 => 0
  | n + 1 => if v (t + n) = -100000 then ra_hi v t n else if ra_cn v t n = 0 then v (t + n) else if v (t + n) ≤ ra_hi v t n then ra_hi v t n else v (t + n)
def ra_la (v : Nat → Int32) (t : Nat) : Nat → Int32
  | 0 => 0
  | n + 1 => if v (t + n) = -100000 then ra_la v t n else v (t + n)
theorem ra_sm_u {b : Nat → Int32} {t n : Nat} (h : b (t + n) = -100000) : ra_sm b t (n + 1) = ra_sm b t n := if_pos h
theorem ra_sm_k {b : Nat → Int32} {t n : Nat} (h : ¬ b (t + n) = -100000) : ra_sm b t (n + 1) = ra_sm b t n + b (t + n) := if_neg h
theorem ra_cn_u {b : Nat → Int32} {t n : Nat} (h : b (t + n) = -100000) : ra_cn b t (n + 1) = ra_cn b t n := if_pos h
theorem ra_cn_k {b : Nat → Int32} {t n : Nat} (h : ¬ b (t + n) = -100000) : ra_cn b t (n + 1) = ra_cn b t n + 1 := if_neg h
theorem ra_lo_u {b : Nat → Int32} {t n : Nat} (h : b (t + n) = -100000) : ra_lo b t (n + 1) = ra_lo b t n := if_pos h
theorem ra_lo_k {b : Nat → Int32} {t n : Nat} (h : ¬ b (t + n) = -100000) : ra_lo b t (n + 1) = if ra_cn b t n = 0 then b (t + n) else if ra_lo b t n ≤ b (t + n) then ra_lo b t n else b (t + n) := if_neg h
theorem ra_hi_u {b : Nat → Int32} {t n : Nat} (h : b (t + n) = -100000) : ra_hi b t (n + 1) = ra_hi b t n := if_pos h
theorem ra_hi_k {b : Nat → Int32} {t n : Nat} (h : ¬ b (t + n) = -100000) : ra_hi b t (n + 1) = if ra_cn b t n = 0 then b (t + n) else if b (t + n) ≤ ra_hi b t n then ra_hi b t n else b (t + n) := if_neg h
theorem ra_la_u {b : Nat → Int32} {t n : Nat} (h : b (t + n) = -100000) : ra_la b t (n + 1) = ra_la b t n := if_pos h
theorem ra_la_k {b : Nat → Int32} {t n : Nat} (h : ¬ b (t + n) = -100000) : ra_la b t (n + 1) = b (t + n) := if_neg h
theorem ra_cn_le (b : Nat → Int32) (t : Nat) : ∀ n, ra_cn b t n ≤ n := by
  intro n
  induction n with
  | zero => exact Nat.le_refl 0
  | succ n ih =>
    by_cases h : b (t + n) = -100000
    · rw [ra_cn_u h]; omega
    · rw [ra_cn_k h]; omega
theorem ra_sm0 {b : Nat → Int32} {t : Nat} : ∀ n, ra_cn b t n = 0 → ra_sm b t n = 0 := by
  intro n
  induction n with
  | zero => intro _; rfl
  | succ n ih =>
    intro h
    by_cases hb : b (t + n) = -100000
    · rw [ra_cn_u hb] at h; rw [ra_sm_u hb]; exact ih h
    · rw [ra_cn_k hb] at h; omega
theorem ra_cong {b b' : Nat → Int32} {t : Nat} : ∀ n, (∀ i, i < n → b' (t + i) = b (t + i)) → ra_sm b' t n = ra_sm b t n ∧ ra_cn b' t n = ra_cn b t n ∧ ra_lo b' t n = ra_lo b t n ∧ ra_hi b' t n = ra_hi b t n ∧ ra_la b' t n = ra_la b t n := by
  intro n
  induction n with
  | zero => intro _; exact ⟨rfl, rfl, rfl, rfl, rfl⟩
  | succ n ih =>
    intro h
    have e := h n (by omega)
    obtain ⟨h1, h2, h3, h4, h5⟩ := ih (fun i hi => h i (by omega))
    by_cases hb : b (t + n) = -100000
    · have hb' : b' (t + n) = -100000 := e.trans hb
      rw [ra_sm_u hb, ra_sm_u hb', ra_cn_u hb, ra_cn_u hb', ra_lo_u hb, ra_lo_u hb', ra_hi_u hb, ra_hi_u hb', ra_la_u hb, ra_la_u hb']
      exact ⟨h1, h2, h3, h4, h5⟩
    · have hb' : ¬ b' (t + n) = -100000 := fun z => hb (e.symm.trans z)
      rw [ra_sm_k hb, ra_sm_k hb', ra_cn_k hb, ra_cn_k hb', ra_lo_k hb, ra_lo_k hb', ra_hi_k hb, ra_hi_k hb', ra_la_k hb, ra_la_k hb', h1, h2, h3, h4, e]
      exact ⟨rfl, rfl, rfl, rfl, rfl⟩

/-! the floor -/
def ra_fl (s d : Int32) : Int32 := if 0 ≤ s - s / d * d then s / d else s / d - 1
theorem ra_qd (s d : Int32) (hd : 0 < d.toInt) : (s / d * d).toInt = s.toInt - s.toInt.tmod d.toInt ∧ (s - s / d * d).toInt = s.toInt.tmod d.toInt ∧ (s / d).toInt = s.toInt.tdiv d.toInt := by
  have hne : d ≠ -1 := by
    intro e
    rw [e] at hd
    exact absurd hd (by decide)
  have hq := Int32.toInt_div_of_ne_right s d hne
  have e := Int.tdiv_mul_add_tmod s.toInt d.toInt
  have l1 := s.le_toInt
  have l2 := s.toInt_lt
  have d2 := d.toInt_lt
  have r1 := Int.tmod_lt_of_pos s.toInt hd
  have r2 := Int.lt_tmod_of_pos s.toInt hd
  have g1 : 0 ≤ s.toInt → 0 ≤ s.toInt.tmod d.toInt := fun h => Int.tmod_nonneg _ h
  have g2 : s.toInt ≤ 0 → s.toInt.tmod d.toInt ≤ 0 := by
    intro h
    have z := Int.tmod_nonneg d.toInt (show 0 ≤ -s.toInt by omega)
    rw [Int.neg_tmod] at z
    omega
  have g3 : 0 ≤ s.toInt → 0 ≤ s.toInt.tdiv d.toInt * d.toInt := fun h => Int.mul_nonneg (Int.tdiv_nonneg h (by omega)) (by omega)
  have g4 : s.toInt ≤ 0 → s.toInt.tdiv d.toInt * d.toInt ≤ 0 := by
    intro h
    have z := Int.mul_nonneg (Int.tdiv_nonneg (show 0 ≤ -s.toInt by omega) (show 0 ≤ d.toInt by omega)) (show 0 ≤ d.toInt by omega)
    rw [Int.neg_tdiv, Int.neg_mul] at z
    omega
  have hm : (s / d * d).toInt = s.toInt - s.toInt.tmod d.toInt := by
    rw [Int32.toInt_mul, hq, Int.bmod_eq_of_le (by omega) (by omega)]
    omega
  refine ⟨hm, ?_, hq⟩
  rw [Int32.toInt_sub, hm, Int.bmod_eq_of_le (by omega) (by omega)]
  omega
theorem ra_flX (s d : Int32) (hd : 0 < d.toInt) : s / d * d ≤ s ↔ 0 ≤ s - s / d * d := by
  obtain ⟨h1, h2, _⟩ := ra_qd s d hd
  rw [Int32.le_iff_toInt_le, Int32.le_iff_toInt_le, h1, h2, show (0 : Int32).toInt = 0 from by decide]
  omega
theorem ra_flB (s d : Int32) (hd : 0 < d.toInt) (h1 : -1000 * d.toInt ≤ s.toInt) (h2 : s.toInt ≤ 1000 * d.toInt) : -1000 ≤ (ra_fl s d).toInt ∧ (ra_fl s d).toInt ≤ 1000 := by
  obtain ⟨_, e2, e3⟩ := ra_qd s d hd
  have e := Int.tdiv_mul_add_tmod s.toInt d.toInt
  have r1 := Int.tmod_lt_of_pos s.toInt hd
  have r2 := Int.lt_tmod_of_pos s.toInt hd
  have q1 : -1001 < s.toInt.tdiv d.toInt := by
    apply Int.lt_of_mul_lt_mul_right (a := d.toInt) _ (by omega)
    omega
  have q2 : s.toInt.tdiv d.toInt < 1001 := by
    apply Int.lt_of_mul_lt_mul_right (a := d.toInt) _ (by omega)
    omega
  unfold ra_fl
  by_cases c : 0 ≤ s - s / d * d
  · rw [if_pos c, e3]
    omega
  · rw [if_neg c]
    have c' : s.toInt.tmod d.toInt < 0 := by
      rw [Int32.le_iff_toInt_le, e2, show (0 : Int32).toInt = 0 from by decide] at c
      omega
    have q3 : -1000 < s.toInt.tdiv d.toInt := by
      apply Int.lt_of_mul_lt_mul_right (a := d.toInt) _ (by omega)
      omega
    have z : (s / d - 1).toInt = s.toInt.tdiv d.toInt - 1 := by
      rw [Int32.toInt_sub, e3, show (1 : Int32).toInt = 1 from by decide, Int.bmod_eq_of_le (by omega) (by omega)]
    rw [z]
    omega

/-! the value of a step -/
def ra_st (b : Nat → Int32) (W k : Nat) : Int32 := if W < 2 * (W - ra_cn b (k * W + 1) W) then -100000 else ra_fl (ra_sm b (k * W + 1) W) (nI (ra_cn b (k * W + 1) W))
theorem ra_st_c {b b' : Nat → Int32} {W k : Nat} (h : ∀ i, i < W → b' (k * W + 1 + i) = b (k * W + 1 + i)) : ra_st b' W k = ra_st b W k := by
  obtain ⟨h1, h2, _⟩ := ra_cong W h
  unfold ra_st
  rw [h1, h2]
/-- a value is unknown or small -/
def ra_ok (x : Int32) : Prop := x = -100000 ∨ (-1000 ≤ x.toInt ∧ x.toInt ≤ 1000)
theorem ra_smB {b : Nat → Int32} {t : Nat} : ∀ n, n ≤ 6 → (∀ i, i < n → ra_ok (b (t + i))) → -1000 * (ra_cn b t n : Int) ≤ (ra_sm b t n).toInt ∧ (ra_sm b t n).toInt ≤ 1000 * (ra_cn b t n : Int) := by
  intro n
  induction n with
  | zero =>
    intro _ _
    show -1000 * ((0 : Nat) : Int) ≤ (0 : Int32).toInt ∧ (0 : Int32).toInt ≤ 1000 * ((0 : Nat) : Int)
    decide
  | succ n ih =>
    intro hn h
    obtain ⟨i1, i2⟩ := ih (by omega) (fun i hi => h i (by omega))
    have hc := ra_cn_le b t n
    by_cases hb : b (t + n) = -100000
    · rw [ra_sm_u hb, ra_cn_u hb]; exact ⟨i1, i2⟩
    · rw [ra_sm_k hb, ra_cn_k hb]
      rcases h n (by omega) with z | ⟨z1, z2⟩
      · exact absurd z hb
      · have e : (ra_sm b t n + b (t + n)).toInt = (ra_sm b t n).toInt + (b (t + n)).toInt := by
          rw [Int32.toInt_add, Int.bmod_eq_of_le (by omega) (by omega)]
        rw [e]
        omega
theorem ra_flS {b : Nat → Int32} {t n : Nat} (hn : n ≤ 6) (h : ∀ i, i < n → ra_ok (b (t + i))) (hc : ra_cn b t n ≠ 0) : ra_ok (ra_fl (ra_sm b t n) (nI (ra_cn b t n))) := by
  have hl := ra_cn_le b t n
  have e : (nI (ra_cn b t n)).toInt = (ra_cn b t n : Int) := nI_toInt (by omega)
  obtain ⟨h1, h2⟩ := ra_smB n hn h
  exact Or.inr (ra_flB _ _ (by rw [e]; omega) (by rw [e]; exact h1) (by rw [e]; exact h2))
theorem ra_stB {b : Nat → Int32} {W k : Nat} (hW : 1 ≤ W) (hW6 : W ≤ 6) (h : ∀ i, i < W → ra_ok (b (k * W + 1 + i))) : ra_ok (ra_st b W k) := by
  unfold ra_st
  by_cases c : W < 2 * (W - ra_cn b (k * W + 1) W)
  · rw [if_pos c]; exact Or.inl rfl
  · rw [if_neg c]; exact ra_flS hW6 h (by omega)

/-! the value of a row -/
def ra_ro (S tl ru : Int32) (c : Nat) (s lo hi la : Int32) : Int32 := if c = 0 then -100000 else if S - nI c ≤ tl then (if ru = 0 then ra_fl s (nI c) else if ru = 1 then lo else if ru = 2 then hi else la) else -100000
def ra_rv (v : Nat → Int32) (S : Nat) (tl ru : Int32) (r : Nat) : Int32 := ra_ro (nI S) tl ru (ra_cn v (r * S) S) (ra_sm v (r * S) S) (ra_lo v (r * S) S) (ra_hi v (r * S) S) (ra_la v (r * S) S)
theorem ra_rv_c {v v' : Nat → Int32} {S r : Nat} {tl ru : Int32} (h : ∀ i, i < S → v' (r * S + i) = v (r * S + i)) : ra_rv v' S tl ru r = ra_rv v S tl ru r := by
  obtain ⟨h1, h2, h3, h4, h5⟩ := ra_cong S h
  unfold ra_rv
  rw [h1, h2, h3, h4, h5]
theorem ra_loB {v : Nat → Int32} {t : Nat} : ∀ n, (∀ i, i < n → ra_ok (v (t + i))) → ra_cn v t n ≠ 0 → ra_ok (ra_lo v t n) ∧ ra_ok (ra_hi v t n) ∧ ra_ok (ra_la v t n) := by
  intro n
  induction n with
  | zero => intro _ h; exact absurd rfl h
  | succ n ih =>
    intro h hc
    have hx := h n (by omega)
    by_cases hb : v (t + n) = -100000
    · rw [ra_cn_u hb] at hc
      rw [ra_lo_u hb, ra_hi_u hb, ra_la_u hb]
      exact ih (fun i hi => h i (by omega)) hc
    · rw [ra_lo_k hb, ra_hi_k hb, ra_la_k hb]
      by_cases c0 : ra_cn v t n = 0
      · rw [if_pos c0, if_pos c0]; exact ⟨hx, hx, hx⟩
      · obtain ⟨i1, i2, _⟩ := ih (fun i hi => h i (by omega)) c0
        rw [if_neg c0, if_neg c0]
        refine ⟨?_, ?_, hx⟩
        · by_cases c1 : ra_lo v t n ≤ v (t + n)
          · rw [if_pos c1]; exact i1
          · rw [if_neg c1]; exact hx
        · by_cases c1 : v (t + n) ≤ ra_hi v t n
          · rw [if_pos c1]; exact i2
          · rw [if_neg c1]; exact hx
theorem ra_rvB {v : Nat → Int32} {S r : Nat} {tl ru : Int32} (hS : S ≤ 6) (h : ∀ i, i < S → ra_ok (v (r * S + i))) : ra_ok (ra_rv v S tl ru r) := by
  unfold ra_rv ra_ro
  by_cases c : ra_cn v (r * S) S = 0
  · rw [if_pos c]; exact Or.inl rfl
  · rw [if_neg c]
    obtain ⟨h1, h2, h3⟩ := ra_loB S h c
    by_cases c1 : nI S - nI (ra_cn v (r * S) S) ≤ tl
    · rw [if_pos c1]
      by_cases c2 : ru = 0
      · rw [if_pos c2]; exact ra_flS hS h c
      · rw [if_neg c2]
        by_cases c3 : ru = 1
        · rw [if_pos c3]; exact h1
        · rw [if_neg c3]
          by_cases c4 : ru = 2
          · rw [if_pos c4]; exact h2
          · rw [if_neg c4]; exact h3
    · rw [if_neg c1]; exact Or.inl rfl

/-! small numbers -/
theorem ra_b8 : ∀ k, k < 16 → (nI k).toInt8.toInt32 = nI k := by decide +kernel
theorem ra_v8 {k : Nat} (h : k < 16) : vp_nar .byte (nI k).toInt8.toInt32 = nI k := by rw [pk_vb]; exact ra_b8 k h
theorem ra_v0 : vp_nar .byte 0 = nI 0 := by rw [vp_nar_byte]; decide +kernel
theorem ra_v1 : vp_nar .byte 1 = nI 1 := by rw [vp_nar_byte]; decide +kernel
theorem ra_v4 : vp_nar .byte 4 = nI 4 := by rw [vp_nar_byte]; decide +kernel
theorem ra_and7 {n : Nat} (h : n < 2 ^ 31) : nI n &&& 7 = nI (n % 8) := pk_andN (by omega) 3 (by decide)
theorem ra_and31 {n : Nat} (h : n < 2 ^ 31) : nI n &&& 31 = nI (n % 32) := pk_andN (by omega) 5 (by decide)
theorem ra_and255 {n : Nat} (h : n < 2 ^ 31) : nI n &&& 255 = nI (n % 256) := pk_andN (by omega) 8 (by decide)
theorem ra_and1 {n : Nat} (h : n < 2 ^ 31) : nI n &&& 1 = nI (n % 2) := pk_andN (by omega) 1 (by decide)
theorem ra_mul8 (a : Nat) : nI a * 8 = nI (a * 8) := pk_mul a 8
theorem ra_ix {a q : Nat} (hq : q < 2 ^ 31) : nI a * 8 + (nI q &&& 7) = nI (a * 8 + q % 8) := by
  rw [ra_mul8, ra_and7 hq, nI_add]
theorem ra_dm {K S : Nat} (h : 0 < S) : (K + 1) / S = (if K % S + 1 = S then K / S + 1 else K / S) ∧ (K + 1) % S = (if K % S + 1 = S then 0 else K % S + 1) := by
  have e : K + 1 = (K % S + 1) + S * (K / S) := by
    have := Nat.mod_add_div K S
    omega
  have hl := Nat.mod_lt K h
  by_cases c : K % S + 1 = S
  · rw [if_pos c, if_pos c, e, Nat.add_mul_div_left _ _ h, Nat.add_mul_mod_self_left, c, Nat.div_self h, Nat.mod_self]
    exact ⟨by omega, rfl⟩
  · rw [if_neg c, if_neg c, e, Nat.add_mul_div_left _ _ h, Nat.add_mul_mod_self_left, Nat.div_eq_of_lt (by omega), Nat.mod_eq_of_lt (by omega)]
    exact ⟨by omega, rfl⟩
theorem ra_dS {K S : Nat} (h : 0 < S) (c : K % S + 1 = S) : (K + 1) / S = K / S + 1 ∧ (K + 1) % S = 0 := by
  have := ra_dm (K := K) h
  rw [if_pos c, if_pos c] at this
  exact this
theorem ra_dN {K S : Nat} (h : 0 < S) (c : ¬ K % S + 1 = S) : (K + 1) / S = K / S ∧ (K + 1) % S = K % S + 1 := by
  have := ra_dm (K := K) h
  rw [if_neg c, if_neg c] at this
  exact this
theorem ra_dmE (K S : Nat) : K / S * S + K % S = K := Nat.div_add_mod' K S
end
section
/-! the walk of X: an archive takes a step -/
/-- what archive a holds of the row that is being filled (m steps of it), and its complete rows (Q of them) -/
def ra_AC (v : Nat → Int32) (S Q m : Nat) (tl ru : Int32) (a : Nat) (ki su lo hi la rc ke : Nat → Int32) : Prop :=
  ki a = nI (ra_cn v (Q * S) m) ∧ (ra_cn v (Q * S) m ≠ 0 → su a = ra_sm v (Q * S) m ∧ lo a = ra_lo v (Q * S) m ∧ hi a = ra_hi v (Q * S) m ∧ la a = ra_la v (Q * S) m) ∧ rc a = nI Q ∧ ∀ r, r < Q → Q ≤ r + 8 → ke (a * 8 + r % 8) = ra_rv v S tl ru r
def ra_AR (v : Nat → Int32) (S Q m : Nat) (tl ru : Int32) (a : Nat) (si ki su lo hi la rc ke : Nat → Int32) : Prop :=
  si a = nI m ∧ ra_AC v S Q m tl ru a ki su lo hi la rc ke
/-- another archive's cells are as they were -/
def ra_FR (a : Nat) (si ki su lo hi la rc ke si' ki' su' lo' hi' la' rc' ke' : Nat → Int32) : Prop :=
  ∀ j, j ≠ a → si' j = si j ∧ ki' j = ki j ∧ su' j = su j ∧ lo' j = lo j ∧ hi' j = hi j ∧ la' j = la j ∧ rc' j = rc j ∧ ∀ i, i < 8 → ke' (j * 8 + i) = ke (j * 8 + i)
theorem ra_AR_fr {v : Nat → Int32} {S Q m : Nat} {tl ru : Int32} {a j : Nat} {si ki su lo hi la rc ke si' ki' su' lo' hi' la' rc' ke' : Nat → Int32} (f : ra_FR a si ki su lo hi la rc ke si' ki' su' lo' hi' la' rc' ke') (hj : j ≠ a) (h : ra_AR v S Q m tl ru j si ki su lo hi la rc ke) : ra_AR v S Q m tl ru j si' ki' su' lo' hi' la' rc' ke' := by
  obtain ⟨f1, f2, f3, f4, f5, f6, f7, f8⟩ := f j hj
  obtain ⟨h1, h2, h3, h4, h5⟩ := h
  refine ⟨f1.trans h1, f2.trans h2, fun c => ?_, f7.trans h4, fun r hr hq => (f8 _ (Nat.mod_lt _ (by decide))).trans (h5 r hr hq)⟩
  obtain ⟨g1, g2, g3, g4⟩ := h3 c
  exact ⟨f3.trans g1, f4.trans g2, f5.trans g3, f6.trans g4⟩
theorem ra_AR_c {v v' : Nat → Int32} {S Q m : Nat} {tl ru : Int32} {a : Nat} {si ki su lo hi la rc ke : Nat → Int32} (e : ∀ k, k < Q * S + m → v' k = v k) (h : ra_AR v S Q m tl ru a si ki su lo hi la rc ke) : ra_AR v' S Q m tl ru a si ki su lo hi la rc ke := by
  obtain ⟨h1, h2, h3, h4, h5⟩ := h
  obtain ⟨e1, e2, e3, e4, e5⟩ := ra_cong (b := v) (b' := v') (t := Q * S) m (fun i hi => e _ (by omega))
  unfold ra_AR ra_AC
  rw [e1, e2, e3, e4, e5]
  refine ⟨h1, h2, h3, h4, fun r hr hq => ?_⟩
  rw [ra_rv_c (v := v) (v' := v') (fun i hi => e _ ?_)]
  · exact h5 r hr hq
  · have : (r + 1) * S ≤ Q * S := Nat.mul_le_mul_right S hr
    rw [Nat.succ_mul] at this
    omega
section
variable {post : SX → Prop} {cx wd hb ti wh fi uk ms sc lv : Int32} {re sp ru tl rm si ki su lo hi la rc ke : Nat → Int32} {v : Nat → Int32} {S Q m a : Nat}
theorem ra_floorX {post : Int32 → Prop} {s : Int32} {c : Nat} (h0 : 0 < c) (hc : c < 2 ^ 31) (h : post (ra_fl s (nI c))) : wpX_floor post s (nI c) := by
  unfold wpX_floor wX_floor_11
  have hd : 0 < (nI c).toInt := by rw [nI_toInt hc]; omega
  refine br_f (nI_nle h0 hc) ⟨nI_ne0 h0 hc, ?_⟩
  rw [ra_flX s (nI c) hd]
  unfold ra_fl at h
  by_cases z : 0 ≤ s - s / nI c * nI c
  · rw [if_pos z] at h; exact br_t z h
  · rw [if_neg z] at h; exact br_f z h
theorem ra_rowValue {post : Int32 → Prop} {c : Nat} (ha : a < 2) (hc : c < 2 ^ 31) (hki : ki a = nI c) (h : post (ra_ro (sp a) (tl a) (ru a) c (su a) (lo a) (hi a) (la a))) : wpX_rowValue post (cx, wd, hb, ti, wh, fi, uk, ms, sc, lv, re, sp, ru, tl, rm, si, ki, su, lo, hi, la, rc, ke) (nI a) := by
  unfold wpX_rowValue
  dsimp only
  have hin : vp_in (nI a) 2 := vp_in_nI ha (by decide)
  rw [nI_clamp (show a < 2 ^ 31 by omega), hki]
  unfold ra_ro at h
  refine ⟨hin, ?_⟩
  by_cases hc0 : c = 0
  · rw [if_pos hc0] at h
    subst hc0
    exact br_t nI_0 h
  · rw [if_neg hc0] at h
    refine br_f (nI_ne0 (by omega) hc) ⟨hin, hin, hin, ?_⟩
    by_cases h1 : sp a - nI c ≤ tl a
    · rw [if_pos h1] at h
      refine br_t h1 ⟨hin, ?_⟩
      by_cases h2 : ru a = 0
      · rw [if_pos h2] at h
        exact br_t h2 ⟨hin, hin, ra_floorX (by omega) hc h⟩
      · rw [if_neg h2] at h
        refine br_f h2 ⟨hin, ?_⟩
        by_cases h3 : ru a = 1
        · rw [if_pos h3] at h
          exact br_t h3 ⟨hin, h⟩
        · rw [if_neg h3] at h
          refine br_f h3 ⟨hin, ?_⟩
          by_cases h4 : ru a = 2
          · rw [if_pos h4] at h
            exact br_t h4 ⟨hin, h⟩
          · rw [if_neg h4] at h
            exact br_f h4 ⟨hin, h⟩
    · rw [if_neg h1] at h
      exact br_f h1 h
theorem ra_ro_eq {S Q : Nat} {tl ru : Int32} {ki su lo hi la rc ke : Nat → Int32} (h : ra_AC v S Q S tl ru a ki su lo hi la rc ke) : ra_ro (nI S) tl ru (ra_cn v (Q * S) S) (su a) (lo a) (hi a) (la a) = ra_rv v S tl ru Q := by
  obtain ⟨_, h2, _⟩ := h
  unfold ra_rv
  by_cases c : ra_cn v (Q * S) S = 0
  · unfold ra_ro
    rw [if_pos c, if_pos c]
  · obtain ⟨e1, e2, e3, e4⟩ := h2 c
    rw [e1, e2, e3, e4]
theorem ra_closeRow (ha : a < 2) (hS : sp a = nI S) (hS4 : S ≤ 4) (hQ : Q < 2 ^ 20) (hA : ra_AC v S Q S (tl a) (ru a) a ki su lo hi la rc ke)
    (h : post (cx, wd, hb, ti, wh, fi, uk, ms, sc, lv, re, sp, ru, tl, rm, upd si a (nI 0), upd ki a (nI 0), su, lo, hi, la, upd rc a (nI (Q + 1)), upd ke (a * 8 + Q % 8) (ra_rv v S (tl a) (ru a) Q))) : wpX_closeRow post (cx, wd, hb, ti, wh, fi, uk, ms, sc, lv, re, sp, ru, tl, rm, si, ki, su, lo, hi, la, rc, ke) (nI a) := by
  have hin : vp_in (nI a) 2 := vp_in_nI ha (by decide)
  have hq8 : Q % 8 < 8 := Nat.mod_lt _ (by decide)
  have hro := ra_ro_eq hA
  obtain ⟨hki, _, hrc, _⟩ := hA
  have hcl := ra_cn_le v (Q * S) S
  unfold wpX_closeRow
  dsimp only
  rw [nI_clamp (show a < 2 ^ 31 by omega), hrc, ra_ix (show Q < 2 ^ 31 by omega), nI_clamp (show a * 8 + Q % 8 < 2 ^ 31 by omega), nI_1 Q, ra_v0]
  refine ⟨hin, ra_rowValue ha (by omega) hki ?_⟩
  rw [hS, hro]
  exact ⟨vp_in_nI (by omega) (by decide), nm_e ⟨hin, hin, nm_e ⟨hin, nm_e ⟨hin, nm_e h⟩⟩⟩⟩
theorem ra_cell {a Q r : Nat} (h : r < Q) (h8 : Q ≤ r + 7) : a * 8 + r % 8 ≠ a * 8 + Q % 8 := by omega
theorem ra_cellj {a j Q i : Nat} (h : j ≠ a) (hi : i < 8) : j * 8 + i ≠ a * 8 + Q % 8 := by omega
theorem ra_121 (ha : a < 2) (hS : sp a = nI S) (hS4 : S ≤ 4) (hQ : Q < 2 ^ 20) (hm : m < S) (hsi : si a = nI m) (hA : ra_AC v S Q (m + 1) (tl a) (ru a) a ki su lo hi la rc ke)
    (h : ∀ si' ki' rc' ke' : Nat → Int32, ra_AR v S (if m + 1 = S then Q + 1 else Q) (if m + 1 = S then 0 else m + 1) (tl a) (ru a) a si' ki' su lo hi la rc' ke' → (∀ j, j ≠ a → si' j = si j ∧ ki' j = ki j ∧ rc' j = rc j ∧ ∀ i, i < 8 → ke' (j * 8 + i) = ke (j * 8 + i)) → post (cx, wd, hb, ti, wh, fi, uk, ms, sc, lv, re, sp, ru, tl, rm, si', ki', su, lo, hi, la, rc', ke')) : wX_addStep_121 post (nI a) cx wd hb ti wh fi uk ms sc lv re sp ru tl rm si ki su lo hi la rc ke := by
  have hin : vp_in (nI a) 2 := vp_in_nI ha (by decide)
  unfold wX_addStep_121
  rw [nI_clamp (show a < 2 ^ 31 by omega), hsi, nI_1, ra_v8 (show m + 1 < 16 by omega)]
  refine ⟨hin, hin, nm_e ⟨hin, hin, ?_⟩⟩
  rw [pk_us, hS, nI_eq (show m + 1 < 2 ^ 31 by omega) (show S < 2 ^ 31 by omega)]
  by_cases c : m + 1 = S
  · refine br_t c ?_
    rw [if_pos c, if_pos c] at h
    rw [c] at hA
    refine ra_closeRow ha hS hS4 hQ hA ?_
    refine h _ _ _ _ ⟨pk_us, pk_us, fun z => absurd rfl z, pk_us, fun r hr hq => ?_⟩ (fun j hj => ⟨(pk_un hj).trans (pk_un hj), pk_un hj, pk_un hj, fun i hi => pk_un (ra_cellj hj hi)⟩)
    by_cases e : r = Q
    · rw [e]; exact pk_us
    · rw [pk_un (ra_cell (by omega) (by omega))]
      exact hA.2.2.2 r (by omega) (by omega)
  · refine br_f c ?_
    rw [if_neg c, if_neg c] at h
    exact h _ _ _ _ ⟨pk_us, hA⟩ (fun j hj => ⟨pk_un hj, rfl, rfl, fun i _ => rfl⟩)
end
end
section
/-! the walk of X: addStep, closeStep, addMoment -/
section
variable {post : SX → Prop} {cx wd hb ti wh fi uk ms sc lv : Int32} {re sp ru tl rm si ki su lo hi la rc ke : Nat → Int32} {v : Nat → Int32} {S Q m a c : Nat} {x z : Int32}
theorem ra_102 (ha : a < 2) (hc : c < 15) (hki : ki a = nI c) (h : wX_addStep_121 post (nI a) cx wd hb ti wh fi uk ms sc lv re sp ru tl rm si (upd ki a (nI (c + 1))) su lo (upd hi a z) (upd la a x) rc ke) : wX_addStep_102 post (nI a) x z (nI a) cx wd hb ti wh fi uk ms sc lv re sp ru tl rm si ki su lo hi la rc ke := by
  have hin : vp_in (nI a) 2 := vp_in_nI ha (by decide)
  unfold wX_addStep_102
  rw [nI_clamp (show a < 2 ^ 31 by omega), hki, nI_1, ra_v8 (show c + 1 < 16 by omega)]
  exact ⟨hin, nm_e ⟨hin, nm_e ⟨hin, hin, nm_e h⟩⟩⟩
theorem ra_72f (ha : a < 2) (hc : c < 15) (hki : ki a = nI c) (h : wX_addStep_121 post (nI a) cx wd hb ti wh fi uk ms sc lv re sp ru tl rm si (upd ki a (nI (c + 1))) su (upd lo a z) (upd hi a x) (upd la a x) rc ke) : wX_addStep_72 post (nI a) x 1 z (nI a) cx wd hb ti wh fi uk ms sc lv re sp ru tl rm si ki su lo hi la rc ke := by
  have hin : vp_in (nI a) 2 := vp_in_nI ha (by decide)
  unfold wX_addStep_72 wX_addStep_92
  rw [nI_clamp (show a < 2 ^ 31 by omega)]
  exact ⟨hin, nm_e (br_f (by decide) (ra_102 ha hc hki h))⟩
theorem ra_72n (ha : a < 2) (hc : c < 15) (hki : ki a = nI c) (h : wX_addStep_121 post (nI a) cx wd hb ti wh fi uk ms sc lv re sp ru tl rm si (upd ki a (nI (c + 1))) su (upd lo a z) (upd hi a (if x ≤ hi a then hi a else x)) (upd la a x) rc ke) : wX_addStep_72 post (nI a) x 0 z (nI a) cx wd hb ti wh fi uk ms sc lv re sp ru tl rm si ki su lo hi la rc ke := by
  have hin : vp_in (nI a) 2 := vp_in_nI ha (by decide)
  unfold wX_addStep_72 wX_addStep_92
  rw [nI_clamp (show a < 2 ^ 31 by omega)]
  refine ⟨hin, nm_e (br_t rfl ⟨hin, ?_⟩)⟩
  by_cases k : x ≤ hi a
  · rw [if_pos k] at h
    exact br_t k ⟨hin, ra_102 ha hc hki h⟩
  · rw [if_neg k] at h
    exact br_f k (ra_102 ha hc hki h)
theorem ra_20f (ha : a < 2) (hc : c < 15) (hki : ki a = nI c) (h : wX_addStep_121 post (nI a) cx wd hb ti wh fi uk ms sc lv re sp ru tl rm si (upd ki a (nI (c + 1))) (upd su a x) (upd lo a x) (upd hi a x) (upd la a x) rc ke) : wX_addStep_20 post (nI a) x 1 cx wd hb ti wh fi uk ms sc lv re sp ru tl rm si ki su lo hi la rc ke := by
  have hin : vp_in (nI a) 2 := vp_in_nI ha (by decide)
  unfold wX_addStep_20 wX_addStep_42 wX_addStep_62
  rw [nI_clamp (show a < 2 ^ 31 by omega)]
  exact br_f (by decide) ⟨hin, nm_e (br_f (by decide) (ra_72f ha hc hki h))⟩
theorem ra_20n (ha : a < 2) (hc : c < 15) (hki : ki a = nI c) (h : wX_addStep_121 post (nI a) cx wd hb ti wh fi uk ms sc lv re sp ru tl rm si (upd ki a (nI (c + 1))) (upd su a (su a + x)) (upd lo a (if lo a ≤ x then lo a else x)) (upd hi a (if x ≤ hi a then hi a else x)) (upd la a x) rc ke) : wX_addStep_20 post (nI a) x 0 cx wd hb ti wh fi uk ms sc lv re sp ru tl rm si ki su lo hi la rc ke := by
  have hin : vp_in (nI a) 2 := vp_in_nI ha (by decide)
  unfold wX_addStep_20 wX_addStep_42 wX_addStep_62
  rw [nI_clamp (show a < 2 ^ 31 by omega)]
  refine br_t rfl ⟨hin, hin, nm_e (br_t rfl ⟨hin, ?_⟩)⟩
  by_cases k : lo a ≤ x
  · rw [if_pos k] at h
    exact br_t k ⟨hin, ra_72n ha hc hki h⟩
  · rw [if_neg k] at h
    exact br_f k (ra_72n ha hc hki h)
theorem ra_addStep (ha : a < 2) (hS : sp a = nI S) (hS4 : S ≤ 4) (hQ : Q < 2 ^ 20) (hm : m < S) (hx : v (Q * S + m) = x) (hA : ra_AR v S Q m (tl a) (ru a) a si ki su lo hi la rc ke)
    (h : ∀ si' ki' su' lo' hi' la' rc' ke' : Nat → Int32, ra_AR v S (if m + 1 = S then Q + 1 else Q) (if m + 1 = S then 0 else m + 1) (tl a) (ru a) a si' ki' su' lo' hi' la' rc' ke' → ra_FR a si ki su lo hi la rc ke si' ki' su' lo' hi' la' rc' ke' → post (cx, wd, hb, ti, wh, fi, uk, ms, sc, lv, re, sp, ru, tl, rm, si', ki', su', lo', hi', la', rc', ke')) : wpX_addStep post (cx, wd, hb, ti, wh, fi, uk, ms, sc, lv, re, sp, ru, tl, rm, si, ki, su, lo, hi, la, rc, ke) (nI a) x := by
  have hin : vp_in (nI a) 2 := vp_in_nI ha (by decide)
  obtain ⟨hsi, hki, hac, hrc, hke⟩ := hA
  have hcl := ra_cn_le v (Q * S) m
  unfold wpX_addStep
  dsimp only
  by_cases k : x = -100000
  · refine br_t k (ra_121 (v := v) ha hS hS4 hQ hm hsi ?_ ?_)
    · have hu := hx.trans k
      unfold ra_AC
      rw [ra_cn_u hu, ra_sm_u hu, ra_lo_u hu, ra_hi_u hu, ra_la_u hu]
      exact ⟨hki, hac, hrc, hke⟩
    · intro si' ki' rc' ke' h1 h2
      refine h _ _ _ _ _ _ _ _ h1 (fun j hj => ?_)
      obtain ⟨g1, g2, g3, g4⟩ := h2 j hj
      exact ⟨g1, g2, rfl, rfl, rfl, rfl, g3, g4⟩
  · have hu : ¬ v (Q * S + m) = -100000 := fun y => k (hx.symm.trans y)
    rw [nI_clamp (show a < 2 ^ 31 by omega), hki]
    refine br_f k ⟨hin, ?_⟩
    by_cases c0 : ra_cn v (Q * S) m = 0
    · refine br_t (by rw [c0]; exact nI_0) (ra_20f ha (by omega) hki (ra_121 (v := v) ha hS hS4 hQ hm hsi ?_ ?_))
      · unfold ra_AC
        rw [ra_cn_k hu, ra_sm_k hu, ra_lo_k hu, ra_hi_k hu, ra_la_k hu, if_pos c0, if_pos c0, ra_sm0 m c0, hx, Int32.zero_add]
        exact ⟨pk_us, fun _ => ⟨pk_us, pk_us, pk_us, pk_us⟩, hrc, hke⟩
      · intro si' ki' rc' ke' h1 h2
        refine h _ _ _ _ _ _ _ _ h1 (fun j hj => ?_)
        obtain ⟨g1, g2, g3, g4⟩ := h2 j hj
        exact ⟨g1, g2.trans (pk_un hj), pk_un hj, pk_un hj, pk_un hj, pk_un hj, g3, g4⟩
    · obtain ⟨e1, e2, e3, e4⟩ := hac c0
      refine br_f (nI_ne0 (by omega) (by omega)) (ra_20n ha (by omega) hki (ra_121 (v := v) ha hS hS4 hQ hm hsi ?_ ?_))
      · unfold ra_AC
        rw [ra_cn_k hu, ra_sm_k hu, ra_lo_k hu, ra_hi_k hu, ra_la_k hu, if_neg c0, if_neg c0, hx, ← e1, ← e2, ← e3]
        exact ⟨pk_us, fun _ => ⟨pk_us, pk_us, pk_us, pk_us⟩, hrc, hke⟩
      · intro si' ki' rc' ke' h1 h2
        refine h _ _ _ _ _ _ _ _ h1 (fun j hj => ?_)
        obtain ⟨g1, g2, g3, g4⟩ := h2 j hj
        exact ⟨g1, g2.trans (pk_un hj), pk_un hj, pk_un hj, pk_un hj, pk_un hj, g3, g4⟩
end
/-- both archives after K steps -/
def ra_A2 (v : Nat → Int32) (S : Nat → Nat) (K : Nat) (tl ru si ki su lo hi la rc ke : Nat → Int32) : Prop :=
  ∀ a, a < 2 → ra_AR v (S a) (K / S a) (K % S a) (tl a) (ru a) a si ki su lo hi la rc ke
def ra_Sh (S : Nat → Nat) (sp : Nat → Int32) : Prop := ∀ a, a < 2 → sp a = nI (S a) ∧ 1 ≤ S a ∧ S a ≤ 4
section
variable {post : SX → Prop} {cx wd hb ti wh fi uk ms sc lv : Int32} {re sp ru tl rm si ki su lo hi la rc ke : Nat → Int32} {b v : Nat → Int32} {S : Nat → Nat} {K W : Nat} {x : Int32}
theorem ra_addS {a : Nat} (ha : a < 2) (hS : ra_Sh S sp) (hK : K < 2 ^ 20) (hx : v K = x) (hA : ra_AR v (S a) (K / S a) (K % S a) (tl a) (ru a) a si ki su lo hi la rc ke)
    (h : ∀ si' ki' su' lo' hi' la' rc' ke' : Nat → Int32, ra_AR v (S a) ((K + 1) / S a) ((K + 1) % S a) (tl a) (ru a) a si' ki' su' lo' hi' la' rc' ke' → ra_FR a si ki su lo hi la rc ke si' ki' su' lo' hi' la' rc' ke' → post (cx, wd, hb, ti, wh, fi, uk, ms, sc, lv, re, sp, ru, tl, rm, si', ki', su', lo', hi', la', rc', ke')) : wpX_addStep post (cx, wd, hb, ti, wh, fi, uk, ms, sc, lv, re, sp, ru, tl, rm, si, ki, su, lo, hi, la, rc, ke) (nI a) x := by
  obtain ⟨h1, h2, h3⟩ := hS a ha
  have hm : K % S a < S a := Nat.mod_lt _ h2
  have hq : K / S a ≤ K := Nat.div_le_self _ _
  obtain ⟨e1, e2⟩ := ra_dm (K := K) (S := S a) h2
  rw [e1, e2] at h
  exact ra_addStep (v := v) (S := S a) (Q := K / S a) (m := K % S a) ha h1 h3 (by omega) hm (by rw [ra_dmE]; exact hx) hA h
theorem ra_33 (hS : ra_Sh S sp) (hK : K < 2 ^ 20) (hx : v K = x) (hA : ra_A2 v S K tl ru si ki su lo hi la rc ke)
    (h : ∀ si' ki' su' lo' hi' la' rc' ke' : Nat → Int32, ra_A2 v S (K + 1) tl ru si' ki' su' lo' hi' la' rc' ke' → post (cx, wd, hb, ti, wh, nI 0, nI 0, 0, nI (K + 1), x, re, sp, ru, tl, rm, si', ki', su', lo', hi', la', rc', ke')) : wX_closeStep_33 post x cx wd hb ti wh fi uk ms (nI K) lv re sp ru tl rm si ki su lo hi la rc ke := by
  unfold wX_closeStep_33
  refine nm_r (nI_1 K) ?_
  refine ra_addS (a := 0) (v := v) (S := S) (K := K) (by decide) hS hK hx (hA 0 (by decide)) ?_
  intro si1 ki1 su1 lo1 hi1 la1 rc1 ke1 r1 f1
  dsimp only
  refine ra_addS (a := 1) (v := v) (S := S) (K := K) (by decide) hS hK hx (ra_AR_fr f1 (by decide) (hA 1 (by decide))) ?_
  intro si2 ki2 su2 lo2 hi2 la2 rc2 ke2 r2 f2
  dsimp only
  refine h _ _ _ _ _ _ _ _ (fun a ha => ?_)
  have hz : a = 0 ∨ a = 1 := by omega
  rcases hz with rfl | rfl
  · exact ra_AR_fr f2 (by decide) r1
  · exact r2
theorem ra_2mul (n : Nat) : 2 * nI n = nI (2 * n) := pk_mul 2 n
theorem ra_closeStep (hS : ra_Sh S sp) (hK : K < 2 ^ 20) (hW : 1 ≤ W) (hW6 : W ≤ 6) (hA : ra_A2 (ra_st b W) S K tl ru si ki su lo hi la rc ke)
    (h : ∀ si' ki' su' lo' hi' la' rc' ke' : Nat → Int32, ra_A2 (ra_st b W) S (K + 1) tl ru si' ki' su' lo' hi' la' rc' ke' → post (cx, nI W, hb, ti, wh, nI 0, nI 0, 0, nI (K + 1), ra_st b W K, re, sp, ru, tl, rm, si', ki', su', lo', hi', la', rc', ke')) : wpX_closeStep post (cx, nI W, hb, ti, wh, fi, nI (W - ra_cn b (K * W + 1) W), ra_sm b (K * W + 1) W, nI K, lv, re, sp, ru, tl, rm, si, ki, su, lo, hi, la, rc, ke) := by
  have hcl := ra_cn_le b (K * W + 1) W
  unfold wpX_closeStep
  dsimp only
  rw [ra_2mul, nI_ltI (show W < 2 ^ 31 by omega) (show 2 * (W - ra_cn b (K * W + 1) W) < 2 ^ 31 by omega), pk_sub (show W - ra_cn b (K * W + 1) W ≤ W by omega), show W - (W - ra_cn b (K * W + 1) W) = ra_cn b (K * W + 1) W by omega]
  by_cases c : W < 2 * (W - ra_cn b (K * W + 1) W)
  · have e : ra_st b W K = -100000 := if_pos c
    refine br_t c (ra_33 (v := ra_st b W) hS hK e hA ?_)
    rw [e] at h
    exact h
  · have e : ra_st b W K = ra_fl (ra_sm b (K * W + 1) W) (nI (ra_cn b (K * W + 1) W)) := if_neg c
    refine br_f c (ra_floorX (by omega) (by omega) (ra_33 (v := ra_st b W) hS hK e hA ?_))
    rw [e] at h
    exact h
end
end
section
/-! X's picture after T moments, and addMoment -/
def ra_XR (W T : Nat) (b : Nat → Int32) (S : Nat → Nat) (tl ru : Nat → Int32) (fi uk ms sc lv : Int32) (re si ki su lo hi la rc ke : Nat → Int32) : Prop :=
  fi = nI (T % W) ∧ uk = nI (T % W - ra_cn b (T / W * W + 1) (T % W)) ∧ ms = ra_sm b (T / W * W + 1) (T % W) ∧ sc = nI (T / W) ∧ lv = (if T / W = 0 then -200000 else ra_st b W (T / W - 1)) ∧ (∀ t, 1 ≤ t → t ≤ T → T < t + 32 → re (t % 32) = b t) ∧ ra_A2 (ra_st b W) S (T / W) tl ru si ki su lo hi la rc ke
theorem ra_A2_c {v v' : Nat → Int32} {S : Nat → Nat} {K : Nat} {tl ru si ki su lo hi la rc ke : Nat → Int32} (e : ∀ k, k < K → v' k = v k) (h : ra_A2 v S K tl ru si ki su lo hi la rc ke) : ra_A2 v' S K tl ru si ki su lo hi la rc ke := by
  intro a ha
  refine ra_AR_c (fun k hk => e k ?_) (h a ha)
  rw [ra_dmE] at hk
  exact hk
theorem ra_stE {b b' : Nat → Int32} {T W k : Nat} (e : ∀ t, t ≤ T → b' t = b t) (hk : k < T / W) : ra_st b' W k = ra_st b W k := by
  refine ra_st_c (fun i hi => e _ ?_)
  have h1 : (k + 1) * W ≤ T / W * W := Nat.mul_le_mul_right W hk
  have h2 := Nat.div_mul_le_self T W
  rw [Nat.succ_mul] at h1
  omega
section
variable {post : SX → Prop} {cx wd hb ti wh fi uk ms sc lv : Int32} {re sp ru tl rm si ki su lo hi la rc ke : Nat → Int32} {b b' : Nat → Int32} {S : Nat → Nat} {T W : Nat} {x : Int32}
theorem ra_52 (hS : ra_Sh S sp) (hT : T < 2 ^ 15) (hW : 1 ≤ W) (hW6 : W ≤ 6) (hlv : lv = (if T / W = 0 then -200000 else ra_st b W (T / W - 1))) (hre : ∀ t, 1 ≤ t → t ≤ T + 1 → T + 1 < t + 32 → re (t % 32) = b t) (hA : ra_A2 (ra_st b W) S (T / W) tl ru si ki su lo hi la rc ke)
    (h : ∀ (fi' uk' ms' sc' lv' : Int32) (si' ki' su' lo' hi' la' rc' ke' : Nat → Int32), ra_XR W (T + 1) b S tl ru fi' uk' ms' sc' lv' re si' ki' su' lo' hi' la' rc' ke' → post (cx, nI W, hb, ti, wh, fi', uk', ms', sc', lv', re, sp, ru, tl, rm, si', ki', su', lo', hi', la', rc', ke')) : wX_addMoment_52 post cx (nI W) hb ti wh (nI (T % W)) (nI (T % W + 1 - ra_cn b (T / W * W + 1) (T % W + 1))) (ra_sm b (T / W * W + 1) (T % W + 1)) (nI (T / W)) lv re sp ru tl rm si ki su lo hi la rc ke := by
  have hm : T % W < W := Nat.mod_lt _ hW
  have hk : T / W ≤ T := Nat.div_le_self _ _
  unfold wX_addMoment_52
  refine nm_r (nI_1 _) ?_
  rw [nI_eq (show T % W + 1 < 2 ^ 31 by omega) (show W < 2 ^ 31 by omega)]
  by_cases c : T % W + 1 = W
  · refine br_t c ?_
    obtain ⟨e1, e2⟩ := ra_dS hW c
    rw [c]
    refine ra_closeStep (b := b) (K := T / W) hS (by omega) hW hW6 hA ?_
    intro si' ki' su' lo' hi' la' rc' ke' r
    dsimp only
    refine h _ _ _ _ _ _ _ _ _ _ _ _ _ ?_
    unfold ra_XR
    rw [e1, e2, if_neg (Nat.succ_ne_zero (T / W)), Nat.add_sub_cancel]
    exact ⟨rfl, rfl, rfl, rfl, rfl, hre, r⟩
  · refine br_f c (h _ _ _ _ _ _ _ _ _ _ _ _ _ ?_)
    obtain ⟨e1, e2⟩ := ra_dN hW c
    unfold ra_XR
    rw [e1, e2]
    exact ⟨rfl, rfl, rfl, rfl, hlv, hre, hA⟩
theorem ra_addMoment (hS : ra_Sh S sp) (hT : T < 2 ^ 15) (hW : 1 ≤ W) (hW6 : W ≤ 6) (hX : ra_XR W T b S tl ru fi uk ms sc lv re si ki su lo hi la rc ke)
    (h : ∀ (fi' uk' ms' sc' lv' : Int32) (re' si' ki' su' lo' hi' la' rc' ke' : Nat → Int32), ra_XR W (T + 1) (upd b (T + 1) x) S tl ru fi' uk' ms' sc' lv' re' si' ki' su' lo' hi' la' rc' ke' → post (cx, nI W, hb, nI (T + 1), wh, fi', uk', ms', sc', lv', re', sp, ru, tl, rm, si', ki', su', lo', hi', la', rc', ke')) : wpX_addMoment post (cx, nI W, hb, nI T, wh, fi, uk, ms, sc, lv, re, sp, ru, tl, rm, si, ki, su, lo, hi, la, rc, ke) x := by
  obtain ⟨rfl, rfl, rfl, rfl, hlv, hre, hA⟩ := hX
  have hm : T % W < W := Nat.mod_lt _ hW
  have hd := ra_dmE T W
  have eb : ∀ t, t ≤ T → upd b (T + 1) x t = b t := fun t ht => pk_un (by omega)
  have eT : upd b (T + 1) x (T / W * W + 1 + T % W) = x := by
    rw [show T / W * W + 1 + T % W = T + 1 by omega]
    exact pk_us
  have hre' : ∀ t, 1 ≤ t → t ≤ T + 1 → T + 1 < t + 32 → upd re ((T + 1) % 32) x (t % 32) = upd b (T + 1) x t := by
    intro t h1 h2 h3
    by_cases e : t = T + 1
    · rw [e, pk_us, pk_us]
    · rw [pk_un (show t % 32 ≠ (T + 1) % 32 by omega), pk_un e]
      exact hre t h1 (by omega) (by omega)
  have hA' : ra_A2 (ra_st (upd b (T + 1) x) W) S (T / W) tl ru si ki su lo hi la rc ke := ra_A2_c (fun k hk => ra_stE eb hk) hA
  have hlv' : lv = (if T / W = 0 then -200000 else ra_st (upd b (T + 1) x) W (T / W - 1)) := by
    by_cases c : T / W = 0
    · rw [if_pos c] at hlv ⊢; exact hlv
    · rw [if_neg c] at hlv ⊢
      rw [ra_stE eb (Nat.sub_lt (Nat.pos_of_ne_zero c) (by decide))]; exact hlv
  obtain ⟨c1, c2, _⟩ := ra_cong (b := b) (b' := upd b (T + 1) x) (t := T / W * W + 1) (T % W) (fun i hi => eb _ (by omega))
  have hcl := ra_cn_le b (T / W * W + 1) (T % W)
  have h52 := ra_52 (post := post) (b := upd b (T + 1) x) (ti := nI (T + 1)) (cx := cx) (hb := hb) (wh := wh) (rm := rm) hS hT hW hW6 hlv' hre' hA' (fun fi' uk' ms' sc' lv' si' ki' su' lo' hi' la' rc' ke' r => h fi' uk' ms' sc' lv' _ si' ki' su' lo' hi' la' rc' ke' r)
  unfold wpX_addMoment
  dsimp only
  refine nm_r (nI_1 T) ?_
  rw [ra_and31 (show T + 1 < 2 ^ 31 by omega), nI_clamp (show (T + 1) % 32 < 2 ^ 31 by omega)]
  refine ⟨vp_in_nI (by omega) (by decide), nm_e ?_⟩
  by_cases k : x = -100000
  · rw [ra_cn_u (eT.trans k), ra_sm_u (eT.trans k), c1, c2] at h52
    refine br_t k (nm_r (e' := nI (T % W + 1 - ra_cn b (T / W * W + 1) (T % W))) ?_ h52)
    rw [nI_1]
    exact congrArg nI (by omega)
  · have hu : ¬ upd b (T + 1) x (T / W * W + 1 + T % W) = -100000 := fun y => k (eT.symm.trans y)
    rw [ra_cn_k hu, ra_sm_k hu, c1, c2, eT, Nat.add_sub_add_right] at h52
    exact br_f k (nm_e h52)
end
end
section
/-! update: the moments of one call -/
/-- the value of moment j of n: as printed on both sides -/
def ra_mv (cx z x g : Int32) (n j : Nat) : Int32 := if z = 0 then (if cx = 0 then x else ((g * nI j) / nI n) - ((g * (nI j - 1)) / nI n)) else -100000
def ra_bs (b : Nat → Int32) (T : Nat) (f : Nat → Int32) : Nat → (Nat → Int32)
  | 0 => b
  | j + 1 => upd (ra_bs b T f j) (T + j + 1) (f (j + 1))
section
variable {post : Int32 → SX → Prop} {cx wd hb ti wh fi uk ms sc lv : Int32} {re sp ru tl rm si ki su lo hi la rc ke : Nat → Int32} {b : Nat → Int32} {S : Nat → Nat} {T W n : Nat} {x z g : Int32}
theorem ra_124 {J : Int32 → Int32 → Int32 → Int32 → Int32 → Int32 → Int32 → Int32 → Int32 → Int32 → Int32 → (Nat → Int32) → (Nat → Int32) → (Nat → Int32) → (Nat → Int32) → (Nat → Int32) → (Nat → Int32) → (Nat → Int32) → (Nat → Int32) → (Nat → Int32) → (Nat → Int32) → (Nat → Int32) → (Nat → Int32) → (Nat → Int32) → Prop} {x2 x3 x4 x5 y : Int32} {j : Nat} (hS : ra_Sh S sp) (hT : T < 2 ^ 15) (hW : 1 ≤ W) (hW6 : W ≤ 6) (hX : ra_XR W T b S tl ru fi uk ms sc lv re si ki su lo hi la rc ke)
    (h : ∀ (fi' uk' ms' sc' lv' : Int32) (re' si' ki' su' lo' hi' la' rc' ke' : Nat → Int32), ra_XR W (T + 1) (upd b (T + 1) y) S tl ru fi' uk' ms' sc' lv' re' si' ki' su' lo' hi' la' rc' ke' → J (nI (j + 1)) cx (nI W) hb (nI (T + 1)) wh fi' uk' ms' sc' lv' re' sp ru tl rm si' ki' su' lo' hi' la' rc' ke') : wX_update_124 post J x2 x3 x4 x5 (nI j) y cx (nI W) hb (nI T) wh fi uk ms sc lv re sp ru tl rm si ki su lo hi la rc ke := by
  unfold wX_update_124
  refine ra_addMoment (b := b) hS hT hW hW6 hX ?_
  intro fi' uk' ms' sc' lv' re' si' ki' su' lo' hi' la' rc' ke' r
  dsimp only
  exact nm_r (nI_1 j) (h _ _ _ _ _ _ _ _ _ _ _ _ _ _ r)
theorem ra_77 (hS : ra_Sh S sp) (hW : 1 ≤ W) (hW6 : W ≤ 6) (hn : 1 ≤ n) (hTn : T + n < 2 ^ 15)
    (h : ∀ (fi' uk' ms' sc' lv' : Int32) (re' si' ki' su' lo' hi' la' rc' ke' : Nat → Int32), ra_XR W (T + n) (ra_bs b T (ra_mv cx z x g n) n) S tl ru fi' uk' ms' sc' lv' re' si' ki' su' lo' hi' la' rc' ke' → post 1 (cx, nI W, hb, nI (T + n), x, fi', uk', ms', sc', lv', re', sp, ru, tl, rm, si', ki', su', lo', hi', la', rc', ke')) :
    ∀ (d j : Nat) (fi uk ms sc lv : Int32) (re si ki su lo hi la rc ke : Nat → Int32), j + d = n → ra_XR W (T + j) (ra_bs b T (ra_mv cx z x g n) j) S tl ru fi uk ms sc lv re si ki su lo hi la rc ke → wX_update_77 post x (nI n) z g (d + 1) (nI (j + 1)) cx (nI W) hb (nI (T + j)) wh fi uk ms sc lv re sp ru tl rm si ki su lo hi la rc ke := by
  intro d
  induction d with
  | zero =>
    intro j fi uk ms sc lv re si ki su lo hi la rc ke hj hX
    have e : j = n := by omega
    subst e
    exact br_t (nI_lt (by omega) (by omega)) (h _ _ _ _ _ _ _ _ _ _ _ _ _ _ hX)
  | succ d ih =>
    intro j fi uk ms sc lv re si ki su lo hi la rc ke hj hX
    have K : ∀ y, y = ra_mv cx z x g n (j + 1) → wX_update_124 post (wX_update_77 post x (nI n) z g (d + 1)) x (nI n) z g (nI (j + 1)) y cx (nI W) hb (nI (T + j)) wh fi uk ms sc lv re sp ru tl rm si ki su lo hi la rc ke := by
      intro y ey
      refine ra_124 (T := T + j) hS (by omega) hW hW6 hX ?_
      intro fi' uk' ms' sc' lv' re' si' ki' su' lo' hi' la' rc' ke' r
      rw [ey] at r
      exact ih (j + 1) _ _ _ _ _ _ _ _ _ _ _ _ _ _ (by omega) r
    have n0 : ¬ nI n = 0 := nI_ne0 hn (by omega)
    rw [wX_update_77]
    refine br_f (nI_nlt (by omega) (by omega)) ?_
    by_cases hz : z = 0
    · refine br_t hz ?_
      by_cases hc : cx = 0
      · exact br_t hc (K _ (by unfold ra_mv; rw [if_pos hz, if_pos hc]))
      · exact br_f hc ⟨n0, n0, nm_e (K _ (by unfold ra_mv; rw [if_pos hz, if_neg hc]))⟩
    · exact br_f hz (K _ (by unfold ra_mv; rw [if_neg hz]))
end
section
variable {post : Int32 → SY → Prop} {cx wd hb ti st : Int32} {sp ru tl rm b : Nat → Int32} {T n : Nat} {x g z : Int32}
theorem ra_99 (x1 : Int32) (hn : 1 ≤ n) (hTn : T + n ≤ 240) (hz : (z = 0 ∧ nI n ≤ hb) ∨ (z = 1 ∧ ¬ nI n ≤ hb)) (h : post 1 (cx, wd, hb, x1, if cx = 0 then 0 else x, sp, ru, tl, rm, ra_bs b T (ra_mv cx z x g n) n)) :
    ∀ d j : Nat, j + d = n → wY_update_99 post x1 x (nI n) g cx wd hb (nI T) st (d + 1) (nI (j + 1)) sp ru tl rm (ra_bs b T (ra_mv cx z x g n) j) := by
  intro d
  induction d with
  | zero =>
    intro j hj
    have e : j = n := by omega
    subst e
    refine br_t (nI_lt (by omega) (by omega)) ?_
    by_cases c : cx = 0
    · rw [if_pos c] at h; exact br_t c h
    · rw [if_neg c] at h; exact br_f c h
  | succ d ih =>
    intro j hj
    have n0 : ¬ nI n = 0 := nI_ne0 hn (by omega)
    have K : ∀ y, (nI n ≤ hb → y = ra_mv cx z x g n (j + 1)) → wY_update_136 post (wY_update_99 post x1 x (nI n) g cx wd hb (nI T) st (d + 1)) x1 x (nI n) g (nI (j + 1)) y cx wd hb (nI T) st sp ru tl rm (ra_bs b T (ra_mv cx z x g n) j) := by
      intro y ey
      have hi := ih (j + 1) (by omega)
      unfold wY_update_136
      rw [nI_add, nI_clamp (show T + (j + 1) < 2 ^ 31 by omega), nI_1]
      have hin : vp_in (nI (T + (j + 1))) 241 := vp_in_nI (by omega) (by decide)
      rcases hz with ⟨hz, hl⟩ | ⟨hz, hl⟩
      · refine br_t hl ⟨hin, nm_e (nm_e ?_)⟩
        rw [ey hl]
        exact hi
      · refine br_f hl ⟨hin, nm_e (nm_e ?_)⟩
        have e : (-100000 : Int32) = ra_mv cx z x g n (j + 1) := by
          unfold ra_mv
          rw [hz, if_neg (by decide)]
        rw [e]
        exact hi
    have z0 : nI n ≤ hb → z = 0 := by
      intro hl
      rcases hz with ⟨hz, _⟩ | ⟨_, hl'⟩
      · exact hz
      · exact absurd hl hl'
    rw [wY_update_99]
    refine br_f (nI_nlt (by omega) (by omega)) ?_
    by_cases hc : cx = 0
    · exact br_t hc (K _ (fun hl => by unfold ra_mv; rw [if_pos (z0 hl), if_pos hc]))
    · exact br_f hc ⟨n0, n0, K _ (fun hl => by unfold ra_mv; rw [if_pos (z0 hl), if_neg hc])⟩
end
theorem ra_bsB {b f : Nat → Int32} {T : Nat} (hb : ∀ t, 1 ≤ t → t ≤ T → ra_ok (b t)) : ∀ j, (∀ i, 1 ≤ i → i ≤ j → ra_ok (f i)) → ∀ t, 1 ≤ t → t ≤ T + j → ra_ok (ra_bs b T f j t) := by
  intro j
  induction j with
  | zero => intro _ t h1 h2; exact hb t h1 h2
  | succ j ih =>
    intro hf t h1 h2
    show ra_ok (upd (ra_bs b T f j) (T + j + 1) (f (j + 1)) t)
    by_cases e : t = T + j + 1
    · rw [e, pk_us]; exact hf _ (by omega) (by omega)
    · rw [pk_un e]; exact ih (fun i h1 h2 => hf i h1 (by omega)) t h1 (by omega)
theorem ra_mvB {cx z x : Int32} {g n j : Nat} (hx : cx = 0 → -1000 ≤ x.toInt ∧ x.toInt ≤ 1000) (hg : g < 256) (hn : 1 ≤ n) (hn2 : n ≤ 240) (hj : 1 ≤ j) (hjn : j ≤ n) : ra_ok (ra_mv cx z x (nI g) n j) := by
  unfold ra_mv
  by_cases hz : z = 0
  · rw [if_pos hz]
    by_cases hc : cx = 0
    · rw [if_pos hc]; exact Or.inr (hx hc)
    · rw [if_neg hc]
      obtain ⟨i, rfl⟩ : ∃ i, j = i + 1 := ⟨j - 1, by omega⟩
      have m1 : g * (i + 1) ≤ 255 * n := Nat.mul_le_mul (by omega) hjn
      have m2 : g * i ≤ 255 * n := Nat.mul_le_mul (by omega) (by omega)
      have d1 : g * (i + 1) / n ≤ 255 := by
        apply Nat.div_le_of_le_mul
        rw [Nat.mul_comm n 255]; exact m1
      have d2 : g * i / n ≤ 255 := by
        apply Nat.div_le_of_le_mul
        rw [Nat.mul_comm n 255]; exact m2
      rw [nI_pred, pk_mul, pk_mul, pk_div (by omega) hn (by omega), pk_div (by omega) hn (by omega)]
      generalize g * (i + 1) / n = q1 at d1 ⊢
      generalize g * i / n = q2 at d2 ⊢
      have e := pk_sub_toInt (a := q1) (b := q2) (by omega) (by omega)
      exact Or.inr ⟨by rw [e]; omega, by rw [e]; omega⟩
  · rw [if_neg hz]; exact Or.inl rfl
end
section
/-! the relation -/
def ra_F (W T : Nat) (S R : Nat → Nat) (cx wh st : Int32) (sp rm b : Nat → Int32) : Prop :=
  1 ≤ W ∧ W ≤ 6 ∧ T ≤ 240 ∧ ra_Sh S sp ∧ (∀ a, a < 2 → rm a = nI (R a) ∧ R a ≤ 8) ∧ (¬ cx = 0 → st = wh ∧ ∃ w : Nat, w < 256 ∧ wh = nI w) ∧ ∀ t, 1 ≤ t → t ≤ T → ra_ok (b t)
/-- the relation at the head of a turn: X's state is the picture of Y's cells -/
def i_Rel (_ : Nat) (u : SX) (v : SY) : Prop := match u, v with
  | (cx, wd, hb, ti, wh, fi, uk, ms, sc, lv, re, sp, ru, tl, rm, si, ki, su, lo, hi, la, rc, ke), (cx', wd', hb', ti', st, sp', ru', tl', rm', b) => cx' = cx ∧ wd' = wd ∧ hb' = hb ∧ ti' = ti ∧ sp' = sp ∧ ru' = ru ∧ tl' = tl ∧ rm' = rm ∧ ∃ (W T : Nat) (S R : Nat → Nat), wd = nI W ∧ ti = nI T ∧ ra_F W T S R cx wh st sp rm b ∧ ra_XR W T b S tl ru fi uk ms sc lv re si ki su lo hi la rc ke
theorem ra_in {k : Nat} {cx hb wh fi uk ms sc lv st : Int32} {re sp ru tl rm si ki su lo hi la rc ke b : Nat → Int32} {W T : Nat} {S R : Nat → Nat} (hF : ra_F W T S R cx wh st sp rm b) (hX : ra_XR W T b S tl ru fi uk ms sc lv re si ki su lo hi la rc ke) : i_Rel k (cx, nI W, hb, nI T, wh, fi, uk, ms, sc, lv, re, sp, ru, tl, rm, si, ki, su, lo, hi, la, rc, ke) (cx, nI W, hb, nI T, st, sp, ru, tl, rm, b) :=
  ⟨rfl, rfl, rfl, rfl, rfl, rfl, rfl, rfl, W, T, S, R, rfl, rfl, hF, hX⟩
theorem ra_el {P : SX → SY → Prop} {k : Nat} {u : SX} {v : SY} (h : ∀ (W T : Nat) (S R : Nat → Nat) (cx hb wh fi uk ms sc lv st : Int32) (re sp ru tl rm si ki su lo hi la rc ke b : Nat → Int32), ra_F W T S R cx wh st sp rm b → ra_XR W T b S tl ru fi uk ms sc lv re si ki su lo hi la rc ke → P (cx, nI W, hb, nI T, wh, fi, uk, ms, sc, lv, re, sp, ru, tl, rm, si, ki, su, lo, hi, la, rc, ke) (cx, nI W, hb, nI T, st, sp, ru, tl, rm, b)) (I : i_Rel k u v) : P u v := by
  obtain ⟨cx, wd, hb, ti, wh, fi, uk, ms, sc, lv, re, sp, ru, tl, rm, si, ki, su, lo, hi, la, rc, ke⟩ := u
  obtain ⟨cx', wd', hb', ti', st, sp', ru', tl', rm', b⟩ := v
  obtain ⟨e1, e2, e3, e4, e5, e6, e7, e8, W, T, S, R, e9, e10, hF, hX⟩ := I
  subst e1 e2 e3 e4 e5 e6 e7 e8 e9 e10
  exact h W T S R _ _ _ _ _ _ _ _ _ _ _ _ _ _ _ _ _ _ _ _ _ _ _ hF hX
theorem i_up {k : Nat} {u : SX} {v : SY} (h : i_Rel k u v) : i_Rel (k + 3) u v := h
end
section
/-! update, the whole call -/
def ra_rg (cx x : Int32) : Prop := (cx = 0 → ¬ x < -1000 ∧ ¬ 1000 < x) ∧ (¬ cx = 0 → ¬ x < 0 ∧ ¬ 255 < x)
section
variable {cx wd hb ti wh fi uk ms sc lv : Int32} {re sp ru tl rm si ki su lo hi la rc ke : Nat → Int32} {x : Int32}
theorem ra_inR {post : Int32 → Prop} (h1 : ra_rg cx x → post 1) (h0 : ¬ ra_rg cx x → post 0) : wpX_inRange post (cx, wd, hb, ti, wh, fi, uk, ms, sc, lv, re, sp, ru, tl, rm, si, ki, su, lo, hi, la, rc, ke) x := by
  unfold wpX_inRange
  dsimp only
  refine br_c (fun c => br_c (fun d => h0 fun z => (z.1 c).1 d) fun d => br_c (fun e => h0 fun z => (z.1 c).2 e) fun e => h1 ⟨fun _ => ⟨d, e⟩, fun z => absurd c z⟩) (fun c => br_c (fun d => h0 fun z => (z.2 c).1 d) fun d => br_c (fun e => h0 fun z => (z.2 c).2 e) fun e => h1 ⟨fun z => absurd z c, fun _ => ⟨d, e⟩⟩)
end
section
variable {post : Int32 → SY → Prop} {cx wd hb ti st : Int32} {sp ru tl rm b : Nat → Int32} {x p : Int32}
theorem ra_yR (h1 : ra_rg cx x → wY_update_45 post p x 1 cx wd hb ti st sp ru tl rm b) (h0 : ¬ ra_rg cx x → wY_update_45 post p x 0 cx wd hb ti st sp ru tl rm b) : wpY_update post (cx, wd, hb, ti, st, sp, ru, tl, rm, b) p x := by
  unfold wpY_update
  dsimp only
  refine br_c (fun c => br_c (fun d => h0 fun z => (z.1 c).1 d) fun d => br_c (fun e => h0 fun z => (z.1 c).2 e) fun e => h1 ⟨fun _ => ⟨d, e⟩, fun z => absurd c z⟩) (fun c => br_c (fun d => h0 fun z => (z.2 c).1 d) fun d => br_c (fun e => h0 fun z => (z.2 c).2 e) fun e => h1 ⟨fun z => absurd z c, fun _ => ⟨d, e⟩⟩)
theorem ra_y45 {z : Int32} (hn : ¬ (¬ p ≤ ti ∧ ¬ 240 < p ∧ ¬ z = 0)) (h : post 0 (cx, wd, hb, ti, st, sp, ru, tl, rm, b)) : wY_update_45 post p x z cx wd hb ti st sp ru tl rm b := by
  unfold wY_update_45
  exact br_c (fun _ => h) fun _ => br_c (fun _ => h) fun c => br_c (fun _ => h) fun d => br_c (fun _ => h) fun e => absurd ⟨d, c, e⟩ hn
theorem ra_yno (hn : ¬ (¬ p ≤ ti ∧ ¬ 240 < p ∧ ra_rg cx x)) (h : post 0 (cx, wd, hb, ti, st, sp, ru, tl, rm, b)) : wpY_update post (cx, wd, hb, ti, st, sp, ru, tl, rm, b) p x :=
  ra_yR (fun r => ra_y45 (fun q => hn ⟨q.1, q.2.1, r⟩) h) (fun _ => ra_y45 (fun q => q.2.2 rfl) h)
end
section
variable {post : Int32 → SX → Prop} {cx wd hb ti wh fi uk ms sc lv : Int32} {re sp ru tl rm si ki su lo hi la rc ke : Nat → Int32} {b : Nat → Int32} {S R : Nat → Nat} {T W t g : Nat} {x z p : Int32}
theorem ra_xno (hn : ¬ (¬ p ≤ ti ∧ ¬ 240 < p ∧ ra_rg cx x)) (h : post 0 (cx, wd, hb, ti, wh, fi, uk, ms, sc, lv, re, sp, ru, tl, rm, si, ki, su, lo, hi, la, rc, ke)) : wpX_update post (cx, wd, hb, ti, wh, fi, uk, ms, sc, lv, re, sp, ru, tl, rm, si, ki, su, lo, hi, la, rc, ke) p x := by
  unfold wpX_update
  dsimp only
  refine br_c (fun _ => h) fun c => br_c (fun _ => h) fun d => ra_inR (fun r => absurd ⟨c, d, r⟩ hn) (fun _ => ?_)
  exact br_t rfl h
theorem ra_updX (hS : ra_Sh S sp) (hW : 1 ≤ W) (hW6 : W ≤ 6) (hX : ra_XR W T b S tl ru fi uk ms sc lv re si ki su lo hi la rc ke) (hT : T < t) (ht : t ≤ 240) (hr : ra_rg cx x) (hz : (z = 0 ∧ nI (t - T) ≤ hb) ∨ (z = 1 ∧ ¬ nI (t - T) ≤ hb)) (hg : ¬ cx = 0 → (x - wh + 256) &&& 255 = nI g) (hg0 : cx = 0 → g = 0)
    (h : ∀ (fi' uk' ms' sc' lv' : Int32) (re' si' ki' su' lo' hi' la' rc' ke' : Nat → Int32), ra_XR W t (ra_bs b T (ra_mv cx z x (nI g) (t - T)) (t - T)) S tl ru fi' uk' ms' sc' lv' re' si' ki' su' lo' hi' la' rc' ke' → post 1 (cx, nI W, hb, nI t, x, fi', uk', ms', sc', lv', re', sp, ru, tl, rm, si', ki', su', lo', hi', la', rc', ke')) : wpX_update post (cx, nI W, hb, nI T, wh, fi, uk, ms, sc, lv, re, sp, ru, tl, rm, si, ki, su, lo, hi, la, rc, ke) (nI t) x := by
  have et : T + (t - T) = t := by omega
  have K : wX_update_77 post x (nI (t - T)) z (nI g) (t - T + 1) (nI (0 + 1)) cx (nI W) hb (nI T) wh fi uk ms sc lv re sp ru tl rm si ki su lo hi la rc ke := by
    refine ra_77 (T := T) (b := b) (n := t - T) hS hW hW6 (by omega) (by omega) ?_ (t - T) 0 _ _ _ _ _ _ _ _ _ _ _ _ _ _ (by omega) hX
    rw [et]
    exact h
  have K2 : wX_update_45 post x (nI (t - T)) z cx (nI W) hb (nI T) wh fi uk ms sc lv re sp ru tl rm si ki su lo hi la rc ke := by
    unfold wX_update_45
    refine br_c (fun c => ⟨t - T + 1, ?_⟩) (fun c => nm_r (hg c) ⟨t - T + 1, K⟩)
    rw [hg0 c] at K
    exact K
  unfold wpX_update
  dsimp only
  refine br_f (nI_ge (by omega) (by omega)) (br_f (nI_nlt (a := 240) (by omega) (by decide)) (ra_inR (fun _ => ?_) (fun q => absurd hr q)))
  refine br_f (by decide) (nm_r (pk_sub (by omega)) ?_)
  rcases hz with ⟨rfl, hl⟩ | ⟨rfl, hl⟩
  · exact br_t hl K2
  · exact br_f hl K2
end
section
variable {post : Int32 → SY → Prop} {cx wd hb ti st : Int32} {sp ru tl rm b : Nat → Int32} {T W t g : Nat} {x z : Int32}
theorem ra_mv0 {cx z x g g' : Int32} {n : Nat} (h : cx = 0) : ra_mv cx z x g n = ra_mv cx z x g' n := by
  funext j
  unfold ra_mv
  rw [if_pos h, if_pos h]
theorem ra_updY (hT : T < t) (ht : t ≤ 240) (hr : ra_rg cx x) (hz : (z = 0 ∧ nI (t - T) ≤ hb) ∨ (z = 1 ∧ ¬ nI (t - T) ≤ hb)) (hg : ¬ cx = 0 → (x - st + 256) - (x - st + 256) / 256 * 256 = nI g)
    (h : post 1 (cx, wd, hb, nI t, if cx = 0 then 0 else x, sp, ru, tl, rm, ra_bs b T (ra_mv cx z x (nI g) (t - T)) (t - T))) : wpY_update post (cx, wd, hb, nI T, st, sp, ru, tl, rm, b) (nI t) x := by
  refine ra_yR (fun _ => ?_) (fun q => absurd hr q)
  unfold wY_update_45
  refine br_f (nI_nlt (b := 1) (by omega) (by omega)) (br_f (nI_nlt (a := 240) (by omega) (by decide)) (br_f (nI_ge (by omega) (by omega)) (br_f (by decide) (nm_r (pk_sub (by omega)) ⟨by decide, nm_e ⟨t - T + 1, ?_⟩⟩))))
  refine ra_99 (T := T) (n := t - T) (z := z) (nI t) (by omega) (by omega) hz ?_ (t - T) 0 (by omega)
  by_cases c : cx = 0
  · rw [ra_mv0 (g' := nI g) c]
    exact h
  · rw [hg c]
    exact h
end
theorem ra_gN {x p w : Nat} (hx : p < 256) (hw : w < 256) : nI p - nI w + 256 = nI (p + 256 - w) := by
  have e : nI p - nI w + 256 = nI p + nI 256 - nI w := by
    show nI p - nI w + nI 256 = _
    rw [Int32.sub_eq_add_neg, Int32.sub_eq_add_neg, Int32.add_assoc, Int32.add_assoc, Int32.add_comm (-nI w)]
  rw [e, nI_add, pk_sub (by omega)]
theorem ra_lt0 {p : Int32} {T : Nat} (hT : T < 2 ^ 31) (h : ¬ p ≤ nI T) : ∃ t, T < t ∧ t < 2 ^ 31 ∧ p = nI t := by
  have h0 : ¬ p < 0 := by
    intro c
    apply h
    rw [Int32.lt_iff_toInt_lt, show (0 : Int32).toInt = 0 from by decide] at c
    rw [Int32.le_iff_toInt_le, nI_toInt hT]
    omega
  obtain ⟨t, ht, rfl⟩ := nI_of h0
  rw [nI_leI ht hT] at h
  exact ⟨t, by omega, ht, rfl⟩
theorem i_vc_update {k : Nat} {u : SX} {v : SY} (I : i_Rel k u v) (hk : k + 3 ≤ 1539) (v1 : Int32) (v2 : Int32) : wpX_update (fun r u' => wpY_update (fun r' v' => r' = r ∧ i_Rel (k + 3) u' v') v v1 v2) u v1 v2 := by
  refine ra_el (P := fun u v => wpX_update (fun r u' => wpY_update (fun r' v' => r' = r ∧ i_Rel (k + 3) u' v') v v1 v2) u v1 v2) ?_ I
  intro W T S R cx hb wh fi uk ms sc lv st re sp ru tl rm si ki su lo hi la rc ke b hF hX
  by_cases hn : ¬ v1 ≤ nI T ∧ ¬ 240 < v1 ∧ ra_rg cx v2
  · obtain ⟨n1, n2, hr⟩ := hn
    obtain ⟨hW, hW6, hT, hS, hR, hc, hB⟩ := hF
    obtain ⟨t, ht, ht2, rfl⟩ := ra_lt0 (by omega) n1
    have ht3 : t ≤ 240 := by
      have z : ¬ nI 240 < nI t := n2
      rw [nI_ltI (by decide) ht2] at z
      omega
    have hz : ∃ z : Int32, (z = 0 ∧ nI (t - T) ≤ hb) ∨ (z = 1 ∧ ¬ nI (t - T) ≤ hb) := by
      by_cases c : nI (t - T) ≤ hb
      · exact ⟨0, Or.inl ⟨rfl, c⟩⟩
      · exact ⟨1, Or.inr ⟨rfl, c⟩⟩
    obtain ⟨z, hz⟩ := hz
    have hg : ∃ g : Nat, g < 256 ∧ (¬ cx = 0 → (v2 - wh + 256) &&& 255 = nI g) ∧ (cx = 0 → g = 0) ∧ (¬ cx = 0 → (v2 - st + 256) - (v2 - st + 256) / 256 * 256 = nI g) ∧ (¬ cx = 0 → ∃ w : Nat, w < 256 ∧ v2 = nI w) ∧ (cx = 0 → -1000 ≤ v2.toInt ∧ v2.toInt ≤ 1000) := by
      by_cases c : cx = 0
      · refine ⟨0, by decide, fun q => absurd c q, fun _ => rfl, fun q => absurd c q, fun q => absurd c q, fun _ => ?_⟩
        obtain ⟨a1, a2⟩ := hr.1 c
        rw [Int32.lt_iff_toInt_lt, show (-1000 : Int32).toInt = -1000 from by decide] at a1
        rw [Int32.lt_iff_toInt_lt, show (1000 : Int32).toInt = 1000 from by decide] at a2
        omega
      · obtain ⟨a1, a2⟩ := hr.2 c
        obtain ⟨p, hp, rfl⟩ := nI_of2 (M := 255) (n := 255) (by decide) a1 (Int32.not_lt.mp a2)
        obtain ⟨rfl, w, hw, rfl⟩ := hc c
        rw [ra_gN (x := 0) (by omega) hw]
        refine ⟨(p + 256 - w) % 256, Nat.mod_lt _ (by decide), fun _ => ra_and255 (by omega), fun q => absurd q c, fun _ => pk_rem (d := 256) (by omega) (by decide) (by decide), fun _ => ⟨p, by omega, rfl⟩, fun q => absurd q c⟩
    obtain ⟨g, g1, g2, g3, g4, g5, g6⟩ := hg
    refine ra_updX (S := S) (b := b) (z := z) (g := g) hS hW hW6 hX ht ht3 hr hz g2 g3 ?_
    intro fi' uk' ms' sc' lv' re' si' ki' su' lo' hi' la' rc' ke' r
    refine ra_updY (z := z) (g := g) ht ht3 hr hz g4 ⟨rfl, ?_⟩
    refine ra_in (S := S) (R := R) ⟨hW, hW6, ht3, hS, hR, fun c => ?_, ?_⟩ r
    · rw [if_neg c]
      exact ⟨rfl, g5 c⟩
    · have := ra_bsB (f := ra_mv cx z v2 (nI g) (t - T)) hB (t - T) (fun i h1 h2 => ra_mvB g6 g1 (by omega) (by omega) h1 h2)
      rw [show T + (t - T) = t by omega] at this
      exact this
  · exact ra_xno hn (ra_yno hn ⟨rfl, ra_in hF hX⟩)
end
section
/-! the walk of Y: floor, step, made, rows, row -/
def ra_rw (v : Nat → Int32) (S n R : Nat) (tl ru : Int32) (r : Nat) : Int32 := if n ≤ r + R then ra_rv v S tl ru r else -200000
theorem ra_subLe {n R r : Nat} (hn : n < 2 ^ 30) (hR : R < 2 ^ 30) (hr : r < 2 ^ 30) : nI n - nI R ≤ nI r ↔ n ≤ r + R := by
  rw [Int32.le_iff_toInt_le, pk_sub_toInt hn hR, nI_toInt (by omega)]
  omega
section
variable {post : Int32 → Prop} {cx wd hb ti st : Int32} {sp ru tl rm b : Nat → Int32} {W T S R a : Nat}
theorem ra_floorY {s : Int32} {c : Nat} (h0 : 0 < c) (hc : c < 2 ^ 31) (h : post (ra_fl s (nI c))) : wpY_floor post (cx, wd, hb, ti, st, sp, ru, tl, rm, b) s (nI c) := by
  unfold wpY_floor wY_floor_11
  dsimp only
  refine br_f (nI_nle h0 hc) ⟨nI_ne0 h0 hc, br_f (nI_nle h0 hc) ⟨nI_ne0 h0 hc, ?_⟩⟩
  unfold ra_fl at h
  by_cases z : 0 ≤ s - s / nI c * nI c
  · rw [if_pos z] at h; exact br_t z h
  · rw [if_neg z] at h; exact br_f z h
theorem ra_step66 {k : Nat} (hW : 1 ≤ W) (hW6 : W ≤ 6) (h : post (ra_st b W k)) : wY_step_66 post (ra_sm b (k * W + 1) W) (nI (ra_cn b (k * W + 1) W)) cx (nI W) hb ti st sp ru tl rm b := by
  have hcl := ra_cn_le b (k * W + 1) W
  unfold wY_step_66
  rw [pk_sub hcl, ra_2mul, nI_ltI (show W < 2 ^ 31 by omega) (show 2 * (W - ra_cn b (k * W + 1) W) < 2 ^ 31 by omega)]
  unfold ra_st at h
  by_cases c : W < 2 * (W - ra_cn b (k * W + 1) W)
  · rw [if_pos c] at h; exact br_t c h
  · rw [if_neg c] at h; exact br_f c (ra_floorY (by omega) (by omega) h)
theorem ra_step14 {k : Nat} (hW : 1 ≤ W) (hW6 : W ≤ 6) (hk : (k + 1) * W ≤ 240) (h : post (ra_st b W k)) : ∀ d i : Nat, i + d = W → wY_step_14 post (nI k) cx (nI W) hb ti st sp ru tl rm b (d + 1) (ra_sm b (k * W + 1) i) (nI (ra_cn b (k * W + 1) i)) (nI (k * W + 1 + i)) := by
  have hk2 : (k + 1) * W = k * W + W := Nat.succ_mul k W
  intro d
  induction d with
  | zero =>
    intro i hi
    have e : i = W := by omega
    rw [e, wY_step_14]
    dsimp only
    rw [nI_1 k, pk_mul]
    exact br_t (nI_lt (by omega) (by omega)) (ra_step66 hW hW6 h)
  | succ d ih =>
    intro i hi
    have hin : vp_in (nI (k * W + 1 + i)) 241 := vp_in_nI (by omega) (by decide)
    have I := ih (i + 1) (by omega)
    rw [wY_step_14]
    dsimp only
    rw [nI_clamp (show k * W + 1 + i < 2 ^ 31 by omega), nI_1 k, pk_mul]
    refine br_f (nI_nlt (by omega) (by omega)) (br_f (nI_nlt (a := 240) (by omega) (by decide)) ⟨hin, ?_⟩)
    by_cases c : b (k * W + 1 + i) = -100000
    · rw [ra_sm_u c, ra_cn_u c] at I
      exact br_t c (nm_r (nI_1 _) I)
    · rw [ra_sm_k c, ra_cn_k c] at I
      exact br_f c ⟨hin, nm_e (nm_r (nI_1 _) (nm_r (nI_1 _) I))⟩
theorem ra_step {k : Nat} (hW : 1 ≤ W) (hW6 : W ≤ 6) (hk : (k + 1) * W ≤ 240) (h : post (ra_st b W k)) : wpY_step post (cx, nI W, hb, ti, st, sp, ru, tl, rm, b) (nI k) := by
  unfold wpY_step
  dsimp only
  rw [pk_mul, nI_1]
  exact nm_e ⟨W + 1, ra_step14 hW hW6 hk h W 0 (by omega)⟩
theorem ra_72y {J : Int32 → Int32 → Int32 → Int32 → Int32 → Int32 → Prop} {x1 x2 s l g x : Int32} {c k : Nat} (hc : c < 2 ^ 31) (h : J (nI (c + 1)) (s + x) l (if c = 0 then x else if x ≤ g then g else x) x (nI (k + 1))) : wY_made_72 post J x1 x2 (nI c) s g (nI k) x l cx wd hb ti st sp ru tl rm b := by
  unfold wY_made_72 wY_made_85 wY_made_92
  by_cases c0 : c = 0
  · subst c0
    rw [if_pos rfl] at h
    exact br_t nI_0 (nm_e (nm_r (nI_1 _) (nm_r (nI_1 _) h)))
  · rw [if_neg c0] at h
    refine br_f (nI_ne0 (by omega) hc) ?_
    by_cases c1 : x ≤ g
    · rw [if_pos c1] at h
      exact br_t c1 (nm_e (nm_r (nI_1 _) (nm_r (nI_1 _) h)))
    · rw [if_neg c1] at h
      exact br_f c1 (nm_e (nm_r (nI_1 _) (nm_r (nI_1 _) h)))
theorem ra_made24 {r : Nat} (ha : a < 2) (hS : sp a = nI S) (hS4 : S ≤ 4) (hW : 1 ≤ W) (hW6 : W ≤ 6) (hr : (r + 1) * S * W ≤ 240) (hr2 : r < 2 ^ 20) (h : post (ra_rv (ra_st b W) S (tl a) (ru a) r)) : ∀ d i : Nat, i + d = S → wY_made_24 post (nI a) (nI r) cx (nI W) hb ti st sp ru tl rm b (d + 1) (nI (ra_cn (ra_st b W) (r * S) i)) (ra_sm (ra_st b W) (r * S) i) (ra_lo (ra_st b W) (r * S) i) (ra_hi (ra_st b W) (r * S) i) (ra_la (ra_st b W) (r * S) i) (nI (r * S + i)) := by
  have hin : vp_in (nI a) 2 := vp_in_nI ha (by decide)
  have hS2 : (r + 1) * S = r * S + S := Nat.succ_mul r S
  have hrS : r * S ≤ r * 4 := Nat.mul_le_mul_left r hS4
  intro d
  induction d with
  | zero =>
    intro i hi
    have e : i = S := by omega
    rw [e]
    have hcl := ra_cn_le (ra_st b W) (r * S) S
    rw [wY_made_24]
    dsimp only
    rw [nI_clamp (show a < 2 ^ 31 by omega), hS, nI_1 r, pk_mul]
    refine ⟨hin, br_t (nI_le (by omega) (by omega)) ?_⟩
    unfold ra_rv ra_ro at h
    by_cases c0 : ra_cn (ra_st b W) (r * S) S = 0
    · rw [if_pos c0] at h
      exact br_t (by rw [c0]; exact nI_0) h
    · rw [if_neg c0] at h
      refine br_f (nI_ne0 (by omega) (by omega)) ⟨hin, hin, ?_⟩
      by_cases h1 : nI S - nI (ra_cn (ra_st b W) (r * S) S) ≤ tl a
      · rw [if_pos h1] at h
        refine br_t h1 ⟨hin, ?_⟩
        by_cases h2 : ru a = 0
        · rw [if_pos h2] at h
          exact br_t h2 (ra_floorY (by omega) (by omega) h)
        · rw [if_neg h2] at h
          refine br_f h2 ⟨hin, ?_⟩
          by_cases h3 : ru a = 1
          · rw [if_pos h3] at h
            exact br_t h3 h
          · rw [if_neg h3] at h
            refine br_f h3 ⟨hin, ?_⟩
            by_cases h4 : ru a = 2
            · rw [if_pos h4] at h
              exact br_t h4 h
            · rw [if_neg h4] at h
              exact br_f h4 h
      · rw [if_neg h1] at h
        exact br_f h1 h
  | succ d ih =>
    intro i hi
    have I := ih (i + 1) (by omega)
    have hcl := ra_cn_le (ra_st b W) (r * S) i
    have hk : (r * S + i + 1) * W ≤ 240 := by
      refine Nat.le_trans (Nat.mul_le_mul_right W ?_) hr
      omega
    rw [wY_made_24]
    dsimp only
    rw [nI_clamp (show a < 2 ^ 31 by omega), hS, nI_1 r, pk_mul]
    refine ⟨hin, br_f (nI_ge (by omega) (by omega)) (ra_step hW hW6 hk ?_)⟩
    by_cases c : ra_st b W (r * S + i) = -100000
    · rw [ra_cn_u c, ra_sm_u c, ra_lo_u c, ra_hi_u c, ra_la_u c] at I
      exact br_t c (nm_r (nI_1 _) I)
    · rw [ra_cn_k c, ra_sm_k c, ra_lo_k c, ra_hi_k c, ra_la_k c] at I
      refine br_f c ?_
      by_cases c0 : ra_cn (ra_st b W) (r * S) i = 0
      · rw [if_pos c0] at I
        exact br_t (by rw [c0]; exact nI_0) (ra_72y (by omega) I)
      · rw [if_neg c0] at I
        refine br_f (nI_ne0 (by omega) (by omega)) ?_
        by_cases c1 : ra_lo (ra_st b W) (r * S) i ≤ ra_st b W (r * S + i)
        · rw [if_pos c1] at I
          exact br_t c1 (ra_72y (by omega) I)
        · rw [if_neg c1] at I
          exact br_f c1 (ra_72y (by omega) I)
theorem ra_made {r : Nat} (ha : a < 2) (hS : sp a = nI S) (hS4 : S ≤ 4) (hW : 1 ≤ W) (hW6 : W ≤ 6) (hr : (r + 1) * S * W ≤ 240) (hr2 : r < 2 ^ 20) (h : post (ra_rv (ra_st b W) S (tl a) (ru a) r)) : wpY_made post (cx, nI W, hb, ti, st, sp, ru, tl, rm, b) (nI a) (nI r) := by
  unfold wpY_made
  dsimp only
  rw [nI_clamp (show a < 2 ^ 31 by omega), hS, pk_mul]
  exact ⟨vp_in_nI ha (by decide), nm_e ⟨S + 1, ra_made24 ha hS hS4 hW hW6 hr hr2 h S 0 (by omega)⟩⟩
theorem ra_rowsY (ha : a < 2) (hS : sp a = nI S) (hS1 : 1 ≤ S) (hS4 : S ≤ 4) (hW : 1 ≤ W) (hW6 : W ≤ 6) (hT : T ≤ 240) (h : post (nI (T / W / S))) : wpY_rows post (cx, nI W, hb, nI T, st, sp, ru, tl, rm, b) (nI a) := by
  have hk : T / W ≤ T := Nat.div_le_self _ _
  have K : wY_rows_9 post (nI a) cx (nI W) hb (nI T) st sp ru tl rm b := by
    unfold wY_rows_9 wpY_steps
    dsimp only
    rw [pk_div (show T < 2 ^ 31 by omega) hW (by omega), nI_clamp (show a < 2 ^ 31 by omega), hS, pk_div (show T / W < 2 ^ 31 by omega) hS1 (by omega)]
    exact ⟨nI_ne0 hW (by omega), vp_in_nI ha (by decide), nI_ne0 hS1 (by omega), h⟩
  unfold wpY_rows
  dsimp only
  have hz : a = 0 ∨ a = 1 := by omega
  rcases hz with rfl | rfl
  · exact br_t rfl K
  · exact br_f (by decide) (br_t rfl K)
theorem ra_rowsN {p : Int32} (hp : ¬ (p = 0 ∨ p = 1)) (h : post 0) : wpY_rows post (cx, wd, hb, ti, st, sp, ru, tl, rm, b) p := by
  unfold wpY_rows
  dsimp only
  exact br_f (fun z => hp (Or.inl z)) (br_f (fun z => hp (Or.inr z)) h)
theorem ra_hr {r : Nat} (hT : T ≤ 240) (h : r < T / W / S) : (r + 1) * S * W ≤ 240 ∧ r < 240 := by
  have h1 : (r + 1) * S ≤ T / W / S * S := Nat.mul_le_mul_right S h
  have h2 : T / W / S * S ≤ T / W := Nat.div_mul_le_self _ _
  have h3 : (r + 1) * S * W ≤ T / W * W := Nat.mul_le_mul_right W (Nat.le_trans h1 h2)
  have h4 : T / W * W ≤ T := Nat.div_mul_le_self _ _
  have h5 : T / W / S ≤ T / W := Nat.div_le_self _ _
  have h6 : T / W ≤ T := Nat.div_le_self _ _
  exact ⟨by omega, by omega⟩
theorem ra_rowY {r : Nat} (ha : a < 2) (hS : sp a = nI S) (hS1 : 1 ≤ S) (hS4 : S ≤ 4) (hR : rm a = nI R) (hR8 : R ≤ 8) (hW : 1 ≤ W) (hW6 : W ≤ 6) (hT : T ≤ 240) (hr : r < T / W / S) (h : post (ra_rw (ra_st b W) S (T / W / S) R (tl a) (ru a) r)) : wpY_row post (cx, nI W, hb, nI T, st, sp, ru, tl, rm, b) (nI a) (nI r) := by
  obtain ⟨h1, h2⟩ := ra_hr hT hr
  have h5 : T / W / S ≤ T / W := Nat.div_le_self _ _
  have h6 : T / W ≤ T := Nat.div_le_self _ _
  unfold wpY_row
  dsimp only
  refine ra_rowsY ha hS hS1 hS4 hW hW6 hT ?_
  rw [ra_and1 (show a < 2 ^ 31 by omega), Nat.mod_eq_of_lt ha, nI_clamp (show a < 2 ^ 31 by omega), hR, ra_subLe (by omega) (by omega) (by omega)]
  refine br_f (nI_pos (by omega)) (br_f (nI_ge hr (by omega)) ⟨vp_in_nI ha (by decide), ?_⟩)
  unfold ra_rw at h
  by_cases c : T / W / S ≤ r + R
  · rw [if_pos c] at h
    exact br_t c (ra_made ha hS hS4 hW hW6 h1 (by omega) h)
  · rw [if_neg c] at h
    exact br_f c h
theorem ra_rowYno {p : Int32} (ha : a < 2) (hS : sp a = nI S) (hS1 : 1 ≤ S) (hS4 : S ≤ 4) (hW : 1 ≤ W) (hW6 : W ≤ 6) (hT : T ≤ 240) (hn : p < 0 ∨ nI (T / W / S) ≤ p) (h : post (-200000)) : wpY_row post (cx, nI W, hb, nI T, st, sp, ru, tl, rm, b) (nI a) p := by
  unfold wpY_row
  dsimp only
  refine ra_rowsY ha hS hS1 hS4 hW hW6 hT (br_c (fun _ => h) fun c => br_c (fun _ => h) fun d => ?_)
  rcases hn with z | z
  · exact absurd z c
  · exact absurd z d
theorem ra_rowYna {p q : Int32} (hp : ¬ (p = 0 ∨ p = 1)) (h : post (-200000)) : wpY_row post (cx, wd, hb, ti, st, sp, ru, tl, rm, b) p q := by
  unfold wpY_row
  dsimp only
  exact ra_rowsN hp (br_c (fun _ => h) fun c => br_t (Int32.not_lt.mp c) h)
end
end
section
/-! the calls that only read -/
theorem ra_arc {p : Int32} (h : p = 0 ∨ p = 1) : ∃ a, a < 2 ∧ p = nI a := by
  rcases h with rfl | rfl
  · exact ⟨0, by decide, rfl⟩
  · exact ⟨1, by decide, rfl⟩
theorem ra_isA {post : Int32 → Prop} {a : Nat} (ha : a < 2) (h : post 1) : wpX_isArchive post (nI a) := by
  unfold wpX_isArchive
  have hz : a = 0 ∨ a = 1 := by omega
  rcases hz with rfl | rfl
  · exact br_t rfl h
  · exact br_f (by decide) (br_t rfl h)
theorem ra_nA {post : Int32 → Prop} {p : Int32} (hp : ¬ (p = 0 ∨ p = 1)) (h : post 0) : wpX_isArchive post p := by
  unfold wpX_isArchive
  exact br_f (fun z => hp (Or.inl z)) (br_f (fun z => hp (Or.inr z)) h)
/-- the running best and the running count of rows -/
def ra_bt (G : Nat → Int32) : Nat → Int32
  | 0 => -100000
  | i + 1 => if G i ≤ ra_bt G i then ra_bt G i else G i
def ra_kc (G : Nat → Int32) : Nat → Nat
  | 0 => 0
  | i + 1 => if G i ≤ -100000 then ra_kc G i else ra_kc G i + 1
theorem ra_bt_t {G : Nat → Int32} {i : Nat} (h : G i ≤ ra_bt G i) : ra_bt G (i + 1) = ra_bt G i := if_pos h
theorem ra_bt_f {G : Nat → Int32} {i : Nat} (h : ¬ G i ≤ ra_bt G i) : ra_bt G (i + 1) = G i := if_neg h
theorem ra_kc_t {G : Nat → Int32} {i : Nat} (h : G i ≤ -100000) : ra_kc G (i + 1) = ra_kc G i := if_pos h
theorem ra_kc_f {G : Nat → Int32} {i : Nat} (h : ¬ G i ≤ -100000) : ra_kc G (i + 1) = ra_kc G i + 1 := if_neg h
theorem ra_lowG {G : Nat → Int32} {m : Nat} (h : ∀ i, i < m → G i = -200000) : ∀ i, i ≤ m → ra_bt G i = -100000 ∧ ra_kc G i = 0 := by
  intro i
  induction i with
  | zero => intro _; exact ⟨rfl, rfl⟩
  | succ i ih =>
    intro hi
    obtain ⟨h1, h2⟩ := ih (by omega)
    have e := h i (by omega)
    have l : G i ≤ -100000 := by rw [e]; decide
    rw [ra_bt_t (by rw [h1]; exact l), ra_kc_t l]
    exact ⟨h1, h2⟩
theorem ra_kc_le (G : Nat → Int32) : ∀ i, ra_kc G i ≤ i := by
  intro i
  induction i with
  | zero => exact Nat.le_refl 0
  | succ i ih =>
    by_cases c : G i ≤ -100000
    · rw [ra_kc_t c]; omega
    · rw [ra_kc_f c]; omega
theorem ra_okLe {x : Int32} (h : ra_ok x) : x = -100000 ↔ x ≤ -100000 := by
  constructor
  · intro e; rw [e]; decide
  · intro l
    rcases h with h | ⟨h, _⟩
    · exact h
    · rw [Int32.le_iff_toInt_le, show (-100000 : Int32).toInt = -100000 from by decide] at l
      omega
section
variable {post : Int32 → Prop} {cx wd hb ti wh fi uk ms sc lv : Int32} {re sp ru tl rm si ki su lo hi la rc ke : Nat → Int32} {N R a : Nat} {G : Nat → Int32}
theorem ra_rowX {r : Nat} (ha : a < 2) (hrc : rc a = nI N) (hR : rm a = nI R) (hR8 : R ≤ 8) (hN : N < 2 ^ 20) (hr : r < N) (hG : N ≤ r + R → ke (a * 8 + r % 8) = G r) (hG2 : ¬ N ≤ r + R → G r = -200000) (h : post (G r)) : wpX_row post (cx, wd, hb, ti, wh, fi, uk, ms, sc, lv, re, sp, ru, tl, rm, si, ki, su, lo, hi, la, rc, ke) (nI a) (nI r) := by
  have hin : vp_in (nI a) 2 := vp_in_nI ha (by decide)
  unfold wpX_row
  dsimp only
  refine ra_isA ha ?_
  rw [nI_clamp (show a < 2 ^ 31 by omega), hrc, hR, ra_subLe (show N < 2 ^ 30 by omega) (by omega) (by omega), ra_ix (show r < 2 ^ 31 by omega), nI_clamp (show a * 8 + r % 8 < 2 ^ 31 by omega)]
  refine br_f (by decide) (br_f (nI_pos (by omega)) ⟨hin, br_f (nI_ge hr (by omega)) ⟨hin, hin, ?_⟩⟩)
  by_cases c : N ≤ r + R
  · refine br_t c ⟨vp_in_nI (by omega) (by decide), ?_⟩
    rw [hG c]; exact h
  · refine br_f c ?_
    rw [hG2 c] at h; exact h
theorem ra_rowXno {p : Int32} (ha : a < 2) (hrc : rc a = nI N) (hn : p < 0 ∨ nI N ≤ p) (h : post (-200000)) : wpX_row post (cx, wd, hb, ti, wh, fi, uk, ms, sc, lv, re, sp, ru, tl, rm, si, ki, su, lo, hi, la, rc, ke) (nI a) p := by
  have hin : vp_in (nI a) 2 := vp_in_nI ha (by decide)
  unfold wpX_row
  dsimp only
  refine ra_isA ha ?_
  rw [nI_clamp (show a < 2 ^ 31 by omega), hrc]
  refine br_f (by decide) (br_c (fun _ => h) fun c => ⟨hin, br_c (fun _ => h) fun d => ?_⟩)
  rcases hn with z | z
  · exact absurd z c
  · exact absurd z d
theorem ra_rowXna {p q : Int32} (hp : ¬ (p = 0 ∨ p = 1)) (h : post (-200000)) : wpX_row post (cx, wd, hb, ti, wh, fi, uk, ms, sc, lv, re, sp, ru, tl, rm, si, ki, su, lo, hi, la, rc, ke) p q := by
  unfold wpX_row
  dsimp only
  exact ra_nA hp (br_t rfl h)
theorem ra_firstKept (ha : a < 2) (hrc : rc a = nI N) (hR : rm a = nI R) (hR8 : R ≤ 8) (hN : N < 2 ^ 20) (h : post (nI (N - R))) : wpX_firstKept post (cx, wd, hb, ti, wh, fi, uk, ms, sc, lv, re, sp, ru, tl, rm, si, ki, su, lo, hi, la, rc, ke) (nI a) := by
  have hin : vp_in (nI a) 2 := vp_in_nI ha (by decide)
  unfold wpX_firstKept
  dsimp only
  rw [nI_clamp (show a < 2 ^ 31 by omega), hrc, hR]
  refine ⟨hin, hin, nm_e ?_⟩
  by_cases c : R ≤ N
  · rw [pk_sub c]
    exact br_t (nI_pos' (by omega)) h
  · have e : N - R = 0 := by omega
    rw [e] at h
    exact br_f (Int32.not_le.mpr (pk_sneg (by omega) (by omega))) h
theorem ra_peakX (ha : a < 2) (hrc : rc a = nI N) (hN : N < 2 ^ 20) (hG : ∀ r, r < N → N ≤ r + R → ke (a * 8 + r % 8) = G r) (h : post (ra_bt G N)) : ∀ d i : Nat, i + d = N → N ≤ i + R → wX_peak_19 post (nI a) cx wd hb ti wh fi uk ms sc lv re sp ru tl rm si ki su lo hi la rc ke (d + 1) (ra_bt G i) (nI i) := by
  have hin : vp_in (nI a) 2 := vp_in_nI ha (by decide)
  intro d
  induction d with
  | zero =>
    intro i hi hR
    have e : i = N := by omega
    rw [e, wX_peak_19]
    dsimp only
    rw [nI_clamp (show a < 2 ^ 31 by omega), hrc]
    exact ⟨hin, br_t (nI_le (by omega) (by omega)) h⟩
  | succ d ih =>
    intro i hi hR
    have I := ih (i + 1) (by omega) (by omega)
    have hg := hG i (by omega) (by omega)
    rw [wX_peak_19]
    dsimp only
    rw [nI_clamp (show a < 2 ^ 31 by omega), hrc, ra_ix (show i < 2 ^ 31 by omega), nI_clamp (show a * 8 + i % 8 < 2 ^ 31 by omega), hg]
    refine ⟨hin, br_f (nI_ge (by omega) (by omega)) ⟨vp_in_nI (by omega) (by decide), nm_e ?_⟩⟩
    by_cases c : G i ≤ ra_bt G i
    · rw [ra_bt_t c] at I
      exact br_t c (nm_r (nI_1 _) I)
    · rw [ra_bt_f c] at I
      exact br_f c (nm_r (nI_1 _) I)
theorem ra_knownX (ha : a < 2) (hrc : rc a = nI N) (hN : N < 2 ^ 20) (hG : ∀ r, r < N → N ≤ r + R → ke (a * 8 + r % 8) = G r ∧ ra_ok (G r)) (h : post (nI (ra_kc G N))) : ∀ d i : Nat, i + d = N → N ≤ i + R → wX_known_17 post (nI a) cx wd hb ti wh fi uk ms sc lv re sp ru tl rm si ki su lo hi la rc ke (d + 1) (nI (ra_kc G i)) (nI i) := by
  have hin : vp_in (nI a) 2 := vp_in_nI ha (by decide)
  intro d
  induction d with
  | zero =>
    intro i hi hR
    have e : i = N := by omega
    rw [e, wX_known_17]
    dsimp only
    rw [nI_clamp (show a < 2 ^ 31 by omega), hrc]
    exact ⟨hin, br_t (nI_le (by omega) (by omega)) h⟩
  | succ d ih =>
    intro i hi hR
    have I := ih (i + 1) (by omega) (by omega)
    obtain ⟨hg, hok⟩ := hG i (by omega) (by omega)
    rw [wX_known_17]
    dsimp only
    rw [nI_clamp (show a < 2 ^ 31 by omega), hrc, ra_ix (show i < 2 ^ 31 by omega), nI_clamp (show a * 8 + i % 8 < 2 ^ 31 by omega), hg, ra_okLe hok]
    refine ⟨hin, br_f (nI_ge (by omega) (by omega)) ⟨vp_in_nI (by omega) (by decide), ?_⟩⟩
    by_cases c : G i ≤ -100000
    · rw [ra_kc_t c] at I
      exact br_t c (nm_r (nI_1 _) I)
    · rw [ra_kc_f c] at I
      exact br_f c (nm_r (nI_1 _) (nm_r (nI_1 _) I))
end
section
variable {post : Int32 → Prop} {cx wd hb ti st : Int32} {sp ru tl rm b : Nat → Int32} {N a : Nat} {G : Nat → Int32}
theorem ra_peakY (hN : N < 2 ^ 20) (hG : ∀ (q : Int32 → Prop) (r : Nat), r < N → q (G r) → wpY_row q (cx, wd, hb, ti, st, sp, ru, tl, rm, b) (nI a) (nI r)) (h : post (ra_bt G N)) : ∀ d i : Nat, i + d = N → wY_peak_24 post (nI a) (nI N) cx wd hb ti st sp ru tl rm b (d + 1) (ra_bt G i) (nI i) := by
  intro d
  induction d with
  | zero =>
    intro i hi
    have e : i = N := by omega
    rw [e, wY_peak_24]
    exact br_t (nI_le (by omega) (by omega)) h
  | succ d ih =>
    intro i hi
    have I := ih (i + 1) (by omega)
    rw [wY_peak_24]
    refine br_f (nI_ge (by omega) (by omega)) (hG _ i (by omega) ?_)
    by_cases c : G i ≤ ra_bt G i
    · rw [ra_bt_t c] at I
      exact br_t c (nm_r (nI_1 _) I)
    · rw [ra_bt_f c] at I
      exact br_f c (nm_r (nI_1 _) I)
theorem ra_knownY (hN : N < 2 ^ 20) (hG : ∀ (q : Int32 → Prop) (r : Nat), r < N → q (G r) → wpY_row q (cx, wd, hb, ti, st, sp, ru, tl, rm, b) (nI a) (nI r)) (h : post (nI (ra_kc G N))) : ∀ d i : Nat, i + d = N → wY_known_11 post (nI a) (nI N) cx wd hb ti st sp ru tl rm b (d + 1) (nI (ra_kc G i)) (nI i) := by
  intro d
  induction d with
  | zero =>
    intro i hi
    have e : i = N := by omega
    rw [e, wY_known_11]
    exact br_t (nI_le (by omega) (by omega)) h
  | succ d ih =>
    intro i hi
    have I := ih (i + 1) (by omega)
    rw [wY_known_11]
    refine br_f (nI_ge (by omega) (by omega)) (hG _ i (by omega) ?_)
    by_cases c : G i ≤ -100000
    · rw [ra_kc_t c] at I
      exact br_t c (nm_r (Int32.add_zero _) (nm_r (nI_1 _) I))
    · rw [ra_kc_f c] at I
      exact br_f c (nm_r (nI_1 _) (nm_r (nI_1 _) I))
theorem ra_psumY {T W : Nat} (hW : 1 ≤ W) (hT : T ≤ 240) (h : post (ra_sm b (T / W * W + 1) (T % W))) : ∀ d i : Nat, i + d = T % W → wY_pendingSum_19 post cx (nI W) hb (nI T) st sp ru tl rm b (d + 1) (ra_sm b (T / W * W + 1) i) (nI (T / W * W + 1 + i)) := by
  have hd := ra_dmE T W
  intro d
  induction d with
  | zero =>
    intro i hi
    have e : i = T % W := by omega
    rw [e, wY_pendingSum_19]
    exact br_t (nI_lt (by omega) (by omega)) h
  | succ d ih =>
    intro i hi
    have I := ih (i + 1) (by omega)
    have hin : vp_in (nI (T / W * W + 1 + i)) 241 := vp_in_nI (by omega) (by decide)
    rw [wY_pendingSum_19]
    dsimp only
    rw [nI_clamp (show T / W * W + 1 + i < 2 ^ 31 by omega)]
    refine br_f (nI_nlt (by omega) (by omega)) ⟨hin, ?_⟩
    by_cases c : b (T / W * W + 1 + i) = -100000
    · rw [ra_sm_u c] at I
      exact br_t c (nm_r (Int32.add_zero _) (nm_r (nI_1 _) I))
    · rw [ra_sm_k c] at I
      exact br_f c ⟨hin, nm_e (nm_r (nI_1 _) I)⟩
end
end
section
/-! the constructors and shape -/
theorem ra_XR0_of {W : Nat} {b : Nat → Int32} {S : Nat → Nat} {tl ru : Nat → Int32} {fi uk ms sc lv : Int32} {re si ki su lo hi la rc ke : Nat → Int32} (h : fi = nI 0 ∧ uk = nI 0 ∧ ms = 0 ∧ sc = nI 0 ∧ lv = -200000 ∧ ∀ a, a < 2 → si a = nI 0 ∧ ki a = nI 0 ∧ rc a = nI 0) : ra_XR W 0 b S tl ru fi uk ms sc lv re si ki su lo hi la rc ke := by
  obtain ⟨h1, h2, h3, h4, h5, h6⟩ := h
  unfold ra_XR ra_A2
  rw [Nat.zero_div, Nat.zero_mod, if_pos rfl]
  refine ⟨h1, h2, h3, h4, h5, fun t h1 h2 => by omega, fun a ha => ?_⟩
  rw [Nat.zero_div, Nat.zero_mod]
  obtain ⟨g1, g2, g3⟩ := h6 a ha
  exact ⟨g1, g2, fun z => absurd rfl z, g3, fun r hr => by omega⟩
theorem ra_XR0_to {W : Nat} {b : Nat → Int32} {S : Nat → Nat} {tl ru : Nat → Int32} {fi uk ms sc lv : Int32} {re si ki su lo hi la rc ke : Nat → Int32} (h : ra_XR W 0 b S tl ru fi uk ms sc lv re si ki su lo hi la rc ke) : fi = nI 0 ∧ uk = nI 0 ∧ ms = 0 ∧ sc = nI 0 ∧ lv = -200000 ∧ ∀ a, a < 2 → si a = nI 0 ∧ ki a = nI 0 ∧ rc a = nI 0 := by
  unfold ra_XR ra_A2 at h
  rw [Nat.zero_div, Nat.zero_mod, if_pos rfl] at h
  obtain ⟨h1, h2, h3, h4, h5, _, h6⟩ := h
  refine ⟨h1, h2, h3, h4, h5, fun a ha => ?_⟩
  have g := h6 a ha
  rw [Nat.zero_div, Nat.zero_mod] at g
  exact ⟨g.1, g.2.1, g.2.2.2.1⟩
def ra_cw (x : Int32) : Int32 := if 1 ≤ x then (if x ≤ 6 then x else 6) else 1
def ra_ch (x : Int32) : Int32 := if 1 ≤ x then (if x ≤ 30 then x else 30) else 1
def ra_c0 (x : Int32) : Int32 := if x < 1 then 0 else 1
def ra_z : Nat → Int32 := fun _ => 0
def ra_sp0 : Nat → Int32 := upd (upd ra_z 0 (nI 1)) 1 (nI 1)
def ra_rm0 : Nat → Int32 := upd (upd ra_z 0 (nI 4)) 1 (nI 4)
theorem ra_cwN (x : Int32) : ∃ W : Nat, 1 ≤ W ∧ W ≤ 6 ∧ ra_cw x = nI W := by
  unfold ra_cw
  by_cases c : 1 ≤ x
  · rw [if_pos c]
    by_cases d : x ≤ 6
    · rw [if_pos d]
      have c0 : ¬ x < 0 := Int32.not_lt.mpr (Int32.le_trans (by decide) c)
      obtain ⟨j, hj, rfl⟩ := nI_of2 (M := 6) (n := 6) (by decide) c0 d
      refine ⟨j, ?_, hj, rfl⟩
      have c' : nI 1 ≤ nI j := c
      rw [nI_leI (by decide) (by omega)] at c'
      exact c'
    · rw [if_neg d]; exact ⟨6, by decide, by decide, rfl⟩
  · rw [if_neg c]; exact ⟨1, by decide, by decide, rfl⟩
theorem ra_in0 : vp_in (0 : Int32) 2 := vp_in_nI (n := 0) (by decide) (by decide)
theorem ra_in1 : vp_in (1 : Int32) 2 := vp_in_nI (n := 1) (by decide) (by decide)
section
variable {post : SX → Prop} {cx wd hb ti wh fi uk ms sc lv : Int32} {re sp ru tl rm si ki su lo hi la rc ke : Nat → Int32} {x2 x3 z0 : Int32}
theorem ra_i170 (h : post (cx, wd, hb, ti, wh, fi, uk, ms, sc, lv, re, upd (upd sp 0 (nI 1)) 1 (nI 1), ru, tl, upd (upd rm 0 (nI 4)) 1 (nI 4), si, ki, su, lo, hi, la, rc, ke)) : wX_init_170 post cx wd hb ti wh fi uk ms sc lv (0 + 1 + 1 + 1) 0 re sp ru tl rm si ki su lo hi la rc ke := by
  rw [wX_init_170, ra_v1, ra_v4]
  refine br_f (by decide) ⟨ra_in0, nm_e ⟨ra_in0, nm_e (nm_r (e' := 1) (by decide) ?_)⟩⟩
  rw [wX_init_170, ra_v1, ra_v4]
  refine br_f (by decide) ⟨ra_in1, nm_e ⟨ra_in1, nm_e (nm_r (e' := 2) (by decide) ?_)⟩⟩
  rw [wX_init_170]
  exact br_t (by decide) h
theorem ra_i133 (h : post (cx, z0, ra_ch x3, ti, wh, fi, uk, ms, sc, -200000, re, upd (upd sp 0 (nI 1)) 1 (nI 1), ru, tl, upd (upd rm 0 (nI 4)) 1 (nI 4), si, ki, su, lo, hi, la, rc, ke)) : wX_init_133 post x3 z0 cx wd hb ti wh fi uk ms sc lv re sp ru tl rm si ki su lo hi la rc ke := by
  unfold wX_init_133
  unfold ra_ch at h
  by_cases c : 1 ≤ x3
  · rw [if_pos c] at h
    refine br_t c ?_
    by_cases d : x3 ≤ 30
    · rw [if_pos d] at h; exact br_t d ⟨_, ra_i170 h⟩
    · rw [if_neg d] at h; exact br_f d ⟨_, ra_i170 h⟩
  · rw [if_neg c] at h; exact br_f c ⟨_, ra_i170 h⟩
theorem ra_i108 (hz : z0 = 0 ∨ z0 = 1) (h : post (z0, ra_cw x2, ra_ch x3, ti, wh, fi, uk, ms, sc, -200000, re, upd (upd sp 0 (nI 1)) 1 (nI 1), ru, tl, upd (upd rm 0 (nI 4)) 1 (nI 4), si, ki, su, lo, hi, la, rc, ke)) : wX_init_108 post x2 x3 z0 cx wd hb ti wh fi uk ms sc lv re sp ru tl rm si ki su lo hi la rc ke := by
  unfold wX_init_108
  refine ⟨by rcases hz with rfl | rfl <;> rfl, by rcases hz with rfl | rfl <;> decide, ?_⟩
  unfold ra_cw at h
  by_cases c : 1 ≤ x2
  · rw [if_pos c] at h
    refine br_t c ?_
    by_cases d : x2 ≤ 6
    · rw [if_pos d] at h; exact br_t d (ra_i133 h)
    · rw [if_neg d] at h; exact br_f d (ra_i133 h)
  · rw [if_neg c] at h; exact br_f c (ra_i133 h)
end
theorem ra_initX {post : SX → Prop} {p0 p1 p2 : Int32} (h : post (ra_c0 p0, ra_cw p1, ra_ch p2, 0, 0, 0, 0, 0, 0, -200000, ra_z, ra_sp0, ra_z, ra_z, ra_rm0, ra_z, ra_z, ra_z, ra_z, ra_z, ra_z, ra_z, ra_z)) : wpX_init post p0 p1 p2 := by
  unfold wpX_init
  unfold ra_c0 at h
  by_cases c : p0 < 1
  · rw [if_pos c] at h; exact br_t c (ra_i108 (Or.inl rfl) h)
  · rw [if_neg c] at h; exact br_f c (ra_i108 (Or.inr rfl) h)
section
variable {post : SY → Prop} {cx wd hb ti st : Int32} {sp ru tl rm b : Nat → Int32} {x2 x3 z0 : Int32}
theorem ra_j108 (h : post (cx, wd, hb, ti, st, upd (upd sp 0 (nI 1)) 1 (nI 1), ru, tl, upd (upd rm 0 (nI 4)) 1 (nI 4), b)) : wY_init_108 post cx wd hb ti st (0 + 1 + 1 + 1) 0 sp ru tl rm b := by
  rw [wY_init_108]
  refine br_f (by decide) ⟨ra_in0, nm_e ⟨ra_in0, nm_e (nm_r (e' := 1) (by decide) ?_)⟩⟩
  rw [wY_init_108]
  refine br_f (by decide) ⟨ra_in1, nm_e ⟨ra_in1, nm_e (nm_r (e' := 2) (by decide) ?_)⟩⟩
  rw [wY_init_108]
  exact br_t (by decide) h
theorem ra_j77 (h : post (cx, z0, ra_ch x3, ti, st, upd (upd sp 0 (nI 1)) 1 (nI 1), ru, tl, upd (upd rm 0 (nI 4)) 1 (nI 4), b)) : wY_init_77 post x3 z0 cx wd hb ti st sp ru tl rm b := by
  unfold wY_init_77
  unfold ra_ch at h
  by_cases c : 1 ≤ x3
  · rw [if_pos c] at h
    refine br_t c ?_
    by_cases d : x3 ≤ 30
    · rw [if_pos d] at h; exact br_t d ⟨_, ra_j108 h⟩
    · rw [if_neg d] at h; exact br_f d ⟨_, ra_j108 h⟩
  · rw [if_neg c] at h; exact br_f c ⟨_, ra_j108 h⟩
theorem ra_j52 (hz : z0 = 0 ∨ z0 = 1) (h : post (z0, ra_cw x2, ra_ch x3, ti, st, upd (upd sp 0 (nI 1)) 1 (nI 1), ru, tl, upd (upd rm 0 (nI 4)) 1 (nI 4), b)) : wY_init_52 post x2 x3 z0 cx wd hb ti st sp ru tl rm b := by
  unfold wY_init_52
  refine ⟨by rcases hz with rfl | rfl <;> rfl, by rcases hz with rfl | rfl <;> decide, ?_⟩
  unfold ra_cw at h
  by_cases c : 1 ≤ x2
  · rw [if_pos c] at h
    refine br_t c ?_
    by_cases d : x2 ≤ 6
    · rw [if_pos d] at h; exact br_t d (ra_j77 h)
    · rw [if_neg d] at h; exact br_f d (ra_j77 h)
  · rw [if_neg c] at h; exact br_f c (ra_j77 h)
end
theorem ra_initY {post : SY → Prop} {p0 p1 p2 : Int32} (h : post (ra_c0 p0, ra_cw p1, ra_ch p2, 0, 0, ra_sp0, ra_z, ra_z, ra_rm0, ra_z)) : wpY_init post p0 p1 p2 := by
  unfold wpY_init
  unfold ra_c0 at h
  by_cases c : p0 < 1
  · rw [if_pos c] at h; exact br_t c (ra_j52 (Or.inl rfl) h)
  · rw [if_neg c] at h; exact br_f c (ra_j52 (Or.inr rfl) h)
theorem i_vc0 (k0 : Int32) (k1 : Int32) (k2 : Int32) : wpX_init (fun u => wpY_init (fun v => i_Rel 3 u v) k0 k1 k2) k0 k1 k2 := by
  refine ra_initX (ra_initY ?_)
  obtain ⟨W, h1, h2, e⟩ := ra_cwN k1
  rw [e]
  refine ra_in (T := 0) (S := fun _ => 1) (R := fun _ => 4) ⟨h1, h2, by decide, fun a ha => ?_, fun a ha => ?_, fun _ => ⟨rfl, 0, by decide, rfl⟩, fun t h1 h2 => by omega⟩ (ra_XR0_of ⟨rfl, rfl, rfl, rfl, rfl, fun a _ => ⟨rfl, rfl, rfl⟩⟩)
  · have hz : a = 0 ∨ a = 1 := by omega
    rcases hz with rfl | rfl
    · exact ⟨rfl, by decide, by decide⟩
    · exact ⟨rfl, by decide, by decide⟩
  · have hz : a = 0 ∨ a = 1 := by omega
    rcases hz with rfl | rfl
    · exact ⟨rfl, by decide⟩
    · exact ⟨rfl, by decide⟩

/-! shape -/
def ra_E (p x3 x4 x5 x6 ti : Int32) : Prop := (p = 0 ∨ p = 1) ∧ ¬ x3 < 1 ∧ ¬ 4 < x3 ∧ ¬ 3 < x4 ∧ ¬ 3 < x5 ∧ ¬ x6 < 1 ∧ ¬ 8 < x6 ∧ ti ≤ 0
theorem ra_vin {p : Int32} (h : p = 0 ∨ p = 1) : vp_in p 2 := by
  rcases h with rfl | rfl
  · exact ra_in0
  · exact ra_in1
section
variable {post : Int32 → SX → Prop} {cx wd hb ti wh fi uk ms sc lv : Int32} {re sp ru tl rm si ki su lo hi la rc ke : Nat → Int32} {p q x3 x4 x5 x6 z0 : Int32}
theorem ra_56 (h0 : ¬ ((p = 0 ∨ p = 1) ∧ ¬ z0 = 0 ∧ ¬ 3 < x4 ∧ ¬ 3 < x5 ∧ ti ≤ 0) → post 0 (cx, wd, hb, ti, wh, fi, uk, ms, sc, lv, re, sp, ru, tl, rm, si, ki, su, lo, hi, la, rc, ke)) (h1 : ((p = 0 ∨ p = 1) ∧ ¬ z0 = 0 ∧ ¬ 3 < x4 ∧ ¬ 3 < x5 ∧ ti ≤ 0) → post 1 (cx, wd, hb, ti, wh, fi, uk, ms, sc, lv, re, upd sp p.toNatClampNeg (vp_nar .byte x3.toInt8.toInt32), upd ru p.toNatClampNeg (vp_nar .byte x4.toInt8.toInt32), upd tl p.toNatClampNeg (vp_nar .byte x5.toInt8.toInt32), upd rm p.toNatClampNeg (vp_nar .byte x6.toInt8.toInt32), si, ki, su, lo, hi, la, rc, ke)) : wX_shape_56 post p x3 x4 x5 x6 z0 cx wd hb ti wh fi uk ms sc lv re sp ru tl rm si ki su lo hi la rc ke := by
  unfold wX_shape_56
  by_cases hp : p = 0 ∨ p = 1
  · have K : ∀ {P : Int32 → Prop}, P 1 → wpX_isArchive P p := by
      intro P hP
      obtain ⟨a, ha, rfl⟩ := ra_arc hp
      exact ra_isA ha hP
    have hin := ra_vin hp
    refine K (br_f (by decide) (br_c (fun c => h0 fun z => z.2.1 c) fun c => br_c (fun d => h0 fun z => z.2.2.1 d) fun d => br_c (fun e => h0 fun z => z.2.2.2.1 e) fun e => br_c (fun f => ?_) (fun f => h0 fun z => f z.2.2.2.2)))
    exact ⟨hin, nm_e ⟨hin, nm_e ⟨hin, nm_e ⟨hin, nm_e (h1 ⟨hp, c, d, e, f⟩)⟩⟩⟩⟩
  · exact ra_nA hp (br_t rfl (h0 fun z => hp z.1))
theorem ra_shapeX (e3 : q &&& 7 = x3) (e4 : (q >>> ((3 : Int32) &&& 31)) &&& 7 = x4) (e5 : (q >>> ((6 : Int32) &&& 31)) &&& 7 = x5) (e6 : q >>> ((9 : Int32) &&& 31) = x6) (h0 : ¬ ra_E p x3 x4 x5 x6 ti → post 0 (cx, wd, hb, ti, wh, fi, uk, ms, sc, lv, re, sp, ru, tl, rm, si, ki, su, lo, hi, la, rc, ke)) (h1 : ra_E p x3 x4 x5 x6 ti → post 1 (cx, wd, hb, ti, wh, fi, uk, ms, sc, lv, re, upd sp p.toNatClampNeg (vp_nar .byte x3.toInt8.toInt32), upd ru p.toNatClampNeg (vp_nar .byte x4.toInt8.toInt32), upd tl p.toNatClampNeg (vp_nar .byte x5.toInt8.toInt32), upd rm p.toNatClampNeg (vp_nar .byte x6.toInt8.toInt32), si, ki, su, lo, hi, la, rc, ke)) : wpX_shape post (cx, wd, hb, ti, wh, fi, uk, ms, sc, lv, re, sp, ru, tl, rm, si, ki, su, lo, hi, la, rc, ke) p q := by
  unfold wpX_shape
  refine nm_r e3 (nm_r e4 (nm_r e5 (nm_r e6 ?_)))
  have N : ¬ (¬ x3 < 1 ∧ ¬ 4 < x3 ∧ ¬ x6 < 1 ∧ ¬ 8 < x6) → wX_shape_55 post p x3 x4 x5 x6 cx wd hb ti wh fi uk ms sc lv re sp ru tl rm si ki su lo hi la rc ke := by
    intro n
    unfold wX_shape_55
    exact ra_56 (fun _ => h0 (fun E => n ⟨E.2.1, E.2.2.1, E.2.2.2.2.2.1, E.2.2.2.2.2.2.1⟩)) (fun z => absurd rfl z.2.1)
  exact br_c (fun c => N fun z => z.1 c) fun c => br_c (fun d => N fun z => z.2.1 d) fun d => br_c (fun e => N fun z => z.2.2.1 e) fun e => br_c (fun f => N fun z => z.2.2.2 f) fun f => ra_56 (fun n => h0 fun E => n ⟨E.1, by decide, E.2.2.2.1, E.2.2.2.2.1, E.2.2.2.2.2.2.2⟩) (fun z => h1 ⟨z.1, c, d, z.2.2.1, z.2.2.2.1, e, f, z.2.2.2.2⟩)
end
section
variable {post : Int32 → SY → Prop} {cx wd hb ti st : Int32} {sp ru tl rm b : Nat → Int32} {p q x3 x4 x5 x6 : Int32}
theorem ra_37 (hp : p = 0 ∨ p = 1) (h0 : ¬ ra_E p x3 x4 x5 x6 ti → post 0 (cx, wd, hb, ti, st, sp, ru, tl, rm, b)) (h1 : ra_E p x3 x4 x5 x6 ti → post 1 (cx, wd, hb, ti, st, upd sp p.toNatClampNeg x3, upd ru p.toNatClampNeg x4, upd tl p.toNatClampNeg x5, upd rm p.toNatClampNeg x6, b)) : wY_shape_37 post p x3 x4 x5 x6 cx wd hb ti st sp ru tl rm b := by
  have hin := ra_vin hp
  unfold wY_shape_37
  refine br_c (fun c => h0 fun E => (Int32.not_lt.mpr E.2.2.2.2.2.2.2) c) fun c => br_c (fun d => h0 fun E => E.2.1 d) fun d => br_c (fun e => h0 fun E => E.2.2.1 e) fun e => br_c (fun f => h0 fun E => E.2.2.2.1 f) fun f => br_c (fun g => h0 fun E => E.2.2.2.2.1 g) fun g => br_c (fun i => h0 fun E => E.2.2.2.2.2.1 i) fun i => br_c (fun j => ?_) (fun j => h0 fun E => j (Int32.not_lt.mp E.2.2.2.2.2.2.1))
  exact ⟨hin, nm_e ⟨hin, nm_e ⟨hin, nm_e ⟨hin, nm_e (h1 ⟨hp, d, e, f, g, i, Int32.not_lt.mpr j, Int32.not_lt.mp c⟩)⟩⟩⟩⟩
theorem ra_shapeY (e3 : q &&& 7 = x3) (e4 : (q >>> ((3 : Int32) &&& 31)) &&& 7 = x4) (e5 : (q >>> ((6 : Int32) &&& 31)) &&& 7 = x5) (e6 : q >>> ((9 : Int32) &&& 31) = x6) (h0 : ¬ ra_E p x3 x4 x5 x6 ti → post 0 (cx, wd, hb, ti, st, sp, ru, tl, rm, b)) (h1 : ra_E p x3 x4 x5 x6 ti → post 1 (cx, wd, hb, ti, st, upd sp p.toNatClampNeg x3, upd ru p.toNatClampNeg x4, upd tl p.toNatClampNeg x5, upd rm p.toNatClampNeg x6, b)) : wpY_shape post (cx, wd, hb, ti, st, sp, ru, tl, rm, b) p q := by
  unfold wpY_shape
  refine nm_r e3 (nm_r e4 (nm_r e5 (nm_r e6 ?_)))
  exact br_c (fun c => ra_37 (Or.inl c) h0 h1) fun c => br_c (fun d => ra_37 (Or.inr d) h0 h1) fun d => h0 fun E => E.1.elim c d
end
theorem i_vc_shape {k : Nat} {u : SX} {v : SY} (I : i_Rel k u v) (hk : k + 3 ≤ 1539) (v1 : Int32) (v2 : Int32) : wpX_shape (fun r u' => wpY_shape (fun r' v' => r' = r ∧ i_Rel (k + 3) u' v') v v1 v2) u v1 v2 := by
  refine ra_el (P := fun u v => wpX_shape (fun r u' => wpY_shape (fun r' v' => r' = r ∧ i_Rel (k + 3) u' v') v v1 v2) u v1 v2) ?_ I
  intro W T S R cx hb wh fi uk ms sc lv st re sp ru tl rm si ki su lo hi la rc ke b hF hX
  obtain ⟨s, hs, e3⟩ := pk_andE v2 (m := 7) 3 (by decide)
  obtain ⟨r, hr, e4⟩ := pk_andE (v2 >>> ((3 : Int32) &&& 31)) (m := 7) 3 (by decide)
  obtain ⟨t, ht, e5⟩ := pk_andE (v2 >>> ((6 : Int32) &&& 31)) (m := 7) 3 (by decide)
  refine ra_shapeX e3 e4 e5 rfl (fun n => ra_shapeY e3 e4 e5 rfl (fun _ => ⟨rfl, ra_in hF hX⟩) (fun E => absurd E n)) (fun E => ra_shapeY e3 e4 e5 rfl (fun n => absurd E n) (fun _ => ⟨rfl, ?_⟩))
  obtain ⟨hp, a1, a2, a3, a4, a5, a6, a7⟩ := E
  obtain ⟨hW, hW6, hT, hS, hR, hc, hB⟩ := hF
  obtain ⟨a, ha, rfl⟩ := ra_arc hp
  have hT0 : T = 0 := by
    have z : nI T ≤ nI 0 := a7
    rw [nI_leI (by omega) (by decide)] at z
    omega
  subst hT0
  have s1 : 1 ≤ s := by
    have z : ¬ nI s < nI 1 := a1
    rw [nI_ltI (by omega) (by decide)] at z
    omega
  have s4 : s ≤ 4 := by
    have z : ¬ nI 4 < nI s := a2
    rw [nI_ltI (by decide) (by omega)] at z
    omega
  have n0 : ¬ v2 >>> ((9 : Int32) &&& 31) < 0 := Int32.not_lt.mpr (Int32.le_trans (by decide) (Int32.not_lt.mp a5))
  obtain ⟨n, hn, e6⟩ := nI_of2 (M := 8) (n := 8) (by decide) n0 (Int32.not_lt.mp a6)
  rw [nI_clamp (show a < 2 ^ 31 by omega), e6, ra_v8 (show s < 16 by omega), ra_v8 (show r < 16 by omega), ra_v8 (show t < 16 by omega), ra_v8 (show n < 16 by omega)]
  refine ra_in (S := fun j => if j = a then s else S j) (R := fun j => if j = a then n else R j) ⟨hW, hW6, hT, fun j hj => ?_, fun j hj => ?_, hc, hB⟩ (ra_XR0_of (ra_XR0_to hX))
  · dsimp only
    by_cases e : j = a
    · rw [if_pos e, e, pk_us]; exact ⟨rfl, s1, s4⟩
    · rw [if_neg e, pk_un e]; exact hS j hj
  · dsimp only
    by_cases e : j = a
    · rw [if_pos e, e, pk_us]; exact ⟨rfl, hn⟩
    · rw [if_neg e, pk_un e]; exact hR j hj
end
section
/-! the owed readers -/
section
variable {cx wh st fi uk ms sc lv : Int32} {re sp ru tl rm si ki su lo hi la rc ke b : Nat → Int32} {W T a : Nat} {S R : Nat → Nat}
theorem ra_kf (hF : ra_F W T S R cx wh st sp rm b) (hX : ra_XR W T b S tl ru fi uk ms sc lv re si ki su lo hi la rc ke) (ha : a < 2) : rc a = nI (T / W / S a) ∧ T / W / S a < 2 ^ 20 ∧ (∀ r, r < T / W / S a → T / W / S a ≤ r + R a → ke (a * 8 + r % 8) = ra_rw (ra_st b W) (S a) (T / W / S a) (R a) (tl a) (ru a) r ∧ ra_ok (ra_rw (ra_st b W) (S a) (T / W / S a) (R a) (tl a) (ru a) r)) ∧ (∀ r, ¬ T / W / S a ≤ r + R a → ra_rw (ra_st b W) (S a) (T / W / S a) (R a) (tl a) (ru a) r = -200000) := by
  obtain ⟨hW, hW6, hT, hS, hR, hc, hB⟩ := hF
  obtain ⟨_, _, _, _, _, _, hA⟩ := hX
  obtain ⟨_, _, _, hrc, hke⟩ := hA a ha
  obtain ⟨_, s1, s4⟩ := hS a ha
  obtain ⟨_, r8⟩ := hR a ha
  have h5 : T / W / S a ≤ T / W := Nat.div_le_self _ _
  have h6 : T / W ≤ T := Nat.div_le_self _ _
  refine ⟨hrc, by omega, fun r hr hq => ?_, fun r hq => if_neg hq⟩
  have e : ra_rw (ra_st b W) (S a) (T / W / S a) (R a) (tl a) (ru a) r = ra_rv (ra_st b W) (S a) (tl a) (ru a) r := if_pos hq
  rw [e]
  refine ⟨hke r hr (by omega), ra_rvB (by omega) (fun i hi => ra_stB hW hW6 (fun j hj => hB _ (by omega) ?_))⟩
  have h1 : (r + 1) * S a ≤ T / W / S a * S a := Nat.mul_le_mul_right _ hr
  have h2 : T / W / S a * S a ≤ T / W := Nat.div_mul_le_self _ _
  have h3 : (r + 1) * S a = r * S a + S a := Nat.succ_mul _ _
  have h4 : (r * S a + i + 1) * W ≤ T / W * W := Nat.mul_le_mul_right _ (by omega)
  have h7 : T / W * W ≤ T := Nat.div_mul_le_self _ _
  have h8 : (r * S a + i + 1) * W = (r * S a + i) * W + W := Nat.succ_mul _ _
  omega
end
theorem i_vc_lastTime {k : Nat} {u : SX} {v : SY} (I : i_Rel k u v) (hk : k + 3 ≤ 1539) : wpX_lastTime (fun r => wpY_lastTime (fun r' => r' = r ∧ i_Rel (k + 3) u v) v) u := by
  refine ra_el (P := fun u v => wpX_lastTime (fun r => wpY_lastTime (fun r' => r' = r ∧ i_Rel (k + 3) u v) v) u) ?_ I
  intro W T S R cx hb wh fi uk ms sc lv st re sp ru tl rm si ki su lo hi la rc ke b hF hX
  exact And.intro rfl (ra_in hF hX)
theorem i_vc_moment {k : Nat} {u : SX} {v : SY} (I : i_Rel k u v) (hk : k + 3 ≤ 1539) (v1 : Int32) : wpX_moment (fun r => wpY_moment (fun r' => r' = r ∧ i_Rel (k + 3) u v) v v1) u v1 := by
  refine ra_el (P := fun u v => wpX_moment (fun r => wpY_moment (fun r' => r' = r ∧ i_Rel (k + 3) u v) v v1) u v1) ?_ I
  intro W T S R cx hb wh fi uk ms sc lv st re sp ru tl rm si ki su lo hi la rc ke b hF hX
  have J : i_Rel (k + 3) (cx, nI W, hb, nI T, wh, fi, uk, ms, sc, lv, re, sp, ru, tl, rm, si, ki, su, lo, hi, la, rc, ke) (cx, nI W, hb, nI T, st, sp, ru, tl, rm, b) := ra_in hF hX
  obtain ⟨hW, hW6, hT, hS, hR, hc, hB⟩ := hF
  obtain ⟨_, _, _, _, _, hre, _⟩ := hX
  unfold wpX_moment wpY_moment
  dsimp only
  by_cases c1 : v1 < 1
  · exact br_t c1 (br_t c1 ⟨rfl, J⟩)
  · refine br_f c1 ?_
    have c0 : ¬ v1 < 0 := Int32.not_lt.mpr (Int32.le_trans (by decide) (Int32.not_lt.mp c1))
    obtain ⟨t, ht, rfl⟩ := nI_of c0
    have t1 : 1 ≤ t := by
      have z : ¬ nI t < nI 1 := c1
      rw [nI_ltI ht (by decide)] at z
      omega
    by_cases c2 : nI T < nI t
    · exact br_t c2 (br_f c1 (br_t c2 ⟨rfl, J⟩))
    · refine br_f c2 ?_
      have tT : t ≤ T := by
        rw [nI_ltI (by omega) ht] at c2
        omega
      have l1 : nI T - 30 ≤ nI t ↔ T ≤ t + 30 := ra_subLe (R := 30) (by omega) (by omega) (by omega)
      have l2 : nI T - nI t ≤ 30 ↔ T ≤ t + 30 := by
        rw [pk_sub tT]
        refine (nI_leI (b := 30) (by omega) (by decide)).trans ?_
        omega
      rw [l1, l2, ra_and31 (show t < 2 ^ 31 by omega), nI_clamp (show t % 32 < 2 ^ 31 by omega), nI_clamp (show t < 2 ^ 31 by omega)]
      by_cases c3 : T ≤ t + 30
      · refine br_t c3 ⟨vp_in_nI (by omega) (by decide), br_f c1 (br_f c2 (br_t c3 ⟨vp_in_nI (by omega) (by decide), ?_, J⟩))⟩
        exact (hre t t1 tT (by omega)).symm
      · exact br_f c3 (br_f c1 (br_f c2 (br_f c3 ⟨rfl, J⟩)))
theorem i_vc_steps {k : Nat} {u : SX} {v : SY} (I : i_Rel k u v) (hk : k + 3 ≤ 1539) : wpX_steps (fun r => wpY_steps (fun r' => r' = r ∧ i_Rel (k + 3) u v) v) u := by
  refine ra_el (P := fun u v => wpX_steps (fun r => wpY_steps (fun r' => r' = r ∧ i_Rel (k + 3) u v) v) u) ?_ I
  intro W T S R cx hb wh fi uk ms sc lv st re sp ru tl rm si ki su lo hi la rc ke b hF hX
  have J : i_Rel (k + 3) (cx, nI W, hb, nI T, wh, fi, uk, ms, sc, lv, re, sp, ru, tl, rm, si, ki, su, lo, hi, la, rc, ke) (cx, nI W, hb, nI T, st, sp, ru, tl, rm, b) := ra_in hF hX
  obtain ⟨hW, hW6, hT, _⟩ := hF
  obtain ⟨_, _, _, hsc, _⟩ := hX
  unfold wpX_steps wpY_steps
  dsimp only
  refine ⟨nI_ne0 hW (by omega), ?_, J⟩
  rw [hsc]
  exact pk_div (by omega) hW (by omega)
theorem i_vc_lastStep {k : Nat} {u : SX} {v : SY} (I : i_Rel k u v) (hk : k + 3 ≤ 1539) : wpX_lastStep (fun r => wpY_lastStep (fun r' => r' = r ∧ i_Rel (k + 3) u v) v) u := by
  refine ra_el (P := fun u v => wpX_lastStep (fun r => wpY_lastStep (fun r' => r' = r ∧ i_Rel (k + 3) u v) v) u) ?_ I
  intro W T S R cx hb wh fi uk ms sc lv st re sp ru tl rm si ki su lo hi la rc ke b hF hX
  have J : i_Rel (k + 3) (cx, nI W, hb, nI T, wh, fi, uk, ms, sc, lv, re, sp, ru, tl, rm, si, ki, su, lo, hi, la, rc, ke) (cx, nI W, hb, nI T, st, sp, ru, tl, rm, b) := ra_in hF hX
  obtain ⟨hW, hW6, hT, _⟩ := hF
  obtain ⟨_, _, _, _, hlv, _⟩ := hX
  have h6 : T / W ≤ T := Nat.div_le_self _ _
  have h7 : T / W * W ≤ T := Nat.div_mul_le_self _ _
  unfold wpX_lastStep wpY_lastStep wpY_steps
  dsimp only
  refine ⟨nI_ne0 hW (by omega), ?_⟩
  rw [pk_div (show T < 2 ^ 31 by omega) hW (by omega)]
  by_cases c : T / W = 0
  · rw [if_pos c] at hlv
    exact br_t (by rw [c]; exact nI_0) ⟨hlv.symm, J⟩
  · rw [if_neg c] at hlv
    have hp : 0 < T / W := Nat.pos_of_ne_zero c
    refine br_f (nI_ne0 hp (by omega)) ?_
    have e : nI (T / W) - 1 = nI (T / W - 1) := pk_sub (b := 1) (by omega)
    rw [e]
    exact ra_step hW hW6 (by rw [show T / W - 1 + 1 = T / W by omega]; omega) ⟨hlv.symm, J⟩
theorem i_vc_rows {k : Nat} {u : SX} {v : SY} (I : i_Rel k u v) (hk : k + 3 ≤ 1539) (v1 : Int32) : wpX_rows (fun r => wpY_rows (fun r' => r' = r ∧ i_Rel (k + 3) u v) v v1) u v1 := by
  refine ra_el (P := fun u v => wpX_rows (fun r => wpY_rows (fun r' => r' = r ∧ i_Rel (k + 3) u v) v v1) u v1) ?_ I
  intro W T S R cx hb wh fi uk ms sc lv st re sp ru tl rm si ki su lo hi la rc ke b hF hX
  have J : i_Rel (k + 3) (cx, nI W, hb, nI T, wh, fi, uk, ms, sc, lv, re, sp, ru, tl, rm, si, ki, su, lo, hi, la, rc, ke) (cx, nI W, hb, nI T, st, sp, ru, tl, rm, b) := ra_in hF hX
  unfold wpX_rows
  dsimp only
  by_cases hp : v1 = 0 ∨ v1 = 1
  · obtain ⟨a, ha, rfl⟩ := ra_arc hp
    obtain ⟨hrc, _⟩ := ra_kf hF hX ha
    obtain ⟨hW, hW6, hT, hS, _⟩ := hF
    obtain ⟨s0, s1, s4⟩ := hS a ha
    refine ra_isA ha (br_f (by decide) ⟨vp_in_nI ha (by decide), ra_rowsY ha s0 s1 s4 hW hW6 hT ⟨?_, J⟩⟩)
    rw [nI_clamp (show a < 2 ^ 31 by omega)]
    exact hrc.symm
  · exact ra_nA hp (br_t rfl (ra_rowsN hp ⟨rfl, J⟩))
theorem i_vc_row {k : Nat} {u : SX} {v : SY} (I : i_Rel k u v) (hk : k + 3 ≤ 1539) (v1 : Int32) (v2 : Int32) : wpX_row (fun r => wpY_row (fun r' => r' = r ∧ i_Rel (k + 3) u v) v v1 v2) u v1 v2 := by
  refine ra_el (P := fun u v => wpX_row (fun r => wpY_row (fun r' => r' = r ∧ i_Rel (k + 3) u v) v v1 v2) u v1 v2) ?_ I
  intro W T S R cx hb wh fi uk ms sc lv st re sp ru tl rm si ki su lo hi la rc ke b hF hX
  have J : i_Rel (k + 3) (cx, nI W, hb, nI T, wh, fi, uk, ms, sc, lv, re, sp, ru, tl, rm, si, ki, su, lo, hi, la, rc, ke) (cx, nI W, hb, nI T, st, sp, ru, tl, rm, b) := ra_in hF hX
  by_cases hp : v1 = 0 ∨ v1 = 1
  · obtain ⟨a, ha, rfl⟩ := ra_arc hp
    obtain ⟨hrc, hN, hG, hG2⟩ := ra_kf hF hX ha
    obtain ⟨hW, hW6, hT, hS, hR, _⟩ := hF
    obtain ⟨s0, s1, s4⟩ := hS a ha
    obtain ⟨r0, r8⟩ := hR a ha
    by_cases c1 : v2 < 0
    · exact ra_rowXno ha hrc (Or.inl c1) (ra_rowYno ha s0 s1 s4 hW hW6 hT (Or.inl c1) ⟨rfl, J⟩)
    · obtain ⟨r, hr, rfl⟩ := nI_of c1
      by_cases c2 : r < T / W / S a
      · exact ra_rowX (G := ra_rw (ra_st b W) (S a) (T / W / S a) (R a) (tl a) (ru a)) ha hrc r0 r8 hN c2 (fun q => (hG r c2 q).1) (fun q => hG2 r q) (ra_rowY ha s0 s1 s4 r0 r8 hW hW6 hT c2 ⟨rfl, J⟩)
      · have c3 : nI (T / W / S a) ≤ nI r := nI_le (by omega) hr
        exact ra_rowXno ha hrc (Or.inr c3) (ra_rowYno ha s0 s1 s4 hW hW6 hT (Or.inr c3) ⟨rfl, J⟩)
  · exact ra_rowXna hp (ra_rowYna hp ⟨rfl, J⟩)
theorem i_vc_peak {k : Nat} {u : SX} {v : SY} (I : i_Rel k u v) (hk : k + 3 ≤ 1539) (v1 : Int32) : wpX_peak (fun r => wpY_peak (fun r' => r' = r ∧ i_Rel (k + 3) u v) v v1) u v1 := by
  refine ra_el (P := fun u v => wpX_peak (fun r => wpY_peak (fun r' => r' = r ∧ i_Rel (k + 3) u v) v v1) u v1) ?_ I
  intro W T S R cx hb wh fi uk ms sc lv st re sp ru tl rm si ki su lo hi la rc ke b hF hX
  have J : i_Rel (k + 3) (cx, nI W, hb, nI T, wh, fi, uk, ms, sc, lv, re, sp, ru, tl, rm, si, ki, su, lo, hi, la, rc, ke) (cx, nI W, hb, nI T, st, sp, ru, tl, rm, b) := ra_in hF hX
  unfold wpX_peak
  dsimp only
  by_cases hp : v1 = 0 ∨ v1 = 1
  · obtain ⟨a, ha, rfl⟩ := ra_arc hp
    obtain ⟨hrc, hN, hG, hG2⟩ := ra_kf hF hX ha
    obtain ⟨hW, hW6, hT, hS, hR, _⟩ := hF
    obtain ⟨s0, s1, s4⟩ := hS a ha
    obtain ⟨r0, r8⟩ := hR a ha
    have hz0 : 0 ≤ T / W / S a := Nat.zero_le _
    have hlow := (ra_lowG (G := ra_rw (ra_st b W) (S a) (T / W / S a) (R a) (tl a) (ru a)) (m := T / W / S a - R a) (fun i hi => hG2 i (by omega)) _ (Nat.le_refl _)).1
    refine ra_isA ha (br_f (by decide) (ra_firstKept ha hrc r0 r8 hN ?_))
    refine ⟨T / W / S a - (T / W / S a - R a) + 1, ?_⟩
    rw [← hlow]
    refine ra_peakX (R := R a) ha hrc hN (fun r h1 h2 => (hG r h1 h2).1) ?_ _ _ (by omega) (by omega)
    have K : wY_peak_12 (fun r' => r' = ra_bt (ra_rw (ra_st b W) (S a) (T / W / S a) (R a) (tl a) (ru a)) (T / W / S a) ∧ i_Rel (k + 3) (cx, nI W, hb, nI T, wh, fi, uk, ms, sc, lv, re, sp, ru, tl, rm, si, ki, su, lo, hi, la, rc, ke) (cx, nI W, hb, nI T, st, sp, ru, tl, rm, b)) (nI a) cx (nI W) hb (nI T) st sp ru tl rm b := by
      unfold wY_peak_12
      refine ra_rowsY ha s0 s1 s4 hW hW6 hT ⟨T / W / S a + 1, ?_⟩
      exact ra_peakY (G := ra_rw (ra_st b W) (S a) (T / W / S a) (R a) (tl a) (ru a)) hN (fun q r h1 h2 => ra_rowY ha s0 s1 s4 r0 r8 hW hW6 hT h1 h2) ⟨rfl, J⟩ (T / W / S a) 0 (by omega)
    unfold wpY_peak
    dsimp only
    exact br_c (fun _ => K) fun c => br_c (fun _ => K) fun d => absurd hp (fun z => z.elim c d)
  · refine ra_nA hp (br_t rfl ?_)
    unfold wpY_peak
    dsimp only
    exact br_f (fun z => hp (Or.inl z)) (br_f (fun z => hp (Or.inr z)) ⟨rfl, J⟩)
theorem i_vc_known {k : Nat} {u : SX} {v : SY} (I : i_Rel k u v) (hk : k + 3 ≤ 1539) (v1 : Int32) : wpX_known (fun r => wpY_known (fun r' => r' = r ∧ i_Rel (k + 3) u v) v v1) u v1 := by
  refine ra_el (P := fun u v => wpX_known (fun r => wpY_known (fun r' => r' = r ∧ i_Rel (k + 3) u v) v v1) u v1) ?_ I
  intro W T S R cx hb wh fi uk ms sc lv st re sp ru tl rm si ki su lo hi la rc ke b hF hX
  have J : i_Rel (k + 3) (cx, nI W, hb, nI T, wh, fi, uk, ms, sc, lv, re, sp, ru, tl, rm, si, ki, su, lo, hi, la, rc, ke) (cx, nI W, hb, nI T, st, sp, ru, tl, rm, b) := ra_in hF hX
  unfold wpX_known
  dsimp only
  by_cases hp : v1 = 0 ∨ v1 = 1
  · obtain ⟨a, ha, rfl⟩ := ra_arc hp
    obtain ⟨hrc, hN, hG, hG2⟩ := ra_kf hF hX ha
    obtain ⟨hW, hW6, hT, hS, hR, _⟩ := hF
    obtain ⟨s0, s1, s4⟩ := hS a ha
    obtain ⟨r0, r8⟩ := hR a ha
    have hz0 : 0 ≤ T / W / S a := Nat.zero_le _
    have hlow := (ra_lowG (G := ra_rw (ra_st b W) (S a) (T / W / S a) (R a) (tl a) (ru a)) (m := T / W / S a - R a) (fun i hi => hG2 i (by omega)) _ (Nat.le_refl _)).2
    have hlow2 : (0 : Int32) = nI (ra_kc (ra_rw (ra_st b W) (S a) (T / W / S a) (R a) (tl a) (ru a)) (T / W / S a - R a)) := by
      rw [hlow]; exact nI_0.symm
    refine ra_isA ha (br_f (by decide) (ra_firstKept ha hrc r0 r8 hN ?_))
    refine ⟨T / W / S a - (T / W / S a - R a) + 1, ?_⟩
    rw [hlow2]
    refine ra_knownX (R := R a) ha hrc hN hG ?_ _ _ (by omega) (by omega)
    unfold wpY_known
    dsimp only
    refine ra_rowsY ha s0 s1 s4 hW hW6 hT ⟨T / W / S a + 1, ?_⟩
    exact ra_knownY (G := ra_rw (ra_st b W) (S a) (T / W / S a) (R a) (tl a) (ru a)) hN (fun q r h1 h2 => ra_rowY ha s0 s1 s4 r0 r8 hW hW6 hT h1 h2) ⟨rfl, J⟩ (T / W / S a) 0 (by omega)
  · refine ra_nA hp (br_t rfl ?_)
    unfold wpY_known
    dsimp only
    refine ra_rowsN hp ⟨0 + 1, ?_⟩
    rw [wY_known_11]
    exact br_t (by decide) ⟨rfl, J⟩
theorem i_vc_pending {k : Nat} {u : SX} {v : SY} (I : i_Rel k u v) (hk : k + 3 ≤ 1539) : wpX_pending (fun r => wpY_pending (fun r' => r' = r ∧ i_Rel (k + 3) u v) v) u := by
  refine ra_el (P := fun u v => wpX_pending (fun r => wpY_pending (fun r' => r' = r ∧ i_Rel (k + 3) u v) v) u) ?_ I
  intro W T S R cx hb wh fi uk ms sc lv st re sp ru tl rm si ki su lo hi la rc ke b hF hX
  have J : i_Rel (k + 3) (cx, nI W, hb, nI T, wh, fi, uk, ms, sc, lv, re, sp, ru, tl, rm, si, ki, su, lo, hi, la, rc, ke) (cx, nI W, hb, nI T, st, sp, ru, tl, rm, b) := ra_in hF hX
  obtain ⟨hW, hW6, hT, _⟩ := hF
  obtain ⟨hfi, _⟩ := hX
  unfold wpX_pending wpY_pending
  dsimp only
  refine ⟨nI_ne0 hW (by omega), ?_, J⟩
  rw [hfi]
  exact pk_rem (by omega) hW (by omega)
theorem i_vc_pendingSum {k : Nat} {u : SX} {v : SY} (I : i_Rel k u v) (hk : k + 3 ≤ 1539) : wpX_pendingSum (fun r => wpY_pendingSum (fun r' => r' = r ∧ i_Rel (k + 3) u v) v) u := by
  refine ra_el (P := fun u v => wpX_pendingSum (fun r => wpY_pendingSum (fun r' => r' = r ∧ i_Rel (k + 3) u v) v) u) ?_ I
  intro W T S R cx hb wh fi uk ms sc lv st re sp ru tl rm si ki su lo hi la rc ke b hF hX
  have J : i_Rel (k + 3) (cx, nI W, hb, nI T, wh, fi, uk, ms, sc, lv, re, sp, ru, tl, rm, si, ki, su, lo, hi, la, rc, ke) (cx, nI W, hb, nI T, st, sp, ru, tl, rm, b) := ra_in hF hX
  obtain ⟨hW, hW6, hT, _⟩ := hF
  obtain ⟨_, _, hms, _⟩ := hX
  have hd := ra_dmE T W
  have e : nI T - (nI T - nI T / nI W * nI W) + 1 = nI (T / W * W + 1 + 0) := by
    rw [pk_rem (by omega) hW (by omega), pk_sub (Nat.mod_le _ _), nI_1]
    exact congrArg nI (by omega)
  unfold wpX_pendingSum wpY_pendingSum
  dsimp only
  refine ⟨nI_ne0 hW (by omega), nm_r e ⟨T % W + 1, ?_⟩⟩
  exact ra_psumY hW hT ⟨hms.symm, J⟩ (T % W) 0 (by omega)
end
