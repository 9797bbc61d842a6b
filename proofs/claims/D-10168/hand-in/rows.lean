section
/-! arrays of naturals, links -/
def tt_u (f : Nat → Nat) (k x : Nat) : Nat → Nat := fun j => if j = k then x else f j
theorem tt_us {f : Nat → Nat} {k x : Nat} : tt_u f k x k = x := if_pos rfl
theorem tt_un {f : Nat → Nat} {k j x : Nat} (h : j ≠ k) : tt_u f k x j = f j := if_neg h
/-- a link: 0 is none -/
def tt_en (m : Nat) : Int32 := if m = 0 then -1 else nI m
theorem tt_en0 : tt_en 0 = -1 := rfl
theorem tt_enS {m : Nat} (h : m ≠ 0) : tt_en m = nI m := if_neg h
theorem tt_m1 (x : Int32) : x + (-1) = x - 1 := (Int32.sub_eq_add_neg x 1).symm
theorem tt_neg1 : nI 0 - 1 < 0 := by decide
theorem tt_ix (m k : Nat) : nI m * 4 + nI k = nI (m * 4 + k) := by
  rw [show (4 : Int32) = nI 4 from rfl, pk_mul, nI_add]
theorem tt_ix0 (m : Nat) : nI m * 4 = nI (m * 4) := by
  rw [show (4 : Int32) = nI 4 from rfl, pk_mul]
/-! Int32 by its bits (out of the kit's rows to paste) -/
def tb_t (x : Int32) (i : Nat) : Bool := x.toBitVec.getLsbD i
theorem tb_ext {x y : Int32} (h : ∀ i, i < 32 → tb_t x i = tb_t y i) : x = y := Int32.toBitVec_inj.mp (BitVec.eq_of_getLsbD_eq (fun i hi => h i hi))
theorem tb_or (x y : Int32) (i : Nat) : tb_t (x ||| y) i = (tb_t x i || tb_t y i) := by unfold tb_t; rw [Int32.toBitVec_or, BitVec.getLsbD_or]
theorem tb_and (x y : Int32) (i : Nat) : tb_t (x &&& y) i = (tb_t x i && tb_t y i) := by unfold tb_t; rw [Int32.toBitVec_and, BitVec.getLsbD_and]
theorem tb_0 (i : Nat) : tb_t 0 i = false := BitVec.getLsbD_zero
theorem tb_sl : ∀ n, n < 32 → ((nI n &&& 31).toBitVec.smod 32).toNat = n := by decide +kernel
theorem tb_shl (n : Nat) (hn : n < 32) (x : Int32) {i : Nat} (hi : i < 32) : tb_t (x <<< (nI n &&& 31)) i = (decide (n ≤ i) && tb_t x (i - n)) := by
  unfold tb_t
  rw [Int32.toBitVec_shiftLeft]
  show (x.toBitVec <<< ((nI n &&& 31).toBitVec.smod 32).toNat).getLsbD i = _
  rw [tb_sl n hn, BitVec.getLsbD_shiftLeft]
  rcases Nat.lt_or_ge i n with h | h
  · simp [h, Nat.not_le.mpr h]
  · simp [hi, h, Nat.not_lt.mpr h]
theorem tb_sshr (n : Nat) (hn : n < 32) (x : Int32) {i : Nat} (hi : i < 32) : tb_t (x >>> (nI n &&& 31)) i = if n + i < 32 then tb_t x (n + i) else tb_t x 31 := by
  unfold tb_t
  rw [Int32.toBitVec_shiftRight]
  show (x.toBitVec.sshiftRight ((nI n &&& 31).toBitVec.smod 32).toNat).getLsbD i = _
  rw [tb_sl n hn, BitVec.getLsbD_sshiftRight, BitVec.msb_eq_getLsbD_last]
  simp [hi]
theorem tb_1 (i : Nat) : tb_t 1 i = decide (i = 0) := by
  rcases Nat.lt_or_ge i 32 with h | h
  · exact (by decide +kernel : ∀ i, i < 32 → tb_t 1 i = decide (i = 0)) i h
  · rw [show tb_t 1 i = false from BitVec.getLsbD_of_ge _ _ h, decide_eq_false (by omega)]
/-- one bit of an int, read -/
theorem tb_get (x : Int32) {i : Nat} (hi : i < 32) : ((x >>> (nI i &&& 31)) &&& 1) = 1 ↔ tb_t x i = true := by
  have h0 : tb_t ((x >>> (nI i &&& 31)) &&& 1) 0 = tb_t x i := by
    rw [tb_and, tb_sshr i hi x (by omega), tb_1]
    simp [hi]
  constructor
  · intro e
    rw [e] at h0
    rw [← h0]
    decide
  · intro e
    apply tb_ext
    intro j hj
    rw [tb_1]
    by_cases j0 : j = 0
    · rw [j0, h0, e]
      decide
    · rw [tb_and, tb_1]
      simp [j0]
/-- one bit of an int, set -/
theorem tb_set (x : Int32) {n i : Nat} (hn : n < 32) (hi : i < 32) : tb_t (x ||| ((1 : Int32) <<< (nI n &&& 31))) i = (tb_t x i || decide (i = n)) := by
  rw [tb_or, tb_shl n hn 1 hi, tb_1]
  congr 1
  rw [← Bool.decide_and]
  apply decide_eq_decide.mpr
  omega
/-! nibbles of a long -/
def tt_nb (x : Int64) (i : Nat) : Nat := x.toBitVec.toNat / 2 ^ (4 * i) % 16
theorem tt_nb_lt (x : Int64) (i : Nat) : tt_nb x i < 16 := Nat.mod_lt _ (by decide)
theorem tt_nb_bit (x : Int64) (i j : Nat) : (tt_nb x i).testBit j = (decide (j < 4) && x.toBitVec.getLsbD (4 * i + j)) := by
  unfold tt_nb
  rw [show (16 : Nat) = 2 ^ 4 from rfl, Nat.testBit_mod_two_pow, Nat.testBit_div_two_pow, Nat.add_comm j (4 * i)]
  rfl
theorem tt_wc : ∀ k, k < 64 → ((nI k).toInt64 &&& 63) = lN k := by decide +kernel
theorem tt_wsm : ∀ k, k < 64 → ((lN k).toBitVec.smod 64).toNat = k := by decide +kernel
theorem tt_15 : ∀ j, j < 64 → (15#64).getLsbD j = decide (j < 4) := by decide +kernel
theorem tt_4 (i : Nat) : (4 : Int32) * nI i = nI (4 * i) := pk_mul 4 i
theorem tt_nib (x : Int64) {i : Nat} (hi : i < 16) : ((x >>> ((4 * nI i).toInt64 &&& 63)) &&& 15).toInt32 = nI (tt_nb x i) := by
  rw [tt_4 i, tt_wc (4 * i) (by omega)]
  apply tb_ext
  intro j hj
  show ((x >>> lN (4 * i) &&& 15).toBitVec.signExtend 32).getLsbD j = (BitVec.ofNat 32 (tt_nb x i)).getLsbD j
  rw [BitVec.getLsbD_signExtend, if_pos (show j < 64 by omega), Int64.toBitVec_and, BitVec.getLsbD_and, Int64.toBitVec_shiftRight]
  show (decide (j < 32) && ((x.toBitVec.sshiftRight ((lN (4 * i)).toBitVec.smod 64).toNat).getLsbD j && (15#64).getLsbD j)) = _
  rw [tt_wsm (4 * i) (by omega), BitVec.getLsbD_sshiftRight, tt_15 j (by omega), BitVec.getLsbD_ofNat, tt_nb_bit]
  rcases Nat.lt_or_ge j 4 with h | h
  · rw [if_pos (show 4 * i + j < 64 by omega)]
    simp [hj, h, show ¬ 64 ≤ j by omega]
  · simp [show ¬ j < 4 by omega]
theorem tt_nb_or (x : Int64) {v n i : Nat} (hv : v < 16) (hn : n < 16) (hi : i < 16) (h0 : tt_nb x n = 0) :
    tt_nb (x ||| ((nI v).toInt64 <<< ((4 * nI n).toInt64 &&& 63))) i = if i = n then v else tt_nb x i := by
  rw [tt_4 n, tt_wc (4 * n) (by omega)]
  apply Nat.eq_of_testBit_eq
  intro j
  rw [tt_nb_bit, Int64.toBitVec_or, BitVec.getLsbD_or, Int64.toBitVec_shiftLeft]
  show (decide (j < 4) && (x.toBitVec.getLsbD (4 * i + j) || ((nI v).toInt64.toBitVec <<< ((lN (4 * n)).toBitVec.smod 64).toNat).getLsbD (4 * i + j))) = _
  rw [tt_wsm (4 * n) (by omega), BitVec.getLsbD_shiftLeft]
  have hvb : (nI v).toInt64.toBitVec = BitVec.ofNat 64 v := by rw [nI_l (by omega)]; rfl
  rw [hvb, BitVec.getLsbD_ofNat]
  rcases Nat.lt_or_ge j 4 with h | h
  · by_cases e : i = n
    · rw [if_pos e, e]
      have hz := tt_nb_bit x n j
      rw [h0, Nat.zero_testBit] at hz
      simp only [h, decide_true, Bool.true_and] at hz ⊢
      rw [← hz, show 4 * n + j - 4 * n = j by omega]
      simp [show 4 * n + j < 64 by omega, show ¬ 4 * n + j < 4 * n by omega, show j < 64 by omega]
    · rw [if_neg e, tt_nb_bit]
      rcases Nat.lt_or_ge i n with h2 | h2
      · simp [show 4 * i + j < 4 * n by omega]
      · have : v.testBit (4 * i + j - 4 * n) = false := Nat.testBit_lt_two_pow (Nat.lt_of_lt_of_le hv (Nat.pow_le_pow_right (n := 2) (i := 4) (by decide) (by omega)))
        simp [this]
  · by_cases e : i = n
    · rw [if_pos e]
      have : v.testBit j = false := Nat.testBit_lt_two_pow (Nat.lt_of_lt_of_le hv (Nat.pow_le_pow_right (n := 2) (i := 4) (by decide) (by omega)))
      simp [show ¬ j < 4 by omega, this]
    · rw [if_neg e, tt_nb_bit]
      simp [show ¬ j < 4 by omega]
theorem tt_nb_0 (i : Nat) : tt_nb 0 i = 0 := by
  show (0 : Int64).toBitVec.toNat / 2 ^ (4 * i) % 16 = 0
  rw [show (0 : Int64).toBitVec.toNat = 0 from rfl, Nat.zero_div]
end
section
/-! the methods as pure functions -/
def tt_C (hk C : Nat → Int32) (i : Nat) : Nat → Int32 := if hk i = 0 then C else upd C i (C i + 1)
def tt_T (hk : Nat → Int32) (T : Int32) (i : Nat) : Int32 := if hk i = 0 then T else T + 1
def tt_ws (r o : Int32) : Int32 := if r = 2 then 2 else if o = 2 then 2 else if r = 3 then 3 else if o = 3 then 3 else 1
/-- goDown: the first number is how many containers are still to come -/
def tt_gd (hk : Nat → Int32) (W : Nat → Nat) : Nat → Nat → Int32 → (Nat → Int32) → Int32 → Nat × Int32 × (Nat → Int32) × Int32
  | 0, d, s, C, T => (d, s, C, T)
  | n + 1, d, s, C, T => if s = 1 then tt_gd hk W n (d + 1) (tt_ws s (hk (W d * 4 + 2))) (tt_C hk C (W d * 4 + 2)) (tt_T hk T (W d * 4 + 2)) else (d, s, C, T)
def tt_up (hk : Nat → Int32) (W : Nat → Nat) : Nat → Int32 → (Nat → Int32) → Int32 → Int32 × (Nat → Int32) × Int32
  | 0, s, C, T => (s, C, T)
  | d + 1, s, C, T => tt_up hk W d (tt_ws s (hk (W d * 4 + 3))) (tt_C hk C (W d * 4 + 3)) (tt_T hk T (W d * 4 + 3))
def tt_bo (o : Int32) (k : Int32) : Int32 := if (o >>> ((2 * k) &&& 31)) &&& 3 = 0 then 1 else (o >>> ((2 * k) &&& 31)) &&& 3
def tt_a2 (hk oc : Nat → Int32) (W : Nat → Nat) (t k : Nat) (g : Nat × Int32 × (Nat → Int32) × Int32) : Int32 × (Nat → Int32) × Int32 :=
  if g.2.1 = 1 then tt_up hk W g.1 (tt_ws g.2.1 (tt_bo (oc t) (nI k))) (upd g.2.2.1 (t * 4) (g.2.2.1 (t * 4) + 1)) (g.2.2.2 + 1)
  else tt_up hk W g.1 g.2.1 g.2.2.1 g.2.2.2
def tt_at (hk oc : Nat → Int32) (W : Nat → Nat) (op t k : Nat) (C : Nat → Int32) (T : Int32) : Int32 × (Nat → Int32) × Int32 :=
  tt_a2 hk oc W t k (tt_gd hk W op 0 1 C T)
/-- runTest: the first number is how many attempts are left -/
def tt_rt (hk oc : Nat → Int32) (W : Nat → Nat) (op t : Nat) : Nat → Nat → Int32 → (Nat → Int32) → Int32 → Int32 × (Nat → Int32) × Int32
  | 0, _, r, C, T => (r, C, T)
  | n + 1, i, r, C, T => if r = 2 then tt_rt hk oc W op t n (i + 1) (tt_at hk oc W op t i C T).1 (tt_at hk oc W op t i C T).2.1 (tt_at hk oc W op t i C T).2.2 else (r, C, T)
/-- the walk: the first number is how many steps are left; m = 0: no next node -/
def tt_wk (F S : Nat → Nat) (ts hk tr oc tp : Nat → Int32) : Nat → Nat → Nat → (Nat → Nat) → (Nat → Int32) → (Nat → Int32) → Int32 → (Nat → Int32) × (Nat → Int32) × Int32
  | 0, _, _, _, R, C, T => (R, C, T)
  | k + 1, m, op, W, R, C, T =>
    if op = 0 then (R, C, T)
    else if m = 0 then tt_wk F S ts hk tr oc tp k (S (W (op - 1))) (op - 1) W (upd R (W (op - 1)) (tt_ws (R (W (op - 1))) (hk (W (op - 1) * 4 + 1)))) (tt_C hk C (W (op - 1) * 4 + 1)) (tt_T hk T (W (op - 1) * 4 + 1))
    else if tp m = 0 then tt_wk F S ts hk tr oc tp k (S m) op W R C T
    else if ts m = 0 then tt_wk F S ts hk tr oc tp k (if tt_ws 1 (hk (m * 4)) = 1 then F m else 0) (op + 1) (tt_u W op m) (upd R m (tt_ws 1 (hk (m * 4)))) (tt_C hk C (m * 4)) (tt_T hk T (m * 4))
    else tt_wk F S ts hk tr oc tp k (S m) op W (upd R m (tt_rt hk oc W op m (tr m).toNatClampNeg 0 2 C T).1) (tt_rt hk oc W op m (tr m).toNatClampNeg 0 2 C T).2.1 (tt_rt hk oc W op m (tr m).toNatClampNeg 0 2 C T).2.2
/-! who takes part -/
def tt_c1 (di : Nat → Int32) (P : Nat → Nat) : Nat → (Nat → Int32) → Nat → Int32
  | 0, a => a
  | k + 1, a => upd (tt_c1 di P k a) k (if di k = 0 then (if k = 0 then 1 else if tt_c1 di P k a (P k) = 0 then 0 else 1) else 0)
def tt_ct (S : Nat → Nat) (a : Nat → Int32) : Nat → Nat → Int32
  | 0, _ => 0
  | n + 1, c => if c = 0 then 0 else if a c = 0 then tt_ct S a n (S c) else 1
def tt_v (F S : Nat → Nat) (ts tg : Nat → Int32) (x : Int32) (a : Nat → Int32) (k : Nat) : Int32 :=
  if ts k = 0 then (if a k = 0 then 0 else if tt_ct S a 24 (F k) = 0 then 0 else 1) else (if a k = 0 then 0 else if tg k &&& x = 0 then 0 else 1)
def tt_c2 (F S : Nat → Nat) (ts tg : Nat → Int32) (x : Int32) : Nat → (Nat → Int32) → Nat → Int32
  | 0, a => a
  | k + 1, a => tt_c2 F S ts tg x k (upd a k (tt_v F S ts tg x a k))
def tt_tp (F S P : Nat → Nat) (ts tg di : Nat → Int32) (N : Nat) (x : Int32) : Nat → Int32 := tt_c2 F S ts tg x N (tt_c1 di P N (fun _ => 0))
/-- results, carried, total after a run -/
def tt_rn (F S P : Nat → Nat) (ts hk tr oc tg di : Nat → Int32) (N : Nat) (x : Int32) : (Nat → Int32) × (Nat → Int32) × Int32 :=
  if tt_tp F S P ts tg di N x 0 = 0 then ((fun _ => 0), (fun _ => 0), 0)
  else tt_wk F S ts hk tr oc (tt_tp F S P ts tg di N x) 64 (if tt_ws 1 (hk 0) = 1 then F 0 else 0) 1 (fun _ => 0) (upd (fun _ => 0) 0 (tt_ws 1 (hk 0))) (tt_C hk (fun _ => 0) 0) (tt_T hk 0 0)
/-! counts and sums -/
def tt_cn (ts R : Nat → Int32) (r : Int32) : Nat → Nat
  | 0 => 0
  | k + 1 => if ts k = 0 then tt_cn ts R r k else if R k = r then tt_cn ts R r k + 1 else tt_cn ts R r k
def tt_ra (ts R : Nat → Int32) : Nat → Nat
  | 0 => 0
  | k + 1 => if ts k = 0 then tt_ra ts R k else if R k = 0 then tt_ra ts R k else tt_ra ts R k + 1
def tt_sf (R : Nat → Int32) : Nat → Int32
  | 0 => 0
  | k + 1 => tt_sf R k * 5 + R k
def tt_sm (g : Nat → Nat) : Nat → Nat
  | 0 => 0
  | k + 1 => tt_sm g k + g k
/-! first facts -/
theorem tt_ws_in (r o : Int32) : tt_ws r o = 1 ∨ tt_ws r o = 2 ∨ tt_ws r o = 3 := by
  unfold tt_ws
  by_cases h1 : r = 2
  · rw [if_pos h1]; exact Or.inr (Or.inl rfl)
  · rw [if_neg h1]
    by_cases h2 : o = 2
    · rw [if_pos h2]; exact Or.inr (Or.inl rfl)
    · rw [if_neg h2]
      by_cases h3 : r = 3
      · rw [if_pos h3]; exact Or.inr (Or.inr rfl)
      · rw [if_neg h3]
        by_cases h4 : o = 3
        · rw [if_pos h4]; exact Or.inr (Or.inr rfl)
        · rw [if_neg h4]; exact Or.inl rfl
def tt_in (r : Int32) : Prop := r = 1 ∨ r = 2 ∨ r = 3
theorem tt_in0 {r : Int32} (h : tt_in r) : r ≠ 0 := by
  rcases h with h | h | h <;> rw [h] <;> decide
theorem tt_ws1 {o : Int32} (h : tt_ws 1 o = 1) : o ≠ 2 ∧ o ≠ 3 := by
  constructor
  · intro e
    rw [e] at h
    exact absurd h (by decide)
  · intro e
    rw [e] at h
    exact absurd h (by decide)
/-- what an attempt leaves alone -/
def tt_sv (C C' : Nat → Int32) : Prop := ∀ k, 96 ≤ k ∨ k % 4 = 1 → C' k = C k
theorem tt_sv_r (C : Nat → Int32) : tt_sv C C := fun _ _ => rfl
theorem tt_sv_t {A B C : Nat → Int32} (h : tt_sv A B) (h2 : tt_sv B C) : tt_sv A C := fun k hk => by rw [h2 k hk, h k hk]
theorem tt_sv_u {C : Nat → Int32} {i : Nat} {x : Int32} (hi : i < 96) (hi2 : i % 4 ≠ 1) : tt_sv C (upd C i x) := fun k hk => pk_un (by
  intro e
  rw [e] at hk
  omega)
theorem tt_sv_C {hk C : Nat → Int32} {i : Nat} (hi : i < 96) (hi2 : i % 4 ≠ 1) : tt_sv C (tt_C hk C i) := by
  unfold tt_C
  by_cases h : hk i = 0
  · rw [if_pos h]; exact tt_sv_r C
  · rw [if_neg h]; exact tt_sv_u hi hi2
theorem tt_gd_ok (hk : Nat → Int32) (W : Nat → Nat) (op : Nat) (hW : ∀ j, j < op → W j < 24) : ∀ n d s C T, d + n = op → tt_in s →
    (tt_gd hk W n d s C T).1 ≤ op ∧ tt_in (tt_gd hk W n d s C T).2.1 ∧ tt_sv C (tt_gd hk W n d s C T).2.2.1 := by
  intro n
  induction n with
  | zero => intro d s C T h hs; exact ⟨by show d ≤ op; omega, hs, tt_sv_r C⟩
  | succ n ih =>
    intro d s C T h hs
    unfold tt_gd
    by_cases e : s = 1
    · rw [if_pos e]
      have hd := hW d (by omega)
      obtain ⟨h1, h2, h3⟩ := ih (d + 1) (tt_ws s (hk (W d * 4 + 2))) (tt_C hk C (W d * 4 + 2)) (tt_T hk T (W d * 4 + 2)) (by omega) (tt_ws_in _ _)
      exact ⟨h1, h2, tt_sv_t (tt_sv_C (by omega) (by omega)) h3⟩
    · rw [if_neg e]
      exact ⟨by show d ≤ op; omega, hs, tt_sv_r C⟩
theorem tt_up_ok (hk : Nat → Int32) (W : Nat → Nat) (op : Nat) (hW : ∀ j, j < op → W j < 24) : ∀ d s C T, d ≤ op → tt_in s →
    tt_in (tt_up hk W d s C T).1 ∧ tt_sv C (tt_up hk W d s C T).2.1 := by
  intro d
  induction d with
  | zero => intro s C T h hs; exact ⟨hs, tt_sv_r C⟩
  | succ d ih =>
    intro s C T h hs
    unfold tt_up
    have hd := hW d (by omega)
    obtain ⟨h2, h3⟩ := ih (tt_ws s (hk (W d * 4 + 3))) (tt_C hk C (W d * 4 + 3)) (tt_T hk T (W d * 4 + 3)) (by omega) (tt_ws_in _ _)
    exact ⟨h2, tt_sv_t (tt_sv_C (by omega) (by omega)) h3⟩
theorem tt_at_ok (hk oc : Nat → Int32) (W : Nat → Nat) (op t k : Nat) (C : Nat → Int32) (T : Int32) (hW : ∀ j, j < op → W j < 24) (ht : t < 24) :
    tt_in (tt_at hk oc W op t k C T).1 ∧ tt_sv C (tt_at hk oc W op t k C T).2.1 := by
  obtain ⟨h1, h2, h3⟩ := tt_gd_ok hk W op hW op 0 1 C T (by omega) (Or.inl rfl)
  unfold tt_at tt_a2
  by_cases e : (tt_gd hk W op 0 1 C T).2.1 = 1
  · rw [if_pos e]
    obtain ⟨k1, k2⟩ := tt_up_ok hk W op hW (tt_gd hk W op 0 1 C T).1 (tt_ws (tt_gd hk W op 0 1 C T).2.1 (tt_bo (oc t) (nI k))) (upd (tt_gd hk W op 0 1 C T).2.2.1 (t * 4) ((tt_gd hk W op 0 1 C T).2.2.1 (t * 4) + 1)) ((tt_gd hk W op 0 1 C T).2.2.2 + 1) h1 (tt_ws_in _ _)
    exact ⟨k1, tt_sv_t h3 (tt_sv_t (tt_sv_u (by omega) (by omega)) k2)⟩
  · rw [if_neg e]
    obtain ⟨k1, k2⟩ := tt_up_ok hk W op hW (tt_gd hk W op 0 1 C T).1 (tt_gd hk W op 0 1 C T).2.1 (tt_gd hk W op 0 1 C T).2.2.1 (tt_gd hk W op 0 1 C T).2.2.2 h1 h2
    exact ⟨k1, tt_sv_t h3 k2⟩
theorem tt_rt_ok (hk oc : Nat → Int32) (W : Nat → Nat) (op t : Nat) (hW : ∀ j, j < op → W j < 24) (ht : t < 24) : ∀ n i r C T, tt_in r →
    tt_in (tt_rt hk oc W op t n i r C T).1 ∧ tt_sv C (tt_rt hk oc W op t n i r C T).2.1 := by
  intro n
  induction n with
  | zero => intro i r C T hr; exact ⟨hr, tt_sv_r C⟩
  | succ n ih =>
    intro i r C T hr
    unfold tt_rt
    by_cases e : r = 2
    · rw [if_pos e]
      obtain ⟨h1, h2⟩ := tt_at_ok hk oc W op t i C T hW ht
      obtain ⟨k1, k2⟩ := ih (i + 1) (tt_at hk oc W op t i C T).1 (tt_at hk oc W op t i C T).2.1 (tt_at hk oc W op t i C T).2.2 h1
      exact ⟨k1, tt_sv_t h2 k2⟩
    · rw [if_neg e]
      exact ⟨hr, tt_sv_r C⟩
/-! sums -/
theorem tt_sm_u (g : Nat → Nat) (q v : Nat) : ∀ N, q < N → tt_sm (tt_u g q v) N + g q = tt_sm g N + v := by
  intro N
  induction N with
  | zero => intro h; omega
  | succ N ih =>
    intro h
    show tt_sm (tt_u g q v) N + tt_u g q v N + g q = tt_sm g N + g N + v
    by_cases e : N = q
    · have key : ∀ M, M ≤ q → tt_sm (tt_u g q v) M = tt_sm g M := by
        intro M
        induction M with
        | zero => intro _; rfl
        | succ M ihM =>
          intro hM
          show tt_sm (tt_u g q v) M + tt_u g q v M = tt_sm g M + g M
          rw [ihM (by omega), tt_un (by omega)]
      rw [key N (by omega), e, tt_us]
      omega
    · rw [tt_un e]
      have := ih (by omega)
      omega
theorem tt_sm_le (g : Nat → Nat) : ∀ N, (∀ i, i < N → g i ≤ 2) → tt_sm g N ≤ 2 * N := by
  intro N
  induction N with
  | zero => intro _; exact Nat.le_refl 0
  | succ N ih =>
    intro h
    show tt_sm g N + g N ≤ 2 * (N + 1)
    have h1 := ih (fun i hi => h i (by omega))
    have h2 := h N (by omega)
    omega
/-! run, count -/
theorem tt_cnra (ts R : Nat → Int32) : ∀ N, (∀ i, i < N → R i = 0 ∨ tt_in (R i)) → tt_cn ts R 1 N + tt_cn ts R 2 N + tt_cn ts R 3 N = tt_ra ts R N := by
  intro N
  induction N with
  | zero => intro _; rfl
  | succ N ih =>
    intro h
    have h1 := ih (fun i hi => h i (by omega))
    unfold tt_cn tt_ra
    by_cases e : ts N = 0
    · simp only [if_pos e]
      exact h1
    · simp only [if_neg e]
      rcases h N (by omega) with z | z | z | z
      · rw [z, if_neg (by decide), if_neg (by decide), if_neg (by decide), if_pos rfl]
        exact h1
      · rw [z, if_pos rfl, if_neg (by decide), if_neg (by decide), if_neg (by decide)]
        omega
      · rw [z, if_neg (by decide), if_pos rfl, if_neg (by decide), if_neg (by decide)]
        omega
      · rw [z, if_neg (by decide), if_neg (by decide), if_pos rfl, if_neg (by decide)]
        omega
theorem tt_cn_le (ts R : Nat → Int32) (r : Int32) : ∀ N, tt_cn ts R r N ≤ N := by
  intro N
  induction N with
  | zero => exact Nat.le_refl 0
  | succ N ih =>
    unfold tt_cn
    by_cases e : ts N = 0
    · rw [if_pos e]; omega
    · rw [if_neg e]
      by_cases e2 : R N = r
      · rw [if_pos e2]; omega
      · rw [if_neg e2]; omega
theorem tt_cn_0 (ts : Nat → Int32) : ∀ N, tt_cn ts (fun _ => 0) 2 N = 0 := by
  intro N
  induction N with
  | zero => rfl
  | succ N ih =>
    unfold tt_cn
    by_cases e : ts N = 0
    · rw [if_pos e]; exact ih
    · rw [if_neg e, if_neg (by decide)]; exact ih
end
section
/-! the tree; 0 is 'none' in F (first child) and S (sibling) -/
def tt_tree (N : Nat) (F S P : Nat → Nat) (ts : Nat → Int32) : Prop :=
  1 ≤ N ∧ N ≤ 16 ∧
  (∀ q, q < N → F q = 0 ∨ (q < F q ∧ F q < N ∧ P (F q) = q)) ∧
  (∀ q, q < N → S q = 0 ∨ (0 < q ∧ q < S q ∧ S q < N ∧ P (S q) = P q)) ∧
  (∀ q q', q < N → q' < N → S q ≠ 0 → S q = S q' → q = q') ∧
  (∀ q q', q < N → q' < N → F q ≠ 0 → F q = S q' → False) ∧
  (∀ q, 0 < q → q < N → P q < q ∧ ts (P q) = 0) ∧ ts 0 = 0
/-! the ghost: 0 not come to, 1 entered, 2 left -/
def tt_G0 (N : Nat) (F S g : Nat → Nat) (k : Nat) : Prop :=
  (∀ i, i < N → g i ≤ 2) ∧ (∀ i q, 0 < i → i < N → g i ≠ 0 → q < N → (F q = i → g q ≠ 0) ∧ (S q = i → g q = 2)) ∧ k + 1 ≤ tt_sm g N
def tt_Gm (N : Nat) (F S g : Nat → Nat) (m : Nat) : Prop := m ≠ 0 → g m = 0 ∧ ∀ q, q < N → (F q = m → g q ≠ 0) ∧ (S q = m → g q = 2)
theorem tt_G0_set {N : Nat} {F S P g : Nat → Nat} {ts : Nat → Int32} {k q v : Nat} (ht : tt_tree N F S P ts) (h : tt_G0 N F S g k) (hq : q < N) (hv : g q < v) (hv2 : v ≤ 2)
    (hp : 0 < q → ∀ p, p < N → (F p = q → g p ≠ 0) ∧ (S p = q → g p = 2)) : tt_G0 N F S (tt_u g q v) (k + 1) := by
  obtain ⟨h1, h2, h3⟩ := h
  obtain ⟨t1, t2, t3, t4, t5, t6, t7, t8⟩ := ht
  refine ⟨fun i hi => ?_, fun i p h0 hi hg hpN => ?_, ?_⟩
  · by_cases e : i = q
    · rw [e, tt_us]; exact hv2
    · rw [tt_un e]; exact h1 i hi
  · have key : (F p = i → g p ≠ 0) ∧ (S p = i → g p = 2) := by
      by_cases e : i = q
      · rw [e]; exact hp (by omega) p hpN
      · rw [tt_un e] at hg; exact h2 i p h0 hi hg hpN
    refine ⟨fun e => ?_, fun e => ?_⟩
    · by_cases e2 : p = q
      · rw [e2, tt_us]; omega
      · rw [tt_un e2]; exact key.1 e
    · have hg2 := key.2 e
      have e2 : p ≠ q := by
        intro z
        rw [z] at hg2
        omega
      rw [tt_un e2]; exact hg2
  · have := tt_sm_u g q v N hq
    omega
theorem tt_Gm_S {N : Nat} {F S P g : Nat → Nat} {ts : Nat → Int32} {k q : Nat} (ht : tt_tree N F S P ts) (h : tt_G0 N F S g k) (hq : q < N) (hv : g q < 2) : tt_Gm N F S (tt_u g q 2) (S q) := by
  intro hm
  obtain ⟨h1, h2, h3⟩ := h
  obtain ⟨t1, t2, t3, t4, t5, t6, t7, t8⟩ := ht
  rcases t4 q hq with z | ⟨z0, z1, z2, z3⟩
  · exact absurd z hm
  · refine ⟨?_, fun p hp => ⟨fun e => ?_, fun e => ?_⟩⟩
    · rw [tt_un (by omega)]
      rcases Nat.eq_zero_or_pos (g (S q)) with w | w
      · exact w
      · have := (h2 (S q) q (by omega) z2 (by omega) hq).2 rfl
        omega
    · exact absurd (t6 p q hp hq (by omega) e) id
    · have := t5 q p hq hp hm e.symm
      rw [← this, tt_us]
theorem tt_Gm_F {N : Nat} {F S P g : Nat → Nat} {ts : Nat → Int32} {k q : Nat} (ht : tt_tree N F S P ts) (h : tt_G0 N F S g k) (hq : q < N) (hv : g q = 0) : tt_Gm N F S (tt_u g q 1) (F q) := by
  intro hm
  obtain ⟨h1, h2, h3⟩ := h
  obtain ⟨t1, t2, t3, t4, t5, t6, t7, t8⟩ := ht
  rcases t3 q hq with z | ⟨z1, z2, z3⟩
  · exact absurd z hm
  · refine ⟨?_, fun p hp => ⟨fun e => ?_, fun e => ?_⟩⟩
    · rw [tt_un (by omega)]
      rcases Nat.eq_zero_or_pos (g (F q)) with w | w
      · exact w
      · exact absurd hv ((h2 (F q) q (by omega) z2 (by omega) hq).1 rfl)
    · have hpq : p = q := by
        rcases t3 p hp with y | ⟨y1, y2, y3⟩
        · rw [e] at y; exact absurd y hm
        · rw [e, z3] at y3; exact y3.symm
      rw [hpq, tt_us]
      decide
    · exact absurd (t6 q p hq hp hm e.symm) id
theorem tt_Gm_0 {N : Nat} {F S g : Nat → Nat} : tt_Gm N F S g 0 := fun h => absurd rfl h
/-! the stack of entered containers -/
def tt_ok (hk : Nat → Int32) (q : Nat) : Prop := hk (q * 4) ≠ 2 ∧ hk (q * 4) ≠ 3
def tt_K (N : Nat) (P : Nat → Nat) (hk ts : Nat → Int32) (g : Nat → Nat) (m op : Nat) (W : Nat → Nat) (R : Nat → Int32) : Prop :=
  (∀ j, j < op → W j < N ∧ j ≤ W j ∧ g (W j) = 1 ∧ R (W j) ≠ 0 ∧ ts (W j) = 0) ∧
  (∀ j, j + 1 < op → W j < W (j + 1) ∧ P (W (j + 1)) = W j ∧ tt_ok hk (W j)) ∧
  (0 < op → W 0 = 0) ∧
  (m ≠ 0 → 0 < op ∧ W (op - 1) < m ∧ m < N ∧ P m = W (op - 1) ∧ tt_ok hk (W (op - 1))) ∧
  (∀ i, i < N → g i = 1 → ∃ j, j < op ∧ W j = i)
theorem tt_K_mono {W : Nat → Nat} {op : Nat} (h : ∀ j, j + 1 < op → W j < W (j + 1)) : ∀ d j, j + d + 1 < op → W j < W (j + d + 1) := by
  intro d
  induction d with
  | zero => intro j hj; exact h j hj
  | succ d ih =>
    intro j hj
    have h1 := ih j (by omega)
    have h2 := h (j + d + 1) (by omega)
    show W j < W (j + d + 1 + 1)
    omega
theorem tt_K_side {N : Nat} {F S P : Nat → Nat} {hk ts : Nat → Int32} {g : Nat → Nat} {m op : Nat} {W : Nat → Nat} {R R' : Nat → Int32} (ht : tt_tree N F S P ts)
    (h : tt_K N P hk ts g m op W R) (hm : m ≠ 0) (hg : g m = 0) (hR : ∀ i, i ≠ m → R' i = R i) : tt_K N P hk ts (tt_u g m 2) (S m) op W R' := by
  obtain ⟨k1, k2, k3, k4, k5⟩ := h
  obtain ⟨m1, m2, m3, m4, m5⟩ := k4 hm
  refine ⟨fun j hj => ?_, k2, k3, fun hS => ?_, fun i hi e => ?_⟩
  · obtain ⟨a, b, c, d, e⟩ := k1 j hj
    have hne : W j ≠ m := fun z => by rw [z, hg] at c; omega
    exact ⟨a, b, by rw [tt_un hne]; exact c, by rw [hR _ hne]; exact d, e⟩
  · rcases ht.2.2.2.1 m m3 with z | ⟨z0, z1, z2, z3⟩
    · exact absurd z hS
    · exact ⟨m1, by omega, z2, by rw [z3]; exact m4, m5⟩
  · have hne : i ≠ m := fun z => by rw [z, tt_us] at e; omega
    rw [tt_un hne] at e
    exact k5 i hi e
theorem tt_K_enter {N : Nat} {F S P : Nat → Nat} {hk ts : Nat → Int32} {g : Nat → Nat} {m m' op : Nat} {W : Nat → Nat} {R R' : Nat → Int32} (ht : tt_tree N F S P ts)
    (h : tt_K N P hk ts g m op W R) (hm : m ≠ 0) (hg : g m = 0) (hR : ∀ i, i ≠ m → R' i = R i) (hRm : R' m ≠ 0) (hts : ts m = 0) (hm' : m' = 0 ∨ (m' = F m ∧ tt_ok hk m)) :
    tt_K N P hk ts (tt_u g m 1) m' (op + 1) (tt_u W op m) R' := by
  obtain ⟨k1, k2, k3, k4, k5⟩ := h
  obtain ⟨m1, m2, m3, m4, m5⟩ := k4 hm
  have htop := k1 (op - 1) (by omega)
  refine ⟨fun j hj => ?_, fun j hj => ?_, fun _ => ?_, fun hS => ?_, fun i hi e => ?_⟩
  · by_cases ej : j = op
    · rw [ej, tt_us]
      exact ⟨m3, by omega, tt_us, hRm, hts⟩
    · obtain ⟨a, b, c, d, e⟩ := k1 j (by omega)
      have hne : W j ≠ m := fun z => by rw [z, hg] at c; omega
      rw [tt_un ej]
      exact ⟨a, b, by rw [tt_un hne]; exact c, by rw [hR _ hne]; exact d, e⟩
  · by_cases ej : j + 1 = op
    · have e2 : j = op - 1 := by omega
      rw [ej, tt_us, tt_un (show j ≠ op by omega), e2]
      exact ⟨m2, m4, m5⟩
    · rw [tt_un ej, tt_un (show j ≠ op by omega)]
      exact k2 j (by omega)
  · rw [tt_un (show 0 ≠ op by omega)]
    exact k3 m1
  · rcases hm' with z | ⟨z, zo⟩
    · exact absurd z hS
    · rcases ht.2.2.1 m m3 with y | ⟨y1, y2, y3⟩
      · exact absurd (z.trans y) hS
      · rw [show op + 1 - 1 = op by omega, tt_us, z]
        exact ⟨by omega, y1, y2, y3, zo⟩
  · by_cases ei : i = m
    · exact ⟨op, by omega, by rw [ei, tt_us]⟩
    · rw [tt_un ei] at e
      obtain ⟨j, hj, hw⟩ := k5 i hi e
      exact ⟨j, by omega, by rw [tt_un (show j ≠ op by omega)]; exact hw⟩
theorem tt_K_leave {N : Nat} {F S P : Nat → Nat} {hk ts : Nat → Int32} {g : Nat → Nat} {op : Nat} {W : Nat → Nat} {R R' : Nat → Int32} (ht : tt_tree N F S P ts)
    (h : tt_K N P hk ts g 0 op W R) (hop : 0 < op) (hR : ∀ i, i ≠ W (op - 1) → R' i = R i) : tt_K N P hk ts (tt_u g (W (op - 1)) 2) (S (W (op - 1))) (op - 1) W R' := by
  obtain ⟨k1, k2, k3, k4, k5⟩ := h
  obtain ⟨q1, q2, q3, q4, q5⟩ := k1 (op - 1) (by omega)
  refine ⟨fun j hj => ?_, fun j hj => k2 j (by omega), fun _ => k3 hop, fun hS => ?_, fun i hi e => ?_⟩
  · obtain ⟨a, b, c, d, e⟩ := k1 j (by omega)
    have hlt := tt_K_mono (fun j hj => (k2 j hj).1) (op - 1 - j - 1) j (by omega)
    rw [show j + (op - 1 - j - 1) + 1 = op - 1 by omega] at hlt
    have hne : W j ≠ W (op - 1) := by omega
    exact ⟨a, b, by rw [tt_un hne]; exact c, by rw [hR _ hne]; exact d, e⟩
  · rcases ht.2.2.2.1 (W (op - 1)) q1 with z | ⟨z0, z1, z2, z3⟩
    · exact absurd z hS
    · have hop1 : op - 1 ≠ 0 := fun z => by
        have := k3 hop
        rw [z] at z0
        omega
      obtain ⟨b1, b2, b3⟩ := k2 (op - 1 - 1) (by omega)
      rw [show op - 1 - 1 + 1 = op - 1 by omega] at b1 b2
      exact ⟨by omega, by omega, z2, by rw [z3]; exact b2, b3⟩
  · have hne : i ≠ W (op - 1) := fun z => by rw [z, tt_us] at e; omega
    rw [tt_un hne] at e
    obtain ⟨j, hj, hw⟩ := k5 i hi e
    have hj' : j ≠ op - 1 := fun z => by rw [z] at hw; exact hne hw.symm
    exact ⟨j, by omega, hw⟩
/-! results -/
def tt_R (N : Nat) (P : Nat → Nat) (hk : Nat → Int32) (g : Nat → Nat) (R : Nat → Int32) : Prop :=
  (∀ i, i < N → g i = 0 → R i = 0) ∧ (∀ i, 0 < i → i < N → R i ≠ 0 → R (P i) ≠ 0 ∧ tt_ok hk (P i)) ∧ (∀ i, R i = 0 ∨ tt_in (R i)) ∧ (∀ i, N ≤ i → R i = 0)
theorem tt_R_set {N : Nat} {P : Nat → Nat} {hk : Nat → Int32} {g : Nat → Nat} {R : Nat → Int32} {q v : Nat} {r : Int32} (h : tt_R N P hk g R) (hq : q < N) (hr : tt_in r) (hv : v ≠ 0)
    (hp : 0 < q → R (P q) ≠ 0 ∧ tt_ok hk (P q)) : tt_R N P hk (tt_u g q v) (upd R q r) := by
  obtain ⟨h1, h2, h3, h4⟩ := h
  have keep : ∀ x, R x ≠ 0 → upd R q r x ≠ 0 := by
    intro x hx
    by_cases e : x = q
    · rw [e, pk_us]; exact tt_in0 hr
    · rw [pk_un e]; exact hx
  refine ⟨fun i hi e => ?_, fun i h0 hi e => ?_, fun i => ?_, fun i hi => ?_⟩
  · have hne : i ≠ q := fun z => by rw [z, tt_us] at e; exact hv e
    rw [tt_un hne] at e
    rw [pk_un hne]
    exact h1 i hi e
  · by_cases ei : i = q
    · rw [ei] at h0 ⊢
      exact ⟨keep _ (hp h0).1, (hp h0).2⟩
    · rw [pk_un ei] at e
      exact ⟨keep _ (h2 i h0 hi e).1, (h2 i h0 hi e).2⟩
  · by_cases ei : i = q
    · rw [ei, pk_us]; exact Or.inr hr
    · rw [pk_un ei]; exact h3 i
  · rw [pk_un (by omega)]; exact h4 i hi
theorem tt_R_skip {N : Nat} {P : Nat → Nat} {hk : Nat → Int32} {g : Nat → Nat} {R : Nat → Int32} {q v : Nat} (h : tt_R N P hk g R) (hv : v ≠ 0) : tt_R N P hk (tt_u g q v) R := by
  obtain ⟨h1, h2, h3, h4⟩ := h
  refine ⟨fun i hi e => ?_, h2, h3, h4⟩
  have hne : i ≠ q := fun z => by rw [z, tt_us] at e; exact hv e
  rw [tt_un hne] at e
  exact h1 i hi e
/-! carried -/
def tt_Q (N : Nat) (hk ts : Nat → Int32) (g : Nat → Nat) (R C : Nat → Int32) : Prop :=
  (∀ k, 96 ≤ k → C k = 0) ∧ (∀ i, i < N → g i ≠ 2 → C (i * 4 + 1) = 0) ∧ (∀ i, i < N → g i = 2 → ts i = 0 → R i ≠ 0 → C (i * 4 + 1) = if hk (i * 4 + 1) = 0 then 0 else 1)
theorem tt_Q_side {N : Nat} {hk ts : Nat → Int32} {g : Nat → Nat} {R R' C C' : Nat → Int32} {q : Nat} (h : tt_Q N hk ts g R C) (hC : tt_sv C C') (hR : ∀ i, i ≠ q → R' i = R i)
    (hq : ts q = 0 → R' q = 0) : tt_Q N hk ts (tt_u g q 2) R' C' := by
  obtain ⟨h1, h2, h3⟩ := h
  refine ⟨fun k hk => by rw [hC k (Or.inl hk)]; exact h1 k hk, fun i hi e => ?_, fun i hi e ht hr => ?_⟩
  · have hne : i ≠ q := fun z => by rw [z, tt_us] at e; exact e rfl
    rw [tt_un hne] at e
    rw [hC _ (Or.inr (by omega))]
    exact h2 i hi e
  · by_cases ei : i = q
    · rw [ei] at ht hr
      exact absurd (hq ht) hr
    · rw [tt_un ei] at e
      rw [hR i ei] at hr
      rw [hC _ (Or.inr (by omega))]
      exact h3 i hi e ht hr
theorem tt_Q_enter {N : Nat} {hk ts : Nat → Int32} {g : Nat → Nat} {R R' C C' : Nat → Int32} {q : Nat} (h : tt_Q N hk ts g R C) (hC : tt_sv C C') (hR : ∀ i, i ≠ q → R' i = R i)
    (hg : g q ≠ 2) : tt_Q N hk ts (tt_u g q 1) R' C' := by
  obtain ⟨h1, h2, h3⟩ := h
  refine ⟨fun k hk => by rw [hC k (Or.inl hk)]; exact h1 k hk, fun i hi e => ?_, fun i hi e ht hr => ?_⟩
  · rw [hC _ (Or.inr (by omega))]
    by_cases ei : i = q
    · rw [ei] at hi ⊢
      exact h2 q hi hg
    · rw [tt_un ei] at e
      exact h2 i hi e
  · by_cases ei : i = q
    · rw [ei, tt_us] at e
      omega
    · rw [tt_un ei] at e
      rw [hR i ei] at hr
      rw [hC _ (Or.inr (by omega))]
      exact h3 i hi e ht hr
theorem tt_Q_leave {N : Nat} {hk ts : Nat → Int32} {g : Nat → Nat} {R R' C : Nat → Int32} {q : Nat} (h : tt_Q N hk ts g R C) (hN : N ≤ 16) (hq : q < N) (hR : ∀ i, i ≠ q → R' i = R i)
    (hg : g q = 1) : tt_Q N hk ts (tt_u g q 2) R' (tt_C hk C (q * 4 + 1)) := by
  obtain ⟨h1, h2, h3⟩ := h
  have oth : ∀ k, k ≠ q * 4 + 1 → tt_C hk C (q * 4 + 1) k = C k := by
    intro k hk'
    unfold tt_C
    by_cases e : hk (q * 4 + 1) = 0
    · rw [if_pos e]
    · rw [if_neg e, pk_un hk']
  refine ⟨fun k hk => by rw [oth k (by omega)]; exact h1 k hk, fun i hi e => ?_, fun i hi e ht hr => ?_⟩
  · have hne : i ≠ q := fun z => by rw [z, tt_us] at e; exact e rfl
    rw [tt_un hne] at e
    rw [oth _ (by omega)]
    exact h2 i hi e
  · by_cases ei : i = q
    · rw [ei]
      have h0 := h2 q hq (by omega)
      unfold tt_C
      by_cases e : hk (q * 4 + 1) = 0
      · rw [if_pos e, if_pos e]; exact h0
      · rw [if_neg e, if_neg e, pk_us, h0]; decide
    · rw [tt_un ei] at e
      rw [hR i ei] at hr
      rw [oth _ (by omega)]
      exact h3 i hi e ht hr
/-! all of it -/
def tt_Inv (N : Nat) (F S P : Nat → Nat) (hk ts : Nat → Int32) (g : Nat → Nat) (k m op : Nat) (W : Nat → Nat) (R C : Nat → Int32) : Prop :=
  tt_G0 N F S g k ∧ tt_Gm N F S g m ∧ tt_K N P hk ts g m op W R ∧ tt_R N P hk g R ∧ tt_Q N hk ts g R C
def tt_Fin (N : Nat) (P : Nat → Nat) (hk ts R C : Nat → Int32) : Prop :=
  (∀ i, 0 < i → i < N → R i ≠ 0 → R (P i) ≠ 0 ∧ tt_ok hk (P i)) ∧ (∀ i, R i = 0 ∨ tt_in (R i)) ∧ (∀ i, N ≤ i → R i = 0) ∧ (∀ k, 96 ≤ k → C k = 0) ∧
  (∀ i, i < N → ts i = 0 → R i ≠ 0 → C (i * 4 + 1) = if hk (i * 4 + 1) = 0 then 0 else 1)
section
variable {N : Nat} {F S P : Nat → Nat} {hk ts : Nat → Int32} {g : Nat → Nat} {k m op : Nat} {W : Nat → Nat} {R C : Nat → Int32}
theorem tt_inv_lt (ht : tt_tree N F S P ts) (h : tt_Inv N F S P hk ts g k m op W R C) : k < 32 := by
  have h1 := tt_sm_le g N h.1.1
  have h2 := h.1.2.2
  have h3 := ht.2.1
  omega
theorem tt_inv_op (ht : tt_tree N F S P ts) (h : tt_Inv N F S P hk ts g k m op W R C) : op ≤ 16 ∧ ∀ j, j < op → W j < 16 := by
  have h3 := ht.2.1
  refine ⟨?_, fun j hj => by have := (h.2.2.1.1 j hj).1; omega⟩
  rcases Nat.eq_zero_or_pos op with z | z
  · omega
  · have := h.2.2.1.1 (op - 1) (by omega)
    omega
theorem tt_inv_end (h : tt_Inv N F S P hk ts g k m 0 W R C) : tt_Fin N P hk ts R C := by
  obtain ⟨⟨g1, g2, g3⟩, hm, ⟨k1, k2, k3, k4, k5⟩, ⟨r1, r2, r3, r4⟩, ⟨q1, q2, q3⟩⟩ := h
  refine ⟨r2, r3, r4, q1, fun i hi ht hr => q3 i hi ?_ ht hr⟩
  have a := g1 i hi
  have b : g i ≠ 0 := fun z => hr (r1 i hi z)
  have c : g i ≠ 1 := fun z => by
    obtain ⟨j, hj, _⟩ := k5 i hi z
    omega
  omega
theorem tt_inv_leave (ht : tt_tree N F S P ts) (h : tt_Inv N F S P hk ts g k 0 op W R C) (hop : 0 < op) (r : Int32) (hr : tt_in r) :
    tt_Inv N F S P hk ts (tt_u g (W (op - 1)) 2) (k + 1) (S (W (op - 1))) (op - 1) W (upd R (W (op - 1)) r) (tt_C hk C (W (op - 1) * 4 + 1)) := by
  obtain ⟨hG, hm, hK, hR, hQ⟩ := h
  obtain ⟨q1, q2, q3, q4, q5⟩ := hK.1 (op - 1) (by omega)
  refine ⟨tt_G0_set ht hG q1 (by omega) (by omega) (fun h0 p hp => hG.2.1 _ p h0 q1 (by omega) hp), tt_Gm_S ht hG q1 (by omega), tt_K_leave ht hK hop (fun i hi => pk_un hi), ?_, tt_Q_leave hQ ht.2.1 q1 (fun i hi => pk_un hi) q3⟩
  exact tt_R_set hR q1 hr (by decide) (fun h0 => hR.2.1 _ h0 q1 q4)
theorem tt_inv_m (h : tt_Inv N F S P hk ts g k m op W R C) (hm : m ≠ 0) : 0 < op ∧ m < N ∧ g m = 0 ∧ R m = 0 ∧ R (P m) ≠ 0 ∧ tt_ok hk (P m) ∧ ∀ p, p < N → (F p = m → g p ≠ 0) ∧ (S p = m → g p = 2) := by
  obtain ⟨hG, hGm, hK, hR, hQ⟩ := h
  obtain ⟨m1, m2, m3, m4, m5⟩ := hK.2.2.2.1 hm
  have hg := hGm hm
  refine ⟨m1, m3, hg.1, hR.1 m m3 hg.1, ?_, by rw [m4]; exact m5, hg.2⟩
  rw [m4]
  exact (hK.1 (op - 1) (by omega)).2.2.2.1
theorem tt_inv_skip (ht : tt_tree N F S P ts) (h : tt_Inv N F S P hk ts g k m op W R C) (hm : m ≠ 0) :
    tt_Inv N F S P hk ts (tt_u g m 2) (k + 1) (S m) op W R C := by
  obtain ⟨m1, m2, m3, m4, m5, m6, m7⟩ := tt_inv_m h hm
  obtain ⟨hG, hGm, hK, hR, hQ⟩ := h
  exact ⟨tt_G0_set ht hG m2 (by omega) (by omega) (fun _ => m7), tt_Gm_S ht hG m2 (by omega), tt_K_side ht hK hm m3 (fun _ _ => rfl), tt_R_skip hR (by decide), tt_Q_side hQ (tt_sv_r C) (fun _ _ => rfl) (fun _ => m4)⟩
theorem tt_inv_test (ht : tt_tree N F S P ts) (h : tt_Inv N F S P hk ts g k m op W R C) (hm : m ≠ 0) (hts : ¬ ts m = 0) (r : Int32) (hr : tt_in r) (C' : Nat → Int32) (hC : tt_sv C C') :
    tt_Inv N F S P hk ts (tt_u g m 2) (k + 1) (S m) op W (upd R m r) C' := by
  obtain ⟨m1, m2, m3, m4, m5, m6, m7⟩ := tt_inv_m h hm
  obtain ⟨hG, hGm, hK, hR, hQ⟩ := h
  exact ⟨tt_G0_set ht hG m2 (by omega) (by omega) (fun _ => m7), tt_Gm_S ht hG m2 (by omega), tt_K_side ht hK hm m3 (fun i hi => pk_un hi), tt_R_set hR m2 hr (by decide) (fun _ => ⟨m5, m6⟩), tt_Q_side hQ hC (fun i hi => pk_un hi) (fun z => absurd z hts)⟩
theorem tt_inv_enter (ht : tt_tree N F S P ts) (h : tt_Inv N F S P hk ts g k m op W R C) (hm : m ≠ 0) (hts : ts m = 0) :
    tt_Inv N F S P hk ts (tt_u g m 1) (k + 1) (if tt_ws 1 (hk (m * 4)) = 1 then F m else 0) (op + 1) (tt_u W op m) (upd R m (tt_ws 1 (hk (m * 4)))) (tt_C hk C (m * 4)) := by
  obtain ⟨m1, m2, m3, m4, m5, m6, m7⟩ := tt_inv_m h hm
  obtain ⟨hG, hGm, hK, hR, hQ⟩ := h
  have hN := ht.2.1
  have hr : tt_in (tt_ws 1 (hk (m * 4))) := tt_ws_in _ _
  refine ⟨tt_G0_set ht hG m2 (by omega) (by omega) (fun _ => m7), ?_, tt_K_enter ht hK hm m3 (fun i hi => pk_un hi) (by rw [pk_us]; exact tt_in0 hr) hts ?_, tt_R_set hR m2 hr (by decide) (fun _ => ⟨m5, m6⟩), tt_Q_enter hQ (tt_sv_C (by omega) (by omega)) (fun i hi => pk_un hi) (by omega)⟩
  · by_cases e : tt_ws 1 (hk (m * 4)) = 1
    · rw [if_pos e]; exact tt_Gm_F ht hG m2 m3
    · rw [if_neg e]; exact tt_Gm_0
  · by_cases e : tt_ws 1 (hk (m * 4)) = 1
    · rw [if_pos e]; exact Or.inr ⟨rfl, tt_ws1 e⟩
    · rw [if_neg e]; exact Or.inl rfl
theorem tt_sm_0 : ∀ n, tt_sm (tt_u (fun _ => 0) 0 1) (n + 1) = 1 := by
  intro n
  induction n with
  | zero => rfl
  | succ n ih =>
    show tt_sm (tt_u (fun _ => 0) 0 1) (n + 1) + tt_u (fun _ => 0) 0 1 (n + 1) = 1
    rw [ih, tt_un (by omega)]
theorem tt_inv_0 (ht : tt_tree N F S P ts) :
    tt_Inv N F S P hk ts (tt_u (fun _ => 0) 0 1) 0 (if tt_ws 1 (hk 0) = 1 then F 0 else 0) 1 (fun _ => 0) (upd (fun _ => 0) 0 (tt_ws 1 (hk 0))) (tt_C hk (fun _ => 0) 0) := by
  obtain ⟨t1, t2, t3, t4, t5, t6, t7, t8⟩ := ht
  have hr : tt_in (tt_ws 1 (hk 0)) := tt_ws_in _ _
  have hz : ∀ i, i ≠ 0 → tt_u (fun _ => 0) 0 1 i = 0 := fun i hi => tt_un hi
  have h1 : tt_u (fun _ => 0) 0 1 0 = 1 := tt_us
  have hC := tt_sv_C (hk := hk) (C := fun _ => 0) (i := 0) (by omega) (by omega)
  refine ⟨⟨fun i hi => ?_, fun i q h0 hi hg hq => ?_, ?_⟩, ?_, ⟨fun j hj => ?_, fun j hj => ?_, fun _ => rfl, fun hm => ?_, fun i hi e => ?_⟩, ⟨fun i hi e => ?_, fun i h0 hi e => ?_, fun i => ?_, fun i hi => ?_⟩, ⟨fun k hk => ?_, fun i hi e => ?_, fun i hi e ht hr => ?_⟩⟩
  · by_cases e : i = 0
    · rw [e, h1]; decide
    · rw [hz i e]; decide
  · exact absurd (hz i (by omega)) hg
  · obtain ⟨n, rfl⟩ : ∃ n, N = n + 1 := ⟨N - 1, by omega⟩
    rw [tt_sm_0 n]
    exact Nat.le_refl 1
  · by_cases e : tt_ws 1 (hk 0) = 1
    · rw [if_pos e]
      intro hm
      rcases t3 0 (by omega) with z | ⟨z1, z2, z3⟩
      · exact absurd z hm
      · refine ⟨hz _ hm, fun q hq => ⟨fun e => ?_, fun e => ?_⟩⟩
        · have : q = 0 := by
            rcases t3 q hq with y | ⟨y1, y2, y3⟩
            · rw [e] at y; exact absurd y hm
            · rw [e, z3] at y3; exact y3.symm
          rw [this, h1]; decide
        · exact absurd (t6 0 q (by omega) hq hm e.symm) id
    · rw [if_neg e]; exact tt_Gm_0
  · have : j = 0 := by omega
    rw [this]
    exact ⟨by show 0 < N; omega, Nat.le_refl 0, h1, by rw [pk_us]; exact tt_in0 hr, t8⟩
  · omega
  · by_cases e : tt_ws 1 (hk 0) = 1
    · rw [if_pos e] at hm ⊢
      rcases t3 0 (by omega) with z | ⟨z1, z2, z3⟩
      · exact absurd z hm
      · exact ⟨by omega, z1, z2, z3, tt_ws1 e⟩
    · rw [if_neg e] at hm
      exact absurd rfl hm
  · have : i = 0 := by
      rcases Nat.eq_zero_or_pos i with z | z
      · exact z
      · rw [hz i (by omega)] at e; omega
    exact ⟨0, by omega, this.symm⟩
  · have hi0 : i ≠ 0 := fun z => by rw [z, h1] at e; omega
    rw [pk_un hi0]
  · rw [pk_un (by omega)] at e
    exact absurd rfl e
  · by_cases e : i = 0
    · rw [e, pk_us]; exact Or.inr hr
    · rw [pk_un e]; exact Or.inl rfl
  · rw [pk_un (by omega)]
  · rw [hC k (Or.inl hk)]
  · rw [hC _ (Or.inr (by omega))]
  · by_cases ei : i = 0
    · rw [ei, h1] at e; omega
    · rw [hz i ei] at e; omega
end
/-! who takes part -/
theorem tt_c1_hi (di : Nat → Int32) (P : Nat → Nat) (a : Nat → Int32) : ∀ k i, k ≤ i → tt_c1 di P k a i = a i := by
  intro k
  induction k with
  | zero => intro i _; rfl
  | succ k ih =>
    intro i hi
    unfold tt_c1
    rw [pk_un (by omega)]
    exact ih i (by omega)
theorem tt_c1_lo (di : Nat → Int32) (P : Nat → Nat) (a b : Nat → Int32) (N : Nat) (hP : ∀ q, 0 < q → q < N → P q < q) : ∀ k, k ≤ N → ∀ i, i < k → tt_c1 di P k a i = tt_c1 di P k b i := by
  intro k
  induction k with
  | zero => intro _ i hi; omega
  | succ k ih =>
    intro hk i hi
    unfold tt_c1
    by_cases e : i = k
    · rw [e, pk_us, pk_us]
      by_cases k0 : k = 0
      · simp only [if_pos k0]
      · rw [ih (by omega) (P k) (hP k (by omega) (by omega))]
    · rw [pk_un e, pk_un e]
      exact ih (by omega) i (by omega)
theorem tt_c1_eq (di : Nat → Int32) (P : Nat → Nat) (a : Nat → Int32) (N : Nat) (hP : ∀ q, 0 < q → q < N → P q < q) (ha : ∀ i, N ≤ i → a i = 0) : tt_c1 di P N a = tt_c1 di P N (fun _ => 0) := by
  funext i
  rcases Nat.lt_or_ge i N with h | h
  · exact tt_c1_lo di P a _ N hP N (Nat.le_refl N) i h
  · rw [tt_c1_hi _ _ _ N i h, tt_c1_hi _ _ _ N i h, ha i h]
theorem tt_c2_hi (F S : Nat → Nat) (ts tg : Nat → Int32) (x : Int32) : ∀ k a i, k ≤ i → tt_c2 F S ts tg x k a i = a i := by
  intro k
  induction k with
  | zero => intro a i _; rfl
  | succ k ih =>
    intro a i hi
    unfold tt_c2
    rw [ih _ i (by omega), pk_un (by omega)]
theorem tt_tp_hi (F S P : Nat → Nat) (ts tg di : Nat → Int32) (N : Nat) (x : Int32) : ∀ i, N ≤ i → tt_tp F S P ts tg di N x i = 0 := by
  intro i hi
  unfold tt_tp
  rw [tt_c2_hi _ _ _ _ _ N _ i hi, tt_c1_hi _ _ _ N i hi]
theorem tt_ct_0 (S : Nat → Nat) (a : Nat → Int32) (N k : Nat) (hS : ∀ q, q < N → S q = 0 ∨ (q < S q ∧ S q < N)) (ha : ∀ i, k ≤ i → a i = 0) : ∀ n c, c = 0 ∨ (k ≤ c ∧ c < N) → tt_ct S a n c = 0 := by
  intro n
  induction n with
  | zero => intro c _; rfl
  | succ n ih =>
    intro c hc
    unfold tt_ct
    by_cases e : c = 0
    · rw [if_pos e]
    · rcases hc with z | ⟨z1, z2⟩
      · exact absurd z e
      · rw [if_neg e, if_pos (ha c z1)]
        exact ih (S c) (by rcases hS c z2 with y | ⟨y1, y2⟩ <;> omega)
theorem tt_c2_0 {N : Nat} {F S P : Nat → Nat} {ts : Nat → Int32} (tg : Nat → Int32) (ht : tt_tree N F S P ts) : ∀ k a, k ≤ N → (∀ i, k ≤ i → a i = 0) → ∀ i, tt_c2 F S ts tg 0 k a i = 0 := by
  intro k
  induction k with
  | zero => intro a _ h i; exact h i (by omega)
  | succ k ih =>
    intro a hk h i
    unfold tt_c2
    refine ih _ (by omega) (fun j hj => ?_) i
    by_cases e : j = k
    · rw [e, pk_us]
      unfold tt_v
      by_cases e1 : ts k = 0
      · rw [if_pos e1]
        by_cases e2 : a k = 0
        · rw [if_pos e2]
        · rw [if_neg e2, if_pos]
          refine tt_ct_0 S a N (k + 1) (fun q hq => ?_) h 24 (F k) ?_
          · rcases ht.2.2.2.1 q hq with y | ⟨y0, y1, y2, y3⟩ <;> omega
          · rcases ht.2.2.1 k (by omega) with y | ⟨y1, y2, y3⟩ <;> omega
      · rw [if_neg e1]
        by_cases e2 : a k = 0
        · rw [if_pos e2]
        · rw [if_neg e2, if_pos Int32.and_zero]
    · rw [pk_un e]
      exact h j (by omega)
theorem tt_tp_0 {N : Nat} {F S P : Nat → Nat} {ts : Nat → Int32} (tg di : Nat → Int32) (ht : tt_tree N F S P ts) : tt_tp F S P ts tg di N 0 0 = 0 := by
  unfold tt_tp
  refine tt_c2_0 tg ht N _ (Nat.le_refl N) (fun i hi => ?_) 0
  rw [tt_c1_hi _ _ _ N i hi]
/-- the walk keeps the invariant and comes to an end -/
theorem tt_wk_fin {N : Nat} {F S P : Nat → Nat} {hk ts : Nat → Int32} (tr oc tp : Nat → Int32) (ht : tt_tree N F S P ts) : ∀ n k, k + n = 64 → ∀ g m op W R C T, tt_Inv N F S P hk ts g k m op W R C →
    tt_Fin N P hk ts (tt_wk F S ts hk tr oc tp n m op W R C T).1 (tt_wk F S ts hk tr oc tp n m op W R C T).2.1 := by
  intro n
  induction n with
  | zero =>
    intro k hkn g m op W R C T h
    have := tt_inv_lt ht h
    omega
  | succ n ih =>
    intro k hkn g m op W R C T h
    unfold tt_wk
    by_cases e0 : op = 0
    · rw [if_pos e0]
      rw [e0] at h
      exact tt_inv_end h
    · rw [if_neg e0]
      by_cases e1 : m = 0
      · rw [if_pos e1]
        rw [e1] at h
        exact ih (k + 1) (by omega) _ _ _ _ _ _ _ (tt_inv_leave ht h (by omega) _ (tt_ws_in _ _))
      · rw [if_neg e1]
        by_cases e2 : tp m = 0
        · rw [if_pos e2]
          exact ih (k + 1) (by omega) _ _ _ _ _ _ _ (tt_inv_skip ht h e1)
        · rw [if_neg e2]
          by_cases e3 : ts m = 0
          · rw [if_pos e3]
            exact ih (k + 1) (by omega) _ _ _ _ _ _ _ (tt_inv_enter ht h e1 e3)
          · rw [if_neg e3]
            have hop := tt_inv_op ht h
            have hm := (tt_inv_m h e1).2.1
            have hN := ht.2.1
            have hrt := tt_rt_ok hk oc W op m (fun j hj => by have := hop.2 j hj; omega) (by omega) (tr m).toNatClampNeg 0 2 C T (Or.inr (Or.inl rfl))
            exact ih (k + 1) (by omega) _ _ _ _ _ _ _ (tt_inv_test ht h e1 e3 _ hrt.1 _ hrt.2)
theorem tt_rn_fin {N : Nat} {F S P : Nat → Nat} {ts : Nat → Int32} (hk tr oc tg di : Nat → Int32) (x : Int32) (ht : tt_tree N F S P ts) :
    tt_Fin N P hk ts (tt_rn F S P ts hk tr oc tg di N x).1 (tt_rn F S P ts hk tr oc tg di N x).2.1 := by
  unfold tt_rn
  by_cases e : tt_tp F S P ts tg di N x 0 = 0
  · rw [if_pos e]
    exact ⟨fun i _ _ h => absurd rfl h, fun i => Or.inl rfl, fun i _ => rfl, fun i _ => rfl, fun i _ _ h => absurd rfl h⟩
  · rw [if_neg e]
    exact tt_wk_fin tr oc _ ht 64 0 (by omega) _ _ _ _ _ _ _ (tt_inv_0 ht)
theorem tt_rn_0 {N : Nat} {F S P : Nat → Nat} {ts : Nat → Int32} (hk tr oc tg di : Nat → Int32) (ht : tt_tree N F S P ts) :
    tt_rn F S P ts hk tr oc tg di N 0 = ((fun _ => 0), (fun _ => 0), 0) := by
  unfold tt_rn
  rw [if_pos (tt_tp_0 tg di ht)]
end
section
/-! the methods of a run, one lemma each -/
theorem tt_carry {post : Int32 → St1 → Prop} {nn tl oo sg : Int32} {a1 a2 a3 a4 a5 a6 a7 a8 a9 a10 a11 a12 a13 a14 a15 : Nat → Int32} {x w : Int32} (m k : Nat) (hm : m < 24) (hk : k < 4) (hx : x = nI m) (hw : w = nI k)
    (H : post (a6 (m * 4 + k)) (nn, tt_T a6 tl (m * 4 + k), oo, sg, a1, a2, a3, a4, a5, a6, a7, a8, a9, a10, a11, tt_C a6 a12 (m * 4 + k), a13, a14, a15)) : wpX_carryOut post (nn, tl, oo, sg, a1, a2, a3, a4, a5, a6, a7, a8, a9, a10, a11, a12, a13, a14, a15) x w := by
  have e : x * 4 + w = nI (m * 4 + k) := by rw [hx, hw, tt_ix]
  have ec : (x * 4 + w).toNatClampNeg = m * 4 + k := by rw [e]; exact nI_clamp (by omega)
  have hi : vp_in (x * 4 + w) 96 := by rw [e]; exact vp_in_nI (by omega) (by omega)
  unfold wpX_carryOut
  dsimp only
  rw [ec]
  refine ⟨hi, nm_e ?_⟩
  by_cases h0 : a6 (m * 4 + k) = 0
  · simp only [tt_T, tt_C, if_pos h0] at H
    exact br_t h0 H
  · simp only [tt_T, tt_C, if_neg h0] at H
    exact br_f h0 ⟨hi, hi, nm_e (nm_e H)⟩
theorem tt_worse {post : Int32 → Prop} {u : St2} {p0 p1 : Int32} (H : post (tt_ws p0 p1)) : wpX_worse post u p0 p1 := by
  unfold wpX_worse
  unfold tt_ws at H
  by_cases h1 : p0 = 2
  · rw [if_pos h1] at H; exact br_t h1 H
  · rw [if_neg h1] at H
    refine br_f h1 ?_
    by_cases h2 : p1 = 2
    · rw [if_pos h2] at H; exact br_t h2 H
    · rw [if_neg h2] at H
      refine br_f h2 ?_
      by_cases h3 : p0 = 3
      · rw [if_pos h3] at H; exact br_t h3 H
      · rw [if_neg h3] at H
        refine br_f h3 ?_
        by_cases h4 : p1 = 3
        · rw [if_pos h4] at H; exact br_t h4 H
        · rw [if_neg h4] at H
          exact br_f h4 H
theorem tt_note {post : St1 → Prop} {nn tl oo sg : Int32} {a1 a2 a3 a4 a5 a6 a7 a8 a9 a10 a11 a12 a13 a14 a15 : Nat → Int32} {x : Int32} (H : post (nn, tl, oo, tt_ws sg x, a1, a2, a3, a4, a5, a6, a7, a8, a9, a10, a11, a12, a13, a14, a15)) : wpX_note post (nn, tl, oo, sg, a1, a2, a3, a4, a5, a6, a7, a8, a9, a10, a11, a12, a13, a14, a15) x := by
  unfold wpX_note
  dsimp only
  exact tt_worse H
theorem tt_enter {post : Int32 → St1 → Prop} {nn tl sg : Int32} {a1 a2 a3 a4 a5 a6 a7 a8 a9 a10 a11 a12 a13 a14 a15 : Nat → Int32} {x : Int32} (m op : Nat) (hm : m < 24) (hop : op < 24) (hx : x = nI m)
    (H : post (if tt_ws 1 (a6 (m * 4)) = 1 then a3 m else -1) (nn, tt_T a6 tl (m * 4), nI (op + 1), sg, a1, a2, a3, a4, a5, a6, a7, a8, a9, a10, upd a11 m (tt_ws 1 (a6 (m * 4))), tt_C a6 a12 (m * 4), a13, a14, upd a15 op (nI m))) :
    wpX_enter post (nn, tl, nI op, sg, a1, a2, a3, a4, a5, a6, a7, a8, a9, a10, a11, a12, a13, a14, a15) x := by
  subst hx
  have hi : vp_in (nI m) 24 := vp_in_nI hm (by omega)
  unfold wpX_enter
  dsimp only
  refine tt_carry m 0 hm (by omega) rfl rfl ?_
  dsimp only
  refine tt_worse ?_
  rw [nI_clamp (show m < 2 ^ 31 by omega), nI_clamp (show op < 2 ^ 31 by omega)]
  refine ⟨hi, nm_e ⟨vp_in_nI hop (by omega), nm_e (nm_r (nI_1 op) ⟨hi, ?_⟩)⟩⟩
  rw [pk_us]
  by_cases e : tt_ws 1 (a6 (m * 4)) = 1
  · rw [if_pos e] at H
    exact br_t e ⟨hi, H⟩
  · rw [if_neg e] at H
    exact br_f e H
theorem tt_leave {post : St1 → Prop} {nn tl sg : Int32} {a1 a2 a3 a4 a5 a6 a7 a8 a9 a10 a11 a12 a13 a14 a15 : Nat → Int32} (m op : Nat) (hm : m < 24) (hop : op < 24) (hw : a15 op = nI m)
    (H : post (nn, tt_T a6 tl (m * 4 + 1), nI op, sg, a1, a2, a3, a4, a5, a6, a7, a8, a9, a10, upd a11 m (tt_ws (a11 m) (a6 (m * 4 + 1))), tt_C a6 a12 (m * 4 + 1), a13, a14, a15)) : wpX_leave post (nn, tl, nI (op + 1), sg, a1, a2, a3, a4, a5, a6, a7, a8, a9, a10, a11, a12, a13, a14, a15) := by
  have hi : vp_in (nI m) 24 := vp_in_nI hm (by omega)
  unfold wpX_leave
  dsimp only
  refine nm_r (nI_pred op) ⟨vp_in_nI hop (by omega), ?_⟩
  rw [nI_clamp (show op < 2 ^ 31 by omega)]
  refine nm_r hw ?_
  refine tt_carry m 1 hm (by omega) rfl rfl ?_
  dsimp only
  rw [nI_clamp (show m < 2 ^ 31 by omega)]
  exact ⟨hi, tt_worse ⟨hi, nm_e H⟩⟩
theorem tt_goDown2 {post : Int32 → St1 → Prop} {nn : Int32} {a1 a2 a3 a4 a5 a6 a7 a8 a9 a10 a11 a13 a14 a15 : Nat → Int32} (W : Nat → Nat) (op : Nat) (hop : op ≤ 24) (hW : ∀ j, j < op → W j < 24 ∧ a15 j = nI (W j)) : ∀ k d sg a12 tl, d + k = op →
    post (nI (tt_gd a6 W k d sg a12 tl).1) (nn, (tt_gd a6 W k d sg a12 tl).2.2.2, nI op, (tt_gd a6 W k d sg a12 tl).2.1, a1, a2, a3, a4, a5, a6, a7, a8, a9, a10, a11, (tt_gd a6 W k d sg a12 tl).2.2.1, a13, a14, a15) →
    wX_goDown_2 post (k + 1) (nI d) nn tl (nI op) sg a1 a2 a3 a4 a5 a6 a7 a8 a9 a10 a11 a12 a13 a14 a15 := by
  intro k
  induction k with
  | zero =>
    intro d sg a12 tl h H
    have e : d = op := by omega
    subst e
    exact pk_le d d (fun _ => H) (fun z => absurd z (by omega))
  | succ k ih =>
    intro d sg a12 tl h H
    refine pk_le op d (fun z => absurd z (by omega)) (fun _ => ?_)
    unfold tt_gd at H
    by_cases e : sg = 1
    · obtain ⟨h1, h2⟩ := hW d (by omega)
      simp only [if_pos e] at H
      refine br_t e ⟨vp_in_nI (by omega) (by omega), ?_⟩
      rw [nI_clamp (show d < 2 ^ 31 by omega)]
      refine tt_carry (W d) 2 h1 (by omega) h2 rfl ?_
      exact tt_note (nm_r (nI_1 d) (ih (d + 1) _ _ _ (by omega) H))
    · simp only [if_neg e] at H
      exact br_f e H
theorem tt_goDown {post : Int32 → St1 → Prop} {nn tl sg : Int32} {a1 a2 a3 a4 a5 a6 a7 a8 a9 a10 a11 a12 a13 a14 a15 : Nat → Int32} (W : Nat → Nat) (op : Nat) (hop : op ≤ 24) (hW : ∀ j, j < op → W j < 24 ∧ a15 j = nI (W j))
    (H : post (nI (tt_gd a6 W op 0 sg a12 tl).1) (nn, (tt_gd a6 W op 0 sg a12 tl).2.2.2, nI op, (tt_gd a6 W op 0 sg a12 tl).2.1, a1, a2, a3, a4, a5, a6, a7, a8, a9, a10, a11, (tt_gd a6 W op 0 sg a12 tl).2.2.1, a13, a14, a15)) :
    wpX_goDown post (nn, tl, nI op, sg, a1, a2, a3, a4, a5, a6, a7, a8, a9, a10, a11, a12, a13, a14, a15) := by
  unfold wpX_goDown
  exact ⟨op + 1, tt_goDown2 W op hop hW op 0 sg a12 tl (by omega) H⟩
theorem tt_att59 {post : Int32 → St1 → Prop} {nn : Int32} {a1 a2 a3 a4 a5 a6 a7 a8 a9 a10 a11 a13 a14 a15 : Nat → Int32} (W : Nat → Nat) (op : Nat) (hop : op ≤ 24) (hW : ∀ j, j < op → W j < 24 ∧ a15 j = nI (W j)) : ∀ d sg a12 tl, d ≤ op →
    post (tt_up a6 W d sg a12 tl).1 (nn, (tt_up a6 W d sg a12 tl).2.2, nI op, (tt_up a6 W d sg a12 tl).1, a1, a2, a3, a4, a5, a6, a7, a8, a9, a10, a11, (tt_up a6 W d sg a12 tl).2.1, a13, a14, a15) →
    wX_attempt_59 post (d + 1) (nI d - 1) nn tl (nI op) sg a1 a2 a3 a4 a5 a6 a7 a8 a9 a10 a11 a12 a13 a14 a15 := by
  intro d
  induction d with
  | zero =>
    intro sg a12 tl h H
    exact br_t tt_neg1 H
  | succ d ih =>
    intro sg a12 tl h H
    obtain ⟨h1, h2⟩ := hW d (by omega)
    rw [nI_pred d]
    refine br_f (nI_pos (by omega)) ⟨vp_in_nI (by omega) (by omega), ?_⟩
    rw [nI_clamp (show d < 2 ^ 31 by omega)]
    refine tt_carry (W d) 3 h1 (by omega) h2 rfl ?_
    exact tt_note (nm_r (tt_m1 (nI d)) (ih _ _ _ (by omega) H))
theorem tt_body {post : Int32 → Prop} {nn tl oo sg : Int32} {a1 a2 a3 a4 a5 a6 a7 a8 a9 a10 a11 a12 a13 a14 a15 : Nat → Int32} {x y : Int32} (t k : Nat) (ht : t < 24) (hx : x = nI t) (hy : y = nI k) (H : post (tt_bo (a8 t) (nI k))) : wpX_bodyOutcome post (nn, tl, oo, sg, a1, a2, a3, a4, a5, a6, a7, a8, a9, a10, a11, a12, a13, a14, a15) x y := by
  subst hx hy
  unfold wpX_bodyOutcome
  dsimp only
  rw [nI_clamp (show t < 2 ^ 31 by omega)]
  refine ⟨vp_in_nI ht (by omega), nm_e ?_⟩
  unfold tt_bo at H
  by_cases e : (a8 t >>> ((2 * nI k) &&& 31)) &&& 3 = 0
  · rw [if_pos e] at H
    exact br_t e H
  · rw [if_neg e] at H
    exact br_f e H
theorem tt_attempt {post : Int32 → St1 → Prop} {nn tl sg : Int32} {a1 a2 a3 a4 a5 a6 a7 a8 a9 a10 a11 a12 a13 a14 a15 : Nat → Int32} {x y : Int32} (W : Nat → Nat) (op t k : Nat) (hop : op ≤ 24) (hW : ∀ j, j < op → W j < 24 ∧ a15 j = nI (W j)) (ht : t < 24) (hx : x = nI t) (hy : y = nI k)
    (H : post (tt_at a6 a8 W op t k a12 tl).1 (nn, (tt_at a6 a8 W op t k a12 tl).2.2, nI op, (tt_at a6 a8 W op t k a12 tl).1, a1, a2, a3, a4, a5, a6, a7, a8, a9, a10, a11, (tt_at a6 a8 W op t k a12 tl).2.1, a13, a14, a15)) :
    wpX_attempt post (nn, tl, nI op, sg, a1, a2, a3, a4, a5, a6, a7, a8, a9, a10, a11, a12, a13, a14, a15) x y := by
  subst hx hy
  unfold wpX_attempt
  dsimp only
  refine tt_goDown W op hop hW ?_
  have hd := (tt_gd_ok a6 W op (fun j hj => (hW j hj).1) op 0 1 a12 tl (by omega) (Or.inl rfl)).1
  unfold tt_at tt_a2 at H
  generalize tt_gd a6 W op 0 1 a12 tl = G at H hd ⊢
  dsimp only
  have hi : vp_in (nI (t * 4)) 96 := vp_in_nI (by omega) (by omega)
  by_cases e : G.2.1 = 1
  · simp only [if_pos e] at H
    refine br_t e ?_
    rw [tt_ix0, nI_clamp (show t * 4 < 2 ^ 31 by omega)]
    exact ⟨hi, hi, nm_e (nm_e (tt_body t k ht rfl rfl (tt_note (nm_e ⟨G.1 + 1, tt_att59 W op hop hW G.1 _ _ _ hd H⟩))))⟩
  · simp only [if_neg e] at H
    exact br_f e (nm_e ⟨G.1 + 1, tt_att59 W op hop hW G.1 _ _ _ hd H⟩)
theorem tt_runTest4 {post : St1 → Prop} {nn : Int32} {a1 a2 a3 a4 a5 a6 a7 a8 a9 a10 a11 a14 a15 : Nat → Int32} (W : Nat → Nat) (op t r : Nat) (hop : op ≤ 24) (hW : ∀ j, j < op → W j < 24 ∧ a15 j = nI (W j)) (ht : t < 24) (htr : a7 t = nI r) (hr : r ≤ 4) : ∀ n i q sg a12 a13 tl, i + n = r →
    (∀ sg a13, post (nn, (tt_rt a6 a8 W op t n i q a12 tl).2.2, nI op, sg, a1, a2, a3, a4, a5, a6, a7, a8, a9, a10, upd a11 t (tt_rt a6 a8 W op t n i q a12 tl).1, (tt_rt a6 a8 W op t n i q a12 tl).2.1, a13, a14, a15)) →
    wX_runTest_4 post (nI t) (n + 1) q (nI i) nn tl (nI op) sg a1 a2 a3 a4 a5 a6 a7 a8 a9 a10 a11 a12 a13 a14 a15 := by
  intro n
  have hi : vp_in (nI t) 24 := vp_in_nI ht (by omega)
  have hc : (nI t).toNatClampNeg = t := nI_clamp (by omega)
  induction n with
  | zero =>
    intro i q sg a12 a13 tl h H
    unfold wX_runTest_4
    rw [hc]
    exact ⟨hi, pk_le r i (fun _ => ⟨hi, nm_e (H _ _)⟩) (fun z => absurd z (by omega)) htr⟩
  | succ n ih =>
    intro i q sg a12 a13 tl h H
    unfold wX_runTest_4
    rw [hc]
    refine ⟨hi, pk_le r i (fun z => absurd z (by omega)) (fun _ => ?_) htr⟩
    unfold tt_rt at H
    by_cases e : q = 2
    · simp only [if_pos e] at H
      refine br_t e ?_
      refine tt_attempt W op t i hop hW ht rfl rfl ?_
      exact ⟨hi, hi, nm_e (nm_r (nI_1 i) (ih (i + 1) _ _ _ _ _ (by omega) H))⟩
    · simp only [if_neg e] at H
      exact br_f e ⟨hi, nm_e (H _ _)⟩
theorem tt_runTest {post : St1 → Prop} {nn tl sg : Int32} {a1 a2 a3 a4 a5 a6 a7 a8 a9 a10 a11 a12 a13 a14 a15 : Nat → Int32} {x : Int32} (W : Nat → Nat) (op t r : Nat) (hop : op ≤ 24) (hW : ∀ j, j < op → W j < 24 ∧ a15 j = nI (W j)) (ht : t < 24) (htr : a7 t = nI r) (hr : r ≤ 4) (hx : x = nI t)
    (H : ∀ sg a13, post (nn, (tt_rt a6 a8 W op t (a7 t).toNatClampNeg 0 2 a12 tl).2.2, nI op, sg, a1, a2, a3, a4, a5, a6, a7, a8, a9, a10, upd a11 t (tt_rt a6 a8 W op t (a7 t).toNatClampNeg 0 2 a12 tl).1, (tt_rt a6 a8 W op t (a7 t).toNatClampNeg 0 2 a12 tl).2.1, a13, a14, a15)) :
    wpX_runTest post (nn, tl, nI op, sg, a1, a2, a3, a4, a5, a6, a7, a8, a9, a10, a11, a12, a13, a14, a15) x := by
  subst hx
  rw [htr, nI_clamp (show r < 2 ^ 31 by omega)] at H
  unfold wpX_runTest
  exact ⟨r + 1, tt_runTest4 W op t r hop hW ht htr hr r 0 2 sg a12 a13 tl (by omega) H⟩
end
section
/-! the walk, who takes part, count, run -/
/-- how the arrays show the tree -/
def tt_lk (N : Nat) (F S P : Nat → Nat) (a1 a2 a3 a5 a7 : Nat → Int32) : Prop :=
  tt_tree N F S P a1 ∧ (∀ q, q < N → a3 q = tt_en (F q)) ∧ (∀ q, q < N → a5 q = tt_en (S q)) ∧ (∀ q, 0 < q → q < N → a2 q = nI (P q)) ∧ (∀ q, q < N → ¬ a1 q = 0 → ∃ r, r ≤ 4 ∧ a7 q = nI r)
theorem tt_walk13 {post : St1 → Prop} {nn : Int32} {a1 a2 a3 a4 a5 a6 a7 a8 a9 a10 a14 : Nat → Int32} {N : Nat} {F S P : Nat → Nat} (hl : tt_lk N F S P a1 a2 a3 a5 a7) :
    ∀ n k, k + n = 64 → ∀ g m op W a11 a12 tl sg a13 a15, tt_Inv N F S P a6 a1 g k m op W a11 a12 → (∀ j, j < op → a15 j = nI (W j)) →
    (∀ oo sg a13 a15, post (nn, (tt_wk F S a1 a6 a7 a8 a14 n m op W a11 a12 tl).2.2, oo, sg, a1, a2, a3, a4, a5, a6, a7, a8, a9, a10, (tt_wk F S a1 a6 a7 a8 a14 n m op W a11 a12 tl).1, (tt_wk F S a1 a6 a7 a8 a14 n m op W a11 a12 tl).2.1, a13, a14, a15)) →
    wX_walk_13 post (n + 1) (tt_en m) (nI k) nn tl (nI op) sg a1 a2 a3 a4 a5 a6 a7 a8 a9 a10 a11 a12 a13 a14 a15 := by
  obtain ⟨ht, hF, hS, hP, hT⟩ := hl
  have hN := ht.2.1
  intro n
  induction n with
  | zero =>
    intro k hkn g m op W a11 a12 tl sg a13 a15 h hw H
    have := tt_inv_lt ht h
    omega
  | succ n ih =>
    intro k hkn g m op W a11 a12 tl sg a13 a15 h hw H
    have hlt := tt_inv_lt ht h
    obtain ⟨hop, hW⟩ := tt_inv_op ht h
    refine pk_le 64 k (fun z => absurd z (by omega)) (fun _ => ?_)
    unfold tt_wk at H
    by_cases e0 : op = 0
    · simp only [if_pos e0] at H
      exact pk_le op 0 (fun _ => H _ _ _ _) (fun z => absurd z (by omega))
    · simp only [if_neg e0] at H
      refine pk_le op 0 (fun z => absurd z (by omega)) (fun _ => ?_)
      by_cases e1 : m = 0
      · subst e1
        rw [if_pos rfl] at H
        have eo : nI op - 1 = nI (op - 1) := pk_sub (show 1 ≤ op by omega)
        have hq := hW (op - 1) (by omega)
        have hqN := (h.2.2.1.1 (op - 1) (by omega)).1
        have ho : op = op - 1 + 1 := by omega
        refine br_f (by decide) ?_
        rw [eo, nI_clamp (show op - 1 < 2 ^ 31 by omega)]
        refine ⟨vp_in_nI (by omega) (by omega), nm_r (hw (op - 1) (by omega)) ?_⟩
        rw [show nI op = nI (op - 1 + 1) from congrArg nI ho]
        refine tt_leave (W (op - 1)) (op - 1) (by omega) (by omega) (hw (op - 1) (by omega)) ?_
        refine ⟨vp_in_nI (by omega) (by omega), nm_r (e' := tt_en (S (W (op - 1)))) ?_ (nm_r (nI_1 k) (ih (k + 1) (by omega) _ _ _ _ _ _ _ _ _ _ (tt_inv_leave ht h (by omega) _ (tt_ws_in _ _)) (fun j hj => hw j (by omega)) H))⟩
        rw [nI_clamp (show W (op - 1) < 2 ^ 31 by omega)]
        exact hS _ hqN
      · rw [if_neg e1] at H
        obtain ⟨m1, m2, m3, m4, m5, m6, m7⟩ := tt_inv_m h e1
        have hi : vp_in (nI m) 24 := vp_in_nI (by omega) (by omega)
        rw [tt_enS e1]
        refine br_t (nI_pos' (by omega)) ⟨hi, ?_⟩
        rw [nI_clamp (show m < 2 ^ 31 by omega)]
        by_cases e2 : a14 m = 0
        · rw [if_pos e2] at H
          exact br_t e2 ⟨hi, nm_r (hS m m2) (nm_r (nI_1 k) (ih (k + 1) (by omega) _ _ _ _ _ _ _ _ _ _ (tt_inv_skip ht h e1) hw H))⟩
        · rw [if_neg e2] at H
          refine br_f e2 ⟨hi, ?_⟩
          by_cases e3 : a1 m = 0
          · rw [if_pos e3] at H
            refine br_t e3 ?_
            refine tt_enter m op (by omega) (by omega) rfl ?_
            have en : (if tt_ws 1 (a6 (m * 4)) = 1 then a3 m else -1) = tt_en (if tt_ws 1 (a6 (m * 4)) = 1 then F m else 0) := by
              by_cases e : tt_ws 1 (a6 (m * 4)) = 1
              · rw [if_pos e, if_pos e]; exact hF m m2
              · rw [if_neg e, if_neg e]; rfl
            dsimp only
            rw [en]
            refine nm_r (nI_1 k) (ih (k + 1) (by omega) _ _ _ _ _ _ _ _ _ _ (tt_inv_enter ht h e1 e3) (fun j hj => ?_) H)
            by_cases ej : j = op
            · rw [ej, pk_us, tt_us]
            · rw [pk_un ej, tt_un ej]; exact hw j (by omega)
          · rw [if_neg e3] at H
            refine br_f e3 ?_
            obtain ⟨r, hr, hr7⟩ := hT m m2 e3
            have hrt := tt_rt_ok a6 a8 W op m (fun j hj => by have := hW j hj; omega) (by omega) (a7 m).toNatClampNeg 0 2 a12 tl (Or.inr (Or.inl rfl))
            refine tt_runTest W op m r (by omega) (fun j hj => ⟨by have := hW j hj; omega, hw j hj⟩) (by omega) hr7 hr rfl (fun sg a13 => ?_)
            exact ⟨hi, nm_r (hS m m2) (nm_r (nI_1 k) (ih (k + 1) (by omega) _ _ _ _ _ _ _ _ _ _ (tt_inv_test ht h e1 e3 _ hrt.1 _ hrt.2) hw H))⟩
end
section
theorem tt_walk {post : St1 → Prop} {nn oo sg : Int32} {a1 a2 a3 a4 a5 a6 a7 a8 a9 a10 a13 a14 a15 : Nat → Int32} {N : Nat} {F S P : Nat → Nat} (hl : tt_lk N F S P a1 a2 a3 a5 a7)
    (H : ∀ oo sg a13 a15, post (nn, (tt_wk F S a1 a6 a7 a8 a14 64 (if tt_ws 1 (a6 0) = 1 then F 0 else 0) 1 (fun _ => 0) (upd (fun _ => 0) 0 (tt_ws 1 (a6 0))) (tt_C a6 (fun _ => 0) 0) (tt_T a6 0 0)).2.2, oo, sg, a1, a2, a3, a4, a5, a6, a7, a8, a9, a10, (tt_wk F S a1 a6 a7 a8 a14 64 (if tt_ws 1 (a6 0) = 1 then F 0 else 0) 1 (fun _ => 0) (upd (fun _ => 0) 0 (tt_ws 1 (a6 0))) (tt_C a6 (fun _ => 0) 0) (tt_T a6 0 0)).1, (tt_wk F S a1 a6 a7 a8 a14 64 (if tt_ws 1 (a6 0) = 1 then F 0 else 0) 1 (fun _ => 0) (upd (fun _ => 0) 0 (tt_ws 1 (a6 0))) (tt_C a6 (fun _ => 0) 0) (tt_T a6 0 0)).2.1, a13, a14, a15)) :
    wpX_walk post (nn, 0, oo, sg, a1, a2, a3, a4, a5, a6, a7, a8, a9, a10, (fun _ => 0), (fun _ => 0), a13, a14, a15) := by
  have en : (if tt_ws 1 (a6 0) = 1 then a3 0 else -1) = tt_en (if tt_ws 1 (a6 0) = 1 then F 0 else 0) := by
    by_cases e : tt_ws 1 (a6 0) = 1
    · rw [if_pos e, if_pos e]; exact hl.2.1 0 (by have := hl.1.1; omega)
    · rw [if_neg e, if_neg e]; rfl
  unfold wpX_walk
  dsimp only
  refine tt_enter 0 0 (by omega) (by omega) rfl ?_
  rw [Nat.zero_mul]
  dsimp only
  rw [en]
  refine ⟨65, tt_walk13 hl 64 0 (by omega) _ _ _ _ _ _ _ _ _ _ (tt_inv_0 hl.1) (fun j hj => ?_) H⟩
  have : j = 0 := by omega
  rw [this, pk_us]
theorem tt_ctp9 {post : Int32 → Prop} {nn tl oo sg : Int32} {a1 a2 a3 a4 a5 a6 a7 a8 a9 a10 a11 a12 a13 a14 a15 : Nat → Int32} {N : Nat} {F S P : Nat → Nat} (hl : tt_lk N F S P a1 a2 a3 a5 a7) : ∀ r i c, i + r = 24 → c < N → post (tt_ct S a14 r c) →
    wX_childTakesPart_9 post nn tl oo sg a1 a2 a3 a4 a5 a6 a7 a8 a9 a10 a11 a12 a13 a14 a15 (r + 1) (tt_en c) (nI i) := by
  obtain ⟨ht, hF, hS, hP, hT⟩ := hl
  have hN := ht.2.1
  intro r
  induction r with
  | zero =>
    intro i c h hc H
    exact pk_le 24 i (fun _ => H) (fun z => absurd z (by omega))
  | succ r ih =>
    intro i c h hc H
    refine pk_le 24 i (fun z => absurd z (by omega)) (fun _ => ?_)
    unfold tt_ct at H
    by_cases e : c = 0
    · rw [if_pos e] at H
      subst e
      exact br_t (by decide) H
    · rw [if_neg e] at H
      have hi : vp_in (nI c) 24 := vp_in_nI (by omega) (by omega)
      rw [tt_enS e]
      refine br_f (nI_pos (by omega)) ⟨hi, ?_⟩
      rw [nI_clamp (show c < 2 ^ 31 by omega)]
      by_cases e2 : a14 c = 0
      · rw [if_pos e2] at H
        exact br_t e2 ⟨hi, nm_r (hS c hc) (nm_r (nI_1 i) (ih (i + 1) (S c) (by omega) (by rcases ht.2.2.2.1 c hc with y | ⟨y0, y1, y2, y3⟩ <;> omega) H))⟩
      · rw [if_neg e2] at H
        exact br_f e2 H
theorem tt_ctp {post : Int32 → Prop} {nn tl oo sg : Int32} {a1 a2 a3 a4 a5 a6 a7 a8 a9 a10 a11 a12 a13 a14 a15 : Nat → Int32} {x : Int32} {N : Nat} {F S P : Nat → Nat} (hl : tt_lk N F S P a1 a2 a3 a5 a7) (m : Nat) (hm : m < N) (hx : x = nI m) (H : post (tt_ct S a14 24 (F m))) :
    wpX_childTakesPart post (nn, tl, oo, sg, a1, a2, a3, a4, a5, a6, a7, a8, a9, a10, a11, a12, a13, a14, a15) x := by
  subst hx
  have hN := hl.1.2.1
  unfold wpX_childTakesPart
  dsimp only
  rw [nI_clamp (show m < 2 ^ 31 by omega)]
  exact ⟨vp_in_nI (by omega) (by omega), nm_r (hl.2.1 m hm) ⟨25, tt_ctp9 hl 24 0 (F m) rfl (by rcases hl.1.2.2.1 m hm with y | ⟨y1, y2, y3⟩ <;> omega) H⟩⟩
theorem tt_ch71 {post : St1 → Prop} {nn tl oo sg : Int32} {a1 a2 a3 a4 a5 a6 a7 a8 a9 a10 a11 a12 a13 a15 : Nat → Int32} {x : Int32} {N : Nat} {F S P : Nat → Nat} (hl : tt_lk N F S P a1 a2 a3 a5 a7) : ∀ k a14, k ≤ N → post (nn, tl, oo, sg, a1, a2, a3, a4, a5, a6, a7, a8, a9, a10, a11, a12, a13, tt_c2 F S a1 a9 x k a14, a15) →
    wX_choose_71 post x nn tl oo sg (k + 1) (nI k - 1) a1 a2 a3 a4 a5 a6 a7 a8 a9 a10 a11 a12 a13 a14 a15 := by
  have hN := hl.1.2.1
  intro k
  induction k with
  | zero =>
    intro a14 hk H
    exact br_t tt_neg1 H
  | succ k ih =>
    intro a14 hk H
    have hi : vp_in (nI k) 24 := vp_in_nI (by omega) (by omega)
    rw [nI_pred k]
    refine br_f (nI_pos (by omega)) ⟨hi, ?_⟩
    rw [nI_clamp (show k < 2 ^ 31 by omega)]
    unfold tt_c2 tt_v at H
    by_cases e1 : a1 k = 0
    · simp only [if_pos e1] at H
      refine br_t e1 ⟨hi, ?_⟩
      by_cases e2 : a14 k = 0
      · simp only [if_pos e2] at H
        exact br_t e2 ⟨hi, nm_e (nm_r (tt_m1 (nI k)) (ih _ (by omega) H))⟩
      · simp only [if_neg e2] at H
        refine br_f e2 (tt_ctp hl k (by omega) rfl ?_)
        by_cases e3 : tt_ct S a14 24 (F k) = 0
        · simp only [if_pos e3] at H
          exact br_t e3 ⟨hi, nm_e (nm_r (tt_m1 (nI k)) (ih _ (by omega) H))⟩
        · simp only [if_neg e3] at H
          exact br_f e3 ⟨hi, nm_e (nm_r (tt_m1 (nI k)) (ih _ (by omega) H))⟩
    · simp only [if_neg e1] at H
      refine br_f e1 ⟨hi, ?_⟩
      by_cases e2 : a14 k = 0
      · simp only [if_pos e2] at H
        exact br_t e2 ⟨hi, nm_e (nm_r (tt_m1 (nI k)) (ih _ (by omega) H))⟩
      · simp only [if_neg e2] at H
        refine br_f e2 ⟨hi, ?_⟩
        by_cases e3 : a9 k &&& x = 0
        · simp only [if_pos e3] at H
          exact br_t e3 ⟨hi, nm_e (nm_r (tt_m1 (nI k)) (ih _ (by omega) H))⟩
        · simp only [if_neg e3] at H
          exact br_f e3 ⟨hi, nm_e (nm_r (tt_m1 (nI k)) (ih _ (by omega) H))⟩
theorem tt_choose {post : St1 → Prop} {tl oo sg : Int32} {a1 a2 a3 a4 a5 a6 a7 a8 a9 a10 a11 a12 a13 a14 a15 : Nat → Int32} {x : Int32} {N : Nat} {F S P : Nat → Nat} (hl : tt_lk N F S P a1 a2 a3 a5 a7) (h14 : ∀ i, N ≤ i → a14 i = 0)
    (H : post (nI N, tl, oo, sg, a1, a2, a3, a4, a5, a6, a7, a8, a9, a10, a11, a12, a13, tt_tp F S P a1 a9 a10 N x, a15)) : wpX_choose post (nI N, tl, oo, sg, a1, a2, a3, a4, a5, a6, a7, a8, a9, a10, a11, a12, a13, a14, a15) x := by
  have hN := hl.1.2.1
  have hPl : ∀ q, 0 < q → q < N → P q < q := fun q h0 hq => (hl.1.2.2.2.2.2.2.1 q h0 hq).1
  unfold wpX_choose
  dsimp only
  refine pk_loop (fun n i s => wX_choose_2 post x (nI N) tl oo sg n (nI i) a1 a2 a3 a4 a5 a6 a7 a8 a9 a10 a11 a12 a13 s a15) (fun i s => s = tt_c1 a10 P i a14) N 0 a14 (by omega) rfl ?_ ?_
  · intro n s hs
    refine pk_le N N (fun _ => nm_e ⟨N + 1, tt_ch71 hl N s (Nat.le_refl N) ?_⟩) (fun z => absurd z (by omega))
    rw [hs, tt_c1_eq a10 P a14 N hPl h14]
    exact H
  · intro n i s hi hs hw
    have hv : vp_in (nI i) 24 := vp_in_nI (by omega) (by omega)
    have hc : (nI i).toNatClampNeg = i := nI_clamp (by omega)
    have w1 : tt_c1 a10 P (i + 1) a14 = upd s i 1 → wX_choose_41 post (wX_choose_2 post x (nI N) tl oo sg n) x (nI i) (nI N) tl oo sg a1 a2 a3 a4 a5 a6 a7 a8 a9 a10 a11 a12 a13 s a15 := by
      intro e
      unfold wX_choose_41 wX_choose_42
      rw [hc]
      exact br_t rfl ⟨hv, nm_e (nm_r (nI_1 i) (hw _ e.symm))⟩
    have w0 : tt_c1 a10 P (i + 1) a14 = upd s i 0 → wX_choose_37 post (wX_choose_2 post x (nI N) tl oo sg n) x (nI i) (nI N) tl oo sg a1 a2 a3 a4 a5 a6 a7 a8 a9 a10 a11 a12 a13 s a15 := by
      intro e
      unfold wX_choose_37 wX_choose_42
      rw [hc]
      exact br_f (by decide) ⟨hv, nm_e (nm_r (nI_1 i) (hw _ e.symm))⟩
    unfold tt_c1 at w1 w0
    rw [← hs] at w1 w0
    refine pk_le N i (fun z => absurd z (by omega)) (fun _ => ⟨hv, ?_⟩)
    rw [hc]
    by_cases e1 : a10 i = 0
    · rw [if_pos e1] at w1 w0
      refine br_t e1 (pk_le i 0 (fun z => ?_) (fun z => ⟨hv, ?_⟩))
      · rw [if_pos (show i = 0 by omega)] at w1
        exact w1 rfl
      · rw [if_neg (show ¬ i = 0 by omega)] at w1 w0
        have hp := hPl i (by omega) (by omega)
        rw [hl.2.2.2.1 i (by omega) (by omega), nI_clamp (show P i < 2 ^ 31 by omega)]
        refine ⟨vp_in_nI (by omega) (by omega), ?_⟩
        by_cases e2 : s (P i) = 0
        · rw [if_pos e2] at w0
          exact br_t e2 (w0 rfl)
        · rw [if_neg e2] at w1
          exact br_f e2 (w1 rfl)
    · rw [if_neg e1] at w0
      exact br_f e1 (w0 rfl)
theorem tt_count {post : Int32 → Prop} {tl oo sg : Int32} {a1 a2 a3 a4 a5 a6 a7 a8 a9 a10 a11 a12 a13 a14 a15 : Nat → Int32} {x : Int32} {N : Nat} (hN : N ≤ 24) (h1 : ¬ x < 1) (h3 : x ≤ 3) (H : post (nI (tt_cn a1 a11 x N))) : wpX_count post (nI N, tl, oo, sg, a1, a2, a3, a4, a5, a6, a7, a8, a9, a10, a11, a12, a13, a14, a15) x := by
  unfold wpX_count
  dsimp only
  refine br_f h1 (br_t h3 ?_)
  refine pk_loop (σ := Unit) (fun n i _ => wX_count_16 post x (nI N) tl oo sg a1 a2 a3 a4 a5 a6 a7 a8 a9 a10 a11 a12 a13 a14 a15 n (nI (tt_cn a1 a11 x i)) (nI i)) (fun _ _ => True) N 0 () (by omega) trivial ?_ ?_
  · intro n _ _
    exact pk_le N N (fun _ => H) (fun z => absurd z (by omega))
  · intro n i _ hi _ hw
    have t : wX_count_16 post x (nI N) tl oo sg a1 a2 a3 a4 a5 a6 a7 a8 a9 a10 a11 a12 a13 a14 a15 n (nI (tt_cn a1 a11 x (i + 1))) (nI (i + 1)) := hw () trivial
    have hv : vp_in (nI i) 24 := vp_in_nI (by omega) (by omega)
    refine pk_le N i (fun z => absurd z (by omega)) (fun _ => ⟨hv, ?_⟩)
    rw [nI_clamp (show i < 2 ^ 31 by omega)]
    unfold tt_cn at t
    by_cases e1 : a1 i = 0
    · rw [if_pos e1] at t
      exact br_t e1 (nm_r (nI_1 i) t)
    · rw [if_neg e1] at t
      refine br_f e1 ⟨hv, ?_⟩
      by_cases e2 : a11 i = x
      · rw [if_pos e2] at t
        exact br_t e2 (nm_r (nI_1 _) (nm_r (nI_1 i) t))
      · rw [if_neg e2] at t
        exact br_f e2 (nm_r (nI_1 i) t)
theorem tt_run72 {post : Int32 → St1 → Prop} {tl oo sg : Int32} {a1 a2 a3 a4 a5 a6 a7 a8 a9 a10 a11 a12 a13 a14 a15 : Nat → Int32} {N : Nat} (hN : N ≤ 24) (H : post (nI (tt_cn a1 a11 2 N)) (nI N, tl, oo, sg, a1, a2, a3, a4, a5, a6, a7, a8, a9, a10, a11, a12, a13, a14, a15)) : wX_run_72 post (nI N) tl oo sg a1 a2 a3 a4 a5 a6 a7 a8 a9 a10 a11 a12 a13 a14 a15 := by
  unfold wX_run_72
  exact tt_count hN (by decide) (by decide) H
theorem tt_run30 {post : Int32 → St1 → Prop} {tl oo sg : Int32} {a1 a2 a3 a4 a5 a6 a7 a8 a9 a10 a12 a13 a14 a15 : Nat → Int32} {x : Int32} {N : Nat} {F S P : Nat → Nat} (hl : tt_lk N F S P a1 a2 a3 a5 a7) (h12 : ∀ i, 96 ≤ i → a12 i = 0) (h14 : ∀ i, N ≤ i → a14 i = 0)
    (H : ∀ oo sg a13 a15, post (nI (tt_cn a1 (tt_rn F S P a1 a6 a7 a8 a9 a10 N x).1 2 N)) (nI N, (tt_rn F S P a1 a6 a7 a8 a9 a10 N x).2.2, oo, sg, a1, a2, a3, a4, a5, a6, a7, a8, a9, a10, (tt_rn F S P a1 a6 a7 a8 a9 a10 N x).1, (tt_rn F S P a1 a6 a7 a8 a9 a10 N x).2.1, a13, tt_tp F S P a1 a9 a10 N x, a15)) :
    ∃ n, wX_run_30 post x (nI N) tl oo sg n 0 a1 a2 a3 a4 a5 a6 a7 a8 a9 a10 (fun _ => 0) a12 a13 a14 a15 := by
  have hN := hl.1.2.1
  refine pk_loop (fun n i s => wX_run_30 post x (nI N) tl oo sg n (nI i) a1 a2 a3 a4 a5 a6 a7 a8 a9 a10 (fun _ => 0) s a13 a14 a15) (fun i s => (∀ j, j < i → s j = 0) ∧ (∀ j, i ≤ j → s j = a12 j)) 96 0 a12 (by omega) ⟨fun j hj => absurd hj (by omega), fun _ _ => rfl⟩ ?_ ?_
  · intro n s hs
    have es : s = fun _ => 0 := by
      funext j
      rcases Nat.lt_or_ge j 96 with h | h
      · exact hs.1 j h
      · rw [hs.2 j h]; exact h12 j h
    subst es
    refine pk_le 96 96 (fun _ => tt_choose hl h14 ?_) (fun z => absurd z (by omega))
    unfold tt_rn at H
    by_cases e : tt_tp F S P a1 a9 a10 N x 0 = 0
    · simp only [if_pos e] at H
      exact br_t e (tt_run72 (by omega) (H _ _ _ _))
    · simp only [if_neg e] at H
      exact br_f e (tt_walk hl (fun oo sg a13 a15 => tt_run72 (by omega) (H _ _ _ _)))
  · intro n i s hi hs hw
    refine pk_le 96 i (fun z => absurd z (by omega)) (fun _ => ⟨vp_in_nI (by omega) (by omega), ?_⟩)
    rw [nI_clamp (show i < 2 ^ 31 by omega)]
    refine nm_e (nm_r (nI_1 i) (hw _ ⟨fun j hj => ?_, fun j hj => ?_⟩))
    · by_cases e : j = i
      · rw [e, pk_us]
      · rw [pk_un e]; exact hs.1 j (by omega)
    · rw [pk_un (by omega)]; exact hs.2 j (by omega)
theorem tt_run {post : Int32 → St1 → Prop} {tl oo sg : Int32} {a1 a2 a3 a4 a5 a6 a7 a8 a9 a10 a11 a12 a13 a14 a15 : Nat → Int32} {x : Int32} {N : Nat} {F S P : Nat → Nat} (hl : tt_lk N F S P a1 a2 a3 a5 a7) (h11 : ∀ i, N ≤ i → a11 i = 0) (h12 : ∀ i, 96 ≤ i → a12 i = 0) (h14 : ∀ i, N ≤ i → a14 i = 0)
    (H : ∀ oo sg a13 a15, post (nI (tt_cn a1 (tt_rn F S P a1 a6 a7 a8 a9 a10 N x).1 2 N)) (nI N, (tt_rn F S P a1 a6 a7 a8 a9 a10 N x).2.2, oo, sg, a1, a2, a3, a4, a5, a6, a7, a8, a9, a10, (tt_rn F S P a1 a6 a7 a8 a9 a10 N x).1, (tt_rn F S P a1 a6 a7 a8 a9 a10 N x).2.1, a13, tt_tp F S P a1 a9 a10 N x, a15)) :
    wpX_run post (nI N, tl, oo, sg, a1, a2, a3, a4, a5, a6, a7, a8, a9, a10, a11, a12, a13, a14, a15) x := by
  have hN := hl.1.2.1
  unfold wpX_run
  dsimp only
  refine pk_loop (fun n i s => wX_run_2 post x (nI N) tl oo sg n (nI i) a1 a2 a3 a4 a5 a6 a7 a8 a9 a10 s.1 a12 s.2 a14 a15) (fun i s => (∀ j, j < i → s.1 j = 0) ∧ (∀ j, i ≤ j → s.1 j = a11 j)) 24 0 (a11, a13) (by omega) ⟨fun j hj => absurd hj (by omega), fun _ _ => rfl⟩ ?_ ?_
  · intro n s hs
    obtain ⟨s1, s2⟩ := s
    have es : s1 = fun _ => 0 := by
      funext j
      rcases Nat.lt_or_ge j 24 with h | h
      · exact hs.1 j h
      · rw [show s1 j = a11 j from hs.2 j h]; exact h11 j (by omega)
    subst es
    exact pk_le 24 24 (fun _ => tt_run30 hl h12 h14 H) (fun z => absurd z (by omega))
  · intro n i s hi hs hw
    have hv : vp_in (nI i) 24 := vp_in_nI (by omega) (by omega)
    refine pk_le 24 i (fun z => absurd z (by omega)) (fun _ => ⟨hv, ?_⟩)
    rw [nI_clamp (show i < 2 ^ 31 by omega)]
    refine nm_e ⟨hv, nm_e (nm_r (nI_1 i) (hw (upd s.1 i 0, upd s.2 i 0) ⟨fun j hj => ?_, fun j hj => ?_⟩))⟩
    · show upd s.1 i 0 j = 0
      by_cases e : j = i
      · rw [e, pk_us]
      · rw [pk_un e]; exact hs.1 j (by omega)
    · show upd s.1 i 0 j = a11 j
      rw [pk_un (by omega)]; exact hs.2 j (by omega)
end
section
/-! building: the methods -/
theorem tt_clear {post : St1 → Prop} {nn tl oo sg : Int32} {a1 a2 a3 a4 a5 a6 a7 a8 a9 a10 a11 a12 a13 a14 a15 : Nat → Int32} {x y z : Int32} (n : Nat) (hn : n < 24) (hx : x = nI n)
    (H : post (nn, tl, oo, sg, upd a1 n (vp_nar .boolean z), upd a2 n y, upd a3 n (-1), upd a4 n (-1), upd a5 n (-1), a6, upd a7 n 1, upd a8 n 1, upd a9 n 1, a10, a11, a12, a13, a14, a15)) : wpX_clearNode post (nn, tl, oo, sg, a1, a2, a3, a4, a5, a6, a7, a8, a9, a10, a11, a12, a13, a14, a15) x y z := by
  subst hx
  have hi : vp_in (nI n) 24 := vp_in_nI hn (by omega)
  unfold wpX_clearNode
  dsimp only
  rw [nI_clamp (show n < 2 ^ 31 by omega)]
  exact ⟨hi, nm_e ⟨hi, nm_e ⟨hi, nm_e ⟨hi, nm_e ⟨hi, nm_e ⟨hi, nm_e ⟨hi, nm_e ⟨hi, nm_e H⟩⟩⟩⟩⟩⟩⟩⟩
theorem tt_noNode {post : Int32 → Prop} {tl oo sg : Int32} {a1 a2 a3 a4 a5 a6 a7 a8 a9 a10 a11 a12 a13 a14 a15 : Nat → Int32} {x : Int32} {N : Nat} (p : Nat) (hp : p < N) (hN : N ≤ 24) (hx : x = nI p) (H : post 0) : wpX_noNode post (nI N, tl, oo, sg, a1, a2, a3, a4, a5, a6, a7, a8, a9, a10, a11, a12, a13, a14, a15) x := by
  subst hx
  unfold wpX_noNode
  dsimp only
  exact br_f (nI_pos (by omega)) (br_t (nI_lt hp (by omega)) H)
theorem tt_noCont {post : Int32 → Prop} {tl oo sg : Int32} {a1 a2 a3 a4 a5 a6 a7 a8 a9 a10 a11 a12 a13 a14 a15 : Nat → Int32} {x : Int32} {N : Nat} (p : Nat) (hp : p < N) (hN : N ≤ 24) (hx : x = nI p) (H0 : a1 p = 0 → post 0) (H1 : ¬ a1 p = 0 → post 1) : wpX_noContainer post (nI N, tl, oo, sg, a1, a2, a3, a4, a5, a6, a7, a8, a9, a10, a11, a12, a13, a14, a15) x := by
  unfold wpX_noContainer
  dsimp only
  refine tt_noNode p hp hN hx (br_t rfl ?_)
  rw [hx, nI_clamp (show p < 2 ^ 31 by omega)]
  exact ⟨vp_in_nI (by omega) (by omega), H0, H1⟩
theorem tt_noTest {post : Int32 → Prop} {tl oo sg : Int32} {a1 a2 a3 a4 a5 a6 a7 a8 a9 a10 a11 a12 a13 a14 a15 : Nat → Int32} {x : Int32} {N : Nat} (p : Nat) (hp : p < N) (hN : N ≤ 24) (hx : x = nI p) (H0 : a1 p = 0 → post 1) (H1 : ¬ a1 p = 0 → post 0) : wpX_noTest post (nI N, tl, oo, sg, a1, a2, a3, a4, a5, a6, a7, a8, a9, a10, a11, a12, a13, a14, a15) x := by
  unfold wpX_noTest
  dsimp only
  refine tt_noNode p hp hN hx (br_t rfl ?_)
  rw [hx, nI_clamp (show p < 2 ^ 31 by omega)]
  exact ⟨vp_in_nI (by omega) (by omega), H0, H1⟩
theorem tt_add {post : Int32 → St1 → Prop} {tl oo sg : Int32} {a1 a2 a3 a4 a5 a6 a7 a8 a9 a10 a11 a12 a13 a14 a15 : Nat → Int32} {x z : Int32} {N : Nat} (p l : Nat) (hN : N < 16) (hp : p < N) (hx : x = nI p) (hl : a4 p = tt_en l) (hln : l < N)
    (H1 : ¬ a1 p = 0 → post (-1) (nI N, tl, oo, sg, a1, a2, a3, a4, a5, a6, a7, a8, a9, a10, a11, a12, a13, a14, a15))
    (H2 : a1 p = 0 → l = 0 → post (nI N) (nI (N + 1), tl, oo, sg, upd a1 N (vp_nar .boolean z), upd a2 N (nI p), upd (upd a3 N (-1)) p (nI N), upd (upd a4 N (-1)) p (nI N), upd a5 N (-1), a6, upd a7 N 1, upd a8 N 1, upd a9 N 1, a10, a11, a12, a13, a14, a15))
    (H3 : a1 p = 0 → l ≠ 0 → post (nI N) (nI (N + 1), tl, oo, sg, upd a1 N (vp_nar .boolean z), upd a2 N (nI p), upd a3 N (-1), upd (upd a4 N (-1)) p (nI N), upd (upd a5 N (-1)) l (nI N), a6, upd a7 N 1, upd a8 N 1, upd a9 N 1, a10, a11, a12, a13, a14, a15)) :
    wpX_add post (nI N, tl, oo, sg, a1, a2, a3, a4, a5, a6, a7, a8, a9, a10, a11, a12, a13, a14, a15) x z := by
  subst hx
  have hi : vp_in (nI p) 24 := vp_in_nI (by omega) (by omega)
  have hc : (nI p).toNatClampNeg = p := nI_clamp (by omega)
  unfold wpX_add
  dsimp only
  refine tt_noCont p hp (by omega) rfl (fun e => br_t rfl (br_t (nI_lt (b := 24) (by omega) (by omega)) (tt_clear N (by omega) rfl ?_))) (fun e => br_f (by decide) (H1 e))
  dsimp only
  rw [hc, pk_un (show p ≠ N by omega), hl]
  refine ⟨hi, ?_⟩
  by_cases e0 : l = 0
  · subst e0
    refine br_f (by decide) ⟨hi, nm_e ?_⟩
    unfold wX_add_65
    rw [hc]
    exact ⟨hi, nm_e (nm_r (nI_1 N) (H2 e rfl))⟩
  · rw [tt_enS e0, nI_clamp (show l < 2 ^ 31 by omega)]
    refine br_t (nI_pos' (by omega)) ⟨hi, vp_in_nI (by omega) (by omega), nm_e ?_⟩
    unfold wX_add_65
    rw [hc]
    exact ⟨hi, nm_e (nm_r (nI_1 N) (H3 e e0))⟩
theorem tt_hook {post : Int32 → St1 → Prop} {tl oo sg : Int32} {a1 a2 a3 a4 a5 a6 a7 a8 a9 a10 a11 a12 a13 a14 a15 : Nat → Int32} {x w o : Int32} {N : Nat} (p k v : Nat) (hp : p < N) (hN : N ≤ 24) (hk : k < 4) (hv : v < 4) (hx : x = nI p) (hw : w = nI k) (ho : o = nI v) (hc : a1 p = 0)
    (H : ∀ r, post r (nI N, tl, oo, sg, a1, a2, a3, a4, a5, upd a6 (p * 4 + k) (nI v), a7, a8, a9, a10, a11, a12, a13, a14, a15)) : wpX_hook post (nI N, tl, oo, sg, a1, a2, a3, a4, a5, a6, a7, a8, a9, a10, a11, a12, a13, a14, a15) x w o := by
  subst hx hw ho
  have e : nI p * 4 + nI k = nI (p * 4 + k) := tt_ix p k
  have hi : vp_in (nI (p * 4 + k)) 96 := vp_in_nI (by omega) (by omega)
  unfold wpX_hook
  dsimp only
  refine tt_noCont p hp hN rfl (fun _ => br_t rfl ?_) (fun z => absurd hc z)
  rw [e, nI_clamp (show p * 4 + k < 2 ^ 31 by omega)]
  exact pk_lt k 0 (fun z => absurd z (by omega)) (fun _ => pk_lt 3 k (fun z => absurd z (by omega)) (fun _ => pk_lt v 0 (fun z => absurd z (by omega)) (fun _ => pk_le v 3 (fun _ => ⟨hi, nm_e ⟨hi, nm_e (H _)⟩⟩) (fun z => absurd z (by omega)))))
theorem tt_bodyM {post : Int32 → St1 → Prop} {tl oo sg : Int32} {a1 a2 a3 a4 a5 a6 a7 a8 a9 a10 a11 a12 a13 a14 a15 : Nat → Int32} {x y o : Int32} {N : Nat} (p r : Nat) (hp : p < N) (hN : N ≤ 24) (h1 : 1 ≤ r) (h4 : r ≤ 4) (hx : x = nI p) (hy : y = nI r) (hc : ¬ a1 p = 0)
    (H : post 0 (nI N, tl, oo, sg, a1, a2, a3, a4, a5, a6, upd a7 p (nI r), upd a8 p o, a9, a10, a11, a12, a13, a14, a15)) : wpX_body post (nI N, tl, oo, sg, a1, a2, a3, a4, a5, a6, a7, a8, a9, a10, a11, a12, a13, a14, a15) x y o := by
  subst hx hy
  have hi : vp_in (nI p) 24 := vp_in_nI (by omega) (by omega)
  unfold wpX_body
  dsimp only
  refine tt_noTest p hp hN rfl (fun z => absurd z hc) (fun _ => br_t rfl ?_)
  rw [nI_clamp (show p < 2 ^ 31 by omega)]
  exact pk_lt r 1 (fun z => absurd z (by omega)) (fun _ => pk_le r 4 (fun _ => ⟨hi, nm_e ⟨hi, nm_e H⟩⟩) (fun z => absurd z (by omega)))
theorem tt_tags {post : Int32 → St1 → Prop} {tl oo sg : Int32} {a1 a2 a3 a4 a5 a6 a7 a8 a9 a10 a11 a12 a13 a14 a15 : Nat → Int32} {x y : Int32} {N : Nat} (p : Nat) (hp : p < N) (hN : N ≤ 24) (hx : x = nI p) (hc : ¬ a1 p = 0)
    (H : post 0 (nI N, tl, oo, sg, a1, a2, a3, a4, a5, a6, a7, a8, upd a9 p y, a10, a11, a12, a13, a14, a15)) : wpX_tags post (nI N, tl, oo, sg, a1, a2, a3, a4, a5, a6, a7, a8, a9, a10, a11, a12, a13, a14, a15) x y := by
  subst hx
  unfold wpX_tags
  dsimp only
  refine tt_noTest p hp hN rfl (fun z => absurd z hc) (fun _ => br_t rfl ?_)
  rw [nI_clamp (show p < 2 ^ 31 by omega)]
  exact ⟨vp_in_nI (by omega) (by omega), nm_e H⟩
theorem tt_disable {post : Int32 → St1 → Prop} {tl oo sg : Int32} {a1 a2 a3 a4 a5 a6 a7 a8 a9 a10 a11 a12 a13 a14 a15 : Nat → Int32} {x y : Int32} {N : Nat} (p : Nat) (hp : p < N) (hN : N ≤ 24) (hx : x = nI p)
    (H : ∀ r, post r (nI N, tl, oo, sg, a1, a2, a3, a4, a5, a6, a7, a8, a9, upd a10 p (vp_nar .boolean y), a11, a12, a13, a14, a15)) : wpX_disable post (nI N, tl, oo, sg, a1, a2, a3, a4, a5, a6, a7, a8, a9, a10, a11, a12, a13, a14, a15) x y := by
  subst hx
  have hi : vp_in (nI p) 24 := vp_in_nI (by omega) (by omega)
  have hc : (nI p).toNatClampNeg = p := nI_clamp (by omega)
  unfold wpX_disable
  dsimp only
  refine tt_noNode p hp hN rfl (br_t rfl ⟨hi, ?_⟩)
  refine br_c (fun _ => ?_) (fun _ => ?_)
  · unfold wX_disable_24
    rw [hc]
    exact ⟨hi, nm_e (H _)⟩
  · unfold wX_disable_24
    rw [hc]
    exact ⟨hi, nm_e (H _)⟩
/-! building: the picture -/
theorem tt_tree_add {N p l : Nat} {F S P F' S' : Nat → Nat} {ts : Nat → Int32} {z : Int32} (ht : tt_tree N F S P ts) (hN : N < 16) (hp : p < N) (hc : ts p = 0)
    (f1 : ∀ q, q < N → q ≠ p → F' q = F q) (f2 : F' p = F p ∨ F' p = N) (f3 : F' N = 0)
    (s1 : ∀ q, q < N → S' q = S q ∨ (S' q = N ∧ q = l)) (s3 : S' N = 0) (hl : ∀ q, q < N → S' q = N → 0 < l ∧ P l = p) (hx : F' p = N → ∀ q, q < N → S' q = S q) :
    tt_tree (N + 1) F' S' (tt_u P N p) (upd ts N z) := by
  obtain ⟨t1, t2, t3, t4, t5, t6, t7, t8⟩ := ht
  have fF : ∀ q, q < N → F' q = F q ∨ (F' q = N ∧ q = p) := by
    intro q hq
    by_cases e : q = p
    · rw [e]
      rcases f2 with y | y
      · exact Or.inl y
      · exact Or.inr ⟨y, rfl⟩
    · exact Or.inl (f1 q hq e)
  have hFN : ∀ q, q < N → F q < N := fun q hq => by rcases t3 q hq with y | ⟨y1, y2, y3⟩ <;> omega
  have hSN : ∀ q, q < N → S q < N := fun q hq => by rcases t4 q hq with y | ⟨y0, y1, y2, y3⟩ <;> omega
  refine ⟨by omega, by omega, fun q hq => ?_, fun q hq => ?_, fun q q' hq hq' h0 e => ?_, fun q q' hq hq' h0 e => ?_, fun q h0 hq => ?_, ?_⟩
  · by_cases eq : q = N
    · rw [eq]; exact Or.inl f3
    · rcases fF q (by omega) with y | ⟨y, y2⟩
      · rw [y]
        rcases t3 q (by omega) with w | ⟨w1, w2, w3⟩
        · exact Or.inl w
        · exact Or.inr ⟨w1, by omega, by rw [tt_un (by omega)]; exact w3⟩
      · rw [y]
        exact Or.inr ⟨by omega, by omega, by rw [tt_us]; exact y2.symm⟩
  · by_cases eq : q = N
    · rw [eq]; exact Or.inl s3
    · rcases s1 q (by omega) with y | ⟨y, y2⟩
      · rw [y]
        rcases t4 q (by omega) with w | ⟨w0, w1, w2, w3⟩
        · exact Or.inl w
        · exact Or.inr ⟨w0, w1, by omega, by rw [tt_un (by omega), tt_un eq]; exact w3⟩
      · have h2 := hl q (by omega) y
        rw [y]
        exact Or.inr ⟨by omega, by omega, by omega, by rw [tt_us, tt_un eq, y2]; exact h2.2.symm⟩
  · have n1 : q ≠ N := fun y => h0 (by rw [y]; exact s3)
    have n2 : q' ≠ N := fun y => h0 (by rw [e, y]; exact s3)
    have b1 := hSN q (by omega)
    have b2 := hSN q' (by omega)
    rcases s1 q (by omega) with y | ⟨y, y2⟩ <;> rcases s1 q' (by omega) with w | ⟨w, w2⟩
    · rw [y] at h0; rw [y, w] at e; exact t5 q q' (by omega) (by omega) h0 e
    · omega
    · omega
    · omega
  · have n1 : q ≠ N := fun y => h0 (by rw [y]; exact f3)
    have n2 : q' ≠ N := fun y => h0 (by rw [e, y]; exact s3)
    have b1 := hFN q (by omega)
    have b2 := hSN q' (by omega)
    rcases fF q (by omega) with y | ⟨y, y2⟩ <;> rcases s1 q' (by omega) with w | ⟨w, w2⟩
    · rw [y] at h0; rw [y, w] at e; exact t6 q q' (by omega) (by omega) h0 e
    · omega
    · omega
    · rw [y2] at y
      have := hx y q' (by omega)
      omega
  · by_cases eq : q = N
    · rw [eq, tt_us, pk_un (show p ≠ N by omega)]
      exact ⟨hp, hc⟩
    · have := t7 q h0 (by omega)
      rw [tt_un eq, pk_un (show P q ≠ N by omega)]
      exact this
  · rw [pk_un (by omega)]; exact t8
/-- what the law keeps by itself: parents, hooks, tests -/
def tt_h (N : Nat) (P : Nat → Nat) (x2 x4 : Int64) (x6 : Int32) (a1 a6 : Nat → Int32) : Prop :=
  (∀ i, 0 < i → i < N → tt_nb x2 i = P i) ∧ (∀ i, N ≤ i → i < 16 → tt_nb x2 i = 0) ∧
  (∀ i, i < N → ∃ b c, b < 4 ∧ c < 4 ∧ a6 (i * 4) = nI b ∧ a6 (i * 4 + 1) = nI c ∧ tt_nb x4 i = b + 4 * c) ∧ (∀ i, N ≤ i → i < 16 → tt_nb x4 i = 0) ∧ (∀ k, N * 4 ≤ k → a6 k = 0) ∧
  (∀ i, i < N → (tb_t x6 i = true ↔ ¬ a1 i = 0)) ∧ (∀ i, N ≤ i → i < 16 → tb_t x6 i = false)
def tt_B (N : Nat) (x2 x4 : Int64) (x6 : Int32) (a1 a2 a3 a4 a5 a6 a7 : Nat → Int32) : Prop :=
  ∃ F S P Q : Nat → Nat, tt_lk N F S P a1 a2 a3 a5 a7 ∧ (∀ q, q < N → a4 q = tt_en (Q q)) ∧ (∀ q, q < N → Q q = 0 ∨ (0 < Q q ∧ Q q < N ∧ P (Q q) = q)) ∧ tt_h N P x2 x4 x6 a1 a6
theorem tt_h_add {N p : Nat} {P : Nat → Nat} {x2 x4 : Int64} {x6 x6' z : Int32} {a1 a6 : Nat → Int32} (h : tt_h N P x2 x4 x6 a1 a6) (hN : N < 16) (hp : p < N)
    (hz : (z = 0 ∧ x6' = x6) ∨ (z = 1 ∧ x6' = x6 ||| ((1 : Int32) <<< (nI N &&& 31)))) :
    tt_h (N + 1) (tt_u P N p) (x2 ||| ((nI p).toInt64 <<< ((4 * nI N).toInt64 &&& 63))) x4 x6' (upd a1 N z) a6 := by
  obtain ⟨h1, h2, h3, h4, h5, h6, h7⟩ := h
  have hb : ∀ i, i < 16 → tb_t x6' i = (tb_t x6 i || (decide (i = N) && decide (z = 1))) := by
    intro i hi
    rcases hz with ⟨y1, y2⟩ | ⟨y1, y2⟩
    · rw [y2, y1, decide_eq_false (show ¬ (0 : Int32) = 1 by decide)]
      simp
    · rw [y2, y1, tb_set x6 (by omega) (by omega)]
      simp
  refine ⟨fun i h0 hi => ?_, fun i hi h16 => ?_, fun i hi => ?_, fun i hi h16 => h4 i (by omega) h16, fun k hk => h5 k (by omega), fun i hi => ?_, fun i hi h16 => ?_⟩
  · rw [tt_nb_or x2 (by omega) hN (by omega) (h2 N (by omega) hN)]
    by_cases e : i = N
    · rw [if_pos e, e, tt_us]
    · rw [if_neg e, tt_un e]; exact h1 i h0 (by omega)
  · rw [tt_nb_or x2 (by omega) hN (by omega) (h2 N (by omega) hN), if_neg (by omega)]
    exact h2 i (by omega) h16
  · by_cases e : i = N
    · rw [e]
      exact ⟨0, 0, by omega, by omega, h5 _ (by omega), h5 _ (by omega), h4 N (by omega) hN⟩
    · exact h3 i (by omega)
  · rw [hb i (by omega)]
    by_cases e : i = N
    · rw [e, pk_us, h7 N (by omega) hN]
      rcases hz with ⟨y1, y2⟩ | ⟨y1, y2⟩ <;> rw [y1] <;> simp
    · rw [pk_un e, ← h6 i (by omega)]
      simp [e]
  · rw [hb i h16, h7 i (by omega) h16]
    simp [show ¬ i = N by omega]
theorem tt_B_add {N p : Nat} {F S P Q F' S' : Nat → Nat} {x2 x4 : Int64} {x6 x6' z : Int32} {a1 a2 a3 a4 a5 a6 a7 a3' a5' : Nat → Int32} (hl : tt_lk N F S P a1 a2 a3 a5 a7) (hq : ∀ q, q < N → a4 q = tt_en (Q q))
    (hq2 : ∀ q, q < N → Q q = 0 ∨ (0 < Q q ∧ Q q < N ∧ P (Q q) = q)) (hh : tt_h N P x2 x4 x6 a1 a6) (hN : N < 16) (hp : p < N)
    (hz : (z = 0 ∧ x6' = x6) ∨ (z = 1 ∧ x6' = x6 ||| ((1 : Int32) <<< (nI N &&& 31))))
    (ht : tt_tree (N + 1) F' S' (tt_u P N p) (upd a1 N z)) (h3 : ∀ q, q < N + 1 → a3' q = tt_en (F' q)) (h5 : ∀ q, q < N + 1 → a5' q = tt_en (S' q)) :
    tt_B (N + 1) (x2 ||| ((nI p).toInt64 <<< ((4 * nI N).toInt64 &&& 63))) x4 x6' (upd a1 N z) (upd a2 N (nI p)) a3' (upd (upd a4 N (-1)) p (nI N)) a5' a6 (upd a7 N 1) := by
  obtain ⟨_, l3, l5, l2, l7⟩ := hl
  refine ⟨F', S', tt_u P N p, tt_u (tt_u Q N 0) p N, ⟨ht, h3, h5, fun q h0 hqN => ?_, fun q hqN h1 => ?_⟩, fun q hqN => ?_, fun q hqN => ?_, tt_h_add hh hN hp hz⟩
  · by_cases e : q = N
    · rw [e, pk_us, tt_us]
    · rw [pk_un e, tt_un e]; exact l2 q h0 (by omega)
  · by_cases e : q = N
    · rw [e, pk_us]; exact ⟨1, by omega, rfl⟩
    · rw [pk_un e] at h1 ⊢; exact l7 q (by omega) h1
  · by_cases e : q = p
    · rw [e, pk_us, tt_us, tt_enS (by omega)]
    · rw [pk_un e, tt_un e]
      by_cases e2 : q = N
      · rw [e2, pk_us, tt_us]; rfl
      · rw [pk_un e2, tt_un e2]; exact hq q (by omega)
  · by_cases e : q = p
    · rw [e, tt_us]
      exact Or.inr ⟨by omega, by omega, tt_us⟩
    · rw [tt_un e]
      by_cases e2 : q = N
      · rw [e2, tt_us]; exact Or.inl rfl
      · rw [tt_un e2]
        rcases hq2 q (by omega) with y | ⟨y1, y2, y3⟩
        · exact Or.inl y
        · exact Or.inr ⟨y1, by omega, by rw [tt_un (by omega)]; exact y3⟩
theorem tt_B_hook {N : Nat} {x2 x4 : Int64} {x6 : Int32} {a1 a2 a3 a4 a5 a6 a6' a7 : Nat → Int32} (h : tt_B (N + 1) x2 x4 x6 a1 a2 a3 a4 a5 a6 a7) (hN : N < 16) (h0 : tt_nb x4 N = 0) (b c : Nat) (hb : b < 4) (hc : c < 4)
    (e1 : ∀ q, q < N * 4 → a6' q = a6 q) (e2 : a6' (N * 4) = nI b) (e3 : a6' (N * 4 + 1) = nI c) (e4 : ∀ q, N * 4 + 4 ≤ q → a6' q = a6 q) :
    tt_B (N + 1) x2 (x4 ||| ((nI (b + 4 * c)).toInt64 <<< ((4 * nI N).toInt64 &&& 63))) x6 a1 a2 a3 a4 a5 a6' a7 := by
  obtain ⟨F, S, P, Q, hl, hq, hq2, ⟨h1, h2, h3, h4, h5, h6, h7⟩⟩ := h
  refine ⟨F, S, P, Q, hl, hq, hq2, ⟨h1, h2, fun i hi => ?_, fun i hi h16 => ?_, fun k hk => ?_, h6, h7⟩⟩
  · rw [tt_nb_or x4 (by omega) hN (by omega) h0]
    by_cases e : i = N
    · rw [if_pos e, e]
      exact ⟨b, c, hb, hc, e2, e3, rfl⟩
    · rw [if_neg e, e1 _ (by omega), e1 _ (by omega)]
      exact h3 i hi
  · rw [tt_nb_or x4 (by omega) hN (by omega) h0, if_neg (by omega)]
    exact h4 i hi h16
  · rw [e4 k (by omega)]; exact h5 k hk
theorem tt_B_tries {N n r : Nat} {x2 x4 : Int64} {x6 : Int32} {a1 a2 a3 a4 a5 a6 a7 : Nat → Int32} (h : tt_B N x2 x4 x6 a1 a2 a3 a4 a5 a6 a7) (hr : r ≤ 4) : tt_B N x2 x4 x6 a1 a2 a3 a4 a5 a6 (upd a7 n (nI r)) := by
  obtain ⟨F, S, P, Q, ⟨l1, l3, l5, l2, l7⟩, hq, hq2, hh⟩ := h
  refine ⟨F, S, P, Q, ⟨l1, l3, l5, l2, fun q hqN h1 => ?_⟩, hq, hq2, hh⟩
  by_cases e : q = n
  · rw [e, pk_us]; exact ⟨r, hr, rfl⟩
  · rw [pk_un e]; exact l7 q hqN h1
/-- at the start: the root alone -/
theorem tt_B_0 : tt_B 1 0 0 0 (upd (fun _ => 0) 0 0) (upd (fun _ => 0) 0 (-1)) (upd (fun _ => 0) 0 (-1)) (upd (fun _ => 0) 0 (-1)) (upd (fun _ => 0) 0 (-1)) (fun _ => 0) (upd (fun _ => 0) 0 1) := by
  have z0 : ∀ q, q < 1 → q = 0 := fun q hq => by omega
  refine ⟨fun _ => 0, fun _ => 0, fun _ => 0, fun _ => 0, ⟨⟨by omega, by omega, fun q _ => Or.inl rfl, fun q _ => Or.inl rfl, fun q q' _ _ h _ => absurd rfl h, fun q q' _ _ h _ => absurd rfl h, fun q h0 hq => by omega, pk_us⟩, fun q hq => ?_, fun q hq => ?_, fun q h0 hq => by omega, fun q hq h => ?_⟩, fun q hq => ?_, fun q _ => Or.inl rfl, ⟨fun i h0 hi => by omega, fun i _ _ => tt_nb_0 i, fun i hi => ⟨0, 0, by omega, by omega, rfl, rfl, tt_nb_0 i⟩, fun i _ _ => tt_nb_0 i, fun _ _ => rfl, fun i hi => ?_, fun i _ _ => tb_0 i⟩⟩
  · rw [z0 q hq, pk_us]; rfl
  · rw [z0 q hq, pk_us]; rfl
  · rw [z0 q hq, pk_us] at h; exact absurd rfl h
  · rw [z0 q hq, pk_us]; rfl
  · rw [z0 i hi, pk_us, tb_0]; simp
end
section
/-! the law's first loop -/
theorem tt_276 {post : Int32 → Prop} {L : Nat} {xs : Nat → Int32} {J : Int64 → Int64 → Int32 → Int32 → Int32 → Int32 → Int32 → Int32 → Int32 → (Nat → Int32) → (Nat → Int32) → (Nat → Int32) → (Nat → Int32) → (Nat → Int32) → (Nat → Int32) → (Nat → Int32) → (Nat → Int32) → (Nat → Int32) → (Nat → Int32) → (Nat → Int32) → (Nat → Int32) → (Nat → Int32) → (Nat → Int32) → (Nat → Int32) → Prop} {x2 x4 : Int64} {x6 x12 : Int32} {kc ks : Nat} {tl oo sg : Int32} {a1 a2 a3 a4 a5 a6 a7 a8 a9 a11 a12 a13 a14 a15 : Nat → Int32} (n k : Nat) (hn : n < 16)
    (HJ : ∀ a10, J x2 x4 x6 (nI (n + 1)) (nI (k + 2)) (nI (n + 1)) tl oo sg a1 a2 a3 a4 a5 a6 a7 a8 a9 a10 a11 a12 a13 a14 a15) (a10 : Nat → Int32) : wL_law_276 post L xs J x2 x4 x6 (nI n) (nI k) x12 kc ks (nI (n + 1)) tl oo sg a1 a2 a3 a4 a5 a6 a7 a8 a9 a10 a11 a12 a13 a14 a15 := by
  unfold wL_law_276
  exact br_c (fun _ => tt_disable n (by omega) (by omega) rfl (fun r => nm_r (nI_1 n) (nm_r (nI_add k 2) (HJ _)))) (fun _ => nm_r (nI_1 n) (nm_r (nI_add k 2) (HJ _)))
theorem tt_198 {post : Int32 → Prop} {L : Nat} {xs : Nat → Int32} {J : Int64 → Int64 → Int32 → Int32 → Int32 → Int32 → Int32 → Int32 → Int32 → (Nat → Int32) → (Nat → Int32) → (Nat → Int32) → (Nat → Int32) → (Nat → Int32) → (Nat → Int32) → (Nat → Int32) → (Nat → Int32) → (Nat → Int32) → (Nat → Int32) → (Nat → Int32) → (Nat → Int32) → (Nat → Int32) → (Nat → Int32) → (Nat → Int32) → Prop} {x2 x4 : Int64} {x6 x12 z : Int32} {kc ks : Nat} {tl oo sg : Int32} {a1 a2 a3 a4 a5 a6 a7 a8 a9 a10 a11 a12 a13 a14 a15 : Nat → Int32} (n k b : Nat) (hn : n < 16) (hb : b < 4) (hz : z = nI b) (hc : a1 n = 0)
    (HJ : ∀ c a6' a10, c < 4 → (∀ q, q < n * 4 → a6' q = a6 q) → a6' (n * 4) = nI b → a6' (n * 4 + 1) = nI c → (∀ q, n * 4 + 4 ≤ q → a6' q = a6 q) →
      J x2 (x4 ||| ((nI (b + 4 * c)).toInt64 <<< ((4 * nI n).toInt64 &&& 63))) x6 (nI (n + 1)) (nI (k + 2)) (nI (n + 1)) tl oo sg a1 a2 a3 a4 a5 a6' a7 a8 a9 a10 a11 a12 a13 a14 a15) :
    wL_law_198 post L xs J x2 x4 x6 (nI n) (nI k) x12 z kc ks (nI (n + 1)) tl oo sg a1 a2 a3 a4 a5 a6 a7 a8 a9 a10 a11 a12 a13 a14 a15 := by
  subst hz
  unfold wL_law_198
  obtain ⟨c, hc4, ec⟩ := pk_andE (x12 >>> ((4 : Int32) &&& 31)) (m := 3) 2 (by decide)
  obtain ⟨d, hd4, ed⟩ := pk_andE (x12 >>> ((8 : Int32) &&& 31)) (m := 3) 2 (by decide)
  obtain ⟨f, hf4, ef⟩ := pk_andE (x12 >>> ((10 : Int32) &&& 31)) (m := 3) 2 (by decide)
  refine nm_r ec ?_
  refine tt_hook n 0 b (by omega) (by omega) (by omega) hb rfl rfl rfl hc (fun _ => ?_)
  refine tt_hook n 1 c (by omega) (by omega) (by omega) (by omega) rfl rfl rfl hc (fun _ => ?_)
  refine tt_hook n 2 d (by omega) (by omega) (by omega) (by omega) rfl rfl ed hc (fun _ => ?_)
  refine tt_hook n 3 f (by omega) (by omega) (by omega) (by omega) rfl rfl ef hc (fun _ => ?_)
  refine nm_r (e' := x4 ||| ((nI (b + 4 * c)).toInt64 <<< ((4 * nI n).toInt64 &&& 63))) (by rw [tt_4 c, nI_add]) ?_
  refine tt_276 n k hn (fun a10 => HJ c _ a10 (by omega) (fun q hq => ?_) ?_ ?_ (fun q hq => ?_)) _
  · rw [pk_un (by omega), pk_un (by omega), pk_un (by omega), pk_un (by omega)]
  · rw [pk_un (by omega), pk_un (by omega), pk_un (by omega)]; exact pk_us
  · rw [pk_un (by omega), pk_un (by omega)]; exact pk_us
  · rw [pk_un (by omega), pk_un (by omega), pk_un (by omega), pk_un (by omega)]
theorem tt_125 {post : Int32 → Prop} {L : Nat} {xs : Nat → Int32} {J : Int64 → Int64 → Int32 → Int32 → Int32 → Int32 → Int32 → Int32 → Int32 → (Nat → Int32) → (Nat → Int32) → (Nat → Int32) → (Nat → Int32) → (Nat → Int32) → (Nat → Int32) → (Nat → Int32) → (Nat → Int32) → (Nat → Int32) → (Nat → Int32) → (Nat → Int32) → (Nat → Int32) → (Nat → Int32) → (Nat → Int32) → (Nat → Int32) → Prop} {x2 x4 : Int64} {x10 z : Int32} {kc ks : Nat} {tl oo sg : Int32} {a1 a2 a3 a4 a5 a6 a7 a8 a9 a10 a11 a12 a13 a14 a15 : Nat → Int32} (n k : Nat) (hn : n < 16) (hk : k + 1 < L) (hL : L ≤ 260)
    (Hc : x10 = 0 → a1 n = 0 ∧ ∀ b c a6' a10, b < 4 → c < 4 → (∀ q, q < n * 4 → a6' q = a6 q) → a6' (n * 4) = nI b → a6' (n * 4 + 1) = nI c → (∀ q, n * 4 + 4 ≤ q → a6' q = a6 q) →
      J x2 (x4 ||| ((nI (b + 4 * c)).toInt64 <<< ((4 * nI n).toInt64 &&& 63))) z (nI (n + 1)) (nI (k + 2)) (nI (n + 1)) tl oo sg a1 a2 a3 a4 a5 a6' a7 a8 a9 a10 a11 a12 a13 a14 a15)
    (Ht : ¬ x10 = 0 → ¬ a1 n = 0 ∧ ∀ r a8 a9 a10, r ≤ 4 → J x2 x4 z (nI (n + 1)) (nI (k + 2)) (nI (n + 1)) tl oo sg a1 a2 a3 a4 a5 a6 (upd a7 n (nI r)) a8 a9 a10 a11 a12 a13 a14 a15) :
    wL_law_125 post L xs J x2 x4 (nI n) (nI k) x10 z kc ks (nI (n + 1)) tl oo sg a1 a2 a3 a4 a5 a6 a7 a8 a9 a10 a11 a12 a13 a14 a15 := by
  unfold wL_law_125
  refine ⟨pk_in (k + 1) L hk (nI_1 k), nm_e ?_⟩
  refine br_c (fun e => ?_) (fun e => ?_)
  · obtain ⟨hc, HJ⟩ := Hc e
    refine br_c (fun _ => ?_) (fun _ => ?_)
    · obtain ⟨b, hb, eb⟩ := pk_andE (xs (nI k + 1).toNatClampNeg) (m := 3) 2 (by decide)
      exact tt_198 n k b hn (by omega) eb hc (fun c a6' a10 h => HJ b c a6' a10 (by omega) h)
    · obtain ⟨b, hb, eb⟩ := pk_andE (xs (nI k + 1).toNatClampNeg) (m := 1) 1 (by decide)
      exact tt_198 n k b hn (by omega) eb hc (fun c a6' a10 h => HJ b c a6' a10 (by omega) h)
  · obtain ⟨hc, HJ⟩ := Ht e
    obtain ⟨d, hd4, ed⟩ := pk_andE (xs (nI k + 1).toNatClampNeg >>> ((8 : Int32) &&& 31)) (m := 3) 2 (by decide)
    refine tt_bodyM n (1 + d) (by omega) (by omega) (by omega) (by omega) rfl (by rw [ed]; exact nI_add 1 d) hc ?_
    refine tt_tags n (by omega) (by omega) rfl hc ?_
    exact tt_276 n k hn (fun a10 => HJ (1 + d) _ _ a10 (by omega)) _
theorem tt_90 {post : Int32 → Prop} {L : Nat} {xs : Nat → Int32} {J : Int64 → Int64 → Int32 → Int32 → Int32 → Int32 → Int32 → Int32 → Int32 → (Nat → Int32) → (Nat → Int32) → (Nat → Int32) → (Nat → Int32) → (Nat → Int32) → (Nat → Int32) → (Nat → Int32) → (Nat → Int32) → (Nat → Int32) → (Nat → Int32) → (Nat → Int32) → (Nat → Int32) → (Nat → Int32) → (Nat → Int32) → (Nat → Int32) → Prop} {x2 x4 : Int64} {x6 z : Int32} {kc ks : Nat} {tl oo sg : Int32} {a1 a2 a3 a4 a5 a6 a7 a8 a9 a10 a11 a12 a13 a14 a15 : Nat → Int32} (n k p : Nat) (hn : n < 16) (hk : k + 1 < L) (hL : L ≤ 260)
    (hz : z = 0 ∨ z = 1) (ha : a1 n = z) (h40 : tt_nb x4 n = 0)
    (hB : ∀ x6', (z = 0 ∧ x6' = x6) ∨ (z = 1 ∧ x6' = x6 ||| ((1 : Int32) <<< (nI n &&& 31))) → tt_B (n + 1) (x2 ||| ((nI p).toInt64 <<< ((4 * nI n).toInt64 &&& 63))) x4 x6' a1 a2 a3 a4 a5 a6 a7)
    (HJ : ∀ {n' : Nat} {x2 x4 : Int64} {x6 : Int32} {a1 a2 a3 a4 a5 a6 a7 a8 a9 a10 : Nat → Int32}, tt_B n' x2 x4 x6 a1 a2 a3 a4 a5 a6 a7 → n' ≤ 16 → J x2 x4 x6 (nI n') (nI (k + 2)) (nI n') tl oo sg a1 a2 a3 a4 a5 a6 a7 a8 a9 a10 a11 a12 a13 a14 a15) :
    wL_law_90 post L xs J x2 x4 x6 (nI n) (nI k) (nI p) z (nI n) kc ks (nI (n + 1)) tl oo sg a1 a2 a3 a4 a5 a6 a7 a8 a9 a10 a11 a12 a13 a14 a15 := by
  unfold wL_law_90
  refine br_f (nI_pos (by omega)) (nm_e ?_)
  rcases hz with hz | hz
  · refine br_t hz (tt_125 n k hn hk hL (fun _ => ⟨ha.trans hz, fun b c a6' a10 hb hc e1 e2 e3 e4 => HJ (tt_B_hook (hB x6 (Or.inl ⟨hz, rfl⟩)) hn h40 b c hb hc e1 e2 e3 e4) (by omega)⟩) (fun e => absurd hz e))
  · have hz0 : ¬ z = 0 := by rw [hz]; decide
    refine br_f hz0 (tt_125 n k hn hk hL (fun e => absurd e hz0) (fun _ => ⟨by rw [ha]; exact hz0, fun r a8 a9 a10 hr => HJ (tt_B_tries (hB _ (Or.inr ⟨hz, rfl⟩)) hr) (by omega)⟩))
theorem tt_68 {post : Int32 → Prop} {L : Nat} {xs : Nat → Int32} {J : Int64 → Int64 → Int32 → Int32 → Int32 → Int32 → Int32 → Int32 → Int32 → (Nat → Int32) → (Nat → Int32) → (Nat → Int32) → (Nat → Int32) → (Nat → Int32) → (Nat → Int32) → (Nat → Int32) → (Nat → Int32) → (Nat → Int32) → (Nat → Int32) → (Nat → Int32) → (Nat → Int32) → (Nat → Int32) → (Nat → Int32) → (Nat → Int32) → Prop} {x2 x4 : Int64} {x6 z : Int32} {kc ks : Nat} {tl oo sg : Int32} {a1 a2 a3 a4 a5 a6 a7 a8 a9 a10 a11 a12 a13 a14 a15 : Nat → Int32} (n k p : Nat) (hn : n < 16) (hk : k + 1 < L) (hL : L ≤ 260) (hp : p < n)
    (hz : z = 0 ∨ z = 1) (hB : tt_B n x2 x4 x6 a1 a2 a3 a4 a5 a6 a7)
    (HJ : ∀ {n' : Nat} {x2 x4 : Int64} {x6 : Int32} {a1 a2 a3 a4 a5 a6 a7 a8 a9 a10 : Nat → Int32}, tt_B n' x2 x4 x6 a1 a2 a3 a4 a5 a6 a7 → n' ≤ 16 → J x2 x4 x6 (nI n') (nI (k + 2)) (nI n') tl oo sg a1 a2 a3 a4 a5 a6 a7 a8 a9 a10 a11 a12 a13 a14 a15) :
    wL_law_68 post L xs J x2 x4 x6 (nI n) (nI k) (nI p) z kc ks (nI n) tl oo sg a1 a2 a3 a4 a5 a6 a7 a8 a9 a10 a11 a12 a13 a14 a15 := by
  have hB0 := hB
  obtain ⟨F, S, P, Q, hl, hq, hq2, hh⟩ := hB
  have hnar : vp_nar .boolean z = z := by rcases hz with e | e <;> rw [e] <;> rfl
  have hqp : Q p < n := by rcases hq2 p hp with y | ⟨y1, y2, y3⟩ <;> omega
  have h40 := hh.2.2.2.1 n (by omega) hn
  have key : wpX_add (fun r u => match u with
      | (nn, tl, oo, sg, a1, a2, a3, a4, a5, a6, a7, a8, a9, a10, a11, a12, a13, a14, a15) => wL_law_90 post L xs J x2 x4 x6 (nI n) (nI k) (nI p) z r kc ks nn tl oo sg a1 a2 a3 a4 a5 a6 a7 a8 a9 a10 a11 a12 a13 a14 a15) (nI n, tl, oo, sg, a1, a2, a3, a4, a5, a6, a7, a8, a9, a10, a11, a12, a13, a14, a15) (nI p) z := by
    refine tt_add p (Q p) hn hp rfl (hq p hp) hqp (fun _ => ?_) (fun ec e0 => ?_) (fun ec e0 => ?_)
    · unfold wL_law_90
      exact br_t (by decide) (nm_r (nI_add k 2) (HJ hB0 (by omega)))
    · rw [hnar]
      refine tt_90 n k p hn hk hL hz pk_us h40 (fun x6' hx6 => ?_) HJ
      refine tt_B_add hl hq hq2 hh hn hp hx6 (F' := tt_u (tt_u F n 0) p n) (S' := tt_u S n 0) ?_ (fun q hqn => ?_) (fun q hqn => ?_)
      · refine tt_tree_add (l := 0) hl.1 hn hp ec (fun q hqn hqp => ?_) (Or.inr tt_us) ?_ (fun q hqn => Or.inl (tt_un (by omega))) tt_us (fun q hqn e => ?_) (fun _ q hqn => tt_un (by omega))
        · rw [tt_un hqp, tt_un (by omega)]
        · rw [tt_un (by omega), tt_us]
        · rw [tt_un (by omega)] at e
          rcases hl.1.2.2.2.1 q hqn with y | ⟨y0, y1, y2, y3⟩ <;> omega
      · by_cases e : q = p
        · rw [e, pk_us, tt_us, tt_enS (by omega)]
        · rw [pk_un e, tt_un e]
          by_cases e2 : q = n
          · rw [e2, pk_us, tt_us]; rfl
          · rw [pk_un e2, tt_un e2]; exact hl.2.1 q (by omega)
      · by_cases e2 : q = n
        · rw [e2, pk_us, tt_us]; rfl
        · rw [pk_un e2, tt_un e2]; exact hl.2.2.1 q (by omega)
    · rw [hnar]
      obtain ⟨y1, y2, y3⟩ : 0 < Q p ∧ Q p < n ∧ P (Q p) = p := by
        rcases hq2 p hp with y | y
        · exact absurd y e0
        · exact y
      refine tt_90 n k p hn hk hL hz pk_us h40 (fun x6' hx6 => ?_) HJ
      refine tt_B_add hl hq hq2 hh hn hp hx6 (F' := tt_u F n 0) (S' := tt_u (tt_u S n 0) (Q p) n) ?_ (fun q hqn => ?_) (fun q hqn => ?_)
      · refine tt_tree_add (l := Q p) hl.1 hn hp ec (fun q hqn hqp => tt_un (by omega)) (Or.inl (tt_un (by omega))) tt_us (fun q hqn => ?_) ?_ (fun q hqn e => ⟨y1, y3⟩) (fun e => ?_)
        · by_cases e : q = Q p
          · rw [e, tt_us]; exact Or.inr ⟨rfl, rfl⟩
          · rw [tt_un e, tt_un (by omega)]; exact Or.inl rfl
        · rw [tt_un (by omega), tt_us]
        · rw [tt_un (by omega)] at e
          rcases hl.1.2.2.1 p hp with w | ⟨w1, w2, w3⟩ <;> omega
      · by_cases e2 : q = n
        · rw [e2, pk_us, tt_us]; rfl
        · rw [pk_un e2, tt_un e2]; exact hl.2.1 q (by omega)
      · by_cases e : q = Q p
        · rw [e, pk_us, tt_us, tt_enS (by omega)]
        · rw [pk_un e, tt_un e]
          by_cases e2 : q = n
          · rw [e2, pk_us, tt_us]; rfl
          · rw [pk_un e2, tt_un e2]; exact hl.2.2.1 q (by omega)
  unfold wL_law_68
  rcases hz with e | e
  · subst e
    refine br_t rfl ?_
    unfold wpX_container
    exact key
  · subst e
    refine br_f (by decide) ?_
    unfold wpX_test
    exact key
theorem tt_22 {post : Int32 → Prop} {L : Nat} {xs : Nat → Int32} {kc ks : Nat} {tl oo sg : Int32} {a11 a12 a13 a14 a15 : Nat → Int32} (hL : L ≤ 260)
    (HX : ∀ {n : Nat} {x2 x4 : Int64} {x6 : Int32} {a1 a2 a3 a4 a5 a6 a7 a8 a9 a10 : Nat → Int32}, tt_B n x2 x4 x6 a1 a2 a3 a4 a5 a6 a7 → n ≤ 16 → wL_law_307 post L xs x2 x4 x6 (nI n) kc ks (nI n) tl oo sg a1 a2 a3 a4 a5 a6 a7 a8 a9 a10 a11 a12 a13 a14 a15) :
    ∀ d k, L - k ≤ d → k ≤ 300 → ∀ {n : Nat} {x2 x4 : Int64} {x6 : Int32} {a1 a2 a3 a4 a5 a6 a7 a8 a9 a10 : Nat → Int32}, tt_B n x2 x4 x6 a1 a2 a3 a4 a5 a6 a7 → n ≤ 16 →
    wL_law_22 post L xs kc ks (d + 1) x2 x4 x6 (nI n) (nI k) (nI n) tl oo sg a1 a2 a3 a4 a5 a6 a7 a8 a9 a10 a11 a12 a13 a14 a15 := by
  intro d
  induction d with
  | zero =>
    intro k hk hk2 n x2 x4 x6 a1 a2 a3 a4 a5 a6 a7 a8 a9 a10 hB hn
    exact pk_le L (k + 1) (fun _ => HX hB hn) (fun z => absurd z (by omega)) rfl (nI_1 k)
  | succ d ih =>
    intro k hk hk2 n x2 x4 x6 a1 a2 a3 a4 a5 a6 a7 a8 a9 a10 hB hn
    refine pk_le L (k + 1) (fun _ => HX hB hn) (fun z => ?_) rfl (nI_1 k)
    refine pk_le 16 n (fun _ => HX hB hn) (fun z2 => ?_)
    have hn1 : 1 ≤ n := by
      obtain ⟨F, S, P, Q, hl, _⟩ := hB
      exact hl.1.1
    have hv : vp_in (nI k) L := vp_in_nI (by omega) (by omega)
    refine ⟨hv, nI_ne0 (by omega) (by omega), ?_⟩
    rw [nI_clamp (show k < 2 ^ 31 by omega)]
    obtain ⟨j, hj, ej⟩ := pk_andE (xs k >>> ((4 : Int32) &&& 31)) (m := 255) 8 (by decide)
    refine nm_r (e' := nI (j % n)) (by rw [ej]; exact pk_rem (by omega) (by omega) (by omega)) ⟨hv, ?_⟩
    have hp : j % n < n := Nat.mod_lt _ (by omega)
    exact br_c (fun _ => tt_68 n k (j % n) z2 z hL hp (Or.inr rfl) hB (fun h h2 => ih (k + 2) (by omega) (by omega) h h2)) (fun _ => tt_68 n k (j % n) z2 z hL hp (Or.inl rfl) hB (fun h h2 => ih (k + 2) (by omega) (by omega) h h2))
end
section
/-! questions -/
theorem tt_result {post : Int32 → Prop} {tl oo sg : Int32} {a1 a2 a3 a4 a5 a6 a7 a8 a9 a10 a11 a12 a13 a14 a15 : Nat → Int32} {x : Int32} {N : Nat} (p : Nat) (hp : p < N) (hN : N ≤ 24) (hx : x = nI p) (H : post (a11 p)) : wpX_result post (nI N, tl, oo, sg, a1, a2, a3, a4, a5, a6, a7, a8, a9, a10, a11, a12, a13, a14, a15) x := by
  unfold wpX_result
  dsimp only
  refine tt_noNode p hp hN hx (br_t rfl ?_)
  rw [hx, nI_clamp (show p < 2 ^ 31 by omega)]
  exact ⟨vp_in_nI (by omega) (by omega), H⟩
theorem tt_times {post : Int32 → Prop} {tl oo sg : Int32} {a1 a2 a3 a4 a5 a6 a7 a8 a9 a10 a11 a12 a13 a14 a15 : Nat → Int32} {x w : Int32} {N : Nat} (p k : Nat) (hp : p < N) (hN : N ≤ 24) (hk : k < 4) (hx : x = nI p) (hw : w = nI k) (H : post (a12 (p * 4 + k))) : wpX_times post (nI N, tl, oo, sg, a1, a2, a3, a4, a5, a6, a7, a8, a9, a10, a11, a12, a13, a14, a15) x w := by
  subst hx hw
  unfold wpX_times
  dsimp only
  refine tt_noNode p hp hN rfl (br_t rfl ?_)
  rw [tt_ix, nI_clamp (show p * 4 + k < 2 ^ 31 by omega)]
  exact pk_lt k 0 (fun z => absurd z (by omega)) (fun _ => pk_le k 3 (fun _ => ⟨vp_in_nI (by omega) (by omega), H⟩) (fun z => absurd z (by omega)))
/-- what the law's second loop rests on -/
def tt_E (N : Nat) (P : Nat → Nat) (x2 x4 : Int64) (x6 : Int32) (a1 a6 a11 a12 : Nat → Int32) : Prop :=
  N ≤ 16 ∧ tt_h N P x2 x4 x6 a1 a6 ∧ (∀ q, 0 < q → q < N → P q < q) ∧ (∀ q, 0 < q → q < N → a11 q ≠ 0 → a11 (P q) ≠ 0 ∧ tt_ok a6 (P q)) ∧
  (∀ i, i < N → a1 i = 0 → a11 i ≠ 0 → a12 (i * 4 + 1) = if a6 (i * 4 + 1) = 0 then 0 else 1)
theorem tt_448 {post : Int32 → Prop} {L : Nat} {xs : Nat → Int32} {J : Int32 → Int32 → Int32 → Prop} {x2 x4 : Int64} {x6 x7 x8 x9 : Int32} {kc ks : Nat} {x10 x11 r : Int32} {tl oo sg : Int32} {a1 a2 a3 a4 a5 a6 a7 a8 a9 a10 a11 a12 a13 a14 a15 : Nat → Int32} {N : Nat} {P : Nat → Nat} (hE : tt_E N P x2 x4 x6 a1 a6 a11 a12) (i : Nat) (HJ : J x10 x11 (nI (i + 1))) : ∀ d t q, t + d = 16 → q < N → (r ≠ 0 → a11 q ≠ 0) →
    wL_law_448 post L xs J x2 x4 x6 x7 x8 x9 x10 x11 (nI i) r kc ks (nI N) tl oo sg a1 a2 a3 a4 a5 a6 a7 a8 a9 a10 a11 a12 a13 a14 a15 (d + 1) (nI q) (nI t) := by
  obtain ⟨hN, hh, hP, hf, hq⟩ := hE
  intro d
  induction d with
  | zero =>
    intro t q ht hqN hr
    exact pk_le 16 t (fun _ => nm_r (nI_1 i) HJ) (fun z => absurd z (by omega))
  | succ d ih =>
    intro t q ht hqN hr
    refine pk_le 16 t (fun z => absurd z (by omega)) (fun _ => ?_)
    refine pk_le q 0 (fun _ => nm_r (nI_1 t) (ih (t + 1) q (by omega) hqN hr)) (fun z => ?_)
    have hp := hP q z hqN
    obtain ⟨b, c, hb, hc, e1, e2, e3⟩ := hh.2.2.1 (P q) (by omega)
    have hr' : r ≠ 0 → a11 (P q) ≠ 0 := fun h => (hf q z hqN (hr h)).1
    have nx := ih (t + 1) (P q) (by omega) (by omega) hr'
    unfold wpL_parent
    rw [tt_nib x2 (show q < 16 by omega), hh.1 q z hqN]
    unfold wpL_hook
    dsimp only
    rw [tt_nib x4 (show P q < 16 by omega), e3]
    refine nm_r (e' := nI b) ?_ (tt_times (P q) 0 (by omega) (by omega) (by omega) rfl rfl ?_)
    · rw [pk_andN (by omega) 2 (by decide)]
      congr 1
      omega
    · refine br_c (fun _ => pk_le b 1 (fun _ => nm_r (nI_1 t) nx) (fun hb1 => br_c (fun _ => nm_r (nI_1 t) nx) (fun hr0 => ?_))) (fun _ => nm_r (nI_1 t) nx)
      have ho := (hf q z hqN (hr hr0)).2
      unfold tt_ok at ho
      rw [e1] at ho
      have : b = 2 ∨ b = 3 := by omega
      rcases this with y | y
      · rw [y] at ho; exact absurd rfl ho.1
      · rw [y] at ho; exact absurd rfl ho.2
theorem tt_396 {post : Int32 → Prop} {L : Nat} {xs : Nat → Int32} {J : Int32 → Int32 → Int32 → Prop} {x2 x4 : Int64} {x6 x7 x8 x9 : Int32} {kc ks : Nat} {x10 x11 x14 : Int32} {tl oo sg : Int32} {a1 a2 a3 a4 a5 a6 a7 a8 a9 a10 a11 a12 a13 a14 a15 : Nat → Int32} {N : Nat} {P : Nat → Nat} (hE : tt_E N P x2 x4 x6 a1 a6 a11 a12) (i : Nat) (hi : i < N) (h14 : x14 = 0 → a1 i = 0) (HJ : J x10 x11 (nI (i + 1))) :
    wL_law_396 post L xs J x2 x4 x6 x7 x8 x9 x11 (nI i) (a11 i) x14 x10 kc ks (nI N) tl oo sg a1 a2 a3 a4 a5 a6 a7 a8 a9 a10 a11 a12 a13 a14 a15 := by
  have hE0 := hE
  obtain ⟨hN, hh, hP, hf, hq⟩ := hE
  have lo : ∃ n, wL_law_448 post L xs J x2 x4 x6 x7 x8 x9 x10 x11 (nI i) (a11 i) kc ks (nI N) tl oo sg a1 a2 a3 a4 a5 a6 a7 a8 a9 a10 a11 a12 a13 a14 a15 n (nI i) 0 := ⟨17, tt_448 hE0 i HJ 16 0 i rfl hi (fun h => h)⟩
  obtain ⟨b, c, hb, hc, e1, e2, e3⟩ := hh.2.2.1 i hi
  unfold wL_law_396 wpL_hook
  rw [tt_nib x4 (show i < 16 by omega), e3]
  refine br_c (fun h0 => br_c (fun _ => lo) (fun hr => tt_times i 1 hi (by omega) (by omega) rfl rfl ?_)) (fun _ => lo)
  rw [hq i hi (h14 h0) hr, e2, pk_shrN (by omega) _ 2 (by decide), show (b + 4 * c) / 2 ^ 2 = c by omega]
  by_cases c0 : c = 0
  · rw [c0]
    rw [if_pos (show nI 0 = 0 from rfl)]
    refine br_t rfl ?_
    unfold wL_law_436
    exact br_t rfl lo
  · have hc0 : ¬ nI c = 0 := nI_ne0 (by omega) (by omega)
    rw [if_neg hc0]
    refine br_f hc0 ?_
    unfold wL_law_436
    exact br_t rfl lo
theorem tt_375 {post : Int32 → Prop} {L : Nat} {xs : Nat → Int32} {J : Int32 → Int32 → Int32 → Prop} {x2 x4 : Int64} {x6 x7 x8 x9 : Int32} {kc ks : Nat} {x11 z : Int32} {tl oo sg : Int32} {a1 a2 a3 a4 a5 a6 a7 a8 a9 a10 a11 a12 a13 a14 a15 : Nat → Int32} {N : Nat} {P : Nat → Nat} (hE : tt_E N P x2 x4 x6 a1 a6 a11 a12) (i : Nat) (hi : i < N) (hz : (z = 0 ∧ a1 i = 0) ∨ (z = 1 ∧ ¬ a1 i = 0))
    (HJ : J (nI (tt_ra a1 a11 (i + 1))) x11 (nI (i + 1))) :
    wL_law_375 post L xs J x2 x4 x6 x7 x8 x9 (nI (tt_ra a1 a11 i)) x11 (nI i) (a11 i) z kc ks (nI N) tl oo sg a1 a2 a3 a4 a5 a6 a7 a8 a9 a10 a11 a12 a13 a14 a15 := by
  unfold tt_ra at HJ
  unfold wL_law_375 wL_law_394
  rcases hz with ⟨y1, y2⟩ | ⟨y1, y2⟩
  · rw [if_pos y2] at HJ
    exact br_t y1 (tt_396 hE i hi (fun _ => y2) HJ)
  · rw [if_neg y2] at HJ
    have z0 : ¬ z = 0 := by rw [y1]; decide
    refine br_f z0 ?_
    by_cases e : a11 i = 0
    · rw [if_pos e] at HJ
      exact br_t e (tt_396 hE i hi (fun h => absurd h z0) HJ)
    · rw [if_neg e] at HJ
      refine br_f e ?_
      rw [nI_1]
      exact tt_396 hE i hi (fun h => absurd h z0) HJ
theorem tt_335 {post : Int32 → Prop} {L : Nat} {xs : Nat → Int32} {x2 x4 : Int64} {x6 x8 x9 : Int32} {kc ks : Nat} {tl oo sg : Int32} {a1 a2 a3 a4 a5 a6 a7 a8 a9 a10 a11 a12 a13 a14 a15 : Nat → Int32} {N : Nat} {P : Nat → Nat} (hE : tt_E N P x2 x4 x6 a1 a6 a11 a12)
    (HX : wL_law_335 post L xs x2 x4 x6 (nI N) x8 x9 kc ks (nI N) tl oo sg a1 a2 a3 a4 a5 a6 a7 a8 a9 a10 a11 a12 a13 a14 a15 1 (nI (tt_ra a1 a11 N)) (tt_sf a11 N) (nI N)) : ∀ d i, i + d = N →
    wL_law_335 post L xs x2 x4 x6 (nI N) x8 x9 kc ks (nI N) tl oo sg a1 a2 a3 a4 a5 a6 a7 a8 a9 a10 a11 a12 a13 a14 a15 (d + 1) (nI (tt_ra a1 a11 i)) (tt_sf a11 i) (nI i) := by
  have hN := hE.1
  have hh := hE.2.1
  intro d
  induction d with
  | zero =>
    intro i hi
    have e : i = N := by omega
    rw [e]
    exact HX
  | succ d ih =>
    intro i hi
    refine pk_le N i (fun z => absurd z (by omega)) (fun _ => ?_)
    refine tt_result i (by omega) (by omega) rfl ?_
    refine nm_e ?_
    refine ek_if ((tb_get x6 (show i < 32 by omega)).trans (hh.2.2.2.2.2.1 i (by omega))) (fun e => ?_) (fun e => ?_)
    · exact tt_375 hE i (by omega) (Or.inr ⟨rfl, e⟩) (ih (i + 1) (by omega))
    · exact tt_375 hE i (by omega) (Or.inl ⟨rfl, Decidable.not_not.mp e⟩) (ih (i + 1) (by omega))
theorem tt_583 {post : Int32 → Prop} {L : Nat} {xs : Nat → Int32} {x11 : Int32} {kc ks : Nat} {tl oo sg : Int32} {a1 a2 a3 a4 a5 a6 a7 a8 a9 a10 a11 a12 a13 a14 a15 : Nat → Int32} {N : Nat} (hN : N ≤ 16)
    (HX : wL_law_583 post L xs (nI N) x11 kc ks (nI N) tl oo sg a1 a2 a3 a4 a5 a6 a7 a8 a9 a10 a11 a12 a13 a14 a15 1 (tt_sf a11 N) (nI N)) : ∀ d i, i + d = N →
    wL_law_583 post L xs (nI N) x11 kc ks (nI N) tl oo sg a1 a2 a3 a4 a5 a6 a7 a8 a9 a10 a11 a12 a13 a14 a15 (d + 1) (tt_sf a11 i) (nI i) := by
  intro d
  induction d with
  | zero =>
    intro i hi
    have e : i = N := by omega
    rw [e]
    exact HX
  | succ d ih =>
    intro i hi
    refine pk_le N i (fun z => absurd z (by omega)) (fun _ => ?_)
    refine tt_result i (by omega) (by omega) rfl ?_
    exact nm_e (nm_r (nI_1 i) (ih (i + 1) (by omega)))
/-- the last run, over no tags -/
theorem tt_583x {L : Nat} {xs : Nat → Int32} {kc ks : Nat} {tl oo sg : Int32} {a1 a2 a3 a4 a5 a6 a7 a8 a9 a10 a11 a12 a13 a14 a15 : Nat → Int32} {N : Nat} {F S P : Nat → Nat} (hl : tt_lk N F S P a1 a2 a3 a5 a7) (h11 : ∀ i, N ≤ i → a11 i = 0) (h12 : ∀ i, 96 ≤ i → a12 i = 0) (h14 : ∀ i, N ≤ i → a14 i = 0) :
    wL_law_583 (fun r => r = 1) L xs (nI N) (tt_sf a11 N) kc ks (nI N) tl oo sg a1 a2 a3 a4 a5 a6 a7 a8 a9 a10 a11 a12 a13 a14 a15 1 (tt_sf a11 N) (nI N) := by
  have hN := hl.1.2.1
  have hN1 := hl.1.1
  refine pk_le N N (fun _ => br_t rfl ?_) (fun z => absurd z (by omega))
  refine tt_run hl h11 h12 h14 (fun oo sg a13 a15 => ?_)
  rw [tt_rn_0 a6 a7 a8 a9 a10 hl.1]
  dsimp only
  rw [tt_cn_0]
  refine br_t rfl ?_
  unfold wpX_steps
  refine br_t rfl ?_
  refine tt_result 0 (by omega) (by omega) rfl ?_
  exact br_t rfl rfl
theorem tt_335x {L : Nat} {xs : Nat → Int32} {x2 x4 : Int64} {x6 x8 : Int32} {kc ks : Nat} {oo sg : Int32} {a1 a2 a3 a4 a5 a6 a7 a8 a9 a10 a13 a15 : Nat → Int32} {N : Nat} {F S P : Nat → Nat} (hl : tt_lk N F S P a1 a2 a3 a5 a7) :
    wL_law_335 (fun r => r = 1) L xs x2 x4 x6 (nI N) x8 (nI (tt_cn a1 (tt_rn F S P a1 a6 a7 a8 a9 a10 N x8).1 2 N)) kc ks (nI N) ((tt_rn F S P a1 a6 a7 a8 a9 a10 N x8).2.2) oo sg a1 a2 a3 a4 a5 a6 a7 a8 a9 a10 ((tt_rn F S P a1 a6 a7 a8 a9 a10 N x8).1) ((tt_rn F S P a1 a6 a7 a8 a9 a10 N x8).2.1) a13 (tt_tp F S P a1 a9 a10 N x8) a15 1 (nI (tt_ra a1 (tt_rn F S P a1 a6 a7 a8 a9 a10 N x8).1 N)) (tt_sf (tt_rn F S P a1 a6 a7 a8 a9 a10 N x8).1 N) (nI N) := by
  have hN := hl.1.2.1
  obtain ⟨f1, f2, f3, f4, f5⟩ := tt_rn_fin a6 a7 a8 a9 a10 x8 hl.1
  have f6 := tt_tp_hi F S P a1 a9 a10 N x8
  refine pk_le N N (fun _ => ?_) (fun z => absurd z (by omega))
  refine tt_count (by omega) (by decide) (by decide) ?_
  refine tt_count (by omega) (by decide) (by decide) ?_
  refine tt_count (by omega) (by decide) (by decide) ?_
  refine br_t (by rw [nI_add, nI_add, tt_cnra _ _ N (fun i _ => f2 i)]) ?_
  refine tt_count (by omega) (by decide) (by decide) ?_
  refine br_t rfl ?_
  unfold wpX_steps
  refine tt_run hl f3 f4 f6 (fun oo sg a13 a15 => ?_)
  refine br_t rfl (br_t rfl ?_)
  exact ⟨N + 1, tt_583 hN (tt_583x hl f3 f4 f6) N 0 (by omega)⟩
theorem tt_cell {post : Int32 → Prop} {L : Nat} {xs : Nat → Int32} {u : St2} (hL : L ≤ 260) (H : ∀ r, post r) : wpL_cell post L xs u 0 := by
  unfold wpL_cell
  exact pk_le L 0 (fun _ => H _) (fun z => ⟨pk_in 0 L z, H _⟩)
theorem tt_307 {L : Nat} {xs : Nat → Int32} {kc ks : Nat} {x2 x4 : Int64} {x6 : Int32} {tl oo sg : Int32} {a1 a2 a3 a4 a5 a6 a7 a8 a9 a10 a13 a15 : Nat → Int32} {N : Nat} (hL : L ≤ 260) (hB : tt_B N x2 x4 x6 a1 a2 a3 a4 a5 a6 a7) :
    wL_law_307 (fun r => r = 1) L xs x2 x4 x6 (nI N) kc ks (nI N) tl oo sg a1 a2 a3 a4 a5 a6 a7 a8 a9 a10 (fun _ => 0) (fun _ => 0) a13 (fun _ => 0) a15 := by
  obtain ⟨F, S, P, Q, hl, hq, hq2, hh⟩ := hB
  have hN := hl.1.2.1
  unfold wL_law_307
  refine tt_cell hL (fun r => nm_e ?_)
  refine tt_run hl (fun _ _ => rfl) (fun _ _ => rfl) (fun _ _ => rfl) (fun oo sg a13 a15 => ?_)
  obtain ⟨f1, f2, f3, f4, f5⟩ := tt_rn_fin a6 a7 a8 a9 a10 (1 + (r &&& 3)) hl.1
  exact ⟨N + 1, tt_335 ⟨hN, hh, fun q h0 hqN => (hl.1.2.2.2.2.2.2.1 q h0 hqN).1, f1, f5⟩ (tt_335x hl) N 0 (by omega)⟩
theorem i_vc (xs : Nat → Int32) (L : Nat) (hL : L ≤ 260) : wpL_law (fun r => r = 1) L xs := by
  unfold wpL_law
  refine ⟨15, 504, by omega, by omega, ?_⟩
  unfold wpX_init
  dsimp only
  refine ⟨by omega, by omega, by omega, by omega, by omega, by omega, by omega, by omega, by omega, by omega, by omega, by omega, by omega, by omega, by omega, by omega, by omega, by omega, by omega, by omega, by omega, by omega, by omega, by omega, by omega, by omega, by omega, by omega, by omega, by omega, ?_⟩
  refine tt_clear 0 (by omega) rfl ?_
  exact ⟨L + 1, tt_22 hL (fun h _ => tt_307 hL h) L 2 (by omega) (by omega) tt_B_0 (show (1 : Nat) ≤ 16 by decide)⟩
end
