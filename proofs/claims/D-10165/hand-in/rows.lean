section
/-! numbers, bits, counting -/
theorem ma_m1lt : (-1 : Int32) < 0 := by decide
theorem ma_m1nl : ¬ (0 : Int32) ≤ -1 := by decide
theorem ma_b8 : ∀ n, n < 128 → (nI n).toInt8.toInt32 = nI n := by decide +kernel
theorem ma_b16 : ∀ n, n < 256 → (nI n).toInt16.toInt32 = nI n := by decide +kernel
theorem ma_m8 : (-1 : Int32).toInt8.toInt32 = -1 := by decide
theorem ma_m16 : (-1 : Int32).toInt16.toInt32 = -1 := by decide
theorem ma_lt0 {x : Int32} : x < 0 ↔ ¬ 0 ≤ x := Int32.not_le.symm
theorem ma_nlt0 {x : Int32} : ¬ x < 0 ↔ 0 ≤ x := Int32.not_lt
theorem ma_nm1 {n : Nat} (h : n < 2 ^ 31) : ¬ nI n = -1 := by
  intro e
  have := nI_pos' h
  rw [e] at this
  exact absurd this (by decide)
theorem ma_inj {a b : Nat} (h : nI a = nI b) (ha : a < 2 ^ 31) (hb : b < 2 ^ 31) : a = b := (nI_eq ha hb).mp h
theorem ma_ix (x b : Nat) : 2 * nI x + nI b = nI (2 * x + b) := by
  show nI 2 * nI x + nI b = _
  rw [pk_mul, nI_add]
theorem ma_par (y : Int32) : ((y.toBitVec.toNat % 2 : Nat) : Int) = y.toInt % 2 := by
  have h : y.toInt = y.toBitVec.toInt := rfl
  rw [h, BitVec.toInt_eq_toNat_cond]
  split <;> omega
theorem ma_bit (x : Int32) (b : Nat) (hb : b < 8) : (x >>> (nI b &&& 31)) &&& 1 = nI (x.toBitVec.toNat % 256 / 2 ^ b % 2) := by
  rw [pk_and (x >>> (nI b &&& 31)) 1 (m := 1) (by decide)]
  have hs : ((nI b &&& 31).toBitVec.smod 32).toNat = b := (by decide +kernel : ∀ b, b < 8 → ((nI b &&& 31).toBitVec.smod 32).toNat = b) b hb
  have h1 := ma_par (x >>> (nI b &&& 31))
  rw [pk_shr x _ b hs, Int.shiftRight_eq_div_pow] at h1
  have h2 : x.toInt = x.toBitVec.toInt := rfl
  rw [BitVec.toInt_eq_toNat_cond] at h2
  refine congrArg nI ?_
  have hx := x.toBitVec.isLt
  generalize (x >>> (nI b &&& 31)).toBitVec.toNat = A at h1 ⊢
  generalize x.toBitVec.toNat = B at h2 hx ⊢
  generalize x.toInt = C at h1 h2
  have h8 : b = 0 ∨ b = 1 ∨ b = 2 ∨ b = 3 ∨ b = 4 ∨ b = 5 ∨ b = 6 ∨ b = 7 := by omega
  clear hs hb
  rcases h8 with rfl | rfl | rfl | rfl | rfl | rfl | rfl | rfl <;> split at h2 <;> simp at h1 ⊢ <;> omega
def ma_bt (v d : Nat) : Nat := v / 2 ^ (7 - d) % 2
theorem ma_bt2 (v d : Nat) : ma_bt v d < 2 := Nat.mod_lt _ (by omega)
theorem ma_pre (v d : Nat) (h : d < 8) : v / 2 ^ (8 - (d + 1)) = 2 * (v / 2 ^ (8 - d)) + ma_bt v d := by
  unfold ma_bt
  have e1 : 8 - (d + 1) = 7 - d := by omega
  have e2 : 8 - d = (7 - d) + 1 := by omega
  rw [e1, e2, Nat.pow_succ, ← Nat.div_div_eq_div_mul]
  generalize v / 2 ^ (7 - d) = z
  omega
theorem ma_bitD (x : Int32) (d : Nat) (hd : d < 8) : (x >>> ((nI 7 - nI d) &&& 31)) &&& 1 = nI (ma_bt (x.toBitVec.toNat % 256) d) := by
  rw [pk_sub (by omega), ma_bit x (7 - d) (by omega)]
  rfl
theorem ma_bitK {k : Nat} (hk : k < 256) (d : Nat) (hd : d < 8) : (nI k >>> ((nI 7 - nI d) &&& 31)) &&& 1 = nI (ma_bt k d) := by
  rw [ma_bitD _ d hd, pk_tn (by omega), Nat.mod_eq_of_lt hk]
theorem ma_cw : ∀ d, d < 9 → ∀ w, w < 9 → (nI 7 - nI d ≤ 7 - nI w ↔ w ≤ d) := by decide +kernel
theorem ma_cd : ∀ d, d < 9 → nI 7 - nI d + (-1) = nI 7 - nI (d + 1) := by decide +kernel
theorem ma_c0 : ∀ d, d < 9 → (0 ≤ nI 7 - nI d ↔ d < 8) := by decide +kernel
theorem ma_dv {q i k : Nat} (h : i < q) : (k * q + i) / q = k := by
  rw [Nat.add_comm, Nat.add_mul_div_right _ _ (by omega), Nat.div_eq_of_lt h, Nat.zero_add]
/-! how many of lo, .., lo + n - 1 have P -/
noncomputable def ma_cn (P : Nat → Prop) (lo : Nat) : Nat → Nat
  | 0 => 0
  | n + 1 => ma_cn P lo n + @ite Nat (P (lo + n)) (Classical.propDecidable (P (lo + n))) 1 0
theorem ma_cn_t {P : Nat → Prop} {lo n : Nat} (h : P (lo + n)) : ma_cn P lo (n + 1) = ma_cn P lo n + 1 := by
  show ma_cn P lo n + @ite Nat (P (lo + n)) (Classical.propDecidable (P (lo + n))) 1 0 = _
  rw [if_pos h]
theorem ma_cn_f {P : Nat → Prop} {lo n : Nat} (h : ¬ P (lo + n)) : ma_cn P lo (n + 1) = ma_cn P lo n := by
  show ma_cn P lo n + @ite Nat (P (lo + n)) (Classical.propDecidable (P (lo + n))) 1 0 = _
  rw [if_neg h]
  rfl
theorem ma_cn_le (P : Nat → Prop) (lo n : Nat) : ma_cn P lo n ≤ n := by
  induction n with
  | zero => exact Nat.le_refl 0
  | succ n ih =>
    by_cases h : P (lo + n)
    · rw [ma_cn_t h]; omega
    · rw [ma_cn_f h]; omega
theorem ma_cn_add (P : Nat → Prop) (lo m n : Nat) : ma_cn P lo (m + n) = ma_cn P lo m + ma_cn P (lo + m) n := by
  induction n with
  | zero => rfl
  | succ n ih =>
    show ma_cn P lo ((m + n) + 1) = _
    by_cases h : P (lo + m + n)
    · have h' : P (lo + (m + n)) := by rw [← Nat.add_assoc]; exact h
      rw [ma_cn_t h', ma_cn_t h, ih, Nat.add_assoc]
    · have h' : ¬ P (lo + (m + n)) := by rw [← Nat.add_assoc]; exact h
      rw [ma_cn_f h', ma_cn_f h, ih]
theorem ma_cn_congr {P Q : Nat → Prop} {lo lo' n : Nat} (h : ∀ i, i < n → (P (lo + i) ↔ Q (lo' + i))) : ma_cn P lo n = ma_cn Q lo' n := by
  induction n with
  | zero => rfl
  | succ n ih =>
    have ih' := ih (fun i hi => h i (by omega))
    by_cases hp : P (lo + n)
    · rw [ma_cn_t hp, ma_cn_t ((h n (by omega)).mp hp), ih']
    · rw [ma_cn_f hp, ma_cn_f (fun z => hp ((h n (by omega)).mpr z)), ih']
theorem ma_cn_all {P : Nat → Prop} {lo n : Nat} (h : ∀ i, i < n → P (lo + i)) : ma_cn P lo n = n := by
  induction n with
  | zero => rfl
  | succ n ih => rw [ma_cn_t (h n (by omega)), ih (fun i hi => h i (by omega))]
theorem ma_cn_none {P : Nat → Prop} {lo n : Nat} (h : ∀ i, i < n → ¬ P (lo + i)) : ma_cn P lo n = 0 := by
  induction n with
  | zero => rfl
  | succ n ih => rw [ma_cn_f (h n (by omega)), ih (fun i hi => h i (by omega))]
theorem ma_cn_disj {P Q R : Nat → Prop} {lo n : Nat} (hp : ∀ v, P v → R v) (hq : ∀ v, Q v → R v) (hd : ∀ v, P v → ¬ Q v) : ma_cn P lo n + ma_cn Q lo n ≤ ma_cn R lo n := by
  induction n with
  | zero => exact Nat.le_refl 0
  | succ n ih =>
    by_cases h1 : P (lo + n)
    · rw [ma_cn_t h1, ma_cn_f (hd _ h1), ma_cn_t (hp _ h1)]; omega
    · rw [ma_cn_f h1]
      by_cases h2 : Q (lo + n)
      · rw [ma_cn_t h2, ma_cn_t (hq _ h2)]; omega
      · rw [ma_cn_f h2]
        by_cases h3 : R (lo + n)
        · rw [ma_cn_t h3]; omega
        · rw [ma_cn_f h3]; exact ih
theorem ma_cn_pos {P : Nat → Prop} {lo n i : Nat} (hi : i < n) (h : P (lo + i)) : 1 ≤ ma_cn P lo n := by
  induction n with
  | zero => omega
  | succ n ih =>
    by_cases e : i = n
    · subst e
      rw [ma_cn_t h]; omega
    · have := ih (by omega)
      by_cases h1 : P (lo + n)
      · rw [ma_cn_t h1]; omega
      · rw [ma_cn_f h1]; exact this
theorem ma_cn_sub {P : Nat → Prop} {lo n M : Nat} (h : lo + n ≤ M) : ma_cn P lo n ≤ ma_cn P 0 M := by
  obtain ⟨k, rfl⟩ : ∃ k, M = lo + (n + k) := ⟨M - lo - n, by omega⟩
  rw [ma_cn_add, Nat.zero_add, ma_cn_add]
  omega
theorem ma_cn_ex {P : Nat → Prop} {lo n : Nat} (h : ma_cn P lo n < n) : ∃ i, i < n ∧ ¬ P (lo + i) :=
  Classical.byContradiction (fun hc => by
    have h2 : ma_cn P lo n = n := ma_cn_all (fun i hi => Classical.byContradiction (fun hp => hc ⟨i, hi, hp⟩))
    omega)
theorem ma_cn_up {P Q : Nat → Prop} {lo n i : Nat} (hi : i < n) (hP : ¬ P (lo + i)) (hQ : Q (lo + i)) (h : ∀ j, j < n → j ≠ i → (P (lo + j) ↔ Q (lo + j))) : ma_cn Q lo n = ma_cn P lo n + 1 := by
  induction n with
  | zero => omega
  | succ n ih =>
    by_cases e : i = n
    · subst e
      rw [ma_cn_t hQ, ma_cn_f hP, ma_cn_congr (fun j hj => h j (by omega) (by omega))]
    · have ih' := ih (by omega) (fun j hj hne => h j (by omega) hne)
      by_cases hp : P (lo + n)
      · rw [ma_cn_t hp, ma_cn_t ((h n (by omega) (by omega)).mp hp), ih']
      · rw [ma_cn_f hp, ma_cn_f (fun z => hp ((h n (by omega) (by omega)).mpr z)), ih']
end
section
/-! entries: handles, counts, ranges of keys; who matches, who wins in table 0 -/
def ma_C (n : Nat) (a3 a4 a6 a7 : Nat → Int32) : Prop :=
  (∀ e, e < 32 → a4 e < 0 ∨ ∃ h, h < n ∧ a4 e = nI h) ∧
  (∀ e e', e < 32 → e' < 32 → 0 ≤ a4 e → a4 e = a4 e' → e = e') ∧
  (∀ t, t < 2 → a3 t = nI (ma_cn (fun e => 0 ≤ a4 e) (16 * t) 16)) ∧
  (∀ e, e < 16 → 0 ≤ a4 e → ∃ k w, k < 256 ∧ w ≤ 8 ∧ a6 e = nI k ∧ a7 e = nI w) ∧
  (∀ e, 16 ≤ e → e < 32 → 0 ≤ a4 e → ∃ p, p < 16 ∧ a6 e >>> ((16 : Int32) &&& 31) = nI p)
theorem ma_C_0 {a3 a4 a6 a7 : Nat → Int32} (h3 : ∀ t, a3 t = 0) (h4 : ∀ e, e < 32 → a4 e = -1) : ma_C 0 a3 a4 a6 a7 := by
  have hn : ∀ e, e < 32 → ¬ 0 ≤ a4 e := fun e he => by rw [h4 e he]; exact ma_m1nl
  refine ⟨fun e he => Or.inl (ma_lt0.mpr (hn e he)), fun e e' he _ h0 _ => absurd h0 (hn e he), fun t ht => ?_, fun e he h0 => absurd h0 (hn e (by omega)), fun e _ he h0 => absurd h0 (hn e he)⟩
  rw [h3 t, ma_cn_none (fun i hi => hn _ (by omega))]
  rfl
theorem ma_C_add {n e t : Nat} {key wid : Int32} {a3 a4 a6 a7 : Nat → Int32} (hC : ma_C n a3 a4 a6 a7) (hn : n < 2 ^ 30) (ht : t < 2) (he1 : 16 * t ≤ e) (he2 : e < 16 * t + 16) (hd : a4 e < 0)
    (hk0 : t = 0 → ∃ k w, k < 256 ∧ w ≤ 8 ∧ key = nI k ∧ wid = nI w) (hk1 : t = 1 → ∃ p, p < 16 ∧ key >>> ((16 : Int32) &&& 31) = nI p) :
    ma_C (n + 1) (upd a3 t ((a3 t + 1).toInt8.toInt32)) (upd a4 e (nI n)) (upd a6 e key) (upd a7 e wid) := by
  obtain ⟨c1, c2, c3, c4, c5⟩ := hC
  refine ⟨?_, ?_, ?_, ?_, ?_⟩
  · intro x hx
    by_cases hxe : x = e
    · subst hxe
      rw [pk_us]
      exact Or.inr ⟨n, by omega, rfl⟩
    · rw [pk_un hxe]
      rcases c1 x hx with h | ⟨j, hj, h⟩
      · exact Or.inl h
      · exact Or.inr ⟨j, by omega, h⟩
  · intro x y hx hy h0 hxy
    by_cases hxe : x = e
    · by_cases hye : y = e
      · omega
      · subst hxe
        rw [pk_us, pk_un hye] at hxy
        rcases c1 y hy with h | ⟨j, hj, h⟩
        · rw [← hxy] at h
          exact absurd h (nI_pos (by omega))
        · rw [h] at hxy
          have := ma_inj hxy (by omega) (by omega)
          omega
    · rw [pk_un hxe] at h0 hxy
      by_cases hye : y = e
      · subst hye
        rw [pk_us] at hxy
        rcases c1 x hx with h | ⟨j, hj, h⟩
        · exact absurd h0 (ma_lt0.mp h)
        · rw [h] at hxy
          have := ma_inj hxy (by omega) (by omega)
          omega
      · rw [pk_un hye] at hxy
        exact c2 x y hx hy h0 hxy
  · intro s hs
    by_cases hst : s = t
    · subst hst
      have hup : ma_cn (fun x => 0 ≤ upd a4 e (nI n) x) (16 * s) 16 = ma_cn (fun x => 0 ≤ a4 x) (16 * s) 16 + 1 := by
        refine ma_cn_up (i := e - 16 * s) (by omega) ?_ ?_ ?_
        · show ¬ 0 ≤ a4 (16 * s + (e - 16 * s))
          rw [show 16 * s + (e - 16 * s) = e by omega]
          exact ma_lt0.mp hd
        · show 0 ≤ upd a4 e (nI n) (16 * s + (e - 16 * s))
          rw [show 16 * s + (e - 16 * s) = e by omega, pk_us]
          exact nI_pos' (by omega)
        · intro j hj hne
          show 0 ≤ a4 (16 * s + j) ↔ 0 ≤ upd a4 e (nI n) (16 * s + j)
          rw [pk_un (by omega)]
      have hle := ma_cn_le (fun x => 0 ≤ a4 x) (16 * s) 16
      rw [pk_us, hup, c3 s hs, nI_1, ma_b8 _ (by omega)]
    · rw [pk_un hst, c3 s hs]
      refine congrArg nI (ma_cn_congr (fun i hi => ?_))
      show 0 ≤ a4 (16 * s + i) ↔ 0 ≤ upd a4 e (nI n) (16 * s + i)
      rw [pk_un (by omega)]
  · intro x hx h0
    by_cases hxe : x = e
    · subst hxe
      rw [pk_us, pk_us]
      exact hk0 (by omega)
    · rw [pk_un hxe] at h0
      rw [pk_un hxe, pk_un hxe]
      exact c4 x hx h0
  · intro x hx1 hx h0
    by_cases hxe : x = e
    · subst hxe
      rw [pk_us]
      exact hk1 (by omega)
    · rw [pk_un hxe] at h0
      rw [pk_un hxe]
      exact c5 x hx1 hx h0
theorem ma_C_rem {n e : Nat} {a3 a4 a6 a7 : Nat → Int32} (hC : ma_C n a3 a4 a6 a7) (he : e < 32) (hl : 0 ≤ a4 e) :
    ma_C n (upd a3 (e / 16) ((a3 (e / 16) - 1).toInt8.toInt32)) (upd a4 e (-1)) a6 a7 := by
  obtain ⟨c1, c2, c3, c4, c5⟩ := hC
  have keep : ∀ x, 0 ≤ upd a4 e (-1) x → x ≠ e ∧ 0 ≤ a4 x := by
    intro x h0
    by_cases hxe : x = e
    · rw [hxe, pk_us] at h0
      exact absurd h0 ma_m1nl
    · rw [pk_un hxe] at h0
      exact ⟨hxe, h0⟩
  refine ⟨?_, ?_, ?_, fun x hx h0 => c4 x hx (keep x h0).2, fun x h1 hx h0 => c5 x h1 hx (keep x h0).2⟩
  · intro x hx
    by_cases hxe : x = e
    · rw [hxe, pk_us]
      exact Or.inl ma_m1lt
    · rw [pk_un hxe]
      exact c1 x hx
  · intro x y hx hy h0 hxy
    have h1 := keep x h0
    have h2 := keep y (by rw [← hxy]; exact h0)
    rw [pk_un h1.1, pk_un h2.1] at hxy
    exact c2 x y hx hy h1.2 hxy
  · intro s hs
    by_cases hst : s = e / 16
    · have hup : ma_cn (fun x => 0 ≤ a4 x) (16 * s) 16 = ma_cn (fun x => 0 ≤ upd a4 e (-1) x) (16 * s) 16 + 1 := by
        refine ma_cn_up (i := e - 16 * s) (by omega) ?_ ?_ ?_
        · show ¬ 0 ≤ upd a4 e (-1) (16 * s + (e - 16 * s))
          rw [show 16 * s + (e - 16 * s) = e by omega, pk_us]
          exact ma_m1nl
        · show 0 ≤ a4 (16 * s + (e - 16 * s))
          rw [show 16 * s + (e - 16 * s) = e by omega]
          exact hl
        · intro j hj hne
          show 0 ≤ upd a4 e (-1) (16 * s + j) ↔ 0 ≤ a4 (16 * s + j)
          rw [pk_un (by omega)]
      have hle := ma_cn_le (fun x => 0 ≤ upd a4 e (-1) x) (16 * s) 16
      rw [← hst, pk_us, c3 s hs, hup, nI_pred, ma_b8 _ (by omega)]
    · rw [pk_un hst, c3 s hs]
      refine congrArg nI (ma_cn_congr (fun i hi => ?_))
      show 0 ≤ a4 (16 * s + i) ↔ 0 ≤ upd a4 e (-1) (16 * s + i)
      rw [pk_un (by omega)]
/-- keys and widths of table 0 as numbers -/
def ma_R (a4 a6 a7 : Nat → Int32) : Prop := ∀ e, e < 16 → 0 ≤ a4 e → (a6 e).toNatClampNeg < 256 ∧ (a7 e).toNatClampNeg ≤ 8 ∧ a6 e = nI (a6 e).toNatClampNeg ∧ a7 e = nI (a7 e).toNatClampNeg
theorem ma_C_R {n : Nat} {a3 a4 a6 a7 : Nat → Int32} (hC : ma_C n a3 a4 a6 a7) : ma_R a4 a6 a7 := by
  intro e he h0
  obtain ⟨k, w, hk, hw, h6, h7⟩ := hC.2.2.2.1 e he h0
  rw [h6, h7, nI_clamp (by omega), nI_clamp (by omega)]
  exact ⟨hk, hw, rfl, rfl⟩
def ma_mt (a6 a7 : Nat → Int32) (v e : Nat) : Prop := v / 2 ^ (8 - (a7 e).toNatClampNeg) = (a6 e).toNatClampNeg / 2 ^ (8 - (a7 e).toNatClampNeg)
def ma_win (a4 a6 a7 : Nat → Int32) (v e : Nat) : Prop := e < 16 ∧ 0 ≤ a4 e ∧ ma_mt a6 a7 v e ∧ ∀ e', e' < 16 → 0 ≤ a4 e' → ma_mt a6 a7 v e' → (a7 e').toNatClampNeg < (a7 e).toNatClampNeg ∨ ((a7 e').toNatClampNeg = (a7 e).toNatClampNeg ∧ a4 e ≤ a4 e')
def ma_LP (a4 a6 a7 : Nat → Int32) (v : Nat) (r : Int32) : Prop := (r = -1 ∧ ∀ e, e < 16 → 0 ≤ a4 e → ¬ ma_mt a6 a7 v e) ∨ ∃ e, r = nI e ∧ ma_win a4 a6 a7 v e
/-- two winners have one handle -/
theorem ma_win_eq {a4 a6 a7 : Nat → Int32} {v e e' : Nat} (h : ma_win a4 a6 a7 v e) (h' : ma_win a4 a6 a7 v e') : a4 e = a4 e' := by
  obtain ⟨h1, h2, h3, h4⟩ := h
  obtain ⟨g1, g2, g3, g4⟩ := h'
  rcases h4 e' g1 g2 g3 with h5 | ⟨h5, h6⟩
  · rcases g4 e h1 h2 h3 with g5 | ⟨g5, g6⟩
    · omega
    · omega
  · rcases g4 e h1 h2 h3 with g5 | ⟨g5, g6⟩
    · omega
    · exact Int32.le_antisymm h6 g6
end
section
/-! the tree, pure -/
def ma_rc (a8 : Nat → Int32) (v : Nat) : Nat → Int32
  | 0 => 0
  | d + 1 => if ma_rc a8 v d < 0 then -1 else a8 (2 * (ma_rc a8 v d).toNatClampNeg + ma_bt v d)
theorem ma_rc_n {a8 : Nat → Int32} {v d : Nat} (h : ma_rc a8 v d = -1) : ma_rc a8 v (d + 1) = -1 := by
  show (if ma_rc a8 v d < 0 then (-1 : Int32) else a8 (2 * (ma_rc a8 v d).toNatClampNeg + ma_bt v d)) = -1
  rw [h, if_pos ma_m1lt]
theorem ma_rc_s {a8 : Nat → Int32} {v d x : Nat} (h : ma_rc a8 v d = nI x) (hx : x < 2 ^ 31) : ma_rc a8 v (d + 1) = a8 (2 * x + ma_bt v d) := by
  show (if ma_rc a8 v d < 0 then (-1 : Int32) else a8 (2 * (ma_rc a8 v d).toNatClampNeg + ma_bt v d)) = _
  rw [h, if_neg (nI_pos hx), nI_clamp hx]
theorem ma_rc_nn {a8 : Nat → Int32} {v d : Nat} (h : ma_rc a8 v d = -1) : ∀ k, ma_rc a8 v (d + k) = -1 := by
  intro k
  induction k with
  | zero => exact h
  | succ k ih => exact ma_rc_n ih
def ma_T (a8 : Nat → Int32) (N : Nat) (dep pre : Nat → Nat) : Prop := 0 < N ∧ N ≤ 129 ∧ dep 0 = 0 ∧ pre 0 = 0 ∧
  ∀ x, x < N → ∀ b, b < 2 → a8 (2 * x + b) = -1 ∨ ∃ y, y < N ∧ a8 (2 * x + b) = nI y ∧ dep y = dep x + 1 ∧ pre y = 2 * pre x + b
theorem ma_rcT {a8 : Nat → Int32} {N v : Nat} {dep pre : Nat → Nat} (hT : ma_T a8 N dep pre) (hv : v < 256) : ∀ d, d ≤ 8 → ma_rc a8 v d = -1 ∨ ∃ x, x < N ∧ ma_rc a8 v d = nI x ∧ dep x = d ∧ pre x = v / 2 ^ (8 - d) := by
  intro d
  induction d with
  | zero =>
    intro _
    refine Or.inr ⟨0, hT.1, rfl, hT.2.2.1, ?_⟩
    rw [hT.2.2.2.1]
    show 0 = v / 256
    omega
  | succ d ih =>
    intro hd
    have hN := hT.2.1
    rcases ih (by omega) with h | ⟨x, hx, h, h1, h2⟩
    · exact Or.inl (ma_rc_n h)
    · rw [ma_rc_s h (by omega)]
      rcases hT.2.2.2.2 x hx _ (ma_bt2 v d) with g | ⟨y, hy, g, g1, g2⟩
      · exact Or.inl g
      · refine Or.inr ⟨y, hy, g, by omega, ?_⟩
        rw [ma_pre v d (by omega), g2, h2]
theorem ma_rcE {a8 : Nat → Int32} {v v' : Nat} : ∀ d, d ≤ 8 → v / 2 ^ (8 - d) = v' / 2 ^ (8 - d) → ma_rc a8 v d = ma_rc a8 v' d := by
  intro d
  induction d with
  | zero => intro _ _; rfl
  | succ d ih =>
    intro hd h
    rw [ma_pre v d (by omega), ma_pre v' d (by omega)] at h
    have b1 := ma_bt2 v d
    have b2 := ma_bt2 v' d
    have e1 : v / 2 ^ (8 - d) = v' / 2 ^ (8 - d) := by
      generalize v / 2 ^ (8 - d) = p at h ⊢
      generalize v' / 2 ^ (8 - d) = q at h ⊢
      omega
    have e2 : ma_bt v d = ma_bt v' d := by
      rw [e1] at h
      omega
    show (if ma_rc a8 v d < 0 then (-1 : Int32) else a8 (2 * (ma_rc a8 v d).toNatClampNeg + ma_bt v d)) = (if ma_rc a8 v' d < 0 then (-1 : Int32) else a8 (2 * (ma_rc a8 v' d).toNatClampNeg + ma_bt v' d))
    rw [ih (by omega) e1, e2]
/-- the tree has grown -/
def ma_X (a8 a9 a10 : Nat → Int32) (N : Nat) (dep pre : Nat → Nat) (b8 b9 b10 : Nat → Int32) (M : Nat) (dep' pre' : Nat → Nat) : Prop := N ≤ M ∧
  (∀ x, x < N → dep' x = dep x ∧ pre' x = pre x ∧ b9 x = a9 x ∧ b10 x = a10 x) ∧
  (∀ x, N ≤ x → x < M → b9 x = -1 ∧ b10 x = 0) ∧
  (∀ x, x < N → ∀ b, b < 2 → 0 ≤ a8 (2 * x + b) → b8 (2 * x + b) = a8 (2 * x + b))
theorem ma_X_r {a8 a9 a10 : Nat → Int32} {N : Nat} {dep pre : Nat → Nat} : ma_X a8 a9 a10 N dep pre a8 a9 a10 N dep pre :=
  ⟨Nat.le_refl N, fun x _ => ⟨rfl, rfl, rfl, rfl⟩, fun x h1 h2 => absurd h2 (by omega), fun x _ b _ _ => rfl⟩
theorem ma_X_t {a8 a9 a10 b8 b9 b10 c8 c9 c10 : Nat → Int32} {N M Q : Nat} {dep pre dep' pre' dep'' pre'' : Nat → Nat}
    (h : ma_X a8 a9 a10 N dep pre b8 b9 b10 M dep' pre') (g : ma_X b8 b9 b10 M dep' pre' c8 c9 c10 Q dep'' pre'') : ma_X a8 a9 a10 N dep pre c8 c9 c10 Q dep'' pre'' := by
  obtain ⟨h1, h2, h3, h4⟩ := h
  obtain ⟨g1, g2, g3, g4⟩ := g
  refine ⟨by omega, fun x hx => ?_, fun x hx hq => ?_, fun x hx b hb h0 => ?_⟩
  · obtain ⟨p1, p2, p3, p4⟩ := h2 x hx
    obtain ⟨q1, q2, q3, q4⟩ := g2 x (by omega)
    exact ⟨by rw [q1, p1], by rw [q2, p2], by rw [q3, p3], by rw [q4, p4]⟩
  · by_cases hm : x < M
    · obtain ⟨q1, q2, q3, q4⟩ := g2 x hm
      rw [q3, q4]
      exact h3 x hx hm
    · exact g3 x (by omega) hq
  · have e := h4 x hx b hb h0
    rw [g4 x (by omega) b hb (by rw [e]; exact h0), e]
theorem ma_X_rc {a8 a9 a10 b8 b9 b10 : Nat → Int32} {N M v : Nat} {dep pre dep' pre' : Nat → Nat} (hT : ma_T a8 N dep pre) (hv : v < 256) (hX : ma_X a8 a9 a10 N dep pre b8 b9 b10 M dep' pre') :
    ∀ d, d ≤ 8 → ∀ x, x < N → ma_rc a8 v d = nI x → ma_rc b8 v d = nI x := by
  intro d
  induction d with
  | zero => intro _ x _ h; exact h
  | succ d ih =>
    intro hd x hx h
    have hN := hT.2.1
    rcases ma_rcT hT hv d (by omega) with g | ⟨y, hy, g, _, _⟩
    · rw [ma_rc_n g] at h
      exact absurd h.symm (ma_nm1 (by omega))
    · rw [ma_rc_s g (by omega)] at h
      rw [ma_rc_s (ih (by omega) y hy g) (by omega), hX.2.2.2 y hy _ (ma_bt2 v d) (by rw [h]; exact nI_pos' (by omega)), h]
/-- a node is made and hung below x -/
theorem ma_grow {a8 a9 a10 : Nat → Int32} {N x b : Nat} {dep pre : Nat → Nat} (hT : ma_T a8 N dep pre) (hN : N < 129) (hx : x < N) (hb : b < 2) (h0 : a8 (2 * x + b) = -1) :
    ∃ dep' pre', ma_T (upd (upd (upd a8 (2 * N) (-1)) (2 * N + 1) (-1)) (2 * x + b) (nI N)) (N + 1) dep' pre' ∧
      ma_X a8 a9 a10 N dep pre (upd (upd (upd a8 (2 * N) (-1)) (2 * N + 1) (-1)) (2 * x + b) (nI N)) (upd a9 N (-1)) (upd a10 N 0) (N + 1) dep' pre' := by
  obtain ⟨t1, t2, t3, t4, t5⟩ := hT
  refine ⟨fun j => if j = N then dep x + 1 else dep j, fun j => if j = N then 2 * pre x + b else pre j, ⟨by omega, by omega, ?_, ?_, ?_⟩, ⟨by omega, ?_, ?_, ?_⟩⟩
  · show (if 0 = N then dep x + 1 else dep 0) = 0
    rw [if_neg (by omega), t3]
  · show (if 0 = N then 2 * pre x + b else pre 0) = 0
    rw [if_neg (by omega), t4]
  · intro y hy c hc
    show _ ∨ ∃ z, z < N + 1 ∧ _ ∧ (if z = N then dep x + 1 else dep z) = (if y = N then dep x + 1 else dep y) + 1 ∧ (if z = N then 2 * pre x + b else pre z) = 2 * (if y = N then 2 * pre x + b else pre y) + c
    by_cases e1 : 2 * y + c = 2 * x + b
    · have e2 : y = x := by omega
      have e3 : c = b := by omega
      subst e2 e3
      rw [pk_us]
      refine Or.inr ⟨N, by omega, rfl, ?_, ?_⟩
      · rw [if_pos rfl, if_neg (by omega)]
      · rw [if_pos rfl, if_neg (by omega)]
    · rw [pk_un e1]
      by_cases e2 : y = N
      · subst e2
        refine Or.inl ?_
        have hc2 : c = 0 ∨ c = 1 := by omega
        rcases hc2 with rfl | rfl
        · rw [pk_un (by omega), Nat.add_zero, pk_us]
        · rw [pk_us]
      · rw [pk_un (by omega), pk_un (by omega)]
        rcases t5 y (by omega) c hc with g | ⟨z, hz, g1, g2, g3⟩
        · exact Or.inl g
        · refine Or.inr ⟨z, by omega, g1, ?_, ?_⟩
          · rw [if_neg (by omega), if_neg e2, g2]
          · rw [if_neg (by omega), if_neg e2, g3]
  · intro y hy
    refine ⟨?_, ?_, pk_un (by omega), pk_un (by omega)⟩
    · show (if y = N then dep x + 1 else dep y) = dep y
      rw [if_neg (by omega)]
    · show (if y = N then 2 * pre x + b else pre y) = pre y
      rw [if_neg (by omega)]
  · intro y h1 h2
    have : y = N := by omega
    subst this
    exact ⟨pk_us, pk_us⟩
  · intro y hy c hc hn
    have e1 : 2 * y + c ≠ 2 * x + b := by
      intro e
      rw [e, h0] at hn
      exact absurd hn ma_m1nl
    rw [pk_un e1, pk_un (by omega), pk_un (by omega)]
/-- where entries end -/
def ma_E (a4 a6 a7 a8 a9 a10 : Nat → Int32) (N : Nat) (dep pre : Nat → Nat) (m : Nat) : Prop :=
  (∀ e, e < m → 0 ≤ a4 e → ∃ x e', x < N ∧ ma_rc a8 (a6 e).toNatClampNeg (a7 e).toNatClampNeg = nI x ∧ e' < m ∧ 0 ≤ a4 e' ∧ a9 x = nI e' ∧ a4 e' ≤ a4 e) ∧
  (∀ x, x < N → (a9 x = -1 ∧ a10 x = 0) ∨ ∃ e c, e < m ∧ 0 ≤ a4 e ∧ a9 x = nI e ∧ dep x = (a7 e).toNatClampNeg ∧ pre x = (a6 e).toNatClampNeg / 2 ^ (8 - (a7 e).toNatClampNeg) ∧ 1 ≤ c ∧ c ≤ m ∧ a10 x = nI c)
def ma_K (a4 a6 a7 : Nat → Int32) (nc : Int32) (a8 a9 a10 : Nat → Int32) : Prop := ∃ N dep pre, nc = nI N ∧ ma_T a8 N dep pre ∧ ma_E a4 a6 a7 a8 a9 a10 N dep pre 16
/-- the tree grows, nothing ends at the new nodes -/
theorem ma_E_X {a4 a6 a7 a8 a9 a10 b8 b9 b10 : Nat → Int32} {N M m : Nat} {dep pre dep' pre' : Nat → Nat} (hR : ma_R a4 a6 a7) (hm : m ≤ 16) (hT : ma_T a8 N dep pre)
    (hX : ma_X a8 a9 a10 N dep pre b8 b9 b10 M dep' pre') (hE : ma_E a4 a6 a7 a8 a9 a10 N dep pre m) : ma_E a4 a6 a7 b8 b9 b10 M dep' pre' m := by
  obtain ⟨e1, e2⟩ := hE
  have hNM := hX.1
  refine ⟨fun e he h0 => ?_, fun x hx => ?_⟩
  · obtain ⟨x, e', hx, h1, h2, h3, h4, h5⟩ := e1 e he h0
    obtain ⟨r1, r2, _, _⟩ := hR e (by omega) h0
    refine ⟨x, e', by omega, ma_X_rc hT r1 hX _ r2 x hx h1, h2, h3, ?_, h5⟩
    rw [(hX.2.1 x hx).2.2.1, h4]
  · by_cases hxN : x < N
    · obtain ⟨q1, q2, q3, q4⟩ := hX.2.1 x hxN
      rw [q1, q2, q3, q4]
      exact e2 x hxN
    · exact Or.inl (hX.2.2.1 x (by omega) hx)
/-- one more entry: it ends at x; either it is the first there, or the older one stays, or it takes the place -/
theorem ma_E_s {a4 a6 a7 a8 a9 a10 b9 : Nat → Int32} {N m x : Nat} {dep pre : Nat → Nat} (hR : ma_R a4 a6 a7) (hm : m < 16) (hT : ma_T a8 N dep pre) (hE : ma_E a4 a6 a7 a8 a9 a10 N dep pre m) (hl : 0 ≤ a4 m) (hx : x < N)
    (hr : ma_rc a8 (a6 m).toNatClampNeg (a7 m).toNatClampNeg = nI x)
    (hb : (b9 = upd a9 x (nI m) ∧ (a9 x = -1 ∨ ∃ e, e < m ∧ a9 x = nI e ∧ a4 m ≤ a4 e)) ∨ (b9 = a9 ∧ ∃ e, e < m ∧ a9 x = nI e ∧ a4 e ≤ a4 m)) :
    ma_E a4 a6 a7 a8 b9 (upd a10 x ((a10 x + 1).toInt8.toInt32)) N dep pre (m + 1) := by
  obtain ⟨e1, e2⟩ := hE
  have hN := hT.2.1
  obtain ⟨r1, r2, _, _⟩ := hR m hm hl
  have hlab : dep x = (a7 m).toNatClampNeg ∧ pre x = (a6 m).toNatClampNeg / 2 ^ (8 - (a7 m).toNatClampNeg) := by
    rcases ma_rcT hT r1 _ r2 with g | ⟨y, hy, g, g1, g2⟩
    · rw [g] at hr
      exact absurd hr.symm (ma_nm1 (by omega))
    · rw [g] at hr
      have := ma_inj hr (by omega) (by omega)
      subst this
      exact ⟨g1, g2⟩
  have hcnt : ∃ c, 1 ≤ c ∧ c ≤ m + 1 ∧ upd a10 x ((a10 x + 1).toInt8.toInt32) x = nI c := by
    rw [pk_us]
    rcases e2 x hx with ⟨_, g⟩ | ⟨e, c, _, _, _, _, _, _, g3, g⟩
    · refine ⟨1, by omega, by omega, ?_⟩
      rw [g]
      decide
    · refine ⟨c + 1, by omega, by omega, ?_⟩
      rw [g, nI_1, ma_b8 _ (by omega)]
  obtain ⟨c, hc1, hc2, hc3⟩ := hcnt
  rcases hb with ⟨hb, ho⟩ | ⟨hb, e0, he0, hq, hle⟩
  · subst hb
    refine ⟨fun e he h0 => ?_, fun y hy => ?_⟩
    · by_cases hem : e = m
      · subst hem
        exact ⟨x, e, hx, hr, by omega, hl, pk_us, Int32.le_refl _⟩
      · obtain ⟨y, e', hy, h1, h2, h3, h4, h5⟩ := e1 e (by omega) h0
        by_cases hyx : y = x
        · subst hyx
          refine ⟨y, m, hy, h1, by omega, hl, pk_us, ?_⟩
          rcases ho with g | ⟨e3, g1, g2, g3⟩
          · rw [g] at h4
            exact absurd h4.symm (ma_nm1 (by omega))
          · rw [g2] at h4
            have := ma_inj h4 (by omega) (by omega)
            subst this
            exact Int32.le_trans g3 h5
        · exact ⟨y, e', hy, h1, by omega, h3, by rw [pk_un hyx]; exact h4, h5⟩
    · by_cases hyx : y = x
      · subst hyx
        exact Or.inr ⟨m, c, by omega, hl, pk_us, hlab.1, hlab.2, hc1, hc2, hc3⟩
      · rw [pk_un hyx, pk_un hyx]
        rcases e2 y hy with g | ⟨e, c', h1, h2, h3, h4, h5, h6, h7, h8⟩
        · exact Or.inl g
        · exact Or.inr ⟨e, c', by omega, h2, h3, h4, h5, h6, by omega, h8⟩
  · subst hb
    refine ⟨fun e he h0 => ?_, fun y hy => ?_⟩
    · by_cases hem : e = m
      · subst hem
        have hl0 : 0 ≤ a4 e0 := by
          rcases e2 x hx with ⟨g, _⟩ | ⟨e4, c4, h1, h2, h3, _⟩
          · rw [g] at hq
            exact absurd hq.symm (ma_nm1 (by omega))
          · rw [h3] at hq
            have := ma_inj hq (by omega) (by omega)
            subst this
            exact h2
        exact ⟨x, e0, hx, hr, by omega, hl0, hq, hle⟩
      · obtain ⟨y, e', hy, h1, h2, h3, h4, h5⟩ := e1 e (by omega) h0
        exact ⟨y, e', hy, h1, by omega, h3, h4, h5⟩
    · rcases e2 y hy with g | ⟨e, c', h1, h2, h3, h4, h5, h6, h7, h8⟩
      · by_cases hyx : y = x
        · subst hyx
          rw [g.1] at hq
          exact absurd hq.symm (ma_nm1 (by omega))
        · rw [pk_un hyx]
          exact Or.inl g
      · by_cases hyx : y = x
        · subst hyx
          exact Or.inr ⟨e, c, by omega, h2, h3, h4, h5, hc1, hc2, hc3⟩
        · rw [pk_un hyx]
          exact Or.inr ⟨e, c', by omega, h2, h3, h4, h5, h6, by omega, h8⟩
end
section
/-! what is met on the way of v -/
theorem ma_W1 {a4 a6 a7 a8 a9 a10 : Nat → Int32} {N v d x : Nat} {dep pre : Nat → Nat} (hT : ma_T a8 N dep pre) (hE : ma_E a4 a6 a7 a8 a9 a10 N dep pre 16) (hv : v < 256) (hd : d ≤ 8) (hx : x < N) (h : ma_rc a8 v d = nI x) (h9 : ¬ a9 x < 0) :
    ∃ e, e < 16 ∧ 0 ≤ a4 e ∧ a9 x = nI e ∧ (a7 e).toNatClampNeg = d ∧ ma_mt a6 a7 v e := by
  have hN := hT.2.1
  rcases hE.2 x hx with ⟨g, _⟩ | ⟨e, c, h1, h2, h3, h4, h5, _⟩
  · rw [g] at h9
    exact absurd ma_m1lt h9
  · rcases ma_rcT hT hv d hd with g | ⟨y, hy, g, g1, g2⟩
    · rw [g] at h
      exact absurd h.symm (ma_nm1 (by omega))
    · rw [g] at h
      have := ma_inj h (by omega) (by omega)
      subst this
      have e1 : (a7 e).toNatClampNeg = d := by omega
      refine ⟨e, h1, h2, h3, e1, ?_⟩
      unfold ma_mt
      rw [← h5, e1, g2]
theorem ma_W2 {a4 a6 a7 a8 a9 a10 : Nat → Int32} {N v e : Nat} {dep pre : Nat → Nat} (hR : ma_R a4 a6 a7) (hE : ma_E a4 a6 a7 a8 a9 a10 N dep pre 16) (he : e < 16) (hl : 0 ≤ a4 e) (hm : ma_mt a6 a7 v e) :
    ∃ x e', x < N ∧ ma_rc a8 v (a7 e).toNatClampNeg = nI x ∧ e' < 16 ∧ 0 ≤ a4 e' ∧ a9 x = nI e' ∧ a4 e' ≤ a4 e := by
  obtain ⟨x, e', hx, h1, h2, h3, h4, h5⟩ := hE.1 e he hl
  refine ⟨x, e', hx, ?_, h2, h3, h4, h5⟩
  rw [ma_rcE _ (hR e he hl).2.1 hm]
  exact h1
/-- the last end above depth m -/
def ma_ls (a8 a9 : Nat → Int32) (v : Nat) : Nat → Int32
  | 0 => -1
  | d + 1 => if ma_rc a8 v d < 0 then ma_ls a8 a9 v d else if a9 (ma_rc a8 v d).toNatClampNeg < 0 then ma_ls a8 a9 v d else a9 (ma_rc a8 v d).toNatClampNeg
theorem ma_ls_n {a8 a9 : Nat → Int32} {v d : Nat} (h : ma_rc a8 v d = -1) : ma_ls a8 a9 v (d + 1) = ma_ls a8 a9 v d := by
  show (if ma_rc a8 v d < 0 then ma_ls a8 a9 v d else _) = _
  rw [if_pos (by rw [h]; exact ma_m1lt)]
theorem ma_ls_k {a8 a9 : Nat → Int32} {v d x : Nat} (h : ma_rc a8 v d = nI x) (hx : x < 2 ^ 31) (h9 : a9 x < 0) : ma_ls a8 a9 v (d + 1) = ma_ls a8 a9 v d := by
  show (if ma_rc a8 v d < 0 then ma_ls a8 a9 v d else if a9 (ma_rc a8 v d).toNatClampNeg < 0 then ma_ls a8 a9 v d else a9 (ma_rc a8 v d).toNatClampNeg) = _
  rw [h, nI_clamp hx, if_neg (nI_pos hx), if_pos h9]
theorem ma_ls_t {a8 a9 : Nat → Int32} {v d x : Nat} (h : ma_rc a8 v d = nI x) (hx : x < 2 ^ 31) (h9 : ¬ a9 x < 0) : ma_ls a8 a9 v (d + 1) = a9 x := by
  show (if ma_rc a8 v d < 0 then ma_ls a8 a9 v d else if a9 (ma_rc a8 v d).toNatClampNeg < 0 then ma_ls a8 a9 v d else a9 (ma_rc a8 v d).toNatClampNeg) = _
  rw [h, nI_clamp hx, if_neg (nI_pos hx), if_neg h9]
theorem ma_ls_nn {a8 a9 : Nat → Int32} {v d : Nat} (h : ma_rc a8 v d = -1) : ∀ k, ma_ls a8 a9 v (d + k) = ma_ls a8 a9 v d := by
  intro k
  induction k with
  | zero => rfl
  | succ k ih =>
    rw [← ih]
    exact ma_ls_n (ma_rc_nn h k)
theorem ma_lsP {a8 a9 : Nat → Int32} {N v : Nat} {dep pre : Nat → Nat} (hT : ma_T a8 N dep pre) (hv : v < 256) : ∀ m, m ≤ 9 →
    (ma_ls a8 a9 v m = -1 ∧ ∀ d x, d < m → x < N → ma_rc a8 v d = nI x → a9 x < 0) ∨
    (∃ d x, d < m ∧ x < N ∧ ma_rc a8 v d = nI x ∧ ¬ a9 x < 0 ∧ ma_ls a8 a9 v m = a9 x ∧ ∀ d' x', d < d' → d' < m → x' < N → ma_rc a8 v d' = nI x' → a9 x' < 0) := by
  intro m
  have hN := hT.2.1
  induction m with
  | zero => intro _; exact Or.inl ⟨rfl, fun d x hd => absurd hd (by omega)⟩
  | succ m ih =>
    intro hm
    rcases ma_rcT hT hv m (by omega) with g | ⟨y, hy, g, _, _⟩
    · rw [ma_ls_n g]
      have same : ∀ d x, d < m + 1 → x < N → ma_rc a8 v d = nI x → d < m := by
        intro d x hd hx h
        by_cases e : d = m
        · rw [e, g] at h
          exact absurd h.symm (ma_nm1 (by omega))
        · omega
      rcases ih (by omega) with ⟨h1, h2⟩ | ⟨d, x, h1, h2, h3, h4, h5, h6⟩
      · exact Or.inl ⟨h1, fun d x hd hx h => h2 d x (same d x hd hx h) hx h⟩
      · exact Or.inr ⟨d, x, by omega, h2, h3, h4, h5, fun d' x' l1 l2 l3 l4 => h6 d' x' l1 (same d' x' l2 l3 l4) l3 l4⟩
    · by_cases h9 : a9 y < 0
      · rw [ma_ls_k g (by omega) h9]
        have same : ∀ d x, d < m + 1 → x < N → ma_rc a8 v d = nI x → d < m ∨ a9 x < 0 := by
          intro d x hd hx h
          by_cases e : d = m
          · rw [e, g] at h
            have := ma_inj h (by omega) (by omega)
            subst this
            exact Or.inr h9
          · exact Or.inl (by omega)
        rcases ih (by omega) with ⟨h1, h2⟩ | ⟨d, x, h1, h2, h3, h4, h5, h6⟩
        · refine Or.inl ⟨h1, fun d x hd hx h => ?_⟩
          rcases same d x hd hx h with z | z
          · exact h2 d x z hx h
          · exact z
        · refine Or.inr ⟨d, x, by omega, h2, h3, h4, h5, fun d' x' l1 l2 l3 l4 => ?_⟩
          rcases same d' x' l2 l3 l4 with z | z
          · exact h6 d' x' l1 z l3 l4
          · exact z
      · rw [ma_ls_t g (by omega) h9]
        exact Or.inr ⟨m, y, by omega, hy, g, h9, rfl, fun d' x' l1 l2 => absurd l1 (by omega)⟩
theorem ma_lsLP {a4 a6 a7 a8 a9 a10 : Nat → Int32} {N v : Nat} {dep pre : Nat → Nat} (hR : ma_R a4 a6 a7) (hT : ma_T a8 N dep pre) (hE : ma_E a4 a6 a7 a8 a9 a10 N dep pre 16) (hv : v < 256) : ma_LP a4 a6 a7 v (ma_ls a8 a9 v 9) := by
  have hN := hT.2.1
  rcases ma_lsP (a9 := a9) hT hv 9 (by omega) with ⟨h1, h2⟩ | ⟨d, x, h1, h2, h3, h4, h5, h6⟩
  · refine Or.inl ⟨h1, fun e he hl hm => ?_⟩
    obtain ⟨x, e', hx, g1, g2, g3, g4, g5⟩ := ma_W2 hR hE he hl hm
    have := h2 _ x (by have := (hR e he hl).2.1; omega) hx g1
    rw [g4] at this
    exact absurd this (nI_pos (by omega))
  · obtain ⟨e, g1, g2, g3, g4, g5⟩ := ma_W1 hT hE hv (by omega) h2 h3 h4
    refine Or.inr ⟨e, by rw [h5, g3], g1, g2, g5, fun e' he' hl' hm' => ?_⟩
    obtain ⟨x2, e2, hx2, k1, k2, k3, k4, k5⟩ := ma_W2 hR hE he' hl' hm'
    have hw := (hR e' he' hl').2.1
    rcases Nat.lt_trichotomy (a7 e').toNatClampNeg d with z | z | z
    · exact Or.inl (by omega)
    · rw [z] at k1
      rw [h3] at k1
      have := ma_inj k1 (by omega) (by omega)
      subst this
      rw [g3] at k4
      have := ma_inj k4 (by omega) (by omega)
      subst this
      exact Or.inr ⟨by omega, k5⟩
    · have := h6 _ x2 z (by omega) hx2 k1
      rw [k4] at this
      exact absurd this (nI_pos (by omega))
/-! how many values stay clear below a node -/
def ma_ow (a8 a9 : Nat → Int32) : Nat → Int32 → Nat
  | 0, y => if y < 0 then 1 else if a9 y.toNatClampNeg < 0 then 1 else 0
  | r + 1, y => if y < 0 then 2 ^ (r + 1) else if a9 y.toNatClampNeg < 0 then ma_ow a8 a9 r (a8 (2 * y.toNatClampNeg)) + ma_ow a8 a9 r (a8 (2 * y.toNatClampNeg + 1)) else 0
def ma_cl (a8 a9 : Nat → Int32) (v : Nat) : Nat → Int32 → Prop
  | 0, y => y < 0 ∨ a9 y.toNatClampNeg < 0
  | r + 1, y => y < 0 ∨ (a9 y.toNatClampNeg < 0 ∧ ma_cl a8 a9 v r (a8 (2 * y.toNatClampNeg + v / 2 ^ r % 2)))
theorem ma_owC (a8 a9 : Nat → Int32) : ∀ r y p, ma_ow a8 a9 r y = ma_cn (fun v => ma_cl a8 a9 v r y) (p * 2 ^ r) (2 ^ r) := by
  intro r
  induction r with
  | zero =>
    intro y p
    show (if y < 0 then 1 else if a9 y.toNatClampNeg < 0 then 1 else 0) = ma_cn (fun v => y < 0 ∨ a9 y.toNatClampNeg < 0) (p * 2 ^ 0) 1
    by_cases h : y < 0
    · rw [if_pos h, ma_cn_all (fun i _ => Or.inl h)]
    · rw [if_neg h]
      by_cases h9 : a9 y.toNatClampNeg < 0
      · rw [if_pos h9, ma_cn_all (fun i _ => Or.inr h9)]
      · rw [if_neg h9, ma_cn_none (fun i _ z => z.elim h h9)]
  | succ r ih =>
    intro y p
    show (if y < 0 then 2 ^ (r + 1) else if a9 y.toNatClampNeg < 0 then ma_ow a8 a9 r (a8 (2 * y.toNatClampNeg)) + ma_ow a8 a9 r (a8 (2 * y.toNatClampNeg + 1)) else 0) = ma_cn (fun v => y < 0 ∨ (a9 y.toNatClampNeg < 0 ∧ ma_cl a8 a9 v r (a8 (2 * y.toNatClampNeg + v / 2 ^ r % 2)))) (p * 2 ^ (r + 1)) (2 ^ (r + 1))
    by_cases h : y < 0
    · rw [if_pos h, ma_cn_all (fun i _ => Or.inl h)]
    · rw [if_neg h]
      by_cases h9 : a9 y.toNatClampNeg < 0
      · rw [if_pos h9]
        have e1 : 2 ^ (r + 1) = 2 ^ r + 2 ^ r := by rw [Nat.pow_succ]; omega
        have e2 : p * 2 ^ (r + 1) = (2 * p) * 2 ^ r := by rw [Nat.pow_succ, Nat.mul_comm (2 ^ r) 2, ← Nat.mul_assoc, Nat.mul_comm p 2]
        have e3 : (2 * p) * 2 ^ r + 2 ^ r = (2 * p + 1) * 2 ^ r := by rw [Nat.add_mul, Nat.one_mul]
        rw [e2, e1, ma_cn_add, e3, ih _ (2 * p), ih _ (2 * p + 1)]
        have f1 : ma_cn (fun v => ma_cl a8 a9 v r (a8 (2 * y.toNatClampNeg))) (2 * p * 2 ^ r) (2 ^ r) = ma_cn (fun v => y < 0 ∨ (a9 y.toNatClampNeg < 0 ∧ ma_cl a8 a9 v r (a8 (2 * y.toNatClampNeg + v / 2 ^ r % 2)))) (2 * p * 2 ^ r) (2 ^ r) := by
          refine ma_cn_congr (fun i hi => ?_)
          show ma_cl a8 a9 (2 * p * 2 ^ r + i) r (a8 (2 * y.toNatClampNeg)) ↔ (y < 0 ∨ (a9 y.toNatClampNeg < 0 ∧ ma_cl a8 a9 (2 * p * 2 ^ r + i) r (a8 (2 * y.toNatClampNeg + (2 * p * 2 ^ r + i) / 2 ^ r % 2))))
          rw [ma_dv hi, Nat.mul_mod_right, Nat.add_zero]
          exact ⟨fun z => Or.inr ⟨h9, z⟩, fun z => z.elim (fun q => absurd q h) (fun q => q.2)⟩
        have f2 : ma_cn (fun v => ma_cl a8 a9 v r (a8 (2 * y.toNatClampNeg + 1))) ((2 * p + 1) * 2 ^ r) (2 ^ r) = ma_cn (fun v => y < 0 ∨ (a9 y.toNatClampNeg < 0 ∧ ma_cl a8 a9 v r (a8 (2 * y.toNatClampNeg + v / 2 ^ r % 2)))) ((2 * p + 1) * 2 ^ r) (2 ^ r) := by
          refine ma_cn_congr (fun i hi => ?_)
          show ma_cl a8 a9 ((2 * p + 1) * 2 ^ r + i) r (a8 (2 * y.toNatClampNeg + 1)) ↔ (y < 0 ∨ (a9 y.toNatClampNeg < 0 ∧ ma_cl a8 a9 ((2 * p + 1) * 2 ^ r + i) r (a8 (2 * y.toNatClampNeg + ((2 * p + 1) * 2 ^ r + i) / 2 ^ r % 2))))
          rw [ma_dv hi, show (2 * p + 1) % 2 = 1 by omega]
          exact ⟨fun z => Or.inr ⟨h9, z⟩, fun z => z.elim (fun q => absurd q h) (fun q => q.2)⟩
        rw [f1, f2]
      · rw [if_neg h9, ma_cn_none (fun i _ z => z.elim h (fun q => h9 q.1))]
theorem ma_clW {a8 a9 : Nat → Int32} {N v : Nat} {dep pre : Nat → Nat} (hT : ma_T a8 N dep pre) (hv : v < 256) : ∀ r d, d + r = 8 →
    (ma_cl a8 a9 v r (ma_rc a8 v d) ↔ ∀ d' x', d ≤ d' → d' ≤ 8 → x' < N → ma_rc a8 v d' = nI x' → a9 x' < 0) := by
  have hN := hT.2.1
  intro r
  induction r with
  | zero =>
    intro d hd
    have hd8 : d = 8 := by omega
    subst hd8
    show (ma_rc a8 v 8 < 0 ∨ a9 (ma_rc a8 v 8).toNatClampNeg < 0) ↔ _
    rcases ma_rcT hT hv 8 (by omega) with g | ⟨y, hy, g, _, _⟩
    · refine ⟨fun _ d' x' h1 h2 hx h => ?_, fun _ => Or.inl (by rw [g]; exact ma_m1lt)⟩
      have : d' = 8 := by omega
      rw [this, g] at h
      exact absurd h.symm (ma_nm1 (by omega))
    · rw [g, nI_clamp (by omega)]
      refine ⟨fun z d' x' h1 h2 hx h => ?_, fun z => Or.inr (z 8 y (by omega) (by omega) hy g)⟩
      have : d' = 8 := by omega
      rw [this, g] at h
      have := ma_inj h (by omega) (by omega)
      subst this
      exact z.elim (fun q => absurd q (nI_pos (by omega))) id
  | succ r ih =>
    intro d hd
    show (ma_rc a8 v d < 0 ∨ (a9 (ma_rc a8 v d).toNatClampNeg < 0 ∧ ma_cl a8 a9 v r (a8 (2 * (ma_rc a8 v d).toNatClampNeg + v / 2 ^ r % 2)))) ↔ _
    rcases ma_rcT hT hv d (by omega) with g | ⟨y, hy, g, _, _⟩
    · refine ⟨fun _ d' x' h1 h2 hx h => ?_, fun _ => Or.inl (by rw [g]; exact ma_m1lt)⟩
      have := ma_rc_nn g (d' - d)
      rw [show d + (d' - d) = d' by omega, h] at this
      exact absurd this (ma_nm1 (by omega))
    · have er : v / 2 ^ r % 2 = ma_bt v d := by
        unfold ma_bt
        rw [show 7 - d = r by omega]
      rw [er, g, nI_clamp (by omega), ← ma_rc_s g (by omega), ih (d + 1) (by omega)]
      constructor
      · intro z d' x' h1 h2 hx h
        rcases z with q | ⟨q1, q2⟩
        · exact absurd q (nI_pos (by omega))
        · by_cases e : d' = d
          · rw [e, g] at h
            have := ma_inj h (by omega) (by omega)
            subst this
            exact q1
          · exact q2 d' x' (by omega) h2 hx h
      · intro z
        exact Or.inr ⟨z d y (by omega) (by omega) hy g, fun d' x' h1 h2 hx h => z d' x' (by omega) h2 hx h⟩
/-- the count from an end's own node -/
def ma_os (a8 a9 : Nat → Int32) : Nat → Nat → Nat
  | 0, _ => 1
  | r + 1, x => ma_ow a8 a9 r (a8 (2 * x)) + ma_ow a8 a9 r (a8 (2 * x + 1))
theorem ma_vlt {k r i : Nat} (hk : k < 256) (hr : r ≤ 8) (hi : i < 2 ^ r) : k / 2 ^ r * 2 ^ r + i < 256 := by
  have e : 2 ^ (8 - r) * 2 ^ r = 256 := by
    rw [← Nat.pow_add, show 8 - r + r = 8 by omega]
  have h1 : k / 2 ^ r < 2 ^ (8 - r) := by
    rw [Nat.div_lt_iff_lt_mul (Nat.two_pow_pos r), e]
    exact hk
  have h2 : (k / 2 ^ r + 1) * 2 ^ r ≤ 2 ^ (8 - r) * 2 ^ r := Nat.mul_le_mul_right _ h1
  rw [e, Nat.add_mul, Nat.one_mul] at h2
  omega
theorem ma_osC {a8 a9 : Nat → Int32} {N k w x : Nat} {dep pre : Nat → Nat} (hT : ma_T a8 N dep pre) (hk : k < 256) (hx : x < N) : ∀ r, w + r = 8 → ma_rc a8 k w = nI x →
    ma_os a8 a9 r x = ma_cn (fun v => ∀ d' x', w < d' → d' ≤ 8 → x' < N → ma_rc a8 v d' = nI x' → a9 x' < 0) (k / 2 ^ r * 2 ^ r) (2 ^ r) := by
  have hN := hT.2.1
  intro r hw hr
  cases r with
  | zero =>
    show 1 = ma_cn _ _ 1
    rw [ma_cn_all (fun i _ d' x' h1 h2 => absurd h1 (by omega))]
  | succ r =>
    show ma_ow a8 a9 r (a8 (2 * x)) + ma_ow a8 a9 r (a8 (2 * x + 1)) = _
    have step : ∀ b, b < 2 → ∀ i, i < 2 ^ r → (ma_cl a8 a9 ((2 * (k / 2 ^ (r + 1)) + b) * 2 ^ r + i) r (a8 (2 * x + b)) ↔ ∀ d' x', w < d' → d' ≤ 8 → x' < N → ma_rc a8 ((2 * (k / 2 ^ (r + 1)) + b) * 2 ^ r + i) d' = nI x' → a9 x' < 0) := by
      intro b hb i hi
      have hq : ((2 * (k / 2 ^ (r + 1)) + b) * 2 ^ r + i) / 2 ^ r = 2 * (k / 2 ^ (r + 1)) + b := ma_dv hi
      have hv : (2 * (k / 2 ^ (r + 1)) + b) * 2 ^ r + i < 256 := by
        have h3 := ma_vlt (k := k) (r := r + 1) (i := b * 2 ^ r + i) hk (by omega) (by
          rw [Nat.pow_succ]
          have hb2 : b = 0 ∨ b = 1 := by omega
          rcases hb2 with rfl | rfl
          · omega
          · omega)
        have e : (2 * (k / 2 ^ (r + 1)) + b) * 2 ^ r + i = k / 2 ^ (r + 1) * 2 ^ (r + 1) + (b * 2 ^ r + i) := by
          rw [Nat.pow_succ, Nat.add_mul, Nat.mul_comm (2 ^ r) 2, ← Nat.mul_assoc, Nat.mul_comm (k / (2 * 2 ^ r)) 2]
          omega
        rw [e]
        exact h3
      generalize (2 * (k / 2 ^ (r + 1)) + b) * 2 ^ r + i = v at hq hv ⊢
      have hrc : ma_rc a8 v w = nI x := by
        rw [← hr]
        refine ma_rcE w (by omega) ?_
        have hv2 : v / 2 ^ (r + 1) = v / 2 ^ r / 2 := by rw [Nat.pow_succ, Nat.div_div_eq_div_mul]
        rw [show 8 - w = r + 1 by omega, hv2, hq]
        omega
      have hbt : ma_bt v w = b := by
        unfold ma_bt
        rw [show 7 - w = r by omega, hq]
        omega
      have h1 := ma_rc_s hrc (by omega)
      rw [hbt] at h1
      rw [← h1, ma_clW hT hv r (w + 1) (by omega)]
      exact ⟨fun z d' x' l1 => z d' x' l1, fun z d' x' l1 => z d' x' l1⟩
    have e1 : 2 ^ (r + 1) = 2 ^ r + 2 ^ r := by rw [Nat.pow_succ]; omega
    have e2 : k / 2 ^ (r + 1) * 2 ^ (r + 1) = (2 * (k / 2 ^ (r + 1))) * 2 ^ r := by
      generalize k / 2 ^ (r + 1) = p
      rw [Nat.pow_succ, Nat.mul_comm (2 ^ r) 2, ← Nat.mul_assoc, Nat.mul_comm p 2]
    have e3 : (2 * (k / 2 ^ (r + 1))) * 2 ^ r + 2 ^ r = (2 * (k / 2 ^ (r + 1)) + 1) * 2 ^ r := by rw [Nat.add_mul, Nat.one_mul]
    have hs : ∀ P : Nat → Prop, ma_cn P (k / 2 ^ (r + 1) * 2 ^ (r + 1)) (2 ^ (r + 1)) = ma_cn P ((2 * (k / 2 ^ (r + 1))) * 2 ^ r) (2 ^ r) + ma_cn P ((2 * (k / 2 ^ (r + 1)) + 1) * 2 ^ r) (2 ^ r) := by
      intro P
      have e4 : ma_cn P (k / 2 ^ (r + 1) * 2 ^ (r + 1)) (2 ^ (r + 1)) = ma_cn P (k / 2 ^ (r + 1) * 2 ^ (r + 1)) (2 ^ r + 2 ^ r) := congrArg (ma_cn P _) e1
      rw [e4, ma_cn_add, e2, e3]
    have s0 : ∀ i, i < 2 ^ r → (ma_cl a8 a9 ((2 * (k / 2 ^ (r + 1))) * 2 ^ r + i) r (a8 (2 * x)) ↔ ∀ d' x', w < d' → d' ≤ 8 → x' < N → ma_rc a8 ((2 * (k / 2 ^ (r + 1))) * 2 ^ r + i) d' = nI x' → a9 x' < 0) := step 0 (by omega)
    rw [hs, ma_owC a8 a9 r (a8 (2 * x)) (2 * (k / 2 ^ (r + 1))), ma_owC a8 a9 r (a8 (2 * x + 1)) (2 * (k / 2 ^ (r + 1)) + 1)]
    have t0 := ma_cn_congr (P := fun v => ma_cl a8 a9 v r (a8 (2 * x))) (Q := fun v => ∀ d' x', w < d' → d' ≤ 8 → x' < N → ma_rc a8 v d' = nI x' → a9 x' < 0) s0
    have t1 := ma_cn_congr (P := fun v => ma_cl a8 a9 v r (a8 (2 * x + 1))) (Q := fun v => ∀ d' x', w < d' → d' ≤ 8 → x' < N → ma_rc a8 v d' = nI x' → a9 x' < 0) (step 1 (by omega))
    rw [t0, t1]
/-- what owned answers, against the winners -/
theorem ma_own {a4 a6 a7 a8 a9 a10 : Nat → Int32} {N e x : Nat} {dep pre : Nat → Nat} (hR : ma_R a4 a6 a7) (hT : ma_T a8 N dep pre) (hE : ma_E a4 a6 a7 a8 a9 a10 N dep pre 16) (he : e < 16) (hl : 0 ≤ a4 e) (hx : x < N)
    (hr : ma_rc a8 (a6 e).toNatClampNeg (a7 e).toNatClampNeg = nI x) (h9 : a9 x = nI e) :
    ma_os a8 a9 (8 - (a7 e).toNatClampNeg) x ≤ ma_cn (fun v => ma_win a4 a6 a7 v e) 0 256 ∧ ∀ v, v < 256 → ma_win a4 a6 a7 v e → 1 ≤ ma_os a8 a9 (8 - (a7 e).toNatClampNeg) x := by
  have hN := hT.2.1
  obtain ⟨r1, r2, _, _⟩ := hR e he hl
  have hC := ma_osC (a9 := a9) hT r1 hx (8 - (a7 e).toNatClampNeg) (by omega) hr
  generalize hk : (a6 e).toNatClampNeg = k at *
  generalize hw : (a7 e).toNatClampNeg = w at *
  have same : ∀ v, v < 256 → v / 2 ^ (8 - w) = k / 2 ^ (8 - w) → ((∀ d' x', w < d' → d' ≤ 8 → x' < N → ma_rc a8 v d' = nI x' → a9 x' < 0) ↔ ma_win a4 a6 a7 v e) := by
    intro v hv hp
    have hm : ma_mt a6 a7 v e := by
      unfold ma_mt
      rw [hk, hw]
      exact hp
    have hrv : ma_rc a8 v w = nI x := by rw [ma_rcE w r2 hp]; exact hr
    constructor
    · intro z
      refine ⟨he, hl, hm, fun e' he' hl' hm' => ?_⟩
      obtain ⟨x2, e2, hx2, k1, k2, k3, k4, k5⟩ := ma_W2 hR hE he' hl' hm'
      have hw' := (hR e' he' hl').2.1
      rw [hw]
      rcases Nat.lt_trichotomy (a7 e').toNatClampNeg w with q | q | q
      · exact Or.inl q
      · rw [q, hrv] at k1
        have := ma_inj k1 (by omega) (by omega)
        subst this
        rw [h9] at k4
        have := ma_inj k4 (by omega) (by omega)
        subst this
        exact Or.inr ⟨q, k5⟩
      · have := z _ x2 q hw' hx2 k1
        rw [k4] at this
        exact absurd this (nI_pos (by omega))
    · intro hwin d' x' l1 l2 l3 l4
      refine Classical.byContradiction (fun hc => ?_)
      obtain ⟨e2, g1, g2, g3, g4, g5⟩ := ma_W1 hT hE hv l2 l3 l4 hc
      have := hwin.2.2.2 e2 g1 g2 g5
      omega
  have hlo : ∀ i, i < 2 ^ (8 - w) → k / 2 ^ (8 - w) * 2 ^ (8 - w) + i < 256 := fun i hi => ma_vlt r1 (by omega) hi
  have hCw : ma_os a8 a9 (8 - w) x = ma_cn (fun v => ma_win a4 a6 a7 v e) (k / 2 ^ (8 - w) * 2 ^ (8 - w)) (2 ^ (8 - w)) := by
    rw [hC]
    exact ma_cn_congr (fun i hi => same _ (hlo i hi) (ma_dv hi))
  rw [hCw]
  constructor
  · refine ma_cn_sub ?_
    have hp := Nat.two_pow_pos (8 - w)
    have := hlo (2 ^ (8 - w) - 1) (by omega)
    omega
  · intro v hv hwin
    have hm := hwin.2.2.1
    unfold ma_mt at hm
    rw [hk, hw] at hm
    refine ma_cn_pos (i := v % 2 ^ (8 - w)) (Nat.mod_lt _ (Nat.two_pow_pos _)) ?_
    rw [← hm, Nat.div_add_mod']
    exact hwin
end
section
/-! the tree, walked -/
theorem ma_ix0 (x : Nat) : 2 * nI x = nI (2 * x) := by
  show nI 2 * nI x = _
  rw [pk_mul]
theorem ma_newNode {post : Int32 → St1 → Prop} {dr nh tr gr gc : Int32} {a1 a2 a3 a4 a5 a6 a7 a8 a9 a10 a11 a12 a13 a14 a15 a16 : Nat → Int32} {N : Nat} (hN : N < 129)
    (H : post (nI N) (dr, nh, tr, nI (N + 1), gr, gc, a1, a2, a3, a4, a5, a6, a7, upd (upd a8 (2 * N) (-1)) (2 * N + 1) (-1), upd a9 N (-1), upd a10 N 0, a11, a12, a13, a14, a15, a16)) : wpX_newNode post (dr, nh, tr, nI N, gr, gc, a1, a2, a3, a4, a5, a6, a7, a8, a9, a10, a11, a12, a13, a14, a15, a16) := by
  have e0 : 2 * nI N = nI (2 * N) := ma_ix0 N
  have e1 : 2 * nI N + 1 = nI (2 * N + 1) := ma_ix N 1
  exact nm_r (nI_1 N) ⟨pk_in (2 * N) 258 (by omega) e0, nm_r (by rw [pk_cl (2 * N) e0]) ⟨pk_in (2 * N + 1) 258 (by omega) e1, nm_r (by rw [pk_cl (2 * N + 1) e1]) ⟨pk_in N 129 hN, nm_r (by rw [nI_clamp (by omega)]) ⟨pk_in N 129 hN, nm_r (by rw [nI_clamp (by omega)]) H⟩⟩⟩⟩
theorem ma_nf {post : Int32 → St1 → Prop} {dr nh tr gr gc : Int32} {a1 a2 a3 a4 a5 a6 a7 a11 a12 a13 a14 a15 a16 : Nat → Int32} {k w : Nat} (hk : k < 256) (hw : w ≤ 8) :
    ∀ (r d x N : Nat) (a8 a9 a10 : Nat → Int32) (dep pre : Nat → Nat), d + r = w → ma_T a8 N dep pre → x < N → ma_rc a8 k d = nI x → N + r ≤ 129 →
      (∀ (x' M : Nat) (b8 b9 b10 : Nat → Int32) (dep' pre' : Nat → Nat), ma_T b8 M dep' pre' → ma_X a8 a9 a10 N dep pre b8 b9 b10 M dep' pre' → x' < M → ma_rc b8 k w = nI x' → M ≤ N + r → post (nI x') (dr, nh, tr, nI M, gr, gc, a1, a2, a3, a4, a5, a6, a7, b8, b9, b10, a11, a12, a13, a14, a15, a16)) →
      wX_nodeFor_6 post (nI k) (nI w) (r + 1) (nI x) (nI 7 - nI d) dr nh tr (nI N) gr gc a1 a2 a3 a4 a5 a6 a7 a8 a9 a10 a11 a12 a13 a14 a15 a16 := by
  intro r
  induction r with
  | zero =>
    intro d x N a8 a9 a10 dep pre hd hT hx hr hN H
    have hdw : d = w := by omega
    exact br_t ((ma_cw d (by omega) w (by omega)).mpr (by omega)) (H x N a8 a9 a10 dep pre hT ma_X_r hx (by rw [← hdw]; exact hr) (by omega))
  | succ r ih =>
    intro d x N a8 a9 a10 dep pre hd hT hx hr hN H
    have hb := ma_bt2 k d
    have hT2 := hT.2.1
    have ei : 2 * nI x + ((nI k >>> ((nI 7 - nI d) &&& 31)) &&& 1) = nI (2 * x + ma_bt k d) := by rw [ma_bitK hk d (by omega), ma_ix]
    refine br_f (fun z => ?_) (nm_r ei ⟨pk_in (2 * x + ma_bt k d) 258 (by omega), ?_⟩)
    · have := (ma_cw d (by omega) w (by omega)).mp z
      omega
    · rw [nI_clamp (show 2 * x + ma_bt k d < 2 ^ 31 by omega)]
      rcases hT.2.2.2.2 x hx _ hb with g | ⟨y, hy, g, g1, g2⟩
      · refine br_f (by rw [g]; exact ma_m1nl) (ma_newNode (by omega) ?_)
        obtain ⟨dep', pre', hT', hX'⟩ := ma_grow (a9 := a9) (a10 := a10) hT (by omega) hx hb g
        refine And.intro (pk_in (2 * x + ma_bt k d) 258 (by omega)) (nm_r (by rw [ma_b16 N (by omega)]) (And.intro (pk_in (2 * x + ma_bt k d) 258 (by omega)) (nm_r pk_us (nm_r (ma_cd d (by omega)) ?_))))
        refine ih (d + 1) N (N + 1) _ _ _ dep' pre' (by omega) hT' (by omega) ?_ (by omega) ?_
        · rw [ma_rc_s (ma_X_rc hT hk hX' d (by omega) x hx hr) (by omega), pk_us]
        · exact fun x' M b8 b9 b10 dep2 pre2 q1 q2 q3 q4 q5 => H x' M b8 b9 b10 dep2 pre2 q1 (ma_X_t hX' q2) q3 q4 (by omega)
      · refine br_t (by rw [g]; exact nI_pos' (by omega)) ⟨pk_in (2 * x + ma_bt k d) 258 (by omega), nm_r g (nm_r (ma_cd d (by omega)) ?_)⟩
        refine ih (d + 1) y N a8 a9 a10 dep pre (by omega) hT hy ?_ (by omega) ?_
        · rw [ma_rc_s hr (by omega)]
          exact g
        · exact fun x' M b8 b9 b10 dep2 pre2 q1 q2 q3 q4 q5 => H x' M b8 b9 b10 dep2 pre2 q1 q2 q3 q4 (by omega)
theorem ma_nodeFor {post : Int32 → St1 → Prop} {dr nh tr gr gc : Int32} {a1 a2 a3 a4 a5 a6 a7 a8 a9 a10 a11 a12 a13 a14 a15 a16 : Nat → Int32} {k w N : Nat} {dep pre : Nat → Nat} (hk : k < 256) (hw : w ≤ 8) (hT : ma_T a8 N dep pre) (hN : N + w ≤ 129)
    (H : ∀ (x' M : Nat) (b8 b9 b10 : Nat → Int32) (dep' pre' : Nat → Nat), ma_T b8 M dep' pre' → ma_X a8 a9 a10 N dep pre b8 b9 b10 M dep' pre' → x' < M → ma_rc b8 k w = nI x' → M ≤ N + w → post (nI x') (dr, nh, tr, nI M, gr, gc, a1, a2, a3, a4, a5, a6, a7, b8, b9, b10, a11, a12, a13, a14, a15, a16)) :
    wpX_nodeFor post (dr, nh, tr, nI N, gr, gc, a1, a2, a3, a4, a5, a6, a7, a8, a9, a10, a11, a12, a13, a14, a15, a16) (nI k) (nI w) := by
  have h := ma_nf (post := post) (dr := dr) (nh := nh) (tr := tr) (gr := gr) (gc := gc) (a1 := a1) (a2 := a2) (a3 := a3) (a4 := a4) (a5 := a5) (a6 := a6) (a7 := a7) (a11 := a11) (a12 := a12) (a13 := a13) (a14 := a14) (a15 := a15) (a16 := a16) hk hw w 0 0 N a8 a9 a10 dep pre (by omega) hT hT.1 rfl hN H
  rw [show nI 7 - nI 0 = 7 by decide, nI_0] at h
  exact ⟨w + 1, h⟩
/-- the way is there: nothing is made -/
theorem ma_nfO {post : Int32 → St1 → Prop} {dr nh tr nc gr gc : Int32} {a1 a2 a3 a4 a5 a6 a7 a8 a9 a10 a11 a12 a13 a14 a15 a16 : Nat → Int32} {k w N z : Nat} {dep pre : Nat → Nat} (hk : k < 256) (hw : w ≤ 8) (hT : ma_T a8 N dep pre) (hz : z < N) (hrz : ma_rc a8 k w = nI z) (H : post (nI z) (dr, nh, tr, nc, gr, gc, a1, a2, a3, a4, a5, a6, a7, a8, a9, a10, a11, a12, a13, a14, a15, a16)) :
    ∀ (r d x : Nat), d + r = w → x < N → ma_rc a8 k d = nI x → wX_nodeFor_6 post (nI k) (nI w) (r + 1) (nI x) (nI 7 - nI d) dr nh tr nc gr gc a1 a2 a3 a4 a5 a6 a7 a8 a9 a10 a11 a12 a13 a14 a15 a16 := by
  have hT2 := hT.2.1
  intro r
  induction r with
  | zero =>
    intro d x hd hx hr
    have hdw : d = w := by omega
    rw [hdw, hrz] at hr
    rw [← hr]
    exact br_t ((ma_cw d (by omega) w (by omega)).mpr (by omega)) H
  | succ r ih =>
    intro d x hd hx hr
    have hb := ma_bt2 k d
    have ei : 2 * nI x + ((nI k >>> ((nI 7 - nI d) &&& 31)) &&& 1) = nI (2 * x + ma_bt k d) := by rw [ma_bitK hk d (by omega), ma_ix]
    refine br_f (fun z => ?_) (nm_r ei ⟨pk_in (2 * x + ma_bt k d) 258 (by omega), ?_⟩)
    · have := (ma_cw d (by omega) w (by omega)).mp z
      omega
    · rw [nI_clamp (show 2 * x + ma_bt k d < 2 ^ 31 by omega)]
      rcases hT.2.2.2.2 x hx _ hb with g | ⟨y, hy, g, g1, g2⟩
      · rw [← ma_rc_s hr (by omega)] at g
        have := ma_rc_nn g r
        rw [show d + 1 + r = w by omega, hrz] at this
        exact absurd this (ma_nm1 (by omega))
      · refine br_t (by rw [g]; exact nI_pos' (by omega)) ⟨pk_in (2 * x + ma_bt k d) 258 (by omega), nm_r g (nm_r (ma_cd d (by omega)) ?_)⟩
        refine ih (d + 1) y (by omega) hy ?_
        rw [ma_rc_s hr (by omega)]
        exact g
theorem ma_nodeForO {post : Int32 → St1 → Prop} {dr nh tr nc gr gc : Int32} {a1 a2 a3 a4 a5 a6 a7 a8 a9 a10 a11 a12 a13 a14 a15 a16 : Nat → Int32} {k w N z : Nat} {dep pre : Nat → Nat} (hk : k < 256) (hw : w ≤ 8) (hT : ma_T a8 N dep pre) (hz : z < N) (hrz : ma_rc a8 k w = nI z) (H : post (nI z) (dr, nh, tr, nc, gr, gc, a1, a2, a3, a4, a5, a6, a7, a8, a9, a10, a11, a12, a13, a14, a15, a16)) : wpX_nodeFor post (dr, nh, tr, nc, gr, gc, a1, a2, a3, a4, a5, a6, a7, a8, a9, a10, a11, a12, a13, a14, a15, a16) (nI k) (nI w) := by
  have h := ma_nfO hk hw hT hz hrz H w 0 0 (by omega) hT.1 rfl
  rw [show nI 7 - nI 0 = 7 by decide, nI_0] at h
  exact ⟨w + 1, h⟩
theorem ma_E_d {a4 a6 a7 a8 a9 a10 : Nat → Int32} {N m : Nat} {dep pre : Nat → Nat} (hE : ma_E a4 a6 a7 a8 a9 a10 N dep pre m) (hl : ¬ 0 ≤ a4 m) : ma_E a4 a6 a7 a8 a9 a10 N dep pre (m + 1) := by
  refine ⟨fun e he h0 => ?_, fun x hx => ?_⟩
  · by_cases hem : e = m
    · rw [hem] at h0
      exact absurd h0 hl
    · obtain ⟨x, e', h1, h2, h3, h4⟩ := hE.1 e (by omega) h0
      exact ⟨x, e', h1, h2, by omega, h4⟩
  · rcases hE.2 x hx with g | ⟨e, c, h1, h2, h3, h4, h5, h6, h7, h8⟩
    · exact Or.inl g
    · exact Or.inr ⟨e, c, by omega, h2, h3, h4, h5, h6, by omega, h8⟩
theorem ma_mt25 {post : St1 → Prop} {dr nh tr gr gc : Int32} {a1 a2 a3 a4 a5 a6 a7 a11 a12 a13 a14 a15 a16 : Nat → Int32} (hR : ma_R a4 a6 a7)
    (H : ∀ (M : Nat) (b8 b9 b10 : Nat → Int32) (dep pre : Nat → Nat), ma_T b8 M dep pre → ma_E a4 a6 a7 b8 b9 b10 M dep pre 16 → post (dr, nh, tr, nI M, gr, gc, a1, a2, a3, a4, a5, a6, a7, b8, b9, b10, a11, a12, a13, a14, a15, a16)) :
    ∀ (r m N : Nat) (a8 a9 a10 : Nat → Int32) (dep pre : Nat → Nat), m + r = 16 → ma_T a8 N dep pre → ma_E a4 a6 a7 a8 a9 a10 N dep pre m → N ≤ 1 + 8 * m →
      wX_makeTree_25 post (r + 1) (nI m) dr nh tr (nI N) gr gc a1 a2 a3 a4 a5 a6 a7 a8 a9 a10 a11 a12 a13 a14 a15 a16 := by
  intro r
  induction r with
  | zero =>
    intro m N a8 a9 a10 dep pre hm hT hE hN
    have hm' : m = 16 := by omega
    subst hm'
    exact pk_le 16 16 (fun _ => H N a8 a9 a10 dep pre hT hE) (fun z => absurd z (by omega))
  | succ r ih =>
    intro m N a8 a9 a10 dep pre hm hT hE hN
    refine pk_le 16 m (fun z => absurd z (by omega)) (fun _ => ⟨pk_in m 32 (by omega), ?_⟩)
    rw [nI_clamp (show m < 2 ^ 31 by omega)]
    by_cases hl : 0 ≤ a4 m
    · obtain ⟨r1, r2, r3, r4⟩ := hR m (by omega) hl
      refine br_t hl ⟨pk_in m 32 (by omega), pk_in m 32 (by omega), ?_⟩
      rw [r3, r4]
      refine ma_nodeFor r1 r2 hT (by omega) (fun x M b8 b9 b10 dep' pre' hT' hX hx hrc hM => ?_)
      have hM2 := hT'.2.1
      have hE' := ma_E_X hR (by omega) hT hX hE
      refine And.intro (pk_in x 129 (by omega)) (And.intro (pk_in x 129 (by omega)) (nm_r (e' := upd b10 x ((b10 x + 1).toInt8.toInt32)) (by rw [nI_clamp (by omega)]) (And.intro (pk_in x 129 (by omega)) ?_)))
      rw [nI_clamp (show x < 2 ^ 31 by omega)]
      rcases hE'.2 x hx with ⟨g9, _⟩ | ⟨e, c, h1, h2, h3, h4, h5, h6, h7, h8⟩
      · refine br_t (by rw [g9]; exact ma_m1lt) ?_
        refine And.intro (pk_in x 129 (by omega)) (nm_r (e' := upd b9 x (nI m)) (by rw [nI_clamp (by omega), ma_b8 m (by omega)]) (nm_r (nI_1 m) ?_))
        exact ih (m + 1) M b8 _ _ dep' pre' (by omega) hT' (ma_E_s hR (by omega) hT' hE' hl hx hrc (Or.inl ⟨rfl, Or.inl g9⟩)) (by omega)
      · refine br_f (by rw [h3]; exact nI_pos (by omega)) ⟨pk_in m 32 (by omega), pk_in x 129 (by omega), by rw [h3]; exact pk_in e 32 (by omega), ?_⟩
        rw [h3, nI_clamp (show e < 2 ^ 31 by omega)]
        by_cases hle : a4 e ≤ a4 m
        · exact br_t hle (nm_r (nI_1 m) (ih (m + 1) M b8 _ _ dep' pre' (by omega) hT' (ma_E_s hR (by omega) hT' hE' hl hx hrc (Or.inr ⟨rfl, e, h1, h3, hle⟩)) (by omega)))
        · refine br_f hle (And.intro (pk_in x 129 (by omega)) (nm_r (e' := upd b9 x (nI m)) (by rw [nI_clamp (by omega), ma_b8 m (by omega)]) (nm_r (nI_1 m) ?_)))
          refine ih (m + 1) M b8 _ _ dep' pre' (by omega) hT' (ma_E_s hR (by omega) hT' hE' hl hx hrc (Or.inl ⟨rfl, Or.inr ⟨e, h1, h3, ?_⟩⟩)) (by omega)
          exact (Int32.le_total (a4 m) (a4 e)).resolve_right hle
    · exact br_f hl (nm_r (nI_1 m) (ih (m + 1) N a8 a9 a10 dep pre (by omega) hT (ma_E_d hE hl) (by omega)))
theorem ma_makeTree {post : St1 → Prop} {dr nh tr nc gr gc : Int32} {a1 a2 a3 a4 a5 a6 a7 a8 a9 a10 a11 a12 a13 a14 a15 a16 : Nat → Int32} (hR : ma_R a4 a6 a7) (hK : tr = 0 ∨ ma_K a4 a6 a7 nc a8 a9 a10)
    (H : ∀ (tr' nc' : Int32) (b8 b9 b10 : Nat → Int32), ma_K a4 a6 a7 nc' b8 b9 b10 → post (dr, nh, tr', nc', gr, gc, a1, a2, a3, a4, a5, a6, a7, b8, b9, b10, a11, a12, a13, a14, a15, a16)) : wpX_makeTree post (dr, nh, tr, nc, gr, gc, a1, a2, a3, a4, a5, a6, a7, a8, a9, a10, a11, a12, a13, a14, a15, a16) := by
  by_cases ht : tr = 0
  · refine br_t ht (ma_newNode (N := 0) (by omega) (Exists.intro 17 ?_))
    refine ma_mt25 hR (fun M b8 b9 b10 dep pre hT hE => H 1 (nI M) b8 b9 b10 ⟨M, dep, pre, rfl, hT, hE⟩) 16 0 1 _ _ _ (fun _ => 0) (fun _ => 0) rfl ⟨by omega, by omega, rfl, rfl, ?_⟩ ⟨fun e he => absurd he (by omega), ?_⟩ (by omega)
    · intro x hx b hb
      have hx0 : x = 0 := by omega
      subst hx0
      have hb2 : b = 0 ∨ b = 1 := by omega
      rcases hb2 with rfl | rfl
      · exact Or.inl (by rw [pk_un (by omega), pk_us])
      · exact Or.inl (by rw [pk_us])
    · intro x hx
      have hx0 : x = 0 := by omega
      subst hx0
      exact Or.inl ⟨pk_us, pk_us⟩
  · exact br_f ht (H tr nc a8 a9 a10 (hK.resolve_left ht))
/-! the longest one -/
theorem ma_lpB {post : Int32 → St1 → Prop} {dr nh tr nc gr gc : Int32} {a1 a2 a3 a4 a5 a6 a7 a8 a9 a10 a11 a12 a13 a14 a15 a16 : Nat → Int32} {V d x n : Nat} {x3 : Int32} (hr : ma_rc a8 V d = nI x) (hx : x < 129) (h : wX_longestPrefix_31 post (wX_longestPrefix_11 post dr nh tr nc gr gc a1 a2 a3 a4 a5 a6 a7 a8 a9 a10 a11 a12 a13 a14 a15 a16 n) (ma_ls a8 a9 V (d + 1)) (nI x) x3 dr nh tr nc gr gc a1 a2 a3 a4 a5 a6 a7 a8 a9 a10 a11 a12 a13 a14 a15 a16) :
    wX_longestPrefix_11 post dr nh tr nc gr gc a1 a2 a3 a4 a5 a6 a7 a8 a9 a10 a11 a12 a13 a14 a15 a16 (n + 1) (ma_ls a8 a9 V d) (nI x) x3 := by
  refine br_f (nI_pos (by omega)) ⟨pk_in x 129 hx, ?_⟩
  rw [nI_clamp (show x < 2 ^ 31 by omega)]
  by_cases h9 : a9 x < 0
  · rw [ma_ls_k hr (by omega) h9] at h
    exact br_t h9 h
  · rw [ma_ls_t hr (by omega) h9] at h
    exact br_f h9 ⟨pk_in x 129 hx, nm_e h⟩
theorem ma_lp11 {post : Int32 → St1 → Prop} {dr nh tr nc gr gc : Int32} {a1 a2 a3 a4 a5 a6 a7 a8 a9 a10 a11 a12 a13 a14 a15 a16 : Nat → Int32} {V N : Nat} {dep pre : Nat → Nat} (hT : ma_T a8 N dep pre) (hV : V = (a2 0).toBitVec.toNat % 256) (H : post (ma_ls a8 a9 V 9) (dr, nh, tr, nc, gr, gc, a1, a2, a3, a4, a5, a6, a7, a8, a9, a10, a11, a12, a13, a14, a15, a16)) :
    ∀ r d, d + r = 8 → wX_longestPrefix_11 post dr nh tr nc gr gc a1 a2 a3 a4 a5 a6 a7 a8 a9 a10 a11 a12 a13 a14 a15 a16 (r + 2) (ma_ls a8 a9 V d) (ma_rc a8 V d) (nI 7 - nI d) := by
  have hN := hT.2.1
  have hv : V < 256 := by omega
  intro r
  induction r with
  | zero =>
    intro d hd
    have hd8 : d = 8 := by omega
    subst hd8
    rcases ma_rcT hT hv 8 (by omega) with g | ⟨x, hx, g, _, _⟩
    · rw [g]
      refine br_t ma_m1lt ?_
      rw [← ma_ls_n g]
      exact H
    · rw [g]
      refine ma_lpB g (by omega) (br_f (by decide) (nm_e (br_t ma_m1lt H)))
  | succ r ih =>
    intro d hd
    rcases ma_rcT hT hv d (by omega) with g | ⟨x, hx, g, _, _⟩
    · rw [g]
      refine br_t ma_m1lt ?_
      have h9 := ma_ls_nn (a9 := a9) g (9 - d)
      rw [show d + (9 - d) = 9 by omega] at h9
      rw [← h9]
      exact H
    · rw [g]
      have hb := ma_bt2 V d
      have ei : 2 * nI x + ((a2 0 >>> ((nI 7 - nI d) &&& 31)) &&& 1) = nI (2 * x + ma_bt V d) := by rw [ma_bitD _ d (by omega), ma_ix, ← hV]
      refine ma_lpB g (by omega) (br_t ((ma_c0 d (by omega)).mpr (by omega)) ⟨pk_in (2 * x + ma_bt V d) 258 (by omega) ei, nm_r (e' := ma_rc a8 V (d + 1)) ?_ (nm_r (ma_cd d (by omega)) (ih (d + 1) (by omega)))⟩)
      rw [ei, nI_clamp (by omega), ma_rc_s g (by omega)]
theorem ma_longestPrefix {post : Int32 → St1 → Prop} {dr nh tr nc gr gc : Int32} {a1 a2 a3 a4 a5 a6 a7 a8 a9 a10 a11 a12 a13 a14 a15 a16 : Nat → Int32} (hR : ma_R a4 a6 a7) (hK : tr = 0 ∨ ma_K a4 a6 a7 nc a8 a9 a10)
    (H : ∀ (r tr' nc' : Int32) (b8 b9 b10 : Nat → Int32), ma_K a4 a6 a7 nc' b8 b9 b10 → ma_LP a4 a6 a7 ((a2 0).toBitVec.toNat % 256) r → post r (dr, nh, tr', nc', gr, gc, a1, a2, a3, a4, a5, a6, a7, b8, b9, b10, a11, a12, a13, a14, a15, a16)) : wpX_longestPrefix post (dr, nh, tr, nc, gr, gc, a1, a2, a3, a4, a5, a6, a7, a8, a9, a10, a11, a12, a13, a14, a15, a16) := by
  refine ma_makeTree hR hK (fun tr' nc' b8 b9 b10 hK' => Exists.intro 10 ?_)
  have hK2 := hK'
  obtain ⟨N, dep, pre, e, hT, hE⟩ := hK'
  have h := ma_lp11 (post := post) (dr := dr) (nh := nh) (tr := tr') (nc := nc') (gr := gr) (gc := gc) (a1 := a1) (a3 := a3) (a4 := a4) (a5 := a5) (a6 := a6) (a7 := a7) (a9 := b9) (a10 := b10) (a11 := a11) (a12 := a12) (a13 := a13) (a14 := a14) (a15 := a15) (a16 := a16) hT rfl (H _ tr' nc' b8 b9 b10 hK2 (ma_lsLP hR hT hE (Nat.mod_lt _ (by omega)))) 8 0 rfl
  rw [show nI 7 - nI 0 = 7 by decide] at h
  exact h
theorem ma_pw11 {post : Int32 → St1 → Prop} {dr nh tr nc gr gc : Int32} {a1 a2 a3 a4 a5 a6 a7 a8 a9 a10 a11 a12 a13 a14 a15 a16 : Nat → Int32} {V N : Nat} {dep pre : Nat → Nat} (hT : ma_T a8 N dep pre) (hE : ma_E a4 a6 a7 a8 a9 a10 N dep pre 16) (hV : V = (a2 0).toBitVec.toNat % 256) (H : ∀ c, c ≤ 144 → (0 < c ↔ ¬ ma_ls a8 a9 V 9 < 0) → post (nI c) (dr, nh, tr, nc, gr, gc, a1, a2, a3, a4, a5, a6, a7, a8, a9, a10, a11, a12, a13, a14, a15, a16)) :
    ∀ r d c, d + r = 8 → c ≤ 16 * d → (0 < c ↔ ¬ ma_ls a8 a9 V d < 0) → wX_prefixesOnWay_11 post dr nh tr nc gr gc a1 a2 a3 a4 a5 a6 a7 a8 a9 a10 a11 a12 a13 a14 a15 a16 (r + 2) (nI c) (ma_rc a8 V d) (nI 7 - nI d) := by
  have hN := hT.2.1
  have hv : V < 256 := by omega
  have step : ∀ d x c, ma_rc a8 V d = nI x → x < N → c ≤ 16 * d → (0 < c ↔ ¬ ma_ls a8 a9 V d < 0) → ∃ c', nI c + a10 x = nI c' ∧ c' ≤ 16 * (d + 1) ∧ (0 < c' ↔ ¬ ma_ls a8 a9 V (d + 1) < 0) := by
    intro d x c hr hx hc hi
    rcases hE.2 x hx with ⟨g9, g10⟩ | ⟨e, c0, h1, h2, h3, h4, h5, h6, h7, h8⟩
    · refine ⟨c, ?_, by omega, ?_⟩
      · rw [g10, ← nI_0, nI_add]
        rfl
      · rw [ma_ls_k hr (by omega) (by rw [g9]; exact ma_m1lt)]
        exact hi
    · have hp : ¬ a9 x < 0 := by rw [h3]; exact nI_pos (by omega)
      refine ⟨c + c0, by rw [h8, nI_add], by omega, ?_⟩
      rw [ma_ls_t hr (by omega) hp]
      exact ⟨fun _ => hp, fun _ => by omega⟩
  intro r
  induction r with
  | zero =>
    intro d c hd hc hi
    have hd8 : d = 8 := by omega
    subst hd8
    rcases ma_rcT hT hv 8 (by omega) with g | ⟨x, hx, g, _, _⟩
    · rw [g]
      rw [← ma_ls_n g] at hi
      exact br_t ma_m1lt (H c (by omega) hi)
    · rw [g]
      obtain ⟨c', e1, e2, e3⟩ := step 8 x c g hx hc hi
      refine br_f (nI_pos (by omega)) ⟨pk_in x 129 (by omega), nm_r (e' := nI c') (by rw [nI_clamp (by omega), e1]) (br_f (by decide) (nm_e (br_t ma_m1lt (H c' (by omega) e3))))⟩
  | succ r ih =>
    intro d c hd hc hi
    rcases ma_rcT hT hv d (by omega) with g | ⟨x, hx, g, _, _⟩
    · rw [g]
      have h9 := ma_ls_nn (a9 := a9) g (9 - d)
      rw [show d + (9 - d) = 9 by omega] at h9
      rw [← h9] at hi
      exact br_t ma_m1lt (H c (by omega) hi)
    · rw [g]
      have hb := ma_bt2 V d
      obtain ⟨c', e1, e2, e3⟩ := step d x c g hx hc hi
      have ei : 2 * nI x + ((a2 0 >>> ((nI 7 - nI d) &&& 31)) &&& 1) = nI (2 * x + ma_bt V d) := by rw [ma_bitD _ d (by omega), ma_ix, ← hV]
      refine br_f (nI_pos (by omega)) ⟨pk_in x 129 (by omega), nm_r (e' := nI c') (by rw [nI_clamp (by omega), e1]) (br_t ((ma_c0 d (by omega)).mpr (by omega)) ⟨pk_in (2 * x + ma_bt V d) 258 (by omega) ei, nm_r (e' := ma_rc a8 V (d + 1)) ?_ (nm_r (ma_cd d (by omega)) (ih (d + 1) c' (by omega) e2 e3))⟩)⟩
      rw [ei, nI_clamp (by omega), ma_rc_s g (by omega)]
/-- matching(0): more than none, or nobody matches -/
def ma_PW (a4 a6 a7 : Nat → Int32) (v : Nat) (r : Int32) : Prop := (r ≤ 0 ∧ ∀ e, e < 16 → 0 ≤ a4 e → ¬ ma_mt a6 a7 v e) ∨ (¬ r ≤ 0 ∧ ∃ e, ma_win a4 a6 a7 v e)
theorem ma_prefixesOnWay {post : Int32 → St1 → Prop} {dr nh tr nc gr gc : Int32} {a1 a2 a3 a4 a5 a6 a7 a8 a9 a10 a11 a12 a13 a14 a15 a16 : Nat → Int32} (hR : ma_R a4 a6 a7) (hK : tr = 0 ∨ ma_K a4 a6 a7 nc a8 a9 a10)
    (H : ∀ (r tr' nc' : Int32) (b8 b9 b10 : Nat → Int32), ma_K a4 a6 a7 nc' b8 b9 b10 → ma_PW a4 a6 a7 ((a2 0).toBitVec.toNat % 256) r → post r (dr, nh, tr', nc', gr, gc, a1, a2, a3, a4, a5, a6, a7, b8, b9, b10, a11, a12, a13, a14, a15, a16)) : wpX_prefixesOnWay post (dr, nh, tr, nc, gr, gc, a1, a2, a3, a4, a5, a6, a7, a8, a9, a10, a11, a12, a13, a14, a15, a16) := by
  refine ma_makeTree hR hK (fun tr' nc' b8 b9 b10 hK' => Exists.intro 10 ?_)
  have hK2 := hK'
  obtain ⟨N, dep, pre, e, hT, hE⟩ := hK'
  have hL := ma_lsLP (v := (a2 0).toBitVec.toNat % 256) hR hT hE (Nat.mod_lt _ (by omega))
  have h := ma_pw11 (post := post) (dr := dr) (nh := nh) (tr := tr') (nc := nc') (gr := gr) (gc := gc) (a1 := a1) (a3 := a3) (a5 := a5) (a11 := a11) (a12 := a12) (a13 := a13) (a14 := a14) (a15 := a15) (a16 := a16) hT hE rfl (fun c hc hi => H _ tr' nc' b8 b9 b10 hK2 (by
    rcases hL with ⟨h1, h2⟩ | ⟨e0, h1, h2⟩
    · rw [h1] at hi
      have h0 : c = 0 := by
        have : ¬ 0 < c := fun z => hi.mp z ma_m1lt
        omega
      subst h0
      exact Or.inl ⟨by decide, h2⟩
    · rw [h1] at hi
      have h0 : 0 < c := hi.mpr (nI_pos (by have := h2.1; omega))
      exact Or.inr ⟨nI_nle h0 (by omega), e0, h2⟩)) 8 0 0 rfl (by omega) ⟨fun z => absurd z (by omega), fun z => absurd ma_m1lt z⟩
  rw [show nI 7 - nI 0 = 7 by decide, nI_0] at h
  exact h
end
section
/-! owned -/
theorem ma_sh : ∀ d, d < 9 → (1 : Int32) <<< ((8 - nI d) &&& 31) = nI (2 ^ (8 - d)) := by decide +kernel
theorem ma_ow_n (a8 a9 : Nat → Int32) (r : Nat) : ma_ow a8 a9 r (-1) = 2 ^ r := by
  cases r with
  | zero =>
    show (if (-1 : Int32) < 0 then 1 else _) = 2 ^ 0
    rw [if_pos ma_m1lt]
  | succ r =>
    show (if (-1 : Int32) < 0 then 2 ^ (r + 1) else _) = 2 ^ (r + 1)
    rw [if_pos ma_m1lt]
theorem ma_ow_p {a8 a9 : Nat → Int32} {x : Nat} (hx : x < 2 ^ 31) (h : ¬ a9 x < 0) (r : Nat) : ma_ow a8 a9 r (nI x) = 0 := by
  cases r with
  | zero =>
    show (if nI x < 0 then 1 else if a9 (nI x).toNatClampNeg < 0 then 1 else 0) = 0
    rw [if_neg (nI_pos hx), nI_clamp hx, if_neg h]
  | succ r =>
    show (if nI x < 0 then 2 ^ (r + 1) else if a9 (nI x).toNatClampNeg < 0 then ma_ow a8 a9 r (a8 (2 * (nI x).toNatClampNeg)) + ma_ow a8 a9 r (a8 (2 * (nI x).toNatClampNeg + 1)) else 0) = 0
    rw [if_neg (nI_pos hx), nI_clamp hx, if_neg h]
theorem ma_ow_0 {a8 a9 : Nat → Int32} {x : Nat} (hx : x < 2 ^ 31) (h : a9 x < 0) : ma_ow a8 a9 0 (nI x) = 1 := by
  show (if nI x < 0 then 1 else if a9 (nI x).toNatClampNeg < 0 then 1 else 0) = 1
  rw [if_neg (nI_pos hx), nI_clamp hx, if_pos h]
theorem ma_ow_s {a8 a9 : Nat → Int32} {x : Nat} (hx : x < 2 ^ 31) (h : a9 x < 0) (r : Nat) : ma_ow a8 a9 (r + 1) (nI x) = ma_ow a8 a9 r (a8 (2 * x)) + ma_ow a8 a9 r (a8 (2 * x + 1)) := by
  show (if nI x < 0 then 2 ^ (r + 1) else if a9 (nI x).toNatClampNeg < 0 then ma_ow a8 a9 r (a8 (2 * (nI x).toNatClampNeg)) + ma_ow a8 a9 r (a8 (2 * (nI x).toNatClampNeg + 1)) else 0) = _
  rw [if_neg (nI_pos hx), nI_clamp hx, if_pos h]
theorem ma_141 {post : Int32 → St1 → Prop} {J : Int32 → Int32 → (Nat → Int32) → (Nat → Int32) → (Nat → Int32) → (Nat → Int32) → (Nat → Int32) → (Nat → Int32) → (Nat → Int32) → (Nat → Int32) → (Nat → Int32) → (Nat → Int32) → (Nat → Int32) → (Nat → Int32) → (Nat → Int32) → (Nat → Int32) → (Nat → Int32) → (Nat → Int32) → Prop} {dr nh tr nc gr gc : Int32} {a1 a2 a3 a4 a5 a6 a7 a8 a9 a10 a11 a12 a13 a14 a15 a16 : Nat → Int32} {x3 x4 : Int32} {top x d : Nat} (hd : d < 8) (htop : top ≤ 8) (hx : x < 129)
    (hl : (a8 (2 * x)).toInt16.toInt32 = a8 (2 * x)) (hr : (a8 (2 * x + 1)).toInt16.toInt32 = a8 (2 * x + 1))
    (H : J x4 (nI (top + 2)) a1 a2 a3 a4 a5 a6 a7 a8 a9 a10 (upd (upd a11 top (a8 (2 * x))) (top + 1) (a8 (2 * x + 1))) (upd (upd a12 top (nI (d + 1))) (top + 1) (nI (d + 1))) a13 a14 a15 a16) :
    wX_owned_141 post J x3 x4 (nI top) (nI x) (nI d) dr nh tr nc gr gc a1 a2 a3 a4 a5 a6 a7 a8 a9 a10 a11 a12 a13 a14 a15 a16 := by
  have e0 := ma_ix0 x
  have e1 : 2 * nI x + 1 = nI (2 * x + 1) := ma_ix x 1
  refine pk_eq d 8 (fun z => absurd z (by omega)) (fun _ => ⟨pk_in (2 * x) 258 (by omega) e0, pk_in top 20 (by omega), nm_r (e' := upd a11 top (a8 (2 * x))) ?_ ⟨pk_in top 20 (by omega), nm_r (e' := upd a12 top (nI (d + 1))) ?_ ⟨pk_in (2 * x + 1) 258 (by omega) e1, pk_in (top + 1) 20 (by omega) (nI_1 top), nm_r (e' := upd (upd a11 top (a8 (2 * x))) (top + 1) (a8 (2 * x + 1))) ?_ ⟨pk_in (top + 1) 20 (by omega) (nI_1 top), nm_r (e' := upd (upd a12 top (nI (d + 1))) (top + 1) (nI (d + 1))) ?_ (nm_r (e' := nI (top + 2)) (nI_add top 2) H)⟩⟩⟩⟩)
  · rw [nI_clamp (by omega), e0, nI_clamp (by omega), vp_nar_short, hl]
  · rw [nI_clamp (by omega), nI_1, ma_b8 _ (by omega)]
  · rw [nI_1, nI_clamp (by omega), e1, nI_clamp (by omega), vp_nar_short, hr]
  · rw [nI_1, nI_clamp (by omega), nI_1, ma_b8 _ (by omega)]
theorem ma_T16 {a8 : Nat → Int32} {N x b : Nat} {dep pre : Nat → Nat} (hT : ma_T a8 N dep pre) (hx : x < N) (hb : b < 2) : (a8 (2 * x + b)).toInt16.toInt32 = a8 (2 * x + b) := by
  have hN := hT.2.1
  rcases hT.2.2.2.2 x hx b hb with g | ⟨y, hy, g, _, _⟩
  · rw [g]
    exact ma_m16
  · rw [g]
    exact ma_b16 y (by omega)
theorem ma_ow79 {post : Int32 → St1 → Prop} {dr nh tr nc gr gc : Int32} {a1 a2 a3 a4 a5 a6 a7 a8 a9 a10 a13 a14 a15 a16 : Nat → Int32} {N st : Nat} {dep pre : Nat → Nat} (hT : ma_T a8 N dep pre) (hst : st < N) :
    ∀ (r d : Nat) (y : Int32), d + r = 8 → dep st < d → (y = -1 ∨ ∃ x, x < N ∧ y = nI x ∧ dep x = d) → ∃ k, ∀ (n t top : Nat) (b11 b12 : Nat → Int32), top ≤ d → b11 top = y → b12 top = nI d →
      (∀ c11 c12 : Nat → Int32, (∀ j, j < top → c11 j = b11 j ∧ c12 j = b12 j) → wX_owned_79 post (nI st) dr nh tr nc gr gc n (nI (t + ma_ow a8 a9 r y)) (nI top) a1 a2 a3 a4 a5 a6 a7 a8 a9 a10 c11 c12 a13 a14 a15 a16) →
      wX_owned_79 post (nI st) dr nh tr nc gr gc (n + k) (nI t) (nI (top + 1)) a1 a2 a3 a4 a5 a6 a7 a8 a9 a10 b11 b12 a13 a14 a15 a16 := by
  have hN := hT.2.1
  intro r
  induction r with
  | zero =>
    intro d y hd hs hy
    refine ⟨1, fun n t top b11 b12 htop h11 h12 hc => ?_⟩
    refine pk_le (top + 1) 0 (fun z => absurd z (by omega)) (fun _ => nm_r (pk_m1 top) ⟨pk_in top 20 (by omega), nm_r (e' := y) (by rw [nI_clamp (by omega), h11]) ⟨pk_in top 20 (by omega), nm_r (e' := nI d) (by rw [nI_clamp (by omega), h12]) ?_⟩⟩)
    have hc' := hc b11 b12 (fun j _ => ⟨rfl, rfl⟩)
    rcases hy with hy | ⟨x, hx, hy, hdx⟩
    · subst hy
      refine br_f ma_m1nl (nm_r ?_ hc')
      rw [ma_ow_n, ma_sh d (by omega), nI_add, show 8 - d = 0 by omega]
    · subst hy
      refine br_t (nI_pos' (by omega)) (pk_eq x st (fun z => absurd hdx (by rw [z]; omega)) (fun _ => ⟨pk_in x 129 (by omega), ?_⟩))
      rw [nI_clamp (show x < 2 ^ 31 by omega)]
      by_cases h9 : 0 ≤ a9 x
      · rw [ma_ow_p (by omega) (ma_nlt0.mpr h9), Nat.add_zero] at hc'
        exact br_t h9 hc'
      · rw [ma_ow_0 (by omega) (ma_lt0.mpr h9)] at hc'
        exact br_f h9 (pk_eq d 8 (fun _ => nm_r (nI_1 t) hc') (fun z => absurd (by omega) z))
  | succ r ih =>
    intro d y hd hs hy
    rcases hy with hy | ⟨x, hx, hy, hdx⟩
    · subst hy
      refine ⟨1, fun n t top b11 b12 htop h11 h12 hc => ?_⟩
      refine pk_le (top + 1) 0 (fun z => absurd z (by omega)) (fun _ => nm_r (pk_m1 top) ⟨pk_in top 20 (by omega), nm_r (e' := -1) (by rw [nI_clamp (by omega), h11]) ⟨pk_in top 20 (by omega), nm_r (e' := nI d) (by rw [nI_clamp (by omega), h12]) ?_⟩⟩)
      have hc' := hc b11 b12 (fun j _ => ⟨rfl, rfl⟩)
      refine br_f ma_m1nl (nm_r ?_ hc')
      rw [ma_ow_n, ma_sh d (by omega), nI_add, show 8 - d = r + 1 by omega]
    · subst hy
      by_cases h9 : 0 ≤ a9 x
      · refine ⟨1, fun n t top b11 b12 htop h11 h12 hc => ?_⟩
        refine pk_le (top + 1) 0 (fun z => absurd z (by omega)) (fun _ => nm_r (pk_m1 top) ⟨pk_in top 20 (by omega), nm_r (e' := nI x) (by rw [nI_clamp (by omega), h11]) ⟨pk_in top 20 (by omega), nm_r (e' := nI d) (by rw [nI_clamp (by omega), h12]) ?_⟩⟩)
        have hc' := hc b11 b12 (fun j _ => ⟨rfl, rfl⟩)
        refine br_t (nI_pos' (by omega)) (pk_eq x st (fun z => absurd hdx (by rw [z]; omega)) (fun _ => ⟨pk_in x 129 (by omega), ?_⟩))
        rw [nI_clamp (show x < 2 ^ 31 by omega)]
        rw [ma_ow_p (by omega) (ma_nlt0.mpr h9), Nat.add_zero] at hc'
        exact br_t h9 hc'
      · have child : ∀ b, b < 2 → (a8 (2 * x + b) = -1 ∨ ∃ z, z < N ∧ a8 (2 * x + b) = nI z ∧ dep z = d + 1) := by
          intro b hb
          rcases hT.2.2.2.2 x hx b hb with g | ⟨z, hz, g, g1, g2⟩
          · exact Or.inl g
          · exact Or.inr ⟨z, hz, g, by omega⟩
        obtain ⟨kL, hL⟩ := ih (d + 1) (a8 (2 * x)) (by omega) (by omega) (child 0 (by omega))
        obtain ⟨kR, hR⟩ := ih (d + 1) (a8 (2 * x + 1)) (by omega) (by omega) (child 1 (by omega))
        refine ⟨(kL + kR) + 1, fun n t top b11 b12 htop h11 h12 hc => ?_⟩
        refine pk_le (top + 1) 0 (fun z => absurd z (by omega)) (fun _ => nm_r (pk_m1 top) ⟨pk_in top 20 (by omega), nm_r (e' := nI x) (by rw [nI_clamp (by omega), h11]) ⟨pk_in top 20 (by omega), nm_r (e' := nI d) (by rw [nI_clamp (by omega), h12]) ?_⟩⟩)
        refine br_t (nI_pos' (by omega)) (pk_eq x st (fun z => absurd hdx (by rw [z]; omega)) (fun _ => ⟨pk_in x 129 (by omega), ?_⟩))
        rw [nI_clamp (show x < 2 ^ 31 by omega)]
        refine br_f h9 (ma_141 (by omega) (by omega) (by omega) (ma_T16 (b := 0) hT hx (by omega)) (ma_T16 (b := 1) hT hx (by omega)) ?_)
        rw [show n.add (kL + kR) = n + kL + kR from (Nat.add_assoc n kL kR).symm]
        refine hR (n + kL) t (top + 1) _ _ (by omega) pk_us pk_us (fun c11 c12 hc1 => ?_)
        refine hL n (t + ma_ow a8 a9 r (a8 (2 * x + 1))) top c11 c12 (by omega) ?_ ?_ (fun f11 f12 hf => ?_)
        · rw [(hc1 top (by omega)).1, pk_un (by omega), pk_us]
        · rw [(hc1 top (by omega)).2, pk_un (by omega), pk_us]
        · have h := hc f11 f12 (fun j hj => by
            obtain ⟨p1, p2⟩ := hf j hj
            obtain ⟨q1, q2⟩ := hc1 j (by omega)
            rw [p1, p2, q1, q2, pk_un (by omega), pk_un (by omega), pk_un (by omega), pk_un (by omega)]
            exact ⟨rfl, rfl⟩)
          rw [ma_ow_s (by omega) (ma_lt0.mpr h9), Nat.add_comm (ma_ow a8 a9 r (a8 (2 * x))), ← Nat.add_assoc] at h
          exact h
theorem ma_ow79s {post : Int32 → St1 → Prop} {dr nh tr nc gr gc : Int32} {a1 a2 a3 a4 a5 a6 a7 a8 a9 a10 a13 a14 a15 a16 : Nat → Int32} {N st w : Nat} {dep pre : Nat → Nat} (hT : ma_T a8 N dep pre) (hst : st < N) (hw : dep st = w) (hw8 : w ≤ 8) {b11 b12 : Nat → Int32} (h11 : b11 0 = nI st) (h12 : b12 0 = nI w)
    (H : ∀ c11 c12 : Nat → Int32, post (nI (ma_os a8 a9 (8 - w) st)) (dr, nh, tr, nc, gr, gc, a1, a2, a3, a4, a5, a6, a7, a8, a9, a10, c11, c12, a13, a14, a15, a16)) :
    ∃ fu, wX_owned_79 post (nI st) dr nh tr nc gr gc fu 0 1 a1 a2 a3 a4 a5 a6 a7 a8 a9 a10 b11 b12 a13 a14 a15 a16 := by
  have hN := hT.2.1
  by_cases h8 : w = 8
  · subst h8
    refine ⟨2, ?_⟩
    refine pk_le 1 0 (fun z => absurd z (by omega)) (fun _ => nm_r (e' := 0) (by decide) ⟨pk_in 0 20 (by omega), nm_r (e' := nI st) h11 ⟨pk_in 0 20 (by omega), nm_r (e' := nI 8) h12 ?_⟩⟩)
    exact br_t (nI_pos' (by omega)) (br_t rfl (br_t (by decide) (nm_r (e' := nI 1) (by decide) (br_t (by decide) (H b11 b12)))))
  · have child : ∀ b, b < 2 → (a8 (2 * st + b) = -1 ∨ ∃ z, z < N ∧ a8 (2 * st + b) = nI z ∧ dep z = w + 1) := by
      intro b hb
      rcases hT.2.2.2.2 st hst b hb with g | ⟨z, hz, g, g1, g2⟩
      · exact Or.inl g
      · exact Or.inr ⟨z, hz, g, by omega⟩
    obtain ⟨kL, hL⟩ := ma_ow79 (post := post) (dr := dr) (nh := nh) (tr := tr) (nc := nc) (gr := gr) (gc := gc) (a1 := a1) (a2 := a2) (a3 := a3) (a4 := a4) (a5 := a5) (a6 := a6) (a7 := a7) (a9 := a9) (a10 := a10) (a13 := a13) (a14 := a14) (a15 := a15) (a16 := a16) hT hst (7 - w) (w + 1) (a8 (2 * st)) (by omega) (by omega) (child 0 (by omega))
    obtain ⟨kR, hR⟩ := ma_ow79 (post := post) (dr := dr) (nh := nh) (tr := tr) (nc := nc) (gr := gr) (gc := gc) (a1 := a1) (a2 := a2) (a3 := a3) (a4 := a4) (a5 := a5) (a6 := a6) (a7 := a7) (a9 := a9) (a10 := a10) (a13 := a13) (a14 := a14) (a15 := a15) (a16 := a16) hT hst (7 - w) (w + 1) (a8 (2 * st + 1)) (by omega) (by omega) (child 1 (by omega))
    refine ⟨((1 + kL) + kR) + 1, ?_⟩
    refine pk_le 1 0 (fun z => absurd z (by omega)) (fun _ => nm_r (e' := nI 0) (by decide) ⟨pk_in 0 20 (by omega), nm_r (e' := nI st) h11 ⟨pk_in 0 20 (by omega), nm_r (e' := nI w) h12 ?_⟩⟩)
    refine br_t (nI_pos' (by omega)) (br_t rfl (ma_141 (by omega) (by omega) (by omega) (ma_T16 (b := 0) hT hst (by omega)) (ma_T16 (b := 1) hT hst (by omega)) ?_))
    refine hR (1 + kL) 0 1 _ _ (by omega) pk_us pk_us (fun c11 c12 hc1 => ?_)
    refine hL 1 (0 + ma_ow a8 a9 (7 - w) (a8 (2 * st + 1))) 0 c11 c12 (by omega) ?_ ?_ (fun f11 f12 hf => ?_)
    · rw [(hc1 0 (by omega)).1, pk_un (by omega), pk_us]
    · rw [(hc1 0 (by omega)).2, pk_un (by omega), pk_us]
    · have e : 0 + ma_ow a8 a9 (7 - w) (a8 (2 * st + 1)) + ma_ow a8 a9 (7 - w) (a8 (2 * st)) = ma_os a8 a9 (8 - w) st := by
        rw [show 8 - w = (7 - w) + 1 by omega]
        show _ = ma_ow a8 a9 (7 - w) (a8 (2 * st)) + ma_ow a8 a9 (7 - w) (a8 (2 * st + 1))
        omega
      rw [e]
      exact br_t (by decide) (H f11 f12)
theorem ma_entryWith {post : Int32 → Prop} {dr nh tr nc gr gc : Int32} {a1 a2 a3 a4 a5 a6 a7 a8 a9 a10 a11 a12 a13 a14 a15 a16 : Nat → Int32} {h : Nat} (hh : h < 2 ^ 31) (H1 : ∀ e, e < 32 → a4 e = nI h → post (nI e)) (H0 : (∀ e, e < 32 → ¬ a4 e = nI h) → post (-1)) : wpX_entryWith post (dr, nh, tr, nc, gr, gc, a1, a2, a3, a4, a5, a6, a7, a8, a9, a10, a11, a12, a13, a14, a15, a16) (nI h) := by
  have key : ∀ r m, m + r = 32 → (∀ e, e < m → ¬ a4 e = nI h) → wX_entryWith_8 post (nI h) dr nh tr nc gr gc a1 a2 a3 a4 a5 a6 a7 a8 a9 a10 a11 a12 a13 a14 a15 a16 (r + 1) (nI m) := by
    intro r
    induction r with
    | zero =>
      intro m hm hn
      have hm' : m = 32 := by omega
      subst hm'
      exact pk_le 32 32 (fun _ => H0 hn) (fun z => absurd z (by omega))
    | succ r ih =>
      intro m hm hn
      refine pk_le 32 m (fun z => absurd z (by omega)) (fun _ => ⟨pk_in m 32 (by omega), ?_⟩)
      rw [nI_clamp (show m < 2 ^ 31 by omega)]
      exact br_c (fun g => H1 m (by omega) g) (fun g => nm_r (nI_1 m) (ih (m + 1) (by omega) (lt_s hn g)))
  exact br_t (nI_pos' hh) ⟨33, key 32 0 rfl (fun e he => absurd he (by omega))⟩
/-- owned(h): no entry of table 0, or at most as many as it wins, and at least one if it wins one -/
def ma_OW (a4 a6 a7 : Nat → Int32) (h : Nat) (r : Int32) : Prop := (r = -3 ∧ ∀ e, e < 16 → ¬ a4 e = nI h) ∨
  ∃ e t, e < 16 ∧ a4 e = nI h ∧ r = nI t ∧ t ≤ ma_cn (fun v => ma_win a4 a6 a7 v e) 0 256 ∧ ∀ v, v < 256 → ma_win a4 a6 a7 v e → 1 ≤ t
theorem ma_owned {post : Int32 → St1 → Prop} {dr nh tr nc gr gc : Int32} {a1 a2 a3 a4 a5 a6 a7 a8 a9 a10 a11 a12 a13 a14 a15 a16 : Nat → Int32} {n h : Nat} (hC : ma_C n a3 a4 a6 a7) (hK : tr = 0 ∨ ma_K a4 a6 a7 nc a8 a9 a10) (hh : h < 2 ^ 31)
    (H : ∀ (r tr' nc' : Int32) (b8 b9 b10 b11 b12 : Nat → Int32), (tr' = 0 ∨ ma_K a4 a6 a7 nc' b8 b9 b10) → ma_OW a4 a6 a7 h r → post r (dr, nh, tr', nc', gr, gc, a1, a2, a3, a4, a5, a6, a7, b8, b9, b10, b11, b12, a13, a14, a15, a16)) : wpX_owned post (dr, nh, tr, nc, gr, gc, a1, a2, a3, a4, a5, a6, a7, a8, a9, a10, a11, a12, a13, a14, a15, a16) (nI h) := by
  have hR := ma_C_R hC
  refine ma_entryWith hh (fun e he h4 => ?_) (fun hn => ?_)
  · have hl : 0 ≤ a4 e := by rw [h4]; exact nI_pos' hh
    refine br_f (nI_pos (by omega)) (pk_lt e 16 (fun he16 => ?_) (fun he16 => ?_))
    · refine ma_makeTree hR hK (fun tr' nc' b8 b9 b10 hK' => ?_)
      have hK2 := hK'
      obtain ⟨N, dep, pre, eN, hT, hE⟩ := hK'
      have hN := hT.2.1
      obtain ⟨r1, r2, r3, r4⟩ := hR e he16 hl
      obtain ⟨x, e', hx, q1, q2, q3, q4, q5⟩ := hE.1 e he16 hl
      have hlab : dep x = (a7 e).toNatClampNeg := by
        rcases ma_rcT hT r1 _ r2 with g | ⟨y, hy, g, g1, g2⟩
        · rw [g] at q1
          exact absurd q1.symm (ma_nm1 (by omega))
        · rw [g] at q1
          have := ma_inj q1 (by omega) (by omega)
          subst this
          exact g1
      have r5 : (a7 e).toInt8.toInt32 = nI (a7 e).toNatClampNeg := by
        have := ma_b8 (a7 e).toNatClampNeg (by omega)
        rw [← r4] at this
        exact this.trans r4
      refine And.intro (pk_in e 32 (by omega)) (And.intro (pk_in e 32 (by omega)) ?_)
      rw [nI_clamp (show e < 2 ^ 31 by omega), r3, r4]
      refine ma_nodeForO r1 r2 hT hx q1 (And.intro (pk_in x 129 (by omega)) ?_)
      rw [nI_clamp (show x < 2 ^ 31 by omega)]
      by_cases h9 : b9 x = nI e
      · have hown := ma_own hR hT hE he16 hl hx q1 h9
        refine br_t h9 (nm_r (e' := upd a11 0 (nI x)) (by rw [ma_b16 x (by omega)]) ⟨pk_in e 32 (by omega), nm_r (e' := upd a12 0 (nI (a7 e).toNatClampNeg)) (by rw [r5]) ?_⟩)
        exact ma_ow79s hT hx hlab r2 pk_us pk_us (fun c11 c12 => H _ tr' nc' b8 b9 b10 c11 c12 (Or.inr hK2) (Or.inr ⟨e, _, he16, h4, rfl, hown.1, hown.2⟩))
      · refine br_f h9 (H 0 tr' nc' b8 b9 b10 a11 a12 (Or.inr hK2) (Or.inr ⟨e, 0, he16, h4, rfl, Nat.zero_le _, fun v hv hwin => ?_⟩))
        exfalso
        have hrv : ma_rc b8 v (a7 e).toNatClampNeg = nI x := by
          rw [ma_rcE _ r2 hwin.2.2.1]
          exact q1
        obtain ⟨e2, g1, g2, g3, g4, g5⟩ := ma_W1 hT hE hv r2 hx hrv (by rw [q4]; exact nI_pos (by omega))
        rw [q4] at g3
        have := ma_inj g3 (by omega) (by omega)
        subst this
        rcases hwin.2.2.2 e' g1 g2 g5 with z | ⟨_, z⟩
        · omega
        · have := hC.2.1 e e' (by omega) (by omega) hl (Int32.le_antisymm z q5)
          rw [← this] at q4
          exact h9 q4
    · refine H (-3) tr nc a8 a9 a10 a11 a12 hK (Or.inl ⟨rfl, fun e2 he2 h2 => ?_⟩)
      have := hC.2.1 e e2 he (by omega) hl (by rw [h4, h2])
      omega
  · exact br_t ma_m1lt (H (-3) tr nc a8 a9 a10 a11 a12 hK (Or.inl ⟨rfl, fun e2 he2 => hn e2 (by omega)⟩))
end
section
/-! table 1, pure -/
def ma_pr (a6 : Nat → Int32) (e : Nat) : Int32 := a6 e >>> ((16 : Int32) &&& 31)
def ma_pc (a4 a6 : Nat → Int32) (a b : Nat) : Prop := ma_pr a6 b < ma_pr a6 a ∨ (ma_pr a6 a = ma_pr a6 b ∧ a4 a < a4 b)
theorem ma_pcI {a4 a6 : Nat → Int32} {a b : Nat} : ma_pc a4 a6 a b ↔ (ma_pr a6 b).toInt < (ma_pr a6 a).toInt ∨ ((ma_pr a6 a).toInt = (ma_pr a6 b).toInt ∧ (a4 a).toInt < (a4 b).toInt) := by
  unfold ma_pc
  rw [Int32.lt_iff_toInt_lt, Int32.lt_iff_toInt_lt, Int32.toInt_inj]
theorem ma_pc_irr {a4 a6 : Nat → Int32} {a : Nat} : ¬ ma_pc a4 a6 a a := by
  rw [ma_pcI]
  omega
theorem ma_pc_as {a4 a6 : Nat → Int32} {a b : Nat} (h : ma_pc a4 a6 a b) : ¬ ma_pc a4 a6 b a := by
  rw [ma_pcI] at h ⊢
  omega
theorem ma_pc_tr {a4 a6 : Nat → Int32} {a b c : Nat} (h : ma_pc a4 a6 a b) (g : ma_pc a4 a6 b c) : ma_pc a4 a6 a c := by
  rw [ma_pcI] at h g ⊢
  omega
theorem ma_pc_tot {a4 a6 : Nat → Int32} {a b : Nat} (hne : ¬ a4 a = a4 b) (h : ¬ ma_pc a4 a6 a b) : ma_pc a4 a6 b a := by
  rw [ma_pcI] at h ⊢
  rw [← Int32.toInt_inj] at hne
  omega
def ma_sl (y : Int32) : Int32 := (((y ^^^ (y >>> ((3 : Int32) &&& 31))) ^^^ (y >>> ((8 : Int32) &&& 31))) ^^^ (y >>> ((11 : Int32) &&& 31))) &&& 7
theorem ma_sl8 (y : Int32) : ∃ s, s < 8 ∧ ma_sl y = nI s := pk_andE _ 3 (by decide)
/-- following nx out of y one meets the list's members, then -1 -/
def ma_ch (nx : Nat → Int32) : Int32 → List Nat → Prop
  | y, [] => y = -1
  | y, e :: l => y = nI e ∧ ma_ch nx (nx e) l
theorem ma_ch_c {nx nx' : Nat → Int32} : ∀ (l : List Nat) (y : Int32), (∀ e, e ∈ l → nx' e = nx e) → ma_ch nx y l → ma_ch nx' y l := by
  intro l
  induction l with
  | nil => intro y _ h; exact h
  | cons e l ih =>
    intro y he h
    refine ⟨h.1, ?_⟩
    rw [he e (List.mem_cons_self ..)]
    exact ih _ (fun x hx => he x (List.mem_cons_of_mem _ hx)) h.2
theorem ma_ch_i {nx : Nat → Int32} {e b : Nat} {l2 : List Nat} : ∀ (l1 : List Nat) (y : Int32), e ≠ b → b ∉ l1 → b ∉ l2 → e ∉ l1 → e ∉ l2 → ma_ch nx y (l1 ++ b :: l2) → ma_ch (upd (upd nx e (nx b)) b (nI e)) y (l1 ++ b :: e :: l2) := by
  intro l1
  induction l1 with
  | nil =>
    intro y hne _ hb2 _ he2 h
    refine ⟨h.1, pk_us, ?_⟩
    rw [pk_un hne, pk_us]
    refine ma_ch_c _ _ (fun x hx => ?_) h.2
    have n1 : x ≠ b := fun z => hb2 (by rw [← z]; exact hx)
    have n2 : x ≠ e := fun z => he2 (by rw [← z]; exact hx)
    rw [pk_un n1, pk_un n2]
  | cons c l1 ih =>
    intro y hne hb1 hb2 he1 he2 h
    refine ⟨h.1, ?_⟩
    have hcb : c ≠ b := fun z => hb1 (by rw [z]; exact List.mem_cons_self ..)
    have hce : c ≠ e := fun z => he1 (by rw [z]; exact List.mem_cons_self ..)
    rw [pk_un hcb, pk_un hce]
    exact ih _ hne (fun z => hb1 (List.mem_cons_of_mem _ z)) hb2 (fun z => he1 (List.mem_cons_of_mem _ z)) he2 h.2
/-- groups noted so far -/
def ma_N (a4 a6 a7 : Nat → Int32) (G : Nat) (a13 a14 : Nat → Int32) (m : Nat) : Prop :=
  (∀ g g', g < G → g' < G → a13 g = a13 g' → g = g') ∧ (∀ g, g < G → ∃ p, p < 16 ∧ a14 g = nI p) ∧
  (∀ e, 16 ≤ e → e < m → 0 ≤ a4 e → ∃ g, g < G ∧ a13 g = a7 e ∧ ma_pr a6 e ≤ a14 g)
theorem ma_N_new {a4 a6 a7 a13 a14 : Nat → Int32} {G m : Nat} {k : Int32} (h : ma_N a4 a6 a7 G a13 a14 m) (hn : ∀ g, g < G → ¬ a13 g = k) : ma_N a4 a6 a7 (G + 1) (upd a13 G k) (upd a14 G 0) m := by
  obtain ⟨h1, h2, h3⟩ := h
  refine ⟨fun g g' hg hg' e => ?_, fun g hg => ?_, fun e he1 he2 hl => ?_⟩
  · by_cases e1 : g = G
    · by_cases e2 : g' = G
      · omega
      · rw [e1, pk_us, pk_un e2] at e
        exact absurd e.symm (hn g' (by omega))
    · by_cases e2 : g' = G
      · rw [e2, pk_us, pk_un e1] at e
        exact absurd e (hn g (by omega))
      · rw [pk_un e1, pk_un e2] at e
        exact h1 g g' (by omega) (by omega) e
  · by_cases e1 : g = G
    · exact ⟨0, by omega, by rw [e1, pk_us]; rfl⟩
    · rw [pk_un e1]
      exact h2 g (by omega)
  · obtain ⟨g, q1, q2, q3⟩ := h3 e he1 he2 hl
    exact ⟨g, by omega, by rw [pk_un (by omega)]; exact q2, by rw [pk_un (by omega)]; exact q3⟩
theorem ma_N_t {a4 a6 a7 a13 a14 : Nat → Int32} {G m g : Nat} (h : ma_N a4 a6 a7 G a13 a14 m) (hg : g < G) (hk : a13 g = a7 m) (hp : ma_pr a6 m ≤ a14 g) : ma_N a4 a6 a7 G a13 a14 (m + 1) := by
  refine ⟨h.1, h.2.1, fun e he1 he2 hl => ?_⟩
  by_cases e1 : e = m
  · exact ⟨g, hg, by rw [e1]; exact hk, by rw [e1]; exact hp⟩
  · exact h.2.2 e he1 (by omega) hl
theorem ma_N_u {a4 a6 a7 a13 a14 : Nat → Int32} {G m g p : Nat} (h : ma_N a4 a6 a7 G a13 a14 m) (hg : g < G) (hk : a13 g = a7 m) (hp : p < 16) (hq : ma_pr a6 m = nI p) (hn : ¬ ma_pr a6 m ≤ a14 g) : ma_N a4 a6 a7 G a13 (upd a14 g (ma_pr a6 m)) (m + 1) := by
  refine ⟨h.1, fun g' hg' => ?_, fun e he1 he2 hl => ?_⟩
  · by_cases e1 : g' = g
    · exact ⟨p, hp, by rw [e1, pk_us]; exact hq⟩
    · rw [pk_un e1]
      exact h.2.1 g' hg'
  · by_cases e1 : e = m
    · exact ⟨g, hg, by rw [e1]; exact hk, by rw [e1, pk_us]; exact Int32.le_refl _⟩
    · obtain ⟨g', q1, q2, q3⟩ := h.2.2 e he1 (by omega) hl
      refine ⟨g', q1, q2, ?_⟩
      by_cases e2 : g' = g
      · rw [e2, pk_us]
        rw [e2] at q3
        exact Int32.le_trans q3 ((Int32.le_total (ma_pr a6 m) (a14 g)).resolve_left hn)
      · rw [pk_un e2]
        exact q3
/-- two neighbours change places -/
def ma_si (q j : Nat) : Nat := if j = q then q - 1 else if j = q - 1 then q else j
theorem ma_si_i {q j : Nat} (hq : 0 < q) : ma_si q (ma_si q j) = j := by
  unfold ma_si
  split <;> split <;> (try split) <;> omega
theorem ma_si_lt {q j G : Nat} (hq : q < G) (hj : j < G) : ma_si q j < G := by
  unfold ma_si
  split
  · omega
  · split <;> omega
theorem ma_sw {f : Nat → Int32} {q : Nat} (hq : 0 < q) (j : Nat) : upd (upd f q (f (q - 1))) (q - 1) (f q) j = f (ma_si q j) := by
  unfold ma_si
  by_cases e1 : j = q - 1
  · rw [e1, pk_us, if_neg (by omega), if_pos rfl]
  · rw [pk_un e1]
    by_cases e2 : j = q
    · rw [e2, pk_us, if_pos rfl]
    · rw [pk_un e2, if_neg e2, if_neg e1]
theorem ma_N_sw {a4 a6 a7 b13 b14 c13 c14 : Nat → Int32} {G m q : Nat} (h : ma_N a4 a6 a7 G b13 b14 m) (hq0 : 0 < q) (hq : q < G) (h13 : ∀ j, c13 j = b13 (ma_si q j)) (h14 : ∀ j, c14 j = b14 (ma_si q j)) : ma_N a4 a6 a7 G c13 c14 m := by
  refine ⟨fun g g' hg hg' e => ?_, fun g hg => ?_, fun e he1 he2 hl => ?_⟩
  · rw [h13, h13] at e
    have := h.1 _ _ (ma_si_lt hq hg) (ma_si_lt hq hg') e
    rw [← ma_si_i (j := g) hq0, this, ma_si_i hq0]
  · rw [h14]
    exact h.2.1 _ (ma_si_lt hq hg)
  · obtain ⟨g, q1, q2, q3⟩ := h.2.2 e he1 he2 hl
    exact ⟨ma_si q g, ma_si_lt hq q1, by rw [h13, ma_si_i hq0]; exact q2, by rw [h14, ma_si_i hq0]; exact q3⟩
theorem ma_uu (f : Nat → Int32) (k : Nat) (v w : Int32) : upd (upd f k v) k w = upd f k w := by
  funext j
  by_cases e : j = k
  · rw [e, pk_us, pk_us]
  · rw [pk_un e, pk_un e, pk_un e]
theorem ma_ue (f : Nat → Int32) (k : Nat) : upd f k (f k) = f := by
  funext j
  by_cases e : j = k
  · rw [e, pk_us]
  · rw [pk_un e]
def ma_so (a14 : Nat → Int32) (i : Nat) : Prop := ∀ g g', g < g' → g' < i → a14 g' ≤ a14 g
/-- the lists -/
def ma_L (a4 a6 a7 a13 a15 a16 : Nat → Int32) (G : Nat) (ls : Nat → List Nat) (m : Nat) : Prop :=
  ∀ j, j < 8 * G → ma_ch a16 (a15 j) (ls j) ∧ List.Pairwise (ma_pc a4 a6) (ls j) ∧ (ls j).length ≤ m - 16 ∧
    ∀ e, e ∈ ls j ↔ (16 ≤ e ∧ e < m ∧ 0 ≤ a4 e ∧ a7 e = a13 (j / 8) ∧ ma_sl (a6 e &&& 65535) = nI (j % 8))
def ma_Q (a4 a6 a7 : Nat → Int32) (gc : Int32) (a13 a14 a15 a16 : Nat → Int32) : Prop :=
  ∃ G ls, gc = nI G ∧ G ≤ 16 ∧ ma_N a4 a6 a7 G a13 a14 32 ∧ ma_so a14 G ∧ ma_L a4 a6 a7 a13 a15 a16 G ls 32
/-- an entry is in one list alone -/
theorem ma_L_one {a6 a7 a13 : Nat → Int32} {G j j' e : Nat} (h1 : ∀ g g', g < G → g' < G → a13 g = a13 g' → g = g') (hj : j < 8 * G) (hj' : j' < 8 * G)
    (h7 : a7 e = a13 (j / 8)) (hs : ma_sl (a6 e &&& 65535) = nI (j % 8)) (h7' : a7 e = a13 (j' / 8)) (hs' : ma_sl (a6 e &&& 65535) = nI (j' % 8)) : j = j' := by
  have e1 := h1 (j / 8) (j' / 8) (by omega) (by omega) (by rw [← h7, h7'])
  have e2 := ma_inj (hs.symm.trans hs') (by omega) (by omega)
  omega
theorem ma_L_gen {a4 a6 a7 a13 a15 a16 b15 b16 : Nat → Int32} {G m j0 : Nat} {ls : Nat → List Nat} {l1 l2 : List Nat} (hd : ∀ e e', e < 32 → e' < 32 → 0 ≤ a4 e → a4 e = a4 e' → e = e') (h1 : ∀ g g', g < G → g' < G → a13 g = a13 g' → g = g') (hL : ma_L a4 a6 a7 a13 a15 a16 G ls m)
    (hm16 : 16 ≤ m) (hm : m < 32) (hl : 0 ≤ a4 m) (hj : j0 < 8 * G) (h7 : a7 m = a13 (j0 / 8)) (hs : ma_sl (a6 m &&& 65535) = nI (j0 % 8)) (hls : ls j0 = l1 ++ l2)
    (hp1 : ∀ a, a ∈ l1 → ma_pc a4 a6 a m) (hp2 : l2 = [] ∨ ∃ a l', l2 = a :: l' ∧ ¬ ma_pc a4 a6 a m)
    (hch : ma_ch b16 (b15 j0) (l1 ++ m :: l2)) (ho : ∀ j, j < 8 * G → j ≠ j0 → b15 j = a15 j ∧ ∀ e, e ∈ ls j → b16 e = a16 e) :
    ∃ ls', ma_L a4 a6 a7 a13 b15 b16 G ls' (m + 1) := by
  refine ⟨fun j => if j = j0 then l1 ++ m :: l2 else ls j, fun j hjG => ?_⟩
  obtain ⟨c1, c2, c3, c4⟩ := hL j hjG
  by_cases hjj : j = j0
  · subst hjj
    show ma_ch b16 (b15 j) (if j = j then l1 ++ m :: l2 else ls j) ∧ List.Pairwise (ma_pc a4 a6) (if j = j then l1 ++ m :: l2 else ls j) ∧ (if j = j then l1 ++ m :: l2 else ls j).length ≤ m + 1 - 16 ∧ ∀ e, e ∈ (if j = j then l1 ++ m :: l2 else ls j) ↔ _
    rw [if_pos rfl]
    rw [hls] at c2 c3 c4
    have hmem2 : ∀ a, a ∈ l2 → ma_pc a4 a6 m a := by
      rcases hp2 with rfl | ⟨a, l', rfl, hna⟩
      · intro a ha
        exact absurd ha (List.not_mem_nil)
      · have ham : a ∈ l1 ++ a :: l' := List.mem_append_right _ (List.mem_cons_self ..)
        obtain ⟨q1, q2, q3, _⟩ := (c4 a).mp ham
        have hma : ma_pc a4 a6 m a := ma_pc_tot (fun z => by
          have := hd a m (by omega) hm q3 z
          omega) hna
        intro x hx
        rcases List.mem_cons.mp hx with rfl | hx
        · exact hma
        · exact ma_pc_tr hma ((List.pairwise_cons.mp (List.pairwise_append.mp c2).2.1).1 x hx)
    obtain ⟨p1, p2, p3⟩ := List.pairwise_append.mp c2
    refine ⟨hch, ?_, ?_, fun e => ?_⟩
    · refine List.pairwise_append.mpr ⟨p1, List.pairwise_cons.mpr ⟨hmem2, p2⟩, fun a ha b hb => ?_⟩
      rcases List.mem_cons.mp hb with rfl | hb
      · exact hp1 a ha
      · exact p3 a ha b hb
    · rw [List.length_append] at c3 ⊢
      rw [List.length_cons]
      omega
    · have hmm : e ∈ l1 ++ m :: l2 ↔ (e = m ∨ e ∈ l1 ++ l2) := by
        rw [List.mem_append, List.mem_cons, List.mem_append]
        constructor
        · rintro (z | z | z)
          · exact Or.inr (Or.inl z)
          · exact Or.inl z
          · exact Or.inr (Or.inr z)
        · rintro (z | z | z)
          · exact Or.inr (Or.inl z)
          · exact Or.inl z
          · exact Or.inr (Or.inr z)
      rw [hmm, c4 e]
      constructor
      · rintro (z | ⟨z1, z2, z3⟩)
        · rw [z]
          exact ⟨hm16, by omega, hl, h7, hs⟩
        · exact ⟨z1, by omega, z3⟩
      · rintro ⟨z1, z2, z3⟩
        by_cases e1 : e = m
        · exact Or.inl e1
        · exact Or.inr ⟨z1, by omega, z3⟩
  · show ma_ch b16 (b15 j) (if j = j0 then l1 ++ m :: l2 else ls j) ∧ List.Pairwise (ma_pc a4 a6) (if j = j0 then l1 ++ m :: l2 else ls j) ∧ (if j = j0 then l1 ++ m :: l2 else ls j).length ≤ m + 1 - 16 ∧ ∀ e, e ∈ (if j = j0 then l1 ++ m :: l2 else ls j) ↔ _
    rw [if_neg hjj]
    obtain ⟨o1, o2⟩ := ho j hjG hjj
    refine ⟨by rw [o1]; exact ma_ch_c _ _ o2 c1, c2, by omega, fun e => ?_⟩
    rw [c4 e]
    constructor
    · rintro ⟨z1, z2, z3⟩
      exact ⟨z1, by omega, z3⟩
    · rintro ⟨z1, z2, z3, z4, z5⟩
      by_cases e1 : e = m
      · subst e1
        exact absurd (ma_L_one h1 hjG hj z4 z5 h7 hs) hjj
      · exact ⟨z1, by omega, z3, z4, z5⟩
theorem ma_L_d {a4 a6 a7 a13 a15 a16 : Nat → Int32} {G m : Nat} {ls : Nat → List Nat} (hL : ma_L a4 a6 a7 a13 a15 a16 G ls m) (hl : ¬ 0 ≤ a4 m) : ma_L a4 a6 a7 a13 a15 a16 G ls (m + 1) := by
  intro j hj
  obtain ⟨c1, c2, c3, c4⟩ := hL j hj
  refine ⟨c1, c2, by omega, fun e => ?_⟩
  rw [c4 e]
  constructor
  · rintro ⟨z1, z2, z3⟩
    exact ⟨z1, by omega, z3⟩
  · rintro ⟨z1, z2, z3, z4⟩
    by_cases e1 : e = m
    · rw [e1] at z3
      exact absurd z3 hl
    · exact ⟨z1, by omega, z3, z4⟩
/-- who matches F, who wins in table 1 -/
def ma_m1 (a6 a7 : Nat → Int32) (F : Int32) (e : Nat) : Prop := F &&& a7 e = a6 e &&& 65535
def ma_w1 (a4 a6 a7 : Nat → Int32) (F : Int32) (e : Nat) : Prop := 16 ≤ e ∧ e < 32 ∧ 0 ≤ a4 e ∧ ma_m1 a6 a7 F e ∧ ∀ e', 16 ≤ e' → e' < 32 → 0 ≤ a4 e' → ma_m1 a6 a7 F e' → ¬ ma_pc a4 a6 e' e
def ma_GP (a4 a6 a7 : Nat → Int32) (F r : Int32) : Prop := (r = -1 ∧ ∀ e, 16 ≤ e → e < 32 → 0 ≤ a4 e → ¬ ma_m1 a6 a7 F e) ∨ ∃ e, r = nI e ∧ ma_w1 a4 a6 a7 F e
def ma_MM (a4 a6 a7 : Nat → Int32) (F r : Int32) : Prop := (r ≤ 0 ∧ ∀ e, 16 ≤ e → e < 32 → 0 ≤ a4 e → ¬ ma_m1 a6 a7 F e) ∨ (¬ r ≤ 0 ∧ ∃ e, 16 ≤ e ∧ e < 32 ∧ 0 ≤ a4 e ∧ ma_m1 a6 a7 F e)
/-- who is in group g and matches F is in the list asked for, and the other way round -/
theorem ma_L_m {a4 a6 a7 a13 a15 a16 : Nat → Int32} {G g s e : Nat} {F : Int32} {ls : Nat → List Nat} (hL : ma_L a4 a6 a7 a13 a15 a16 G ls 32) (hg : g < G) (hs : s < 8) (hsl : ma_sl (F &&& a13 g) = nI s) :
    (e ∈ ls (8 * g + s) ∧ a6 e &&& 65535 = F &&& a13 g) ↔ (16 ≤ e ∧ e < 32 ∧ 0 ≤ a4 e ∧ ma_m1 a6 a7 F e ∧ a13 g = a7 e) := by
  have h4 := (hL (8 * g + s) (by omega)).2.2.2 e
  rw [show (8 * g + s) / 8 = g by omega, show (8 * g + s) % 8 = s by omega] at h4
  rw [h4]
  unfold ma_m1
  constructor
  · rintro ⟨⟨z1, z2, z3, z4, z5⟩, z6⟩
    exact ⟨z1, z2, z3, by rw [z4, z6], z4.symm⟩
  · rintro ⟨z1, z2, z3, z4, z5⟩
    rw [← z5] at z4
    exact ⟨⟨z1, z2, z3, z5.symm, by rw [← z4]; exact hsl⟩, z4.symm⟩
end
section
/-! table 1, walked -/
theorem ma_slotOf {post : Int32 → Prop} {dr nh tr nc gr gc : Int32} {a1 a2 a3 a4 a5 a6 a7 a8 a9 a10 a11 a12 a13 a14 a15 a16 : Nat → Int32} {p : Int32} (H : post (ma_sl p)) : wpX_slotOf post (dr, nh, tr, nc, gr, gc, a1, a2, a3, a4, a5, a6, a7, a8, a9, a10, a11, a12, a13, a14, a15, a16) p := H
theorem ma_precedes {post : Int32 → Prop} {dr nh tr nc gr gc : Int32} {a1 a2 a3 a4 a5 a6 a7 a8 a9 a10 a11 a12 a13 a14 a15 a16 : Nat → Int32} {a b : Nat} (ha : a < 32) (hb : b < 32) (H1 : ma_pc a4 a6 a b → post 1) (H0 : ¬ ma_pc a4 a6 a b → post 0) : wpX_precedes post (dr, nh, tr, nc, gr, gc, a1, a2, a3, a4, a5, a6, a7, a8, a9, a10, a11, a12, a13, a14, a15, a16) (nI a) (nI b) := by
  have ea : (nI a).toNatClampNeg = a := nI_clamp (by omega)
  have eb : (nI b).toNatClampNeg = b := nI_clamp (by omega)
  refine And.intro (pk_in a 32 ha) (And.intro (pk_in b 32 hb) ?_)
  rw [ea, eb]
  refine br_c (fun h => H1 (Or.inl h)) (fun h => br_c (fun h2 => ⟨pk_in a 32 ha, pk_in b 32 hb, ?_⟩) (fun h2 => H0 (fun z => z.elim (fun q => h q) (fun q => h2 q.1))))
  exact br_c (fun h3 => H0 (fun z => z.elim (fun q => h q) (fun q => absurd h3 (Int32.not_le.mpr q.2)))) (fun h3 => H1 (Or.inr ⟨h2, Int32.not_le.mp h3⟩))
theorem ma_groupOf {post : Int32 → Prop} {dr nh tr nc gr : Int32} {a1 a2 a3 a4 a5 a6 a7 a8 a9 a10 a11 a12 a13 a14 a15 a16 : Nat → Int32} {G : Nat} {mk : Int32} (hG : G ≤ 16) (H1 : ∀ g, g < G → a13 g = mk → post (nI g)) (H0 : (∀ g, g < G → ¬ a13 g = mk) → post (-1)) : wpX_groupOf post (dr, nh, tr, nc, gr, nI G, a1, a2, a3, a4, a5, a6, a7, a8, a9, a10, a11, a12, a13, a14, a15, a16) mk := by
  have key : ∀ r m, m + r = G → (∀ g, g < m → ¬ a13 g = mk) → wX_groupOf_2 post mk dr nh tr nc gr (nI G) a1 a2 a3 a4 a5 a6 a7 a8 a9 a10 a11 a12 a13 a14 a15 a16 (r + 1) (nI m) := by
    intro r
    induction r with
    | zero =>
      intro m hm hn
      have hm' : m = G := by omega
      subst hm'
      exact pk_le m m (fun _ => H0 hn) (fun z => absurd z (by omega))
    | succ r ih =>
      intro m hm hn
      refine pk_le G m (fun z => absurd z (by omega)) (fun _ => ⟨pk_in m 16 (by omega), ?_⟩)
      rw [nI_clamp (show m < 2 ^ 31 by omega)]
      exact br_c (fun g => H1 m (by omega) g) (fun g => nm_r (nI_1 m) (ih (m + 1) (by omega) (lt_s hn g)))
  exact ⟨G + 1, key G 0 (by omega) (fun g hg => absurd hg (by omega))⟩
theorem ma_49 {post : St1 → Prop} {dr nh tr nc gr gc : Int32} {a1 a2 a3 a4 a5 a6 a7 a8 a9 a10 a11 a12 a13 a14 a15 a16 : Nat → Int32} {g m p : Nat} (hg : g < 16) (hm : m < 32) (hp : p < 16) (hq : ma_pr a6 m = nI p) (H1 : ma_pr a6 m ≤ a14 g → post (dr, nh, tr, nc, gr, gc, a1, a2, a3, a4, a5, a6, a7, a8, a9, a10, a11, a12, a13, a14, a15, a16)) (H2 : ¬ ma_pr a6 m ≤ a14 g → post (dr, nh, tr, nc, gr, gc, a1, a2, a3, a4, a5, a6, a7, a8, a9, a10, a11, a12, a13, upd a14 g (ma_pr a6 m), a15, a16)) : wX_noteGroup_49 post (nI m) (nI g) dr nh tr nc gr gc a1 a2 a3 a4 a5 a6 a7 a8 a9 a10 a11 a12 a13 a14 a15 a16 := by
  refine And.intro (pk_in m 32 hm) (And.intro (pk_in g 16 hg) ?_)
  rw [nI_clamp (show g < 2 ^ 31 by omega), nI_clamp (show m < 2 ^ 31 by omega)]
  refine br_c (fun z => H1 z) (fun z => ⟨pk_in m 32 hm, pk_in g 16 hg, nm_r (e' := upd a14 g (ma_pr a6 m)) ?_ (H2 z)⟩)
  show upd a14 g ((ma_pr a6 m).toInt8.toInt32) = _
  rw [hq, ma_b8 p (by omega)]
theorem ma_noteGroup {post : St1 → Prop} {dr nh tr nc gr : Int32} {a1 a2 a3 a4 a5 a6 a7 a8 a9 a10 a11 a12 a13 a14 a15 a16 : Nat → Int32} {G m p : Nat} (hN : ma_N a4 a6 a7 G a13 a14 m) (hG : G + 16 ≤ m) (hm : m < 32) (hp : p < 16) (hq : ma_pr a6 m = nI p)
    (H : ∀ (G' : Nat) (b13 b14 : Nat → Int32), ma_N a4 a6 a7 G' b13 b14 (m + 1) → G' + 16 ≤ m + 1 → post (dr, nh, tr, nc, gr, nI G', a1, a2, a3, a4, a5, a6, a7, a8, a9, a10, a11, a12, b13, b14, a15, a16)) : wpX_noteGroup post (dr, nh, tr, nc, gr, nI G, a1, a2, a3, a4, a5, a6, a7, a8, a9, a10, a11, a12, a13, a14, a15, a16) (nI m) := by
  have em : (nI m).toNatClampNeg = m := nI_clamp (by omega)
  refine And.intro (pk_in m 32 hm) (ma_groupOf (by omega) (fun g hg e => ?_) (fun hn => ?_))
  · rw [em] at e
    exact br_t (nI_pos' (by omega)) (ma_49 (by omega) hm hp hq (fun z => H G a13 a14 (ma_N_t hN hg e z) (by omega)) (fun z => H G a13 _ (ma_N_u hN hg e hp hq z) (by omega)))
  · rw [em] at hn
    have hN' := ma_N_new hN hn
    refine br_f ma_m1nl (nm_r (nI_1 G) ⟨pk_in m 32 hm, pk_in G 16 (by omega), nm_r (e' := upd a13 G (a7 m)) (by rw [em, nI_clamp (by omega)]) ⟨pk_in G 16 (by omega), nm_r (e' := upd a14 G 0) (by rw [nI_clamp (by omega)]) ?_⟩⟩)
    exact ma_49 (by omega) hm hp hq (fun z => H (G + 1) _ _ (ma_N_t hN' (by omega) pk_us z) (by omega)) (fun z => H (G + 1) _ _ (ma_N_u hN' (by omega) pk_us hp hq z) (by omega))
theorem ma_s27 {post : St1 → Prop} {J : Int32 → (Nat → Int32) → (Nat → Int32) → (Nat → Int32) → (Nat → Int32) → (Nat → Int32) → (Nat → Int32) → (Nat → Int32) → (Nat → Int32) → (Nat → Int32) → (Nat → Int32) → (Nat → Int32) → (Nat → Int32) → (Nat → Int32) → (Nat → Int32) → (Nat → Int32) → (Nat → Int32) → Prop} {dr nh tr nc gr gc : Int32} {a1 a2 a3 a4 a5 a6 a7 a8 a9 a10 a11 a12 a15 a16 : Nat → Int32} {G i p : Nat} {mk : Int32} (hG : G ≤ 16) (hi : i < G) (hp : p < 16)
    (H : ∀ b13 b14 : Nat → Int32, ma_N a4 a6 a7 G b13 b14 32 → ma_so b14 (i + 1) → J (nI (i + 1)) a1 a2 a3 a4 a5 a6 a7 a8 a9 a10 a11 a12 b13 b14 a15 a16) :
    ∀ (q : Nat) (a13 a14 : Nat → Int32), q ≤ i → ma_N a4 a6 a7 G (upd a13 q mk) (upd a14 q (nI p)) 32 → (∀ g g', g < g' → g' ≤ i → g ≠ q → g' ≠ q → a14 g' ≤ a14 g) → (∀ g, q < g → g ≤ i → a14 g < nI p) →
      wX_sortGroups_27 post J (nI i) mk (nI p) dr nh tr nc gr gc (q + 1) (nI q) a1 a2 a3 a4 a5 a6 a7 a8 a9 a10 a11 a12 a13 a14 a15 a16 := by
  have exit : ∀ (q : Nat) (a13 a14 : Nat → Int32), q ≤ i → ma_N a4 a6 a7 G (upd a13 q mk) (upd a14 q (nI p)) 32 → (∀ g g', g < g' → g' ≤ i → g ≠ q → g' ≠ q → a14 g' ≤ a14 g) → (∀ g, q < g → g ≤ i → a14 g < nI p) → (∀ g, g < q → nI p ≤ a14 g) →
      wX_sortGroups_83 post J (nI i) mk (nI p) (nI q) dr nh tr nc gr gc a1 a2 a3 a4 a5 a6 a7 a8 a9 a10 a11 a12 a13 a14 a15 a16 := by
    intro q a13 a14 hq hN h1 h2 h3
    refine ⟨pk_in q 16 (by omega), nm_r (e' := upd a13 q mk) (by rw [nI_clamp (by omega)]) ⟨pk_in q 16 (by omega), nm_r (e' := upd a14 q (nI p)) (by rw [nI_clamp (by omega), vp_nar_byte, ma_b8 p (by omega)]) (nm_r (nI_1 i) (H _ _ hN ?_))⟩⟩
    intro g g' hgg hg'
    by_cases e1 : g = q
    · rw [e1, pk_us, pk_un (by omega)]
      have := h2 g' (by omega) (by omega)
      rw [Int32.lt_iff_toInt_lt] at this
      rw [Int32.le_iff_toInt_le]
      omega
    · by_cases e2 : g' = q
      · rw [e2, pk_us, pk_un e1]
        exact h3 g (by omega)
      · rw [pk_un e1, pk_un e2]
        exact h1 g g' hgg (by omega) e1 e2
  intro q
  induction q with
  | zero =>
    intro a13 a14 hq hN h1 h2
    exact pk_le 0 0 (fun _ => exit 0 a13 a14 hq hN h1 h2 (fun g hg => absurd hg (by omega))) (fun z => absurd z (by omega))
  | succ q ih =>
    intro a13 a14 hq hN h1 h2
    obtain ⟨p', hp', ep'⟩ := hN.2.1 q (by omega)
    rw [pk_un (by omega)] at ep'
    refine pk_le (q + 1) 0 (fun z => absurd z (by omega)) (fun _ => ⟨pk_in q 16 (by omega) (nI_pred q), ?_⟩)
    rw [nI_pred, nI_clamp (show q < 2 ^ 31 by omega)]
    refine br_c (fun z => exit (q + 1) a13 a14 hq hN h1 h2 (fun g hg => ?_)) (fun z => ⟨pk_in q 16 (by omega), pk_in (q + 1) 16 (by omega), nm_r (e' := upd a13 (q + 1) (a13 q)) (by rw [nI_clamp (by omega)]) ⟨pk_in q 16 (by omega), pk_in (q + 1) 16 (by omega), nm_r (e' := upd a14 (q + 1) (a14 q)) ?_ (nm_r (pk_m1 q) (ih _ _ (by omega) ?_ ?_ ?_))⟩⟩)
    · by_cases e : g = q
      · rw [e]
        exact z
      · exact Int32.le_trans z (h1 g q (by omega) (by omega) (by omega) (by omega))
    · rw [nI_clamp (by omega), vp_nar_byte, ep', ma_b8 p' (by omega)]
    · refine ma_N_sw hN (q := q + 1) (by omega) (by omega) (fun j => ?_) (fun j => ?_)
      · have := ma_sw (f := upd a13 (q + 1) mk) (q := q + 1) (by omega) j
        rw [show q + 1 - 1 = q from rfl, pk_us, pk_un (show q ≠ q + 1 by omega), ma_uu] at this
        exact this
      · have := ma_sw (f := upd a14 (q + 1) (nI p)) (q := q + 1) (by omega) j
        rw [show q + 1 - 1 = q from rfl, pk_us, pk_un (show q ≠ q + 1 by omega), ma_uu] at this
        exact this
    · intro g g' hgg hg' n1 n2
      by_cases e1 : g = q + 1
      · rw [e1, pk_us, pk_un (by omega)]
        exact h1 q g' (by omega) hg' (by omega) (by omega)
      · rw [pk_un e1]
        by_cases e2 : g' = q + 1
        · rw [e2, pk_us]
          exact h1 g q (by omega) (by omega) e1 (by omega)
        · rw [pk_un e2]
          exact h1 g g' hgg hg' e1 e2
    · intro g hg1 hg2
      by_cases e1 : g = q + 1
      · rw [e1, pk_us]
        exact Int32.not_le.mp z
      · rw [pk_un e1]
        exact h2 g (by omega) hg2
theorem ma_s2 {post : St1 → Prop} {dr nh tr nc gr : Int32} {a1 a2 a3 a4 a5 a6 a7 a8 a9 a10 a11 a12 a15 a16 : Nat → Int32} {G : Nat} (hG : G ≤ 16) (H : ∀ b13 b14 : Nat → Int32, ma_N a4 a6 a7 G b13 b14 32 → ma_so b14 G → post (dr, nh, tr, nc, gr, nI G, a1, a2, a3, a4, a5, a6, a7, a8, a9, a10, a11, a12, b13, b14, a15, a16)) :
    ∀ (r i : Nat) (a13 a14 : Nat → Int32), G ≤ i + r → i ≤ 17 → ma_N a4 a6 a7 G a13 a14 32 → ma_so a14 i → wX_sortGroups_2 post dr nh tr nc gr (nI G) (r + 1) (nI i) a1 a2 a3 a4 a5 a6 a7 a8 a9 a10 a11 a12 a13 a14 a15 a16 := by
  intro r
  induction r with
  | zero =>
    intro i a13 a14 hi h17 hN hs
    exact pk_le G i (fun z => H a13 a14 hN (fun g g' h1 h2 => hs g g' h1 (by omega))) (fun z => absurd z (by omega))
  | succ r ih =>
    intro i a13 a14 hi h17 hN hs
    refine pk_le G i (fun z => H a13 a14 hN (fun g g' h1 h2 => hs g g' h1 (by omega))) (fun z => ?_)
    obtain ⟨p, hp, ep⟩ := hN.2.1 i z
    refine ⟨pk_in i 16 (by omega), nm_r (e' := a13 i) (by rw [nI_clamp (by omega)]) ⟨pk_in i 16 (by omega), nm_r (e' := nI p) (by rw [nI_clamp (by omega), ep]) ⟨i + 1, ?_⟩⟩⟩
    refine ma_s27 hG z hp (fun b13 b14 hN' hs' => ih (i + 1) b13 b14 (by omega) (by omega) hN' hs') i a13 a14 (Nat.le_refl i) ?_ (fun g g' h1 h2 h3 h4 => hs g g' h1 (by omega)) (fun g h1 h2 => absurd h1 (by omega))
    rw [ma_ue, ← ep, ma_ue]
    exact hN
theorem ma_sortGroups {post : St1 → Prop} {dr nh tr nc gr : Int32} {a1 a2 a3 a4 a5 a6 a7 a8 a9 a10 a11 a12 a13 a14 a15 a16 : Nat → Int32} {G : Nat} (hG : G ≤ 16) (hN : ma_N a4 a6 a7 G a13 a14 32) (H : ∀ b13 b14 : Nat → Int32, ma_N a4 a6 a7 G b13 b14 32 → ma_so b14 G → post (dr, nh, tr, nc, gr, nI G, a1, a2, a3, a4, a5, a6, a7, a8, a9, a10, a11, a12, b13, b14, a15, a16)) : wpX_sortGroups post (dr, nh, tr, nc, gr, nI G, a1, a2, a3, a4, a5, a6, a7, a8, a9, a10, a11, a12, a13, a14, a15, a16) :=
  ⟨G + 1, ma_s2 hG H G 1 a13 a14 (by omega) (by omega) hN (fun g g' h1 h2 => absurd h1 (by omega))⟩
theorem ma_h38 {post : St1 → Prop} {dr nh tr nc gr gc : Int32} {a1 a2 a3 a4 a5 a6 a7 a8 a9 a10 a11 a12 a13 a14 a15 a16 : Nat → Int32} {m j0 : Nat} (hm : m < 32) (L0 : List Nat) (hb : ∀ a, a ∈ L0 → a < 32)
    (H : ∀ (l1 l2 : List Nat) (x3 y : Int32), L0 = l1 ++ l2 → ma_ch a16 y l2 → (∀ a, a ∈ l1 → ma_pc a4 a6 a m) → (l2 = [] ∨ ∃ a l', l2 = a :: l' ∧ ¬ ma_pc a4 a6 a m) → ((l1 = [] ∧ x3 = -1 ∧ y = a15 j0) ∨ ∃ l0 b, l1 = l0 ++ [b] ∧ x3 = nI b ∧ y = a16 b) → wX_hang_68 post (nI m) (nI j0) x3 y dr nh tr nc gr gc a1 a2 a3 a4 a5 a6 a7 a8 a9 a10 a11 a12 a13 a14 a15 a16) :
    ∀ (l2 l1 : List Nat) (x3 y : Int32), L0 = l1 ++ l2 → ma_ch a16 y l2 → (∀ a, a ∈ l1 → ma_pc a4 a6 a m) → ((l1 = [] ∧ x3 = -1 ∧ y = a15 j0) ∨ ∃ l0 b, l1 = l0 ++ [b] ∧ x3 = nI b ∧ y = a16 b) → wX_hang_38 post (nI m) (nI j0) dr nh tr nc gr gc a1 a2 a3 a4 a5 a6 a7 a8 a9 a10 a11 a12 a13 a14 a15 a16 (l2.length + 1) x3 y := by
  intro l2
  induction l2 with
  | nil =>
    intro l1 x3 y hL hc hp hx
    have hy : y = -1 := hc
    exact br_t (by rw [hy]; exact ma_m1lt) (H l1 [] x3 y hL hc hp (Or.inl rfl) hx)
  | cons a l ih =>
    intro l1 x3 y hL hc hp hx
    obtain ⟨hy, hc2⟩ := hc
    have ha : a < 32 := hb a (by rw [hL]; exact List.mem_append_right _ (List.mem_cons_self ..))
    subst hy
    refine br_f (nI_pos (by omega)) (ma_precedes ha hm (fun hpc => ?_) (fun hpc => ?_))
    · refine br_f (by decide) ⟨pk_in a 32 ha, nm_r (e' := a16 a) (by rw [nI_clamp (by omega)]) (ih (l1 ++ [a]) (nI a) (a16 a) (by rw [hL, List.append_assoc]; rfl) hc2 (fun x hx' => ?_) (Or.inr ⟨l1, a, rfl, rfl, rfl⟩))⟩
      rcases List.mem_append.mp hx' with z | z
      · exact hp x z
      · rw [List.mem_singleton.mp z]
        exact hpc
    · exact br_t rfl (H l1 (a :: l) x3 (nI a) hL ⟨rfl, hc2⟩ hp (Or.inr ⟨a, l, rfl, hpc⟩) hx)
theorem ma_hang {post : St1 → Prop} {dr nh tr nc gr : Int32} {a1 a2 a3 a4 a5 a6 a7 a8 a9 a10 a11 a12 a13 a14 a15 a16 : Nat → Int32} {G m : Nat} {ls : Nat → List Nat} (hd : ∀ e e', e < 32 → e' < 32 → 0 ≤ a4 e → a4 e = a4 e' → e = e') (hN : ma_N a4 a6 a7 G a13 a14 32) (hG : G ≤ 16) (hL : ma_L a4 a6 a7 a13 a15 a16 G ls m) (hm16 : 16 ≤ m) (hm : m < 32) (hl : 0 ≤ a4 m)
    (H : ∀ (b15 b16 : Nat → Int32) (ls' : Nat → List Nat), ma_L a4 a6 a7 a13 b15 b16 G ls' (m + 1) → post (dr, nh, tr, nc, gr, nI G, a1, a2, a3, a4, a5, a6, a7, a8, a9, a10, a11, a12, a13, a14, b15, b16)) : wpX_hang post (dr, nh, tr, nc, gr, nI G, a1, a2, a3, a4, a5, a6, a7, a8, a9, a10, a11, a12, a13, a14, a15, a16) (nI m) := by
  have em : (nI m).toNatClampNeg = m := nI_clamp (by omega)
  refine And.intro (pk_in m 32 hm) (ma_groupOf hG (fun g hg e => ?_) (fun hn => ?_))
  · rw [em] at e
    obtain ⟨s, hs, es⟩ := ma_sl8 (a6 m &&& 65535)
    have ej : 8 * nI g + nI s = nI (8 * g + s) := by
      show nI 8 * nI g + nI s = _
      rw [pk_mul, nI_add]
    refine And.intro (pk_in m 32 hm) (ma_slotOf ?_)
    rw [em, es]
    refine nm_r ej ⟨pk_in (8 * g + s) 128 (by omega), nm_r (e' := a15 (8 * g + s)) (by rw [nI_clamp (by omega)]) ⟨(ls (8 * g + s)).length + 1, ?_⟩⟩
    have hj : 8 * g + s < 8 * G := by omega
    have d1 : (8 * g + s) / 8 = g := by omega
    have d2 : (8 * g + s) % 8 = s := by omega
    generalize 8 * g + s = j0 at hj d1 d2 ⊢
    obtain ⟨c1, c2, c3, c4⟩ := hL j0 hj
    have h7 : a7 m = a13 (j0 / 8) := by rw [d1]; exact e.symm
    have hsl : ma_sl (a6 m &&& 65535) = nI (j0 % 8) := by rw [d2]; exact es
    have hlt : ∀ j, j < 8 * G → ∀ a, a ∈ ls j → a < m := fun j hj a ha => (((hL j hj).2.2.2 a).mp ha).2.1
    refine ma_h38 hm (ls j0) (fun a ha => by have := hlt j0 hj a ha; omega) (fun l1 l2 x3 y h1 h2 h3 h4 h5 => ?_) (ls j0) [] (-1) (a15 j0) rfl c1 (fun a ha => absurd ha (List.not_mem_nil)) (Or.inl ⟨rfl, rfl, rfl⟩)
    have hm1 : m ∉ l1 := fun z => by
      have := hlt j0 hj m (by rw [h1]; exact List.mem_append_left _ z)
      omega
    have hm2 : m ∉ l2 := fun z => by
      have := hlt j0 hj m (by rw [h1]; exact List.mem_append_right _ z)
      omega
    have hy : y.toInt8.toInt32 = y := by
      cases l2 with
      | nil =>
        have : y = -1 := h2
        rw [this]
        exact ma_m8
      | cons a l =>
        have h21 : y = nI a := h2.1
        have := hlt j0 hj a (by rw [h1]; exact List.mem_append_right _ (List.mem_cons_self ..))
        rw [h21]
        exact ma_b8 a (by omega)
    refine And.intro (pk_in m 32 hm) (nm_r (e' := upd a16 m y) (by rw [em, hy]) ?_)
    rcases h5 with ⟨q1, q2, q3⟩ | ⟨l0, b, q1, q2, q3⟩
    · subst q1 q2
      refine br_f ma_m1nl ⟨pk_in j0 128 (by omega), nm_r (e' := upd a15 j0 (nI m)) (by rw [nI_clamp (by omega), ma_b8 m (by omega)]) ?_⟩
      obtain ⟨ls', hL'⟩ := ma_L_gen (b15 := upd a15 j0 (nI m)) (b16 := upd a16 m y) hd hN.1 hL hm16 hm hl hj h7 hsl h1 h3 h4 (by
        rw [pk_us]
        refine ⟨rfl, ?_⟩
        rw [pk_us]
        exact ma_ch_c _ _ (fun x hx => pk_un (fun z => hm2 (by rw [← z]; exact hx))) h2) (fun j hjG hne => ⟨pk_un hne, fun x hx => pk_un (by have := hlt j hjG x hx; omega)⟩)
      exact H _ _ ls' hL'
    · subst q1 q2 q3
      have hbm : b ∈ ls j0 := by
        rw [h1]
        exact List.mem_append_left _ (List.mem_append_right _ (List.mem_singleton.mpr rfl))
      have hb := hlt j0 hj b hbm
      refine br_t (nI_pos' (by omega)) ⟨pk_in b 32 (by omega), nm_r (e' := upd (upd a16 m (a16 b)) b (nI m)) (by rw [nI_clamp (by omega), ma_b8 m (by omega)]) ?_⟩
      have h1' : ls j0 = l0 ++ b :: l2 := by rw [h1, List.append_assoc]; rfl
      rw [h1'] at c1 c2
      obtain ⟨p1, p2, p3⟩ := List.pairwise_append.mp c2
      have hb1 : b ∉ l0 := fun z => ma_pc_irr (p3 b z b (List.mem_cons_self ..))
      have hb2 : b ∉ l2 := fun z => ma_pc_irr ((List.pairwise_cons.mp p2).1 b z)
      obtain ⟨ls', hL'⟩ := ma_L_gen (b15 := a15) (b16 := upd (upd a16 m (a16 b)) b (nI m)) hd hN.1 hL hm16 hm hl hj h7 hsl h1 h3 h4 (by
        rw [List.append_assoc]
        exact ma_ch_i l0 _ (by omega) hb1 hb2 (fun z => hm1 (List.mem_append_left _ z)) hm2 c1) (fun j hjG hne => ⟨rfl, fun x hx => by
          have hxm := hlt j hjG x hx
          have hxb : x ≠ b := fun z => by
            have k1 := ((hL j hjG).2.2.2 x).mp hx
            have k2 := (c4 b).mp hbm
            rw [z] at k1
            exact hne (ma_L_one hN.1 hjG hj k1.2.2.2.1 k1.2.2.2.2 k2.2.2.2.1 k2.2.2.2.2)
          rw [pk_un hxb, pk_un (by omega)]⟩)
      exact H _ _ ls' hL'
  · rw [em] at hn
    obtain ⟨g, q1, q2, q3⟩ := hN.2.2 m hm16 hm hl
    exact absurd q2 (hn g q1)
end
section
/-! table 1: the groups made; the two questions -/
theorem ma_76 {post : St1 → Prop} {dr nh tr nc gr : Int32} {a1 a2 a3 a4 a5 a6 a7 a8 a9 a10 a11 a12 a13 a14 : Nat → Int32} {G : Nat} (hd : ∀ e e', e < 32 → e' < 32 → 0 ≤ a4 e → a4 e = a4 e' → e = e') (hN : ma_N a4 a6 a7 G a13 a14 32) (hG : G ≤ 16)
    (H : ∀ (b15 b16 : Nat → Int32) (ls : Nat → List Nat), ma_L a4 a6 a7 a13 b15 b16 G ls 32 → post (dr, nh, tr, nc, gr, nI G, a1, a2, a3, a4, a5, a6, a7, a8, a9, a10, a11, a12, a13, a14, b15, b16)) :
    ∀ (r m : Nat) (a15 a16 : Nat → Int32) (ls : Nat → List Nat), m + r = 32 → 16 ≤ m → ma_L a4 a6 a7 a13 a15 a16 G ls m → wX_makeGroups_76 post (r + 1) (nI m) dr nh tr nc gr (nI G) a1 a2 a3 a4 a5 a6 a7 a8 a9 a10 a11 a12 a13 a14 a15 a16 := by
  intro r
  induction r with
  | zero =>
    intro m a15 a16 ls hm h16 hL
    have hm' : m = 32 := by omega
    subst hm'
    exact pk_le 32 32 (fun _ => H a15 a16 ls hL) (fun z => absurd z (by omega))
  | succ r ih =>
    intro m a15 a16 ls hm h16 hL
    refine pk_le 32 m (fun z => absurd z (by omega)) (fun _ => ⟨pk_in m 32 (by omega), ?_⟩)
    rw [nI_clamp (show m < 2 ^ 31 by omega)]
    by_cases hl : a4 m < 0
    · exact br_t hl (nm_r (nI_1 m) (ih (m + 1) a15 a16 ls (by omega) (by omega) (ma_L_d hL (ma_lt0.mp hl))))
    · exact br_f hl (ma_hang hd hN hG hL h16 (by omega) (ma_nlt0.mp hl) (fun b15 b16 ls' hL' => nm_r (nI_1 m) (ih (m + 1) b15 b16 ls' (by omega) (by omega) hL')))
theorem ma_43 {post : St1 → Prop} {dr nh tr nc gr : Int32} {a1 a2 a3 a4 a5 a6 a7 a8 a9 a10 a11 a12 a15 a16 : Nat → Int32} {n : Nat} (hC : ma_C n a3 a4 a6 a7) (h15 : ∀ j, j < 128 → a15 j = -1)
    (H : ∀ (gc' : Int32) (b13 b14 b15 b16 : Nat → Int32), ma_Q a4 a6 a7 gc' b13 b14 b15 b16 → post (dr, nh, tr, nc, gr, gc', a1, a2, a3, a4, a5, a6, a7, a8, a9, a10, a11, a12, b13, b14, b15, b16)) :
    ∀ (r m G : Nat) (a13 a14 : Nat → Int32), m + r = 32 → 16 ≤ m → G + 16 ≤ m → ma_N a4 a6 a7 G a13 a14 m → wX_makeGroups_43 post (r + 1) (nI m) dr nh tr nc gr (nI G) a1 a2 a3 a4 a5 a6 a7 a8 a9 a10 a11 a12 a13 a14 a15 a16 := by
  intro r
  induction r with
  | zero =>
    intro m G a13 a14 hm h16 hG hN
    have hm' : m = 32 := by omega
    subst hm'
    refine pk_le 32 32 (fun _ => ma_sortGroups (by omega) hN (fun b13 b14 hN' hs => Exists.intro 17 ?_)) (fun z => absurd z (by omega))
    refine ma_76 hC.2.1 hN' (by omega) (fun b15 b16 ls hL => H (nI G) b13 b14 b15 b16 ⟨G, ls, rfl, by omega, hN', hs, hL⟩) 16 16 a15 a16 (fun _ => []) (by omega) (by omega) (fun j hj => ⟨h15 j (by omega), List.Pairwise.nil, Nat.zero_le _, fun e => ?_⟩)
    constructor
    · intro z
      exact absurd z (List.not_mem_nil)
    · rintro ⟨z1, z2, _⟩
      omega
  | succ r ih =>
    intro m G a13 a14 hm h16 hG hN
    refine pk_le 32 m (fun z => absurd z (by omega)) (fun _ => ⟨pk_in m 32 (by omega), ?_⟩)
    rw [nI_clamp (show m < 2 ^ 31 by omega)]
    by_cases hl : a4 m < 0
    · refine br_t hl (nm_r (nI_1 m) (ih (m + 1) G a13 a14 (by omega) (by omega) (by omega) ⟨hN.1, hN.2.1, fun e he1 he2 hle => ?_⟩))
      by_cases e1 : e = m
      · rw [e1] at hle
        exact absurd hle (ma_lt0.mp hl)
      · exact hN.2.2 e he1 (by omega) hle
    · obtain ⟨p, hp, hq⟩ := hC.2.2.2.2 m h16 (by omega) (ma_nlt0.mp hl)
      exact br_f hl (ma_noteGroup hN hG (by omega) hp hq (fun G' b13 b14 hN' hG' => nm_r (nI_1 m) (ih (m + 1) G' b13 b14 (by omega) (by omega) (by omega) hN')))
theorem ma_20 {post : St1 → Prop} {dr nh tr nc gr gc : Int32} {a1 a2 a3 a4 a5 a6 a7 a8 a9 a10 a11 a12 a13 a14 a16 : Nat → Int32} (H : ∀ b15 : Nat → Int32, (∀ j, j < 128 → b15 j = -1) → ∃ fu, wX_makeGroups_43 post fu 16 dr nh tr nc gr gc a1 a2 a3 a4 a5 a6 a7 a8 a9 a10 a11 a12 a13 a14 b15 a16) :
    ∀ (r m : Nat) (a15 : Nat → Int32), m + r = 128 → (∀ j, j < m → a15 j = -1) → wX_makeGroups_20 post dr nh tr nc gr gc (r + 1) (nI m) a1 a2 a3 a4 a5 a6 a7 a8 a9 a10 a11 a12 a13 a14 a15 a16 := by
  intro r
  induction r with
  | zero =>
    intro m a15 hm h
    have hm' : m = 128 := by omega
    subst hm'
    exact pk_le 128 128 (fun _ => H a15 h) (fun z => absurd z (by omega))
  | succ r ih =>
    intro m a15 hm h
    refine pk_le 128 m (fun z => absurd z (by omega)) (fun _ => ⟨pk_in m 128 (by omega), nm_r (e' := upd a15 m (-1)) (by rw [nI_clamp (by omega)]) (nm_r (nI_1 m) (ih (m + 1) _ (by omega) (fun j hj => ?_)))⟩)
    by_cases e : j = m
    · rw [e, pk_us]
    · rw [pk_un e]
      exact h j (by omega)
theorem ma_makeGroups {post : St1 → Prop} {dr nh tr nc gr gc : Int32} {a1 a2 a3 a4 a5 a6 a7 a8 a9 a10 a11 a12 a13 a14 a15 a16 : Nat → Int32} {n : Nat} (hC : ma_C n a3 a4 a6 a7) (hQ : gr = 0 ∨ ma_Q a4 a6 a7 gc a13 a14 a15 a16)
    (H : ∀ (gr' gc' : Int32) (b13 b14 b15 b16 : Nat → Int32), ma_Q a4 a6 a7 gc' b13 b14 b15 b16 → post (dr, nh, tr, nc, gr', gc', a1, a2, a3, a4, a5, a6, a7, a8, a9, a10, a11, a12, b13, b14, b15, b16)) : wpX_makeGroups post (dr, nh, tr, nc, gr, gc, a1, a2, a3, a4, a5, a6, a7, a8, a9, a10, a11, a12, a13, a14, a15, a16) := by
  by_cases hg : gr = 0
  · refine br_t hg ⟨129, ma_20 (fun b15 h15 => ⟨17, ?_⟩) 128 0 a15 rfl (fun j hj => absurd hj (by omega))⟩
    exact ma_43 hC h15 (fun gc' b13 b14 b15 b16 hQ' => H 1 gc' b13 b14 b15 b16 hQ') 16 16 0 a13 a14 rfl (by omega) (by omega) ⟨fun g g' h1 => absurd h1 (by omega), fun g h1 => absurd h1 (by omega), fun e h1 h2 => absurd h1 (by omega)⟩
  · exact br_f hg (H gr gc a13 a14 a15 a16 (hQ.resolve_left hg))
/-- along one list: the first that holds what is wanted -/
theorem ma_81 {post : Int32 → St1 → Prop} {J : Int32 → Int32 → Prop} {dr nh tr nc gr gc : Int32} {a1 a2 a3 a4 a5 a6 a7 a8 a9 a10 a11 a12 a13 a14 a15 a16 : Nat → Int32} {x1 x2 x3 wt : Int32} : ∀ (l : List Nat) (y : Int32), ma_ch a16 y l → (∀ a, a ∈ l → a < 32) → List.Pairwise (ma_pc a4 a6) l →
    ((∀ a, a ∈ l → ¬ a6 a &&& 65535 = wt) → wX_greatestPriority_113 post J x1 x2 x3 (-1) dr nh tr nc gr gc a1 a2 a3 a4 a5 a6 a7 a8 a9 a10 a11 a12 a13 a14 a15 a16) →
    (∀ e, e ∈ l → a6 e &&& 65535 = wt → (∀ a, a ∈ l → a6 a &&& 65535 = wt → ¬ ma_pc a4 a6 a e) → wX_greatestPriority_113 post J x1 x2 x3 (nI e) dr nh tr nc gr gc a1 a2 a3 a4 a5 a6 a7 a8 a9 a10 a11 a12 a13 a14 a15 a16) →
    wX_greatestPriority_81 post J x1 x2 x3 wt dr nh tr nc gr gc a1 a2 a3 a4 a5 a6 a7 a8 a9 a10 a11 a12 a13 a14 a15 a16 (l.length + 1) y := by
  intro l
  induction l with
  | nil =>
    intro y hc hb hp H0 H1
    have hy : y = -1 := hc
    subst hy
    exact br_t ma_m1lt (H0 (fun a ha => absurd ha (List.not_mem_nil)))
  | cons e l ih =>
    intro y hc hb hp H0 H1
    obtain ⟨hy, hc2⟩ := hc
    subst hy
    have he : e < 32 := hb e (List.mem_cons_self ..)
    obtain ⟨p1, p2⟩ := List.pairwise_cons.mp hp
    refine br_f (nI_pos (by omega)) ⟨pk_in e 32 he, ?_⟩
    rw [nI_clamp (show e < 2 ^ 31 by omega)]
    refine br_c (fun z => H1 e (List.mem_cons_self ..) z (fun a ha _ => ?_)) (fun z => ⟨pk_in e 32 he, nm_e (ih (a16 e) hc2 (fun a ha => hb a (List.mem_cons_of_mem _ ha)) p2 (fun hn => H0 (fun a ha => ?_)) (fun a ha hk hbst => H1 a (List.mem_cons_of_mem _ ha) hk (fun a' ha' hk' => ?_)))⟩)
    · rcases List.mem_cons.mp ha with q | q
      · rw [q]
        exact ma_pc_irr
      · exact ma_pc_as (p1 a q)
    · rcases List.mem_cons.mp ha with q | q
      · rw [q]
        exact z
      · exact hn a q
    · rcases List.mem_cons.mp ha' with q | q
      · rw [q] at hk'
        exact absurd hk' z
      · exact hbst a' q hk'
/-- the best among groups 0, .., g - 1 -/
def ma_B (a4 a6 a7 a13 : Nat → Int32) (F : Int32) (g : Nat) (best : Int32) : Prop :=
  (best = -1 ∧ ∀ e, 16 ≤ e → e < 32 → 0 ≤ a4 e → ma_m1 a6 a7 F e → ∀ g', g' < g → ¬ a13 g' = a7 e) ∨
  ∃ b, best = nI b ∧ 16 ≤ b ∧ b < 32 ∧ 0 ≤ a4 b ∧ ma_m1 a6 a7 F b ∧ ∀ e, 16 ≤ e → e < 32 → 0 ≤ a4 e → ma_m1 a6 a7 F e → ∀ g', g' < g → a13 g' = a7 e → ¬ ma_pc a4 a6 e b
theorem ma_25 {post : Int32 → St1 → Prop} {dr nh tr nc gr : Int32} {a1 a2 a3 a4 a5 a6 a7 a8 a9 a10 a11 a12 a13 a14 a15 a16 : Nat → Int32} {G : Nat} {F : Int32} {ls : Nat → List Nat} (hd : ∀ e e', e < 32 → e' < 32 → 0 ≤ a4 e → a4 e = a4 e' → e = e') (hG : G ≤ 16) (hN : ma_N a4 a6 a7 G a13 a14 32) (hso : ma_so a14 G) (hL : ma_L a4 a6 a7 a13 a15 a16 G ls 32)
    (H : ∀ r, ma_GP a4 a6 a7 F r → post r (dr, nh, tr, nc, gr, nI G, a1, a2, a3, a4, a5, a6, a7, a8, a9, a10, a11, a12, a13, a14, a15, a16)) :
    ∀ (r g : Nat) (best : Int32), g + r = G → ma_B a4 a6 a7 a13 F g best → wX_greatestPriority_25 post F dr nh tr nc gr (nI G) a1 a2 a3 a4 a5 a6 a7 a8 a9 a10 a11 a12 a13 a14 a15 a16 (r + 1) best (nI g) := by
  intro r
  induction r with
  | zero =>
    intro g best hg hB
    have hg' : g = G := by omega
    subst hg'
    refine pk_le g g (fun _ => H best ?_) (fun z => absurd z (by omega))
    rcases hB with ⟨h1, h2⟩ | ⟨b, h1, h2, h3, h4, h5, h6⟩
    · refine Or.inl ⟨h1, fun e he1 he2 hl hm => ?_⟩
      obtain ⟨g', q1, q2, q3⟩ := hN.2.2 e he1 he2 hl
      exact h2 e he1 he2 hl hm g' q1 q2
    · refine Or.inr ⟨b, h1, h2, h3, h4, h5, fun e he1 he2 hl hm => ?_⟩
      obtain ⟨g', q1, q2, q3⟩ := hN.2.2 e he1 he2 hl
      exact h6 e he1 he2 hl hm g' q1 q2
  | succ r ih =>
    intro g best hg hB
    have eg : (nI g).toNatClampNeg = g := nI_clamp (by omega)
    obtain ⟨s, hs, es⟩ := ma_sl8 (F &&& a13 g)
    have ej : 8 * nI g + nI s = nI (8 * g + s) := by
      show nI 8 * nI g + nI s = _
      rw [pk_mul, nI_add]
    obtain ⟨c1, c2, c3, c4⟩ := hL (8 * g + s) (by omega)
    have hmem : ∀ e, (e ∈ ls (8 * g + s) ∧ a6 e &&& 65535 = F &&& a13 g) ↔ (16 ≤ e ∧ e < 32 ∧ 0 ≤ a4 e ∧ ma_m1 a6 a7 F e ∧ a13 g = a7 e) := fun e => ma_L_m hL (by omega) hs es
    have h53 : wX_greatestPriority_53 post (wX_greatestPriority_25 post F dr nh tr nc gr (nI G) a1 a2 a3 a4 a5 a6 a7 a8 a9 a10 a11 a12 a13 a14 a15 a16 (r + 1)) F best (nI g) dr nh tr nc gr (nI G) a1 a2 a3 a4 a5 a6 a7 a8 a9 a10 a11 a12 a13 a14 a15 a16 := by
      refine And.intro (pk_in g 16 (by omega)) (nm_r (e' := F &&& a13 g) (by rw [eg]) (ma_slotOf ?_))
      rw [es]
      refine And.intro (pk_in (8 * g + s) 128 (by omega) ej) (nm_r (e' := a15 (8 * g + s)) (by rw [ej, nI_clamp (by omega)]) ⟨(ls (8 * g + s)).length + 1, ?_⟩)
      refine ma_81 (ls (8 * g + s)) (a15 (8 * g + s)) c1 (fun a ha => ((c4 a).mp ha).2.1) c2 (fun hn => ?_) (fun e he hk hbst => ?_)
      · refine br_t ma_m1lt (nm_r (nI_1 g) (ih (g + 1) best (by omega) ?_))
        rcases hB with ⟨h1, h2⟩ | ⟨b, h1, h2, h3, h4, h5, h6⟩
        · refine Or.inl ⟨h1, fun e he1 he2 hl hm g' hg' heq => ?_⟩
          by_cases e1 : g' = g
          · rw [e1] at heq
            have := (hmem e).mpr ⟨he1, he2, hl, hm, heq⟩
            exact hn e this.1 this.2
          · exact h2 e he1 he2 hl hm g' (by omega) heq
        · refine Or.inr ⟨b, h1, h2, h3, h4, h5, fun e he1 he2 hl hm g' hg' heq => ?_⟩
          by_cases e1 : g' = g
          · rw [e1] at heq
            have := (hmem e).mpr ⟨he1, he2, hl, hm, heq⟩
            exact absurd this.2 (hn e this.1)
          · exact h6 e he1 he2 hl hm g' (by omega) heq
      · obtain ⟨k1, k2, k3, k4, k5⟩ := (hmem e).mp ⟨he, hk⟩
        have hing : ∀ e', 16 ≤ e' → e' < 32 → 0 ≤ a4 e' → ma_m1 a6 a7 F e' → a13 g = a7 e' → ¬ ma_pc a4 a6 e' e := by
          intro e' q1 q2 q3 q4 q5
          have := (hmem e').mpr ⟨q1, q2, q3, q4, q5⟩
          exact hbst e' this.1 this.2
        refine br_f (nI_pos (by omega)) ?_
        rcases hB with ⟨h1, h2⟩ | ⟨b, h1, h2, h3, h4, h5, h6⟩
        · subst h1
          refine br_t ma_m1lt (nm_r (nI_1 g) (ih (g + 1) (nI e) (by omega) (Or.inr ⟨e, rfl, k1, k2, k3, k4, fun e' q1 q2 q3 q4 g' hg' heq => ?_⟩)))
          by_cases e1 : g' = g
          · rw [e1] at heq
            exact hing e' q1 q2 q3 q4 heq
          · exact absurd heq (h2 e' q1 q2 q3 q4 g' (by omega))
        · subst h1
          refine br_f (nI_pos (by omega)) (ma_precedes k2 h3 (fun hpc => br_f (by decide) (nm_r (nI_1 g) (ih (g + 1) (nI e) (by omega) (Or.inr ⟨e, rfl, k1, k2, k3, k4, fun e' q1 q2 q3 q4 g' hg' heq => ?_⟩)))) (fun hpc => br_t rfl (nm_r (nI_1 g) (ih (g + 1) (nI b) (by omega) (Or.inr ⟨b, rfl, h2, h3, h4, h5, fun e' q1 q2 q3 q4 g' hg' heq => ?_⟩)))))
          · by_cases e1 : g' = g
            · rw [e1] at heq
              exact hing e' q1 q2 q3 q4 heq
            · exact fun z => h6 e' q1 q2 q3 q4 g' (by omega) heq (ma_pc_tr z hpc)
          · by_cases e1 : g' = g
            · rw [e1] at heq
              intro z
              have hnp := hing e' q1 q2 q3 q4 heq
              by_cases e2 : e' = e
              · rw [e2] at z
                exact hpc z
              · exact hpc (ma_pc_tr (ma_pc_tot (fun w => e2 (hd e' e (by omega) (by omega) q3 w)) hnp) z)
            · exact h6 e' q1 q2 q3 q4 g' (by omega) heq
    refine pk_le G g (fun z => absurd z (by omega)) (fun _ => ?_)
    have hB2 := hB
    rcases hB with ⟨h1, h2⟩ | ⟨b, h1, h2, h3, h4, h5, h6⟩
    · exact br_t (by rw [h1]; exact ma_m1lt) h53
    · subst h1
      refine br_f (nI_pos (by omega)) ⟨pk_in g 16 (by omega), And.intro (pk_in b 32 h3) ?_⟩
      rw [eg, nI_clamp (show b < 2 ^ 31 by omega)]
      refine br_c (fun _ => h53) (fun z => H (nI b) (Or.inr ⟨b, rfl, h2, h3, h4, h5, fun e he1 he2 hl hm => ?_⟩))
      obtain ⟨g', q1, q2, q3⟩ := hN.2.2 e he1 he2 hl
      by_cases hgg : g' < g
      · exact h6 e he1 he2 hl hm g' hgg q2
      · have z2 : a14 g < ma_pr a6 b := Int32.not_le.mp z
        have z3 : a14 g' ≤ a14 g := by
          by_cases e1 : g' = g
          · rw [e1]
            exact Int32.le_refl _
          · exact hso g g' (by omega) q1
        rw [ma_pcI]
        rw [Int32.lt_iff_toInt_lt] at z2
        rw [Int32.le_iff_toInt_le] at z3 q3
        omega
theorem ma_greatestPriority {post : Int32 → St1 → Prop} {dr nh tr nc gr gc : Int32} {a1 a2 a3 a4 a5 a6 a7 a8 a9 a10 a11 a12 a13 a14 a15 a16 : Nat → Int32} {n : Nat} (hC : ma_C n a3 a4 a6 a7) (hQ : gr = 0 ∨ ma_Q a4 a6 a7 gc a13 a14 a15 a16)
    (H : ∀ (r gr' gc' : Int32) (b13 b14 b15 b16 : Nat → Int32), ma_Q a4 a6 a7 gc' b13 b14 b15 b16 → ma_GP a4 a6 a7 ((a2 1 <<< ((8 : Int32) &&& 31)) ||| a2 2) r → post r (dr, nh, tr, nc, gr', gc', a1, a2, a3, a4, a5, a6, a7, a8, a9, a10, a11, a12, b13, b14, b15, b16)) : wpX_greatestPriority post (dr, nh, tr, nc, gr, gc, a1, a2, a3, a4, a5, a6, a7, a8, a9, a10, a11, a12, a13, a14, a15, a16) := by
  refine ma_makeGroups hC hQ (fun gr' gc' b13 b14 b15 b16 hQ' => nm_e ?_)
  have hQ2 := hQ'
  obtain ⟨G, ls, e, hG, hN, hso, hL⟩ := hQ'
  subst e
  exact ⟨G + 1, ma_25 hC.2.1 hG hN hso hL (fun r hr => H r gr' (nI G) b13 b14 b15 b16 hQ2 hr) G 0 (-1) (by omega) (Or.inl ⟨rfl, fun e _ _ _ _ g' hg' => absurd hg' (by omega)⟩)⟩
/-- along one list: how many hold what is wanted -/
theorem ma_61 {post : Int32 → St1 → Prop} {J : Int32 → Int32 → Prop} {dr nh tr nc gr gc : Int32} {a1 a2 a3 a4 a5 a6 a7 a8 a9 a10 a11 a12 a13 a14 a15 a16 : Nat → Int32} {x1 x3 wt : Int32} : ∀ (l : List Nat) (y : Int32) (c : Nat), ma_ch a16 y l → (∀ a, a ∈ l → a < 32) →
    (∀ c', c ≤ c' → c' ≤ c + l.length → ((∃ a, a ∈ l ∧ a6 a &&& 65535 = wt) ↔ c < c') → J (nI c') (x3 + 1)) →
    wX_maskedMatching_61 post J x1 x3 wt dr nh tr nc gr gc a1 a2 a3 a4 a5 a6 a7 a8 a9 a10 a11 a12 a13 a14 a15 a16 (l.length + 1) (nI c) y := by
  intro l
  induction l with
  | nil =>
    intro y c hc hb H
    have hy : y = -1 := hc
    subst hy
    refine br_t ma_m1lt (nm_e (H c (Nat.le_refl c) (by omega) ⟨fun z => ?_, fun z => absurd z (by omega)⟩))
    obtain ⟨a, ha, _⟩ := z
    exact absurd ha (List.not_mem_nil)
  | cons e l ih =>
    intro y c hc hb H
    obtain ⟨hy, hc2⟩ := hc
    subst hy
    have he : e < 32 := hb e (List.mem_cons_self ..)
    refine br_f (nI_pos (by omega)) ⟨pk_in e 32 he, ?_⟩
    rw [nI_clamp (show e < 2 ^ 31 by omega)]
    refine br_c (fun z => nm_r (nI_1 c) ⟨pk_in e 32 he, nm_e (ih (a16 e) (c + 1) hc2 (fun a ha => hb a (List.mem_cons_of_mem _ ha)) (fun c' h1 h2 h3 => H c' (by omega) (by rw [List.length_cons]; omega) ⟨fun _ => by omega, fun _ => ⟨e, List.mem_cons_self .., z⟩⟩))⟩) (fun z => ⟨pk_in e 32 he, nm_e (ih (a16 e) c hc2 (fun a ha => hb a (List.mem_cons_of_mem _ ha)) (fun c' h1 h2 h3 => H c' h1 (by rw [List.length_cons]; omega) ⟨fun q => ?_, fun q => ?_⟩))⟩)
    · obtain ⟨a, ha, hk⟩ := q
      rcases List.mem_cons.mp ha with w | w
      · rw [w] at hk
        exact absurd hk z
      · exact h3.mp ⟨a, w, hk⟩
    · obtain ⟨a, ha, hk⟩ := h3.mpr q
      exact ⟨a, List.mem_cons_of_mem _ ha, hk⟩
theorem ma_mm25 {post : Int32 → St1 → Prop} {dr nh tr nc gr : Int32} {a1 a2 a3 a4 a5 a6 a7 a8 a9 a10 a11 a12 a13 a14 a15 a16 : Nat → Int32} {G : Nat} {F : Int32} {ls : Nat → List Nat} (hG : G ≤ 16) (hN : ma_N a4 a6 a7 G a13 a14 32) (hL : ma_L a4 a6 a7 a13 a15 a16 G ls 32)
    (H : ∀ r, ma_MM a4 a6 a7 F r → post r (dr, nh, tr, nc, gr, nI G, a1, a2, a3, a4, a5, a6, a7, a8, a9, a10, a11, a12, a13, a14, a15, a16)) :
    ∀ (r g c : Nat), g + r = G → c ≤ 16 * g → (0 < c ↔ ∃ e g', 16 ≤ e ∧ e < 32 ∧ 0 ≤ a4 e ∧ ma_m1 a6 a7 F e ∧ g' < g ∧ a13 g' = a7 e) → wX_maskedMatching_25 post F dr nh tr nc gr (nI G) a1 a2 a3 a4 a5 a6 a7 a8 a9 a10 a11 a12 a13 a14 a15 a16 (r + 1) (nI c) (nI g) := by
  intro r
  induction r with
  | zero =>
    intro g c hg hc hi
    have hg' : g = G := by omega
    subst hg'
    refine pk_le g g (fun _ => H (nI c) ?_) (fun z => absurd z (by omega))
    by_cases h0 : 0 < c
    · obtain ⟨e, g', q1, q2, q3, q4, _⟩ := hi.mp h0
      exact Or.inr ⟨nI_nle h0 (by omega), e, q1, q2, q3, q4⟩
    · have hc0 : c = 0 := by omega
      refine Or.inl ⟨by rw [hc0]; decide, fun e he1 he2 hl hm => ?_⟩
      obtain ⟨g', q1, q2, q3⟩ := hN.2.2 e he1 he2 hl
      exact h0 (hi.mpr ⟨e, g', he1, he2, hl, hm, q1, q2⟩)
  | succ r ih =>
    intro g c hg hc hi
    have eg : (nI g).toNatClampNeg = g := nI_clamp (by omega)
    obtain ⟨s, hs, es⟩ := ma_sl8 (F &&& a13 g)
    have ej : 8 * nI g + nI s = nI (8 * g + s) := by
      show nI 8 * nI g + nI s = _
      rw [pk_mul, nI_add]
    obtain ⟨c1, c2, c3, c4⟩ := hL (8 * g + s) (by omega)
    have hmem : ∀ e, (e ∈ ls (8 * g + s) ∧ a6 e &&& 65535 = F &&& a13 g) ↔ (16 ≤ e ∧ e < 32 ∧ 0 ≤ a4 e ∧ ma_m1 a6 a7 F e ∧ a13 g = a7 e) := fun e => ma_L_m hL (by omega) hs es
    refine pk_le G g (fun z => absurd z (by omega)) (fun _ => ⟨pk_in g 16 (by omega), nm_r (e' := F &&& a13 g) (by rw [eg]) (ma_slotOf ?_)⟩)
    rw [es]
    refine And.intro (pk_in (8 * g + s) 128 (by omega) ej) (nm_r (e' := a15 (8 * g + s)) (by rw [ej, nI_clamp (by omega)]) ⟨(ls (8 * g + s)).length + 1, ?_⟩)
    refine ma_61 (ls (8 * g + s)) (a15 (8 * g + s)) c c1 (fun a ha => ((c4 a).mp ha).2.1) (fun c' h1 h2 h3 => ?_)
    rw [nI_1]
    refine ih (g + 1) c' (by omega) (by omega) ⟨fun z => ?_, fun z => ?_⟩
    · by_cases h0 : c < c'
      · obtain ⟨a, ha, hk⟩ := h3.mpr h0
        obtain ⟨k1, k2, k3, k4, k5⟩ := (hmem a).mp ⟨ha, hk⟩
        exact ⟨a, g, k1, k2, k3, k4, by omega, k5⟩
      · obtain ⟨e, g', q1, q2, q3, q4, q5, q6⟩ := hi.mp (by omega)
        exact ⟨e, g', q1, q2, q3, q4, by omega, q6⟩
    · obtain ⟨e, g', q1, q2, q3, q4, q5, q6⟩ := z
      by_cases e1 : g' = g
      · rw [e1] at q6
        have := (hmem e).mpr ⟨q1, q2, q3, q4, q6⟩
        have := h3.mp ⟨e, this.1, this.2⟩
        omega
      · have := hi.mpr ⟨e, g', q1, q2, q3, q4, by omega, q6⟩
        omega
theorem ma_maskedMatching {post : Int32 → St1 → Prop} {dr nh tr nc gr gc : Int32} {a1 a2 a3 a4 a5 a6 a7 a8 a9 a10 a11 a12 a13 a14 a15 a16 : Nat → Int32} {n : Nat} (hC : ma_C n a3 a4 a6 a7) (hQ : gr = 0 ∨ ma_Q a4 a6 a7 gc a13 a14 a15 a16)
    (H : ∀ (r gr' gc' : Int32) (b13 b14 b15 b16 : Nat → Int32), ma_Q a4 a6 a7 gc' b13 b14 b15 b16 → ma_MM a4 a6 a7 ((a2 1 <<< ((8 : Int32) &&& 31)) ||| a2 2) r → post r (dr, nh, tr, nc, gr', gc', a1, a2, a3, a4, a5, a6, a7, a8, a9, a10, a11, a12, b13, b14, b15, b16)) : wpX_maskedMatching post (dr, nh, tr, nc, gr, gc, a1, a2, a3, a4, a5, a6, a7, a8, a9, a10, a11, a12, a13, a14, a15, a16) := by
  refine ma_makeGroups hC hQ (fun gr' gc' b13 b14 b15 b16 hQ' => nm_e ?_)
  have hQ2 := hQ'
  obtain ⟨G, ls, e, hG, hN, hso, hL⟩ := hQ'
  subst e
  refine ⟨G + 1, ma_mm25 hG hN hL (fun r hr => H r gr' (nI G) b13 b14 b15 b16 hQ2 hr) G 0 0 (by omega) (by omega) ⟨fun z => absurd z (by omega), fun z => ?_⟩⟩
  obtain ⟨e, g', _, _, _, _, q, _⟩ := z
  omega
end
section
/-! the state's invariant, and the methods over it -/
def ma_I (n : Nat) (nh tr nc gr gc : Int32) (a3 a4 a6 a7 a8 a9 a10 a13 a14 a15 a16 : Nat → Int32) : Prop :=
  nh = nI n ∧ ma_C n a3 a4 a6 a7 ∧ (tr = 0 ∨ ma_K a4 a6 a7 nc a8 a9 a10) ∧ (gr = 0 ∨ ma_Q a4 a6 a7 gc a13 a14 a15 a16)
/-- what is below 16 is nothing to table 1, what is above nothing to table 0 -/
theorem ma_K_c {a4 a6 a7 b4 b6 b7 a8 a9 a10 : Nat → Int32} {nc : Int32} (h : ∀ e, e < 16 → b4 e = a4 e ∧ b6 e = a6 e ∧ b7 e = a7 e) (hK : ma_K a4 a6 a7 nc a8 a9 a10) : ma_K b4 b6 b7 nc a8 a9 a10 := by
  obtain ⟨N, dep, pre, e, hT, hE⟩ := hK
  refine ⟨N, dep, pre, e, hT, fun e he hl => ?_, fun x hx => ?_⟩
  · obtain ⟨p4, p6, p7⟩ := h e he
    rw [p4] at hl
    obtain ⟨x, e', h1, h2, h3, h4, h5, h6⟩ := hE.1 e he hl
    obtain ⟨q4, q6, q7⟩ := h e' h3
    exact ⟨x, e', h1, by rw [p6, p7]; exact h2, h3, by rw [q4]; exact h4, h5, by rw [p4, q4]; exact h6⟩
  · rcases hE.2 x hx with g | ⟨e, c, h1, h2, h3, h4, h5, h6⟩
    · exact Or.inl g
    · obtain ⟨q4, q6, q7⟩ := h e h1
      exact Or.inr ⟨e, c, h1, by rw [q4]; exact h2, h3, by rw [q7]; exact h4, by rw [q6, q7]; exact h5, h6⟩
theorem ma_Q_c {a4 a6 a7 b4 b6 b7 a13 a14 a15 a16 : Nat → Int32} {gc : Int32} (h : ∀ e, 16 ≤ e → b4 e = a4 e ∧ b6 e = a6 e ∧ b7 e = a7 e) (hQ : ma_Q a4 a6 a7 gc a13 a14 a15 a16) : ma_Q b4 b6 b7 gc a13 a14 a15 a16 := by
  obtain ⟨G, ls, e, hG, hN, hso, hL⟩ := hQ
  have hpr : ∀ e, 16 ≤ e → ma_pr b6 e = ma_pr a6 e := fun e he => by
    unfold ma_pr
    rw [(h e he).2.1]
  refine ⟨G, ls, e, hG, ⟨hN.1, hN.2.1, fun e he1 he2 hl => ?_⟩, hso, fun j hj => ?_⟩
  · obtain ⟨p4, p6, p7⟩ := h e he1
    rw [p4] at hl
    rw [p7, hpr e he1]
    exact hN.2.2 e he1 he2 hl
  · obtain ⟨c1, c2, c3, c4⟩ := hL j hj
    refine ⟨c1, List.Pairwise.imp_of_mem (fun {a b} ha hb hab => ?_) c2, c3, fun e => ?_⟩
    · have ha' := ((c4 a).mp ha).1
      have hb' := ((c4 b).mp hb).1
      unfold ma_pc at hab ⊢
      rw [hpr a ha', hpr b hb', (h a ha').1, (h b hb').1]
      exact hab
    · rw [c4 e]
      constructor
      · rintro ⟨z1, z2, z3, z4, z5⟩
        obtain ⟨p4, p6, p7⟩ := h e z1
        exact ⟨z1, z2, by rw [p4]; exact z3, by rw [p7]; exact z4, by rw [p6]; exact z5⟩
      · rintro ⟨z1, z2, z3, z4, z5⟩
        obtain ⟨p4, p6, p7⟩ := h e z1
        rw [p4] at z3
        rw [p7] at z4
        rw [p6] at z5
        exact ⟨z1, z2, z3, z4, z5⟩
/-! small ones -/
theorem ma_field {post : Int32 → St1 → Prop} {dr nh tr nc gr gc : Int32} {a1 a2 a3 a4 a5 a6 a7 a8 a9 a10 a11 a12 a13 a14 a15 a16 : Nat → Int32} {f v : Int32} (H0 : post 0 (dr, nh, tr, nc, gr, gc, a1, a2, a3, a4, a5, a6, a7, a8, a9, a10, a11, a12, a13, a14, a15, a16)) (H1 : ∀ j, j < 4 → f = nI j → post 1 (dr, nh, tr, nc, gr, gc, a1, upd a2 j v, a3, a4, a5, a6, a7, a8, a9, a10, a11, a12, a13, a14, a15, a16)) : wpX_field post (dr, nh, tr, nc, gr, gc, a1, a2, a3, a4, a5, a6, a7, a8, a9, a10, a11, a12, a13, a14, a15, a16) f v := by
  refine br_c (fun _ => H0) (fun h1 => br_c (fun _ => H0) (fun h2 => br_c (fun _ => H0) (fun h3 => br_c (fun h4 => ?_) (fun _ => H0))))
  obtain ⟨j, hj, e⟩ := nI_of2 (M := 3) (n := 3) (by decide) h1 (Int32.not_lt.mp h2)
  subst e
  exact ⟨pk_in j 4 (by omega), nm_r (by rw [nI_clamp (by omega)]) (H1 j (by omega) rfl)⟩
theorem ma_get0 {post : Int32 → Prop} {dr nh tr nc gr gc : Int32} {a1 a2 a3 a4 a5 a6 a7 a8 a9 a10 a11 a12 a13 a14 a15 a16 : Nat → Int32} (H : post (a2 0)) : wpX_get post (dr, nh, tr, nc, gr, gc, a1, a2, a3, a4, a5, a6, a7, a8, a9, a10, a11, a12, a13, a14, a15, a16) 0 := br_f (by decide) (br_t (by decide) ⟨pk_in 0 4 (by omega), H⟩)
theorem ma_action {post : Int32 → St1 → Prop} {dr nh tr nc gr gc : Int32} {a1 a2 a3 a4 a5 a6 a7 a8 a9 a10 a11 a12 a13 a14 a15 a16 : Nat → Int32} {x y z : Int32} (H : ∀ r d, post r (d, nh, tr, nc, gr, gc, a1, a2, a3, a4, a5, a6, a7, a8, a9, a10, a11, a12, a13, a14, a15, a16)) : wpX_action post (dr, nh, tr, nc, gr, gc, a1, a2, a3, a4, a5, a6, a7, a8, a9, a10, a11, a12, a13, a14, a15, a16) x y z :=
  br_c (fun _ => H 0 dr) (fun _ => br_c (fun _ => H 0 dr) (fun _ => br_c (fun _ => H 0 dr) (fun _ => br_c (fun _ => H 0 dr) (fun _ => br_c (fun _ => H 0 dr) (fun _ => br_c (fun _ => nm_e (H 1 _)) (fun _ => H 0 dr))))))
theorem ma_setDefault {post : Int32 → St1 → Prop} {dr nh tr nc gr gc : Int32} {a1 a2 a3 a4 a5 a6 a7 a8 a9 a10 a11 a12 a13 a14 a15 a16 : Nat → Int32} {t : Int32} (H : ∀ r b1, post r (dr, nh, tr, nc, gr, gc, b1, a2, a3, a4, a5, a6, a7, a8, a9, a10, a11, a12, a13, a14, a15, a16)) : wpX_setDefault post (dr, nh, tr, nc, gr, gc, a1, a2, a3, a4, a5, a6, a7, a8, a9, a10, a11, a12, a13, a14, a15, a16) t := by
  refine br_c (fun _ => H 0 a1) (fun h1 => br_c (fun h2 => ?_) (fun _ => H 0 a1))
  obtain ⟨j, hj, e⟩ := nI_of2 (M := 1) (n := 1) (by decide) h1 h2
  subst e
  exact ⟨pk_in j 2 (by omega), nm_e (H 1 _)⟩
theorem ma_perform {post : Int32 → St1 → Prop} {dr nh tr nc gr gc : Int32} {a1 a2 a3 a4 a5 a6 a7 a8 a9 a10 a11 a12 a13 a14 a15 a16 : Nat → Int32} {p : Int32} (H : ∀ r b2, post r (dr, nh, tr, nc, gr, gc, a1, b2, a3, a4, a5, a6, a7, a8, a9, a10, a11, a12, a13, a14, a15, a16)) : wpX_perform post (dr, nh, tr, nc, gr, gc, a1, a2, a3, a4, a5, a6, a7, a8, a9, a10, a11, a12, a13, a14, a15, a16) p := by
  have hv : ∀ x : Int32, vp_in (x &&& 3) 4 := fun x => pk_andIn x 2 (by decide) (by omega)
  have h72 : ∀ (x2 : Int32) (b2 : Nat → Int32), wX_perform_72 post x2 dr nh tr nc gr gc a1 b2 a3 a4 a5 a6 a7 a8 a9 a10 a11 a12 a13 a14 a15 a16 := fun x2 b2 => br_c (fun _ => H 0 b2) (fun _ => H 1 b2)
  have h52 : ∀ (x2 x3 x4 : Int32) (b2 : Nat → Int32), vp_in x3 4 → wX_perform_52 post x2 x3 x4 dr nh tr nc gr gc a1 b2 a3 a4 a5 a6 a7 a8 a9 a10 a11 a12 a13 a14 a15 a16 := fun x2 x3 x4 b2 h3 => br_c (fun _ => ⟨hv x4, h3, nm_e (h72 _ _)⟩) (fun _ => h72 _ _)
  have h28 : ∀ (x2 x3 x4 : Int32) (b2 : Nat → Int32), vp_in x3 4 → wX_perform_28 post x2 x3 x4 dr nh tr nc gr gc a1 b2 a3 a4 a5 a6 a7 a8 a9 a10 a11 a12 a13 a14 a15 a16 := fun x2 x3 x4 b2 h3 => br_c (fun _ => ⟨h3, h3, nm_e (h52 _ _ _ _ h3)⟩) (fun _ => h52 _ _ _ _ h3)
  exact nm_e (nm_e (nm_e (br_c (fun _ => ⟨hv _, nm_e (h28 _ _ _ _ (hv _))⟩) (fun _ => h28 _ _ _ _ (hv _)))))
/-! lookup, matching, owned, process -/
def ma_L0 (a4 a6 a7 : Nat → Int32) (v : Nat) (r : Int32) : Prop := (r = -3 ∧ ∀ e, e < 16 → 0 ≤ a4 e → ¬ ma_mt a6 a7 v e) ∨ ∃ e, r = a4 e ∧ ma_win a4 a6 a7 v e
def ma_L1 (a4 a6 a7 : Nat → Int32) (F r : Int32) : Prop := (r = -3 ∧ ∀ e, 16 ≤ e → e < 32 → 0 ≤ a4 e → ¬ ma_m1 a6 a7 F e) ∨ ∃ e, r = a4 e ∧ ma_w1 a4 a6 a7 F e
theorem ma_lookup0 {post : Int32 → St1 → Prop} {dr nh tr nc gr gc : Int32} {a1 a2 a3 a4 a5 a6 a7 a8 a9 a10 a11 a12 a13 a14 a15 a16 : Nat → Int32} {n : Nat} (hI : ma_I n nh tr nc gr gc a3 a4 a6 a7 a8 a9 a10 a13 a14 a15 a16) (H : ∀ (r : Int32) (tr' nc' gr' gc' : Int32) (b8 b9 b10 b11 b12 b13 b14 b15 b16 : Nat → Int32), ma_I n nh tr' nc' gr' gc' a3 a4 a6 a7 b8 b9 b10 b13 b14 b15 b16 → ma_L0 a4 a6 a7 ((a2 0).toBitVec.toNat % 256) r → post r (dr, nh, tr', nc', gr', gc', a1, a2, a3, a4, a5, a6, a7, b8, b9, b10, b11, b12, b13, b14, b15, b16)) : wpX_lookup post (dr, nh, tr, nc, gr, gc, a1, a2, a3, a4, a5, a6, a7, a8, a9, a10, a11, a12, a13, a14, a15, a16) 0 := by
  obtain ⟨i1, i2, i3, i4⟩ := hI
  refine br_f (by decide) (br_t (by decide) (br_t rfl (ma_longestPrefix (ma_C_R i2) i3 (fun r tr' nc' b8 b9 b10 hK' hLP => ?_))))
  rcases hLP with ⟨h1, h2⟩ | ⟨e, h1, h2⟩
  · subst h1
    exact br_f ma_m1nl (H (-3) tr' nc' gr gc b8 b9 b10 a11 a12 a13 a14 a15 a16 ⟨i1, i2, Or.inr hK', i4⟩ (Or.inl ⟨rfl, h2⟩))
  · subst h1
    have he := h2.1
    refine br_t (nI_pos' (by omega)) ⟨pk_in e 32 (by omega), ?_⟩
    rw [nI_clamp (show e < 2 ^ 31 by omega)]
    exact H (a4 e) tr' nc' gr gc b8 b9 b10 a11 a12 a13 a14 a15 a16 ⟨i1, i2, Or.inr hK', i4⟩ (Or.inr ⟨e, rfl, h2⟩)
theorem ma_lookup1 {post : Int32 → St1 → Prop} {dr nh tr nc gr gc : Int32} {a1 a2 a3 a4 a5 a6 a7 a8 a9 a10 a11 a12 a13 a14 a15 a16 : Nat → Int32} {n : Nat} (hI : ma_I n nh tr nc gr gc a3 a4 a6 a7 a8 a9 a10 a13 a14 a15 a16) (H : ∀ (r : Int32) (tr' nc' gr' gc' : Int32) (b8 b9 b10 b11 b12 b13 b14 b15 b16 : Nat → Int32), ma_I n nh tr' nc' gr' gc' a3 a4 a6 a7 b8 b9 b10 b13 b14 b15 b16 → ma_L1 a4 a6 a7 ((a2 1 <<< ((8 : Int32) &&& 31)) ||| a2 2) r → post r (dr, nh, tr', nc', gr', gc', a1, a2, a3, a4, a5, a6, a7, b8, b9, b10, b11, b12, b13, b14, b15, b16)) : wpX_lookup post (dr, nh, tr, nc, gr, gc, a1, a2, a3, a4, a5, a6, a7, a8, a9, a10, a11, a12, a13, a14, a15, a16) 1 := by
  obtain ⟨i1, i2, i3, i4⟩ := hI
  refine br_f (by decide) (br_t (by decide) (br_f (by decide) (ma_greatestPriority i2 i4 (fun r gr' gc' b13 b14 b15 b16 hQ' hGP => ?_))))
  rcases hGP with ⟨h1, h2⟩ | ⟨e, h1, h2⟩
  · subst h1
    exact br_f ma_m1nl (H (-3) tr nc gr' gc' a8 a9 a10 a11 a12 b13 b14 b15 b16 ⟨i1, i2, i3, Or.inr hQ'⟩ (Or.inl ⟨rfl, h2⟩))
  · subst h1
    have he := h2.2.1
    refine br_t (nI_pos' (by omega)) ⟨pk_in e 32 (by omega), ?_⟩
    rw [nI_clamp (show e < 2 ^ 31 by omega)]
    exact H (a4 e) tr nc gr' gc' a8 a9 a10 a11 a12 b13 b14 b15 b16 ⟨i1, i2, i3, Or.inr hQ'⟩ (Or.inr ⟨e, rfl, h2⟩)
theorem ma_matching0 {post : Int32 → St1 → Prop} {dr nh tr nc gr gc : Int32} {a1 a2 a3 a4 a5 a6 a7 a8 a9 a10 a11 a12 a13 a14 a15 a16 : Nat → Int32} {n : Nat} (hI : ma_I n nh tr nc gr gc a3 a4 a6 a7 a8 a9 a10 a13 a14 a15 a16) (H : ∀ (r : Int32) (tr' nc' gr' gc' : Int32) (b8 b9 b10 b11 b12 b13 b14 b15 b16 : Nat → Int32), ma_I n nh tr' nc' gr' gc' a3 a4 a6 a7 b8 b9 b10 b13 b14 b15 b16 → ma_PW a4 a6 a7 ((a2 0).toBitVec.toNat % 256) r → post r (dr, nh, tr', nc', gr', gc', a1, a2, a3, a4, a5, a6, a7, b8, b9, b10, b11, b12, b13, b14, b15, b16)) : wpX_matching post (dr, nh, tr, nc, gr, gc, a1, a2, a3, a4, a5, a6, a7, a8, a9, a10, a11, a12, a13, a14, a15, a16) 0 := by
  obtain ⟨i1, i2, i3, i4⟩ := hI
  exact br_f (by decide) (br_t (by decide) (br_t rfl (ma_prefixesOnWay (ma_C_R i2) i3 (fun r tr' nc' b8 b9 b10 hK' hP => H r tr' nc' gr gc b8 b9 b10 a11 a12 a13 a14 a15 a16 ⟨i1, i2, Or.inr hK', i4⟩ hP))))
theorem ma_matching1 {post : Int32 → St1 → Prop} {dr nh tr nc gr gc : Int32} {a1 a2 a3 a4 a5 a6 a7 a8 a9 a10 a11 a12 a13 a14 a15 a16 : Nat → Int32} {n : Nat} (hI : ma_I n nh tr nc gr gc a3 a4 a6 a7 a8 a9 a10 a13 a14 a15 a16) (H : ∀ (r : Int32) (tr' nc' gr' gc' : Int32) (b8 b9 b10 b11 b12 b13 b14 b15 b16 : Nat → Int32), ma_I n nh tr' nc' gr' gc' a3 a4 a6 a7 b8 b9 b10 b13 b14 b15 b16 → ma_MM a4 a6 a7 ((a2 1 <<< ((8 : Int32) &&& 31)) ||| a2 2) r → post r (dr, nh, tr', nc', gr', gc', a1, a2, a3, a4, a5, a6, a7, b8, b9, b10, b11, b12, b13, b14, b15, b16)) : wpX_matching post (dr, nh, tr, nc, gr, gc, a1, a2, a3, a4, a5, a6, a7, a8, a9, a10, a11, a12, a13, a14, a15, a16) 1 := by
  obtain ⟨i1, i2, i3, i4⟩ := hI
  exact br_f (by decide) (br_t (by decide) (br_f (by decide) (ma_maskedMatching i2 i4 (fun r gr' gc' b13 b14 b15 b16 hQ' hP => H r tr nc gr' gc' a8 a9 a10 a11 a12 b13 b14 b15 b16 ⟨i1, i2, i3, Or.inr hQ'⟩ hP))))
theorem ma_ownedI {post : Int32 → St1 → Prop} {dr nh tr nc gr gc : Int32} {a1 a2 a3 a4 a5 a6 a7 a8 a9 a10 a11 a12 a13 a14 a15 a16 : Nat → Int32} {n h : Nat} (hI : ma_I n nh tr nc gr gc a3 a4 a6 a7 a8 a9 a10 a13 a14 a15 a16) (hh : h < 2 ^ 31) (H : ∀ (r : Int32) (tr' nc' gr' gc' : Int32) (b8 b9 b10 b11 b12 b13 b14 b15 b16 : Nat → Int32), ma_I n nh tr' nc' gr' gc' a3 a4 a6 a7 b8 b9 b10 b13 b14 b15 b16 → ma_OW a4 a6 a7 h r → post r (dr, nh, tr', nc', gr', gc', a1, a2, a3, a4, a5, a6, a7, b8, b9, b10, b11, b12, b13, b14, b15, b16)) : wpX_owned post (dr, nh, tr, nc, gr, gc, a1, a2, a3, a4, a5, a6, a7, a8, a9, a10, a11, a12, a13, a14, a15, a16) (nI h) := by
  obtain ⟨i1, i2, i3, i4⟩ := hI
  exact ma_owned i2 i3 hh (fun r tr' nc' b8 b9 b10 b11 b12 hK' hO => H r tr' nc' gr gc b8 b9 b10 b11 b12 a13 a14 a15 a16 ⟨i1, i2, hK', i4⟩ hO)
theorem ma_process {post : Int32 → St1 → Prop} {dr nh tr nc gr gc : Int32} {a1 a2 a3 a4 a5 a6 a7 a8 a9 a10 a11 a12 a13 a14 a15 a16 : Nat → Int32} {n : Nat} (hI : ma_I n nh tr nc gr gc a3 a4 a6 a7 a8 a9 a10 a13 a14 a15 a16) (H : ∀ (r : Int32) (b2 : Nat → Int32) (tr' nc' gr' gc' : Int32) (b8 b9 b10 b11 b12 b13 b14 b15 b16 : Nat → Int32), ma_I n nh tr' nc' gr' gc' a3 a4 a6 a7 b8 b9 b10 b13 b14 b15 b16 → post r (dr, nh, tr', nc', gr', gc', a1, b2, a3, a4, a5, a6, a7, b8, b9, b10, b11, b12, b13, b14, b15, b16)) : wpX_process post (dr, nh, tr, nc, gr, gc, a1, a2, a3, a4, a5, a6, a7, a8, a9, a10, a11, a12, a13, a14, a15, a16) := by
  obtain ⟨i1, i2, i3, i4⟩ := hI
  refine ma_longestPrefix (ma_C_R i2) i3 (fun r tr' nc' b8 b9 b10 hK' hLP => ?_)
  have h60 : ∀ (z gr' gc' : Int32) (b2 b13 b14 b15 b16 : Nat → Int32), (gr' = 0 ∨ ma_Q a4 a6 a7 gc' b13 b14 b15 b16) → wX_process_60 post z dr nh tr' nc' gr' gc' a1 b2 a3 a4 a5 a6 a7 b8 b9 b10 a11 a12 b13 b14 b15 b16 := by
    intro z gr' gc' b2 b13 b14 b15 b16 hQ
    exact ma_perform (fun r c2 => br_c (fun _ => H 0 c2 tr' nc' gr' gc' b8 b9 b10 a11 a12 b13 b14 b15 b16 ⟨i1, i2, Or.inr hK', hQ⟩) (fun _ => H 1 c2 tr' nc' gr' gc' b8 b9 b10 a11 a12 b13 b14 b15 b16 ⟨i1, i2, Or.inr hK', hQ⟩))
  have h25 : ∀ z : Int32, wX_process_25 post z dr nh tr' nc' gr gc a1 a2 a3 a4 a5 a6 a7 b8 b9 b10 a11 a12 a13 a14 a15 a16 := by
    intro z
    refine ma_perform (fun r c2 => br_c (fun _ => H 0 c2 tr' nc' gr gc b8 b9 b10 a11 a12 a13 a14 a15 a16 ⟨i1, i2, Or.inr hK', i4⟩) (fun _ => ma_greatestPriority i2 i4 (fun r2 gr' gc' b13 b14 b15 b16 hQ' hGP => ?_)))
    rcases hGP with ⟨h1, h2⟩ | ⟨e, h1, h2⟩
    · subst h1
      exact br_f ma_m1nl (h60 _ _ _ _ _ _ _ _ (Or.inr hQ'))
    · subst h1
      have he := h2.2.1
      exact br_t (nI_pos' (by omega)) ⟨pk_in e 32 (by omega), h60 _ _ _ _ _ _ _ _ (Or.inr hQ')⟩
  rcases hLP with ⟨h1, h2⟩ | ⟨e, h1, h2⟩
  · subst h1
    exact br_f ma_m1nl (h25 _)
  · subst h1
    have he := h2.1
    exact br_t (nI_pos' (by omega)) ⟨pk_in e 32 (by omega), h25 _⟩
end
section
/-! entries come and go -/
theorem ma_addEntry {post : Int32 → St1 → Prop} {dr nh tr nc gr gc : Int32} {a1 a2 a3 a4 a5 a6 a7 a8 a9 a10 a11 a12 a13 a14 a15 a16 : Nat → Int32} {t : Nat} {key wid : Int32} (ht : t < 2) (hlt : ma_cn (fun e => 0 ≤ a4 e) (16 * t) 16 < 16)
    (H : ∀ e, 16 * t ≤ e → e < 16 * t + 16 → a4 e < 0 → post (nh + 1 - 1) (dr, nh + 1, tr, nc, gr, gc, a1, a2, upd a3 t ((a3 t + 1).toInt8.toInt32), upd a4 e nh, upd a5 e dr, upd a6 e key, upd a7 e wid, a8, a9, a10, a11, a12, a13, a14, a15, a16)) : wpX_addEntry post (dr, nh, tr, nc, gr, gc, a1, a2, a3, a4, a5, a6, a7, a8, a9, a10, a11, a12, a13, a14, a15, a16) (nI t) key wid := by
  obtain ⟨i, hi, hn⟩ := ma_cn_ex hlt
  have hn' : a4 (16 * t + i) < 0 := ma_lt0.mpr hn
  have put : ∀ (m k : Nat), 16 * t ≤ m → m < 16 * t + 16 → a4 m < 0 → wX_addEntry_6 post (nI t) key wid dr nh tr nc gr gc a1 a2 a3 a4 a5 a6 a7 a8 a9 a10 a11 a12 a13 a14 a15 a16 (k + 1) (nI m) := by
    intro m k h1 h2 h3
    refine And.intro (pk_in m 32 (by omega)) ?_
    rw [nI_clamp (show m < 2 ^ 31 by omega), nI_clamp (show t < 2 ^ 31 by omega)]
    exact br_t h3 ⟨pk_in m 32 (by omega), nm_e ⟨pk_in m 32 (by omega), nm_e ⟨pk_in m 32 (by omega), nm_e ⟨pk_in m 32 (by omega), nm_e ⟨pk_in t 2 ht, pk_in t 2 ht, nm_e (nm_e (H m h1 h2 h3))⟩⟩⟩⟩⟩
  have key6 : ∀ (r m : Nat), 16 * t ≤ m → m + r = 16 * t + i → wX_addEntry_6 post (nI t) key wid dr nh tr nc gr gc a1 a2 a3 a4 a5 a6 a7 a8 a9 a10 a11 a12 a13 a14 a15 a16 (r + 1) (nI m) := by
    intro r
    induction r with
    | zero =>
      intro m h1 h2
      exact put m 0 h1 (by omega) (by rw [show m = 16 * t + i by omega]; exact hn')
    | succ r ih =>
      intro m h1 h2
      by_cases h3 : a4 m < 0
      · exact put m (r + 1) h1 (by omega) h3
      · refine And.intro (pk_in m 32 (by omega)) ?_
        rw [nI_clamp (show m < 2 ^ 31 by omega)]
        exact br_f h3 (nm_r (nI_1 m) (ih (m + 1) (by omega) (by omega)))
  have e0 : 16 * nI t = nI (16 * t) := pk_mul 16 t
  exact nm_r e0 ⟨i + 1, key6 i (16 * t) (Nat.le_refl _) rfl⟩
theorem ma_addPrefix {post : Int32 → St1 → Prop} {dr nh tr nc gr gc : Int32} {a1 a2 a3 a4 a5 a6 a7 a8 a9 a10 a11 a12 a13 a14 a15 a16 : Nat → Int32} {n : Nat} {p0 p1 : Int32} (hI : ma_I n nh tr nc gr gc a3 a4 a6 a7 a8 a9 a10 a13 a14 a15 a16) (hn : n < 2 ^ 30) (H0 : ∀ r : Int32, r < 0 → post r (dr, nh, tr, nc, gr, gc, a1, a2, a3, a4, a5, a6, a7, a8, a9, a10, a11, a12, a13, a14, a15, a16))
    (H1 : ∀ (b3 b4 b5 b6 b7 : Nat → Int32), ma_I (n + 1) (nI (n + 1)) 0 nc gr gc b3 b4 b6 b7 a8 a9 a10 a13 a14 a15 a16 → post (nI n) (dr, nI (n + 1), 0, nc, gr, gc, a1, a2, b3, b4, b5, b6, b7, a8, a9, a10, a11, a12, a13, a14, a15, a16)) : wpX_addPrefix post (dr, nh, tr, nc, gr, gc, a1, a2, a3, a4, a5, a6, a7, a8, a9, a10, a11, a12, a13, a14, a15, a16) p0 p1 := by
  obtain ⟨i1, i2, i3, i4⟩ := hI
  subst i1
  refine br_c (fun h => ?_) (fun _ => H0 (-2) (by decide))
  refine br_c (fun _ => H0 (-1) (by decide)) (fun h1 => br_c (fun _ => H0 (-1) (by decide)) (fun h2 => br_c (fun _ => H0 (-1) (by decide)) (fun h3 => br_c (fun h4 => ?_) (fun _ => H0 (-1) (by decide)))))
  obtain ⟨k, hk, ek⟩ := nI_of2 (M := 255) (n := 255) (by decide) h1 (Int32.not_lt.mp h2)
  obtain ⟨w, hw, ew⟩ := nI_of2 (M := 8) (n := 8) (by decide) h3 h4
  have hlt : ma_cn (fun e => 0 ≤ a4 e) (16 * 0) 16 < 16 := by
    have hle := ma_cn_le (fun e => 0 ≤ a4 e) (16 * 0) 16
    rw [i2.2.2.1 0 (by omega)] at h
    exact (nI_ltI (b := 16) (by omega) (by omega)).mp h
  refine ma_addEntry (t := 0) (by omega) hlt (fun e he1 he2 hd => ?_)
  have hC' := ma_C_add (t := 0) (key := p0) (wid := p1) i2 hn (by omega) he1 he2 hd (fun _ => ⟨k, w, by omega, hw, ek, ew⟩) (fun z => absurd z (by omega))
  have e1 : nI n + 1 - 1 = nI n := by rw [nI_1, nI_pred]
  have h := H1 _ _ (upd a5 e dr) _ _ ⟨rfl, hC', Or.inl rfl, i4.imp id (fun q => ma_Q_c (fun x hx => ⟨pk_un (by omega), pk_un (by omega), pk_un (by omega)⟩) q)⟩
  rw [← nI_1, ← e1] at h
  rw [e1] at h ⊢
  exact h
theorem ma_or (a b : Nat) : nI a ||| nI b = nI (a ||| b) := by
  apply Int32.toBitVec_inj.1
  show BitVec.ofNat 32 a ||| BitVec.ofNat 32 b = BitVec.ofNat 32 (a ||| b)
  apply BitVec.eq_of_getLsbD_eq
  intro i hi
  simp [hi]
theorem ma_and (a b : Nat) : nI a &&& nI b = nI (a &&& b) := by
  apply Int32.toBitVec_inj.1
  show BitVec.ofNat 32 a &&& BitVec.ofNat 32 b = BitVec.ofNat 32 (a &&& b)
  apply BitVec.eq_of_getLsbD_eq
  intro i hi
  simp [hi]
theorem ma_of32 (x : Int32) : ∃ k, x = nI k := ⟨x.toBitVec.toNat, by
  apply Int32.toBitVec_inj.1
  show x.toBitVec = BitVec.ofNat 32 x.toBitVec.toNat
  rw [BitVec.ofNat_toNat, BitVec.setWidth_eq]⟩
theorem ma_key {p0 p1 A : Int32} {q : Nat} (hq : q < 16) : ∃ p, p < 16 ∧ ((A &&& (((p0 &&& 255) <<< ((8 : Int32) &&& 31)) ||| (p1 &&& 255))) ||| (nI q <<< ((16 : Int32) &&& 31))) >>> ((16 : Int32) &&& 31) = nI p := by
  obtain ⟨a, ha, ea⟩ := pk_andE p0 (m := 255) 8 (by decide)
  obtain ⟨b, hb, eb⟩ := pk_andE p1 (m := 255) 8 (by decide)
  obtain ⟨c, ec⟩ := ma_of32 A
  rw [ea, eb, ec, pk_shlN _ 8 (by decide) (by omega), pk_shlN _ 16 (by decide) (by omega), ma_or, ma_and, ma_or]
  have h1 : a * 2 ^ 8 ||| b < 2 ^ 20 := Nat.or_lt_two_pow (by omega) (by omega)
  have h2 : c &&& (a * 2 ^ 8 ||| b) < 2 ^ 20 := Nat.lt_of_le_of_lt Nat.and_le_right h1
  have h3 : (c &&& (a * 2 ^ 8 ||| b)) ||| q * 2 ^ 16 < 2 ^ 20 := Nat.or_lt_two_pow h2 (by omega)
  generalize (c &&& (a * 2 ^ 8 ||| b)) ||| q * 2 ^ 16 = z at h3 ⊢
  exact ⟨z / 2 ^ 16, by omega, pk_shrN (by omega) _ 16 (by decide)⟩
theorem ma_addMasked {post : Int32 → St1 → Prop} {dr nh tr nc gr gc : Int32} {a1 a2 a3 a4 a5 a6 a7 a8 a9 a10 a11 a12 a13 a14 a15 a16 : Nat → Int32} {n : Nat} {p0 p1 p2 : Int32} (hI : ma_I n nh tr nc gr gc a3 a4 a6 a7 a8 a9 a10 a13 a14 a15 a16) (hn : n < 2 ^ 30) (H0 : ∀ r : Int32, r < 0 → post r (dr, nh, tr, nc, gr, gc, a1, a2, a3, a4, a5, a6, a7, a8, a9, a10, a11, a12, a13, a14, a15, a16))
    (H1 : ∀ (b3 b4 b5 b6 b7 : Nat → Int32), ma_I (n + 1) (nI (n + 1)) tr nc 0 gc b3 b4 b6 b7 a8 a9 a10 a13 a14 a15 a16 → post (nI n) (dr, nI (n + 1), tr, nc, 0, gc, a1, a2, b3, b4, b5, b6, b7, a8, a9, a10, a11, a12, a13, a14, a15, a16)) : wpX_addMasked post (dr, nh, tr, nc, gr, gc, a1, a2, a3, a4, a5, a6, a7, a8, a9, a10, a11, a12, a13, a14, a15, a16) p0 p1 p2 := by
  obtain ⟨i1, i2, i3, i4⟩ := hI
  subst i1
  refine br_c (fun h => ?_) (fun _ => H0 (-2) (by decide))
  refine br_c (fun _ => H0 (-1) (by decide)) (fun h1 => br_c (fun _ => H0 (-1) (by decide)) (fun h2 => br_c (fun _ => H0 (-1) (by decide)) (fun h3 => br_c (fun _ => H0 (-1) (by decide)) (fun h4 => br_c (fun _ => H0 (-1) (by decide)) (fun h5 => br_c (fun h6 => nm_e (nm_e ?_)) (fun _ => H0 (-1) (by decide)))))))
  obtain ⟨q, hq, eq⟩ := nI_of2 (M := 15) (n := 15) (by decide) h5 h6
  have hlt : ma_cn (fun e => 0 ≤ a4 e) (16 * 1) 16 < 16 := by
    have hle := ma_cn_le (fun e => 0 ≤ a4 e) (16 * 1) 16
    rw [i2.2.2.1 1 (by omega)] at h
    exact (nI_ltI (b := 16) (by omega) (by omega)).mp h
  refine ma_addEntry (t := 1) (by omega) hlt (fun e he1 he2 hd => ?_)
  subst eq
  have hC' := ma_C_add (t := 1) (wid := ((p0 &&& 255) <<< ((8 : Int32) &&& 31)) ||| (p1 &&& 255)) i2 hn (by omega) he1 he2 hd (fun z => absurd z (by omega)) (fun _ => ma_key (p0 := p0) (p1 := p1) (A := (p0 &&& 65280) ||| (p1 >>> ((8 : Int32) &&& 31))) (show q < 16 by omega))
  have e1 : nI n + 1 - 1 = nI n := by rw [nI_1, nI_pred]
  have h := H1 _ _ (upd a5 e dr) _ _ ⟨rfl, hC', i3.imp id (fun q => ma_K_c (fun x hx => ⟨pk_un (by omega), pk_un (by omega), pk_un (by omega)⟩) q), Or.inl rfl⟩
  rw [← nI_1] at h
  rw [e1]
  exact h
theorem ma_remove {post : Int32 → St1 → Prop} {dr nh tr nc gr gc : Int32} {a1 a2 a3 a4 a5 a6 a7 a8 a9 a10 a11 a12 a13 a14 a15 a16 : Nat → Int32} {n h : Nat} (hI : ma_I n nh tr nc gr gc a3 a4 a6 a7 a8 a9 a10 a13 a14 a15 a16) (hh : h < 2 ^ 31) (H0 : (∀ e, e < 32 → ¬ a4 e = nI h) → post (-3) (dr, nh, tr, nc, gr, gc, a1, a2, a3, a4, a5, a6, a7, a8, a9, a10, a11, a12, a13, a14, a15, a16))
    (H1 : ∀ (e : Nat) (r : Int32) (b3 : Nat → Int32), e < 32 → a4 e = nI h → ma_I n nh 0 nc 0 gc b3 (upd a4 e (-1)) a6 a7 a8 a9 a10 a13 a14 a15 a16 → post r (dr, nh, 0, nc, 0, gc, a1, a2, b3, upd a4 e (-1), a5, a6, a7, a8, a9, a10, a11, a12, a13, a14, a15, a16)) : wpX_remove post (dr, nh, tr, nc, gr, gc, a1, a2, a3, a4, a5, a6, a7, a8, a9, a10, a11, a12, a13, a14, a15, a16) (nI h) := by
  obtain ⟨i1, i2, i3, i4⟩ := hI
  refine ma_entryWith hh (fun e he h4 => ?_) (fun hn => br_f ma_m1nl (H0 hn))
  have ed : nI e / 16 = nI (e / 16) := pk_div (d := 16) (by omega) (by omega) (by omega)
  refine br_t (nI_pos' (by omega)) ⟨by decide, nm_r ed ⟨pk_in e 32 he, nm_r (e' := upd a4 e (-1)) (by rw [nI_clamp (by omega)]) ⟨pk_in (e / 16) 2 (by omega), pk_in (e / 16) 2 (by omega), nm_r (e' := upd a3 (e / 16) ((a3 (e / 16) - 1).toInt8.toInt32)) (by rw [nI_clamp (by omega)]) ⟨pk_in (e / 16) 2 (by omega), ?_⟩⟩⟩⟩
  exact H1 e _ _ he h4 ⟨i1, ma_C_rem i2 he (by rw [h4]; exact nI_pos' hh), Or.inl rfl, Or.inl rfl⟩
/-! the answers stay when another entry goes -/
theorem ma_rem_lv {a4 : Nat → Int32} {e0 e : Nat} (h : 0 ≤ upd a4 e0 (-1) e) : e ≠ e0 ∧ upd a4 e0 (-1) e = a4 e ∧ 0 ≤ a4 e := by
  by_cases e1 : e = e0
  · rw [e1, pk_us] at h
    exact absurd h ma_m1nl
  · rw [pk_un e1] at h
    exact ⟨e1, pk_un e1, h⟩
theorem ma_L0_rem {a4 a6 a7 : Nat → Int32} {v e0 : Nat} {r r' : Int32} (h : ma_L0 a4 a6 a7 v r) (h' : ma_L0 (upd a4 e0 (-1)) a6 a7 v r') (hne : ¬ a4 e0 = r) : r' = r := by
  rcases h with ⟨h1, h2⟩ | ⟨e, h1, h2⟩
  · rcases h' with ⟨g1, g2⟩ | ⟨e', g1, g2⟩
    · rw [h1, g1]
    · obtain ⟨k1, k2, k3⟩ := ma_rem_lv g2.2.1
      exact absurd g2.2.2.1 (h2 e' g2.1 k3)
  · have hee : e ≠ e0 := fun z => hne (by rw [h1, z])
    have hle : 0 ≤ upd a4 e0 (-1) e := by rw [pk_un hee]; exact h2.2.1
    rcases h' with ⟨g1, g2⟩ | ⟨e', g1, g2⟩
    · exact absurd h2.2.2.1 (g2 e h2.1 hle)
    · obtain ⟨k1, k2, k3⟩ := ma_rem_lv g2.2.1
      rw [g1, h1, k2]
      rcases h2.2.2.2 e' g2.1 k3 g2.2.2.1 with p | ⟨p1, p2⟩
      · rcases g2.2.2.2 e h2.1 hle h2.2.2.1 with q | ⟨q1, q2⟩
        · omega
        · omega
      · rcases g2.2.2.2 e h2.1 hle h2.2.2.1 with q | ⟨q1, q2⟩
        · omega
        · rw [k2, pk_un hee] at q2
          exact Int32.le_antisymm q2 p2
theorem ma_L1_rem {a4 a6 a7 : Nat → Int32} {e0 : Nat} {F r r' : Int32} (h : ma_L1 a4 a6 a7 F r) (h' : ma_L1 (upd a4 e0 (-1)) a6 a7 F r') (hne : ¬ a4 e0 = r) : r' = r := by
  rcases h with ⟨h1, h2⟩ | ⟨e, h1, h2⟩
  · rcases h' with ⟨g1, g2⟩ | ⟨e', g1, g2⟩
    · rw [h1, g1]
    · obtain ⟨k1, k2, k3⟩ := ma_rem_lv g2.2.2.1
      exact absurd g2.2.2.2.1 (h2 e' g2.1 g2.2.1 k3)
  · have hee : e ≠ e0 := fun z => hne (by rw [h1, z])
    have hle : 0 ≤ upd a4 e0 (-1) e := by rw [pk_un hee]; exact h2.2.2.1
    rcases h' with ⟨g1, g2⟩ | ⟨e', g1, g2⟩
    · exact absurd h2.2.2.2.1 (g2 e h2.1 h2.2.1 hle)
    · obtain ⟨k1, k2, k3⟩ := ma_rem_lv g2.2.2.1
      rw [g1, h1, k2]
      have p := h2.2.2.2.2 e' g2.1 g2.2.1 k3 g2.2.2.2.1
      have q := g2.2.2.2.2 e h2.1 h2.2.1 hle h2.2.2.2.1
      unfold ma_pc at q
      rw [k2, pk_un hee] at q
      exact Classical.byContradiction (fun w => q (ma_pc_tot w p))
end
section
/-! the law's own methods: named, holds -/
theorem ma_L0_eq {a4 a6 a7 : Nat → Int32} {v : Nat} {r r' : Int32} (h : ma_L0 a4 a6 a7 v r) (h' : ma_L0 a4 a6 a7 v r') : r' = r := by
  rcases h with ⟨h1, h2⟩ | ⟨e, h1, h2⟩
  · rcases h' with ⟨g1, g2⟩ | ⟨e', g1, g2⟩
    · rw [h1, g1]
    · exact absurd g2.2.2.1 (h2 e' g2.1 g2.2.1)
  · rcases h' with ⟨g1, g2⟩ | ⟨e', g1, g2⟩
    · exact absurd h2.2.2.1 (g2 e h2.1 h2.2.1)
    · rw [h1, g1]
      exact ma_win_eq g2 h2
theorem ma_L1_eq {a4 a6 a7 : Nat → Int32} {F r r' : Int32} (h : ma_L1 a4 a6 a7 F r) (h' : ma_L1 a4 a6 a7 F r') : r' = r := by
  rcases h with ⟨h1, h2⟩ | ⟨e, h1, h2⟩
  · rcases h' with ⟨g1, g2⟩ | ⟨e', g1, g2⟩
    · rw [h1, g1]
    · exact absurd g2.2.2.2.1 (h2 e' g2.1 g2.2.1 g2.2.2.1)
  · rcases h' with ⟨g1, g2⟩ | ⟨e', g1, g2⟩
    · exact absurd h2.2.2.2.1 (g2 e h2.1 h2.2.1 h2.2.2.1)
    · rw [h1, g1]
      have p := h2.2.2.2.2 e' g2.1 g2.2.1 g2.2.2.1 g2.2.2.2.1
      have q := g2.2.2.2.2 e h2.1 h2.2.1 h2.2.2.1 h2.2.2.2.1
      exact Classical.byContradiction (fun w => q (ma_pc_tot w p))
theorem ma_named {post : Int32 → St1 → Prop} {dr nh tr nc gr gc : Int32} {a1 a2 a3 a4 a5 a6 a7 a8 a9 a10 a11 a12 a13 a14 a15 a16 : Nat → Int32} {n : Nat} {v : Int32} (hI : ma_I n nh tr nc gr gc a3 a4 a6 a7 a8 a9 a10 a13 a14 a15 a16) (hv : v = a2 0) (H : ∀ (r : Int32) (tr' nc' gr' gc' : Int32) (b8 b9 b10 b11 b12 b13 b14 b15 b16 : Nat → Int32), ma_I n nh tr' nc' gr' gc' a3 a4 a6 a7 b8 b9 b10 b13 b14 b15 b16 → ma_L0 a4 a6 a7 ((a2 0).toBitVec.toNat % 256) r → post r (dr, nh, tr', nc', gr', gc', a1, a2, a3, a4, a5, a6, a7, b8, b9, b10, b11, b12, b13, b14, b15, b16)) : wpL_named post (dr, nh, tr, nc, gr, gc, a1, a2, a3, a4, a5, a6, a7, a8, a9, a10, a11, a12, a13, a14, a15, a16) v := by
  subst hv
  have j0 : ∀ j : Nat, j < 4 → (0 : Int32) = nI j → j = 0 := fun j hj e => (ma_inj (a := 0) e (by omega) (by omega)).symm
  unfold wpL_named
  refine ma_get0 ?_
  refine ma_field ?_ (fun j hj ej => ?_)
  · refine ma_lookup0 hI (fun r tr' nc' gr' gc' b8 b9 b10 b11 b12 b13 b14 b15 b16 hI' hL => ma_field (H r tr' nc' gr' gc' b8 b9 b10 b11 b12 b13 b14 b15 b16 hI' hL) (fun j hj ej => ?_))
    have := j0 j hj ej
    subst this
    rw [ma_ue]
    exact H r tr' nc' gr' gc' b8 b9 b10 b11 b12 b13 b14 b15 b16 hI' hL
  · have := j0 j hj ej
    subst this
    rw [ma_ue]
    refine ma_lookup0 hI (fun r tr' nc' gr' gc' b8 b9 b10 b11 b12 b13 b14 b15 b16 hI' hL => ma_field (H r tr' nc' gr' gc' b8 b9 b10 b11 b12 b13 b14 b15 b16 hI' hL) (fun j hj ej => ?_))
    have := j0 j hj ej
    subst this
    rw [ma_ue]
    exact H r tr' nc' gr' gc' b8 b9 b10 b11 b12 b13 b14 b15 b16 hI' hL
theorem ma_h122 {post : Int32 → St1 → Prop} {dr nh tr nc gr gc : Int32} {a1 a2 a3 a4 a5 a6 a7 a8 a9 a10 a11 a12 a13 a14 a15 a16 : Nat → Int32} {n : Nat} {x3 z : Int32} (hI : ma_I n nh tr nc gr gc a3 a4 a6 a7 a8 a9 a10 a13 a14 a15 a16) (hn : n < 2 ^ 30) (hL : ma_L0 a4 a6 a7 ((a2 0).toBitVec.toNat % 256) x3) (H : ∀ (tr' nc' gr' gc' : Int32) (b8 b9 b10 b11 b12 b13 b14 b15 b16 : Nat → Int32), ma_I n nh tr' nc' gr' gc' a3 a4 a6 a7 b8 b9 b10 b13 b14 b15 b16 → post 1 (dr, nh, tr', nc', gr', gc', a1, a2, a3, a4, a5, a6, a7, b8, b9, b10, b11, b12, b13, b14, b15, b16)) : wL_holds_122 post x3 z z dr nh tr nc gr gc a1 a2 a3 a4 a5 a6 a7 a8 a9 a10 a11 a12 a13 a14 a15 a16 := by
  refine br_t rfl (ma_get0 ?_)
  have hL0 := hL
  rcases hL with ⟨h1, h2⟩ | ⟨e, h1, h2⟩
  · exact br_t (by rw [h1]; decide) (H tr nc gr gc a8 a9 a10 a11 a12 a13 a14 a15 a16 hI)
  · have he := h2.1
    rcases hI.2.1.1 e (by omega) with c | ⟨h, hh, eh⟩
    · exact absurd h2.2.1 (ma_lt0.mp c)
    · rw [eh] at h1
      subst h1
      refine br_f (nI_pos (by omega)) (ma_ownedI hI (by omega) (fun r tr' nc' gr' gc' b8 b9 b10 b11 b12 b13 b14 b15 b16 hI' hO => ?_))
      rcases hO with ⟨o1, o2⟩ | ⟨e2, t, o1, o2, o3, o4, o5⟩
      · exact absurd eh (o2 e he)
      · have hee := hI.2.1.2.1 e e2 (by omega) (by omega) h2.2.1 (by rw [eh, o2])
        subst hee
        have ht := o5 _ (Nat.mod_lt _ (by omega)) h2
        have hle := ma_cn_le (fun v => ma_win a4 a6 a7 v e) 0 256
        subst o3
        exact br_f (nI_nle (by omega) (by omega)) (ma_named hI' rfl (fun r2 t1 t2 t3 t4 c8 c9 c10 c11 c12 c13 c14 c15 c16 hI2 hL2 => br_t (ma_L0_eq hL0 hL2) (H t1 t2 t3 t4 c8 c9 c10 c11 c12 c13 c14 c15 c16 hI2)))
theorem ma_h109 {post : Int32 → St1 → Prop} {dr nh tr nc gr gc : Int32} {a1 a2 a3 a4 a5 a6 a7 a8 a9 a10 a11 a12 a13 a14 a15 a16 : Nat → Int32} {n : Nat} {x3 z : Int32} (hI : ma_I n nh tr nc gr gc a3 a4 a6 a7 a8 a9 a10 a13 a14 a15 a16) (hn : n < 2 ^ 30) (hL : ma_L0 a4 a6 a7 ((a2 0).toBitVec.toNat % 256) x3)
    (hz : (z = 0 ∧ ∀ e, 16 ≤ e → e < 32 → 0 ≤ a4 e → ¬ ma_m1 a6 a7 ((a2 1 <<< ((8 : Int32) &&& 31)) ||| a2 2) e) ∨ (z = 1 ∧ ∃ e, 16 ≤ e ∧ e < 32 ∧ 0 ≤ a4 e ∧ ma_m1 a6 a7 ((a2 1 <<< ((8 : Int32) &&& 31)) ||| a2 2) e))
    (H : ∀ (tr' nc' gr' gc' : Int32) (b8 b9 b10 b11 b12 b13 b14 b15 b16 : Nat → Int32), ma_I n nh tr' nc' gr' gc' a3 a4 a6 a7 b8 b9 b10 b13 b14 b15 b16 → post 1 (dr, nh, tr', nc', gr', gc', a1, a2, a3, a4, a5, a6, a7, b8, b9, b10, b11, b12, b13, b14, b15, b16)) : wL_holds_109 post x3 z dr nh tr nc gr gc a1 a2 a3 a4 a5 a6 a7 a8 a9 a10 a11 a12 a13 a14 a15 a16 := by
  refine ma_matching1 hI (fun r tr' nc' gr' gc' b8 b9 b10 b11 b12 b13 b14 b15 b16 hI' hM => ?_)
  rcases hM with ⟨m1, m2⟩ | ⟨m1, e, q1, q2, q3, q4⟩
  · rcases hz with ⟨z1, z2⟩ | ⟨z1, e, q1, q2, q3, q4⟩
    · subst z1
      exact br_t m1 (ma_h122 hI' hn hL H)
    · exact absurd q4 (m2 e q1 q2 q3)
  · rcases hz with ⟨z1, z2⟩ | ⟨z1, z2⟩
    · exact absurd q4 (z2 e q1 q2 q3)
    · subst z1
      exact br_f m1 (ma_h122 hI' hn hL H)
theorem ma_h83 {post : Int32 → St1 → Prop} {dr nh tr nc gr gc : Int32} {a1 a2 a3 a4 a5 a6 a7 a8 a9 a10 a11 a12 a13 a14 a15 a16 : Nat → Int32} {n : Nat} {x3 x4 z : Int32} (hI : ma_I n nh tr nc gr gc a3 a4 a6 a7 a8 a9 a10 a13 a14 a15 a16) (hn : n < 2 ^ 30) (hL : ma_L0 a4 a6 a7 ((a2 0).toBitVec.toNat % 256) x3) (hL1 : ma_L1 a4 a6 a7 ((a2 1 <<< ((8 : Int32) &&& 31)) ||| a2 2) x4)
    (hz : (z = 0 ∧ ∀ e, e < 16 → 0 ≤ a4 e → ¬ ma_mt a6 a7 ((a2 0).toBitVec.toNat % 256) e) ∨ (z = 1 ∧ ∃ e, ma_win a4 a6 a7 ((a2 0).toBitVec.toNat % 256) e))
    (H : ∀ (tr' nc' gr' gc' : Int32) (b8 b9 b10 b11 b12 b13 b14 b15 b16 : Nat → Int32), ma_I n nh tr' nc' gr' gc' a3 a4 a6 a7 b8 b9 b10 b13 b14 b15 b16 → post 1 (dr, nh, tr', nc', gr', gc', a1, a2, a3, a4, a5, a6, a7, b8, b9, b10, b11, b12, b13, b14, b15, b16)) : wL_holds_83 post x3 x4 z dr nh tr nc gr gc a1 a2 a3 a4 a5 a6 a7 a8 a9 a10 a11 a12 a13 a14 a15 a16 := by
  refine ma_matching0 hI (fun r tr' nc' gr' gc' b8 b9 b10 b11 b12 b13 b14 b15 b16 hI' hM => ?_)
  have h96 : wL_holds_96 post x3 x4 z z dr nh tr' nc' gr' gc' a1 a2 a3 a4 a5 a6 a7 b8 b9 b10 b11 b12 b13 b14 b15 b16 := by
    refine br_t rfl ?_
    rcases hL1 with ⟨h1, h2⟩ | ⟨e, h1, h2⟩
    · exact br_t (by rw [h1]; decide) (ma_h109 hI' hn hL (Or.inl ⟨rfl, h2⟩) H)
    · exact br_f (by rw [h1]; exact ma_nlt0.mpr h2.2.2.1) (ma_h109 hI' hn hL (Or.inr ⟨rfl, e, h2.1, h2.2.1, h2.2.2.1, h2.2.2.2.1⟩) H)
  rcases hM with ⟨m1, m2⟩ | ⟨m1, e, q⟩
  · rcases hz with ⟨z1, z2⟩ | ⟨z1, e, q⟩
    · subst z1
      exact br_t m1 h96
    · exact absurd q.2.2.1 (m2 e q.1 q.2.1)
  · rcases hz with ⟨z1, z2⟩ | ⟨z1, z2⟩
    · exact absurd q.2.2.1 (z2 e q.1 q.2.1)
    · subst z1
      exact br_f m1 h96
/-- v is won by a handle below h -/
def ma_P (a4 a6 a7 : Nat → Int32) (h v : Nat) : Prop := ∃ e h', h' < h ∧ a4 e = nI h' ∧ ma_win a4 a6 a7 v e
theorem ma_P_s {a4 a6 a7 : Nat → Int32} {h : Nat} : ma_cn (ma_P a4 a6 a7 h) 0 256 ≤ ma_cn (ma_P a4 a6 a7 (h + 1)) 0 256 := by
  have := ma_cn_disj (P := ma_P a4 a6 a7 h) (Q := fun _ => False) (R := ma_P a4 a6 a7 (h + 1)) (lo := 0) (n := 256) (fun v ⟨e, h', q1, q2⟩ => ⟨e, h', by omega, q2⟩) (fun v z => z.elim) (fun v _ z => z)
  omega
theorem ma_P_e {a4 a6 a7 : Nat → Int32} {h e : Nat} (hh : h < 2 ^ 31) (he : a4 e = nI h) : ma_cn (ma_P a4 a6 a7 h) 0 256 + ma_cn (fun v => ma_win a4 a6 a7 v e) 0 256 ≤ ma_cn (ma_P a4 a6 a7 (h + 1)) 0 256 := by
  refine ma_cn_disj (fun v ⟨e, h', q1, q2⟩ => ⟨e, h', by omega, q2⟩) (fun v z => ⟨e, h, by omega, he, z⟩) (fun v hp hw => ?_)
  obtain ⟨e', h', q1, q2, q3⟩ := hp
  have := ma_win_eq q3 hw
  rw [q2, he] at this
  have := ma_inj this (by omega) (by omega)
  omega
theorem ma_holds {post : Int32 → St1 → Prop} {dr nh tr nc gr gc : Int32} {a1 a2 a3 a4 a5 a6 a7 a8 a9 a10 a11 a12 a13 a14 a15 a16 : Nat → Int32} {n : Nat} (hI : ma_I n nh tr nc gr gc a3 a4 a6 a7 a8 a9 a10 a13 a14 a15 a16) (hn : n < 2 ^ 30) (H : ∀ (tr' nc' gr' gc' : Int32) (b8 b9 b10 b11 b12 b13 b14 b15 b16 : Nat → Int32), ma_I n nh tr' nc' gr' gc' a3 a4 a6 a7 b8 b9 b10 b13 b14 b15 b16 → post 1 (dr, nh, tr', nc', gr', gc', a1, a2, a3, a4, a5, a6, a7, b8, b9, b10, b11, b12, b13, b14, b15, b16)) : wpL_holds post (dr, nh, tr, nc, gr, gc, a1, a2, a3, a4, a5, a6, a7, a8, a9, a10, a11, a12, a13, a14, a15, a16) (nI n) := by
  have loop : ∀ (r h s : Nat) (tr' nc' gr' gc' : Int32) (b8 b9 b10 b11 b12 b13 b14 b15 b16 : Nat → Int32), h + r = n → s ≤ ma_cn (ma_P a4 a6 a7 h) 0 256 → ma_I n nh tr' nc' gr' gc' a3 a4 a6 a7 b8 b9 b10 b13 b14 b15 b16 → wL_holds_4 post (nI n) (r + 1) (nI s) (nI h) dr nh tr' nc' gr' gc' a1 a2 a3 a4 a5 a6 a7 b8 b9 b10 b11 b12 b13 b14 b15 b16 := by
    intro r
    induction r with
    | zero =>
      intro h s tr' nc' gr' gc' b8 b9 b10 b11 b12 b13 b14 b15 b16 hh hs hI'
      have hh' : h = n := by omega
      subst hh'
      have hle := ma_cn_le (ma_P a4 a6 a7 h) 0 256
      refine pk_le h h (fun _ => ma_lookup0 hI' (fun r0 t1 t2 t3 t4 c8 c9 c10 c11 c12 c13 c14 c15 c16 hI1 hL0 => ma_lookup1 hI1 (fun r1 u1 u2 u3 u4 d8 d9 d10 d11 d12 d13 d14 d15 d16 hI2 hL1 => ?_))) (fun z => absurd z (by omega))
      refine pk_lt 256 s (fun z => absurd z (by omega)) (fun _ => ?_)
      have hL0' := hL0
      rcases hL0 with ⟨h1, h2⟩ | ⟨e, h1, h2⟩
      · exact br_t (by rw [h1]; decide) (ma_h83 hI2 hn hL0' hL1 (Or.inl ⟨rfl, h2⟩) H)
      · exact br_f (by rw [h1]; exact ma_nlt0.mpr h2.2.1) (ma_h83 hI2 hn hL0' hL1 (Or.inr ⟨rfl, e, h2⟩) H)
    | succ r ih =>
      intro h s tr' nc' gr' gc' b8 b9 b10 b11 b12 b13 b14 b15 b16 hh hs hI'
      refine pk_le n h (fun z => absurd z (by omega)) (fun _ => ma_ownedI hI' (by omega) (fun r0 t1 t2 t3 t4 c8 c9 c10 c11 c12 c13 c14 c15 c16 hI1 hO => ?_))
      rcases hO with ⟨o1, o2⟩ | ⟨e2, t, o1, o2, o3, o4, o5⟩
      · subst o1
        refine br_f (by decide) (br_t rfl (br_t (by decide) (br_t (by decide) (nm_r (nI_1 h) ?_))))
        exact ih (h + 1) s t1 t2 t3 t4 c8 c9 c10 c11 c12 c13 c14 c15 c16 (by omega) (Nat.le_trans hs ma_P_s) hI1
      · subst o3
        have hle := ma_cn_le (fun v => ma_win a4 a6 a7 v e2) 0 256
        have hpe := ma_P_e (a6 := a6) (a7 := a7) (show h < 2 ^ 31 by omega) o2
        refine br_t (nI_pos' (by omega)) (pk_le t 256 (fun _ => pk_le t 0 (fun z => nm_r (nI_1 h) ?_) (fun z => nm_r (nI_add s t) (nm_r (nI_1 h) ?_))) (fun z => absurd z (by omega)))
        · exact ih (h + 1) s t1 t2 t3 t4 c8 c9 c10 c11 c12 c13 c14 c15 c16 (by omega) (by omega) hI1
        · exact ih (h + 1) (s + t) t1 t2 t3 t4 c8 c9 c10 c11 c12 c13 c14 c15 c16 (by omega) (by omega) hI1
  exact ⟨n + 1, loop n 0 0 tr nc gr gc a8 a9 a10 a11 a12 a13 a14 a15 a16 (by omega) (Nat.zero_le _) hI⟩
end
section
/-! the law -/
theorem ma_319 {post : Int32 → Prop} {J : Int32 → Int32 → Int32 → Int32 → Int32 → Int32 → Int32 → Int32 → (Nat → Int32) → (Nat → Int32) → (Nat → Int32) → (Nat → Int32) → (Nat → Int32) → (Nat → Int32) → (Nat → Int32) → (Nat → Int32) → (Nat → Int32) → (Nat → Int32) → (Nat → Int32) → (Nat → Int32) → (Nat → Int32) → (Nat → Int32) → (Nat → Int32) → (Nat → Int32) → Prop} {dr nh tr nc gr gc : Int32} {a1 a2 a3 a4 a5 a6 a7 a8 a9 a10 a11 a12 a13 a14 a15 a16 : Nat → Int32} {L kc ks n c i : Nat} {xs : Nat → Int32} (hI : ma_I n nh tr nc gr gc a3 a4 a6 a7 a8 a9 a10 a13 a14 a15 a16) (hc : n ≤ c) (hc2 : c < 2 ^ 30) (hi : i < L) (hL : L ≤ 260) (H : ∀ (m : Nat) (dr nh tr nc gr gc : Int32) (a1 a2 a3 a4 a5 a6 a7 a8 a9 a10 a11 a12 a13 a14 a15 a16 : Nat → Int32), m ≤ c → ma_I m nh tr nc gr gc a3 a4 a6 a7 a8 a9 a10 a13 a14 a15 a16 → J (nI m) (nI (i + 4)) dr nh tr nc gr gc a1 a2 a3 a4 a5 a6 a7 a8 a9 a10 a11 a12 a13 a14 a15 a16) : wL_law_319 post L xs J (nI n) (nI i) kc ks dr nh tr nc gr gc a1 a2 a3 a4 a5 a6 a7 a8 a9 a10 a11 a12 a13 a14 a15 a16 :=
  And.intro (pk_in i L hi rfl (by omega)) (br_c (fun _ => ma_holds hI (by omega) (fun tr' nc' gr' gc' b8 b9 b10 b11 b12 b13 b14 b15 b16 hI' => br_f (by decide) (nm_r (nI_add i 4) (H n dr nh tr' nc' gr' gc' a1 a2 a3 a4 a5 a6 a7 b8 b9 b10 b11 b12 b13 b14 b15 b16 hc hI')))) (fun _ => nm_r (nI_add i 4) (H n dr nh tr nc gr gc a1 a2 a3 a4 a5 a6 a7 a8 a9 a10 a11 a12 a13 a14 a15 a16 hc hI)))
theorem ma_308n {post : Int32 → Prop} {J : Int32 → Int32 → Int32 → Int32 → Int32 → Int32 → Int32 → Int32 → (Nat → Int32) → (Nat → Int32) → (Nat → Int32) → (Nat → Int32) → (Nat → Int32) → (Nat → Int32) → (Nat → Int32) → (Nat → Int32) → (Nat → Int32) → (Nat → Int32) → (Nat → Int32) → (Nat → Int32) → (Nat → Int32) → (Nat → Int32) → (Nat → Int32) → (Nat → Int32) → Prop} {dr nh tr nc gr gc : Int32} {a1 a2 a3 a4 a5 a6 a7 a8 a9 a10 a11 a12 a13 a14 a15 a16 : Nat → Int32} {L kc ks n c i : Nat} {xs : Nat → Int32} {x7 : Int32} (h7 : x7 < 0) (hI : ma_I n nh tr nc gr gc a3 a4 a6 a7 a8 a9 a10 a13 a14 a15 a16) (hc : n ≤ c) (hc2 : c < 2 ^ 30) (hi : i < L) (hL : L ≤ 260) (H : ∀ (m : Nat) (dr nh tr nc gr gc : Int32) (a1 a2 a3 a4 a5 a6 a7 a8 a9 a10 a11 a12 a13 a14 a15 a16 : Nat → Int32), m ≤ c → ma_I m nh tr nc gr gc a3 a4 a6 a7 a8 a9 a10 a13 a14 a15 a16 → J (nI m) (nI (i + 4)) dr nh tr nc gr gc a1 a2 a3 a4 a5 a6 a7 a8 a9 a10 a11 a12 a13 a14 a15 a16) : wL_law_308 post L xs J (nI n) (nI i) x7 kc ks dr nh tr nc gr gc a1 a2 a3 a4 a5 a6 a7 a8 a9 a10 a11 a12 a13 a14 a15 a16 :=
  br_t (Int32.lt_of_lt_of_le h7 (nI_pos' (by omega))) (ma_319 hI hc hc2 hi hL H)
theorem ma_308s {post : Int32 → Prop} {J : Int32 → Int32 → Int32 → Int32 → Int32 → Int32 → Int32 → Int32 → (Nat → Int32) → (Nat → Int32) → (Nat → Int32) → (Nat → Int32) → (Nat → Int32) → (Nat → Int32) → (Nat → Int32) → (Nat → Int32) → (Nat → Int32) → (Nat → Int32) → (Nat → Int32) → (Nat → Int32) → (Nat → Int32) → (Nat → Int32) → (Nat → Int32) → (Nat → Int32) → Prop} {dr nh tr nc gr gc : Int32} {a1 a2 a3 a4 a5 a6 a7 a8 a9 a10 a11 a12 a13 a14 a15 a16 : Nat → Int32} {L kc ks n c i : Nat} {xs : Nat → Int32} (hI : ma_I (n + 1) nh tr nc gr gc a3 a4 a6 a7 a8 a9 a10 a13 a14 a15 a16) (hc : n + 1 ≤ c) (hc2 : c < 2 ^ 30) (hi : i < L) (hL : L ≤ 260) (H : ∀ (m : Nat) (dr nh tr nc gr gc : Int32) (a1 a2 a3 a4 a5 a6 a7 a8 a9 a10 a11 a12 a13 a14 a15 a16 : Nat → Int32), m ≤ c → ma_I m nh tr nc gr gc a3 a4 a6 a7 a8 a9 a10 a13 a14 a15 a16 → J (nI m) (nI (i + 4)) dr nh tr nc gr gc a1 a2 a3 a4 a5 a6 a7 a8 a9 a10 a11 a12 a13 a14 a15 a16) : wL_law_308 post L xs J (nI n) (nI i) (nI n) kc ks dr nh tr nc gr gc a1 a2 a3 a4 a5 a6 a7 a8 a9 a10 a11 a12 a13 a14 a15 a16 :=
  br_f Int32.lt_irrefl (nm_r (nI_1 n) (ma_319 hI hc hc2 hi hL H))
theorem ma_112 {post : Int32 → Prop} {J : Int32 → Int32 → Int32 → Int32 → Int32 → Int32 → Int32 → Int32 → (Nat → Int32) → (Nat → Int32) → (Nat → Int32) → (Nat → Int32) → (Nat → Int32) → (Nat → Int32) → (Nat → Int32) → (Nat → Int32) → (Nat → Int32) → (Nat → Int32) → (Nat → Int32) → (Nat → Int32) → (Nat → Int32) → (Nat → Int32) → (Nat → Int32) → (Nat → Int32) → Prop} {dr nh tr nc gr gc : Int32} {a1 a2 a3 a4 a5 a6 a7 a8 a9 a10 a11 a12 a13 a14 a15 a16 : Nat → Int32} {L kc ks n c i : Nat} {xs : Nat → Int32} {x4 x5 : Int32} (hI : ma_I n nh tr nc gr gc a3 a4 a6 a7 a8 a9 a10 a13 a14 a15 a16) (hc : n + 1 ≤ c) (hc2 : c < 2 ^ 30) (hi : i < L) (hL : L ≤ 260) (H : ∀ (m : Nat) (dr nh tr nc gr gc : Int32) (a1 a2 a3 a4 a5 a6 a7 a8 a9 a10 a11 a12 a13 a14 a15 a16 : Nat → Int32), m ≤ c → ma_I m nh tr nc gr gc a3 a4 a6 a7 a8 a9 a10 a13 a14 a15 a16 → J (nI m) (nI (i + 4)) dr nh tr nc gr gc a1 a2 a3 a4 a5 a6 a7 a8 a9 a10 a11 a12 a13 a14 a15 a16) : wL_law_112 post L xs J (nI n) (nI i) x4 x5 kc ks dr nh tr nc gr gc a1 a2 a3 a4 a5 a6 a7 a8 a9 a10 a11 a12 a13 a14 a15 a16 :=
  And.intro (by decide) (ma_addPrefix hI (by omega) (fun r hr => ma_308n hr hI (by omega) hc2 hi hL H) (fun b3 b4 b5 b6 b7 hI' => ma_308s hI' hc hc2 hi hL H))
theorem ma_136 {post : Int32 → Prop} {J : Int32 → Int32 → Int32 → Int32 → Int32 → Int32 → Int32 → Int32 → (Nat → Int32) → (Nat → Int32) → (Nat → Int32) → (Nat → Int32) → (Nat → Int32) → (Nat → Int32) → (Nat → Int32) → (Nat → Int32) → (Nat → Int32) → (Nat → Int32) → (Nat → Int32) → (Nat → Int32) → (Nat → Int32) → (Nat → Int32) → (Nat → Int32) → (Nat → Int32) → Prop} {dr nh tr nc gr gc : Int32} {a1 a2 a3 a4 a5 a6 a7 a8 a9 a10 a11 a12 a13 a14 a15 a16 : Nat → Int32} {L kc ks n c i : Nat} {xs : Nat → Int32} {x4 x5 x6 : Int32} (hI : ma_I n nh tr nc gr gc a3 a4 a6 a7 a8 a9 a10 a13 a14 a15 a16) (hc : n + 1 ≤ c) (hc2 : c < 2 ^ 30) (hi : i < L) (hL : L ≤ 260) (H : ∀ (m : Nat) (dr nh tr nc gr gc : Int32) (a1 a2 a3 a4 a5 a6 a7 a8 a9 a10 a11 a12 a13 a14 a15 a16 : Nat → Int32), m ≤ c → ma_I m nh tr nc gr gc a3 a4 a6 a7 a8 a9 a10 a13 a14 a15 a16 → J (nI m) (nI (i + 4)) dr nh tr nc gr gc a1 a2 a3 a4 a5 a6 a7 a8 a9 a10 a11 a12 a13 a14 a15 a16) : wL_law_136 post L xs J (nI n) (nI i) x4 x5 x6 kc ks dr nh tr nc gr gc a1 a2 a3 a4 a5 a6 a7 a8 a9 a10 a11 a12 a13 a14 a15 a16 := by
  unfold wL_law_136
  exact ma_addMasked hI (by omega) (fun r hr => ma_308n hr hI (by omega) hc2 hi hL H) (fun b3 b4 b5 b6 b7 hI' => ma_308s hI' hc hc2 hi hL H)
theorem ma_211 {post : Int32 → Prop} {J : Int32 → Int32 → Int32 → Int32 → Int32 → Int32 → Int32 → Int32 → (Nat → Int32) → (Nat → Int32) → (Nat → Int32) → (Nat → Int32) → (Nat → Int32) → (Nat → Int32) → (Nat → Int32) → (Nat → Int32) → (Nat → Int32) → (Nat → Int32) → (Nat → Int32) → (Nat → Int32) → (Nat → Int32) → (Nat → Int32) → (Nat → Int32) → (Nat → Int32) → Prop} {dr nh tr nc gr gc : Int32} {a1 a2 a3 a4 a5 a6 a7 a8 a9 a10 a11 a12 a13 a14 a15 a16 : Nat → Int32} {L kc ks n h : Nat} {xs : Nat → Int32} {x2 x3 x7 x9 x10 z : Int32} (hI : ma_I n nh tr nc gr gc a3 a4 a6 a7 a8 a9 a10 a13 a14 a15 a16) (hh : h < 2 ^ 31) (hL0 : ma_L0 a4 a6 a7 ((a2 0).toBitVec.toNat % 256) x9) (hL1 : ma_L1 a4 a6 a7 ((a2 1 <<< ((8 : Int32) &&& 31)) ||| a2 2) x10)
    (hz : z = 0 ∨ (¬ nI h = x9 ∧ ¬ nI h = x10)) (H : ∀ (dr nh tr nc gr gc : Int32) (a1 a2 a3 a4 a5 a6 a7 a8 a9 a10 a11 a12 a13 a14 a15 a16 : Nat → Int32), ma_I n nh tr nc gr gc a3 a4 a6 a7 a8 a9 a10 a13 a14 a15 a16 → wL_law_308 post L xs J x2 x3 x7 kc ks dr nh tr nc gr gc a1 a2 a3 a4 a5 a6 a7 a8 a9 a10 a11 a12 a13 a14 a15 a16) : wL_law_211 post L xs J x2 x3 x7 (nI h) x9 x10 z kc ks dr nh tr nc gr gc a1 a2 a3 a4 a5 a6 a7 a8 a9 a10 a11 a12 a13 a14 a15 a16 := by
  unfold wL_law_211
  refine ma_remove hI hh (fun hn => ?_) (fun e r b3 he h4 hI' => ?_)
  · exact br_c (fun _ => H _ _ _ _ _ _ _ _ _ _ _ _ _ _ _ _ _ _ _ _ _ _ hI) (fun _ => ma_lookup0 hI (fun r0 tr' nc' gr' gc' b8 b9 b10 b11 b12 b13 b14 b15 b16 hI1 hr0 => br_t (ma_L0_eq hL0 hr0) (ma_lookup1 hI1 (fun r1 t1 t2 t3 t4 c8 c9 c10 c11 c12 c13 c14 c15 c16 hI2 hr1 => br_t (ma_L1_eq hL1 hr1) (H _ _ _ _ _ _ _ _ _ _ _ _ _ _ _ _ _ _ _ _ _ _ hI2)))))
  · rcases hz with hz | ⟨z1, z2⟩
    · exact br_t hz (H _ _ _ _ _ _ _ _ _ _ _ _ _ _ _ _ _ _ _ _ _ _ hI')
    · rw [← h4] at z1 z2
      exact br_c (fun _ => H _ _ _ _ _ _ _ _ _ _ _ _ _ _ _ _ _ _ _ _ _ _ hI') (fun _ => ma_lookup0 hI' (fun r0 tr' nc' gr' gc' b8 b9 b10 b11 b12 b13 b14 b15 b16 hI1 hr0 => br_t (ma_L0_rem hL0 hr0 z1) (ma_lookup1 hI1 (fun r1 t1 t2 t3 t4 c8 c9 c10 c11 c12 c13 c14 c15 c16 hI2 hr1 => br_t (ma_L1_rem hL1 hr1 z2) (H _ _ _ _ _ _ _ _ _ _ _ _ _ _ _ _ _ _ _ _ _ _ hI2)))))
theorem ma_176 {post : Int32 → Prop} {J : Int32 → Int32 → Int32 → Int32 → Int32 → Int32 → Int32 → Int32 → (Nat → Int32) → (Nat → Int32) → (Nat → Int32) → (Nat → Int32) → (Nat → Int32) → (Nat → Int32) → (Nat → Int32) → (Nat → Int32) → (Nat → Int32) → (Nat → Int32) → (Nat → Int32) → (Nat → Int32) → (Nat → Int32) → (Nat → Int32) → (Nat → Int32) → (Nat → Int32) → Prop} {dr nh tr nc gr gc : Int32} {a1 a2 a3 a4 a5 a6 a7 a8 a9 a10 a11 a12 a13 a14 a15 a16 : Nat → Int32} {L kc ks n h : Nat} {xs : Nat → Int32} {x2 x3 x7 : Int32} (hI : ma_I n nh tr nc gr gc a3 a4 a6 a7 a8 a9 a10 a13 a14 a15 a16) (hh : h < 2 ^ 31) (H : ∀ (dr nh tr nc gr gc : Int32) (a1 a2 a3 a4 a5 a6 a7 a8 a9 a10 a11 a12 a13 a14 a15 a16 : Nat → Int32), ma_I n nh tr nc gr gc a3 a4 a6 a7 a8 a9 a10 a13 a14 a15 a16 → wL_law_308 post L xs J x2 x3 x7 kc ks dr nh tr nc gr gc a1 a2 a3 a4 a5 a6 a7 a8 a9 a10 a11 a12 a13 a14 a15 a16) : wL_law_176 post L xs J x2 x3 x7 (nI h) kc ks dr nh tr nc gr gc a1 a2 a3 a4 a5 a6 a7 a8 a9 a10 a11 a12 a13 a14 a15 a16 := by
  unfold wL_law_176
  refine ma_lookup0 hI (fun r0 tr' nc' gr' gc' b8 b9 b10 b11 b12 b13 b14 b15 b16 hI1 hr0 => ?_)
  refine ma_lookup1 hI1 (fun r1 t1 t2 t3 t4 c8 c9 c10 c11 c12 c13 c14 c15 c16 hI2 hr1 => ?_)
  refine br_c (fun _ => ?_) (fun h0 => br_c (fun _ => ?_) (fun h1 => ma_211 hI2 hh hr0 hr1 (Or.inr ⟨h0, h1⟩) H))
  · unfold wL_law_210
    exact ma_211 hI2 hh hr0 hr1 (Or.inl rfl) H
  · unfold wL_law_210
    exact ma_211 hI2 hh hr0 hr1 (Or.inl rfl) H
theorem ma_160 {post : Int32 → Prop} {J : Int32 → Int32 → Int32 → Int32 → Int32 → Int32 → Int32 → Int32 → (Nat → Int32) → (Nat → Int32) → (Nat → Int32) → (Nat → Int32) → (Nat → Int32) → (Nat → Int32) → (Nat → Int32) → (Nat → Int32) → (Nat → Int32) → (Nat → Int32) → (Nat → Int32) → (Nat → Int32) → (Nat → Int32) → (Nat → Int32) → (Nat → Int32) → (Nat → Int32) → Prop} {dr nh tr nc gr gc : Int32} {a1 a2 a3 a4 a5 a6 a7 a8 a9 a10 a11 a12 a13 a14 a15 a16 : Nat → Int32} {L kc ks n : Nat} {xs : Nat → Int32} {x3 x4 x7 : Int32} (hI : ma_I n nh tr nc gr gc a3 a4 a6 a7 a8 a9 a10 a13 a14 a15 a16) (hn : n < 2 ^ 30) (H : ∀ (dr nh tr nc gr gc : Int32) (a1 a2 a3 a4 a5 a6 a7 a8 a9 a10 a11 a12 a13 a14 a15 a16 : Nat → Int32), ma_I n nh tr nc gr gc a3 a4 a6 a7 a8 a9 a10 a13 a14 a15 a16 → wL_law_308 post L xs J (nI n) x3 x7 kc ks dr nh tr nc gr gc a1 a2 a3 a4 a5 a6 a7 a8 a9 a10 a11 a12 a13 a14 a15 a16) : wL_law_160 post L xs J (nI n) x3 x4 x7 kc ks dr nh tr nc gr gc a1 a2 a3 a4 a5 a6 a7 a8 a9 a10 a11 a12 a13 a14 a15 a16 := by
  refine br_c (fun h0 => ma_176 (h := 0) hI (by omega) H) (fun h0 => ⟨h0, ?_⟩)
  obtain ⟨a, ha, ea⟩ := pk_andE x4 (m := 255) 8 (by decide)
  have hn0 : 0 < n := by
    rcases Nat.eq_zero_or_pos n with z | z
    · exact absurd (by rw [z]; rfl) h0
    · exact z
  rw [ea, pk_rem (by omega) hn0 (by omega)]
  exact ma_176 hI (Nat.lt_of_le_of_lt (Nat.mod_le a n) (by omega)) H
theorem ma_law12 {L kc ks : Nat} {xs : Nat → Int32} (hL : L ≤ 260) : ∀ (r i n : Nat) (dr nh tr nc gr gc : Int32) (a1 a2 a3 a4 a5 a6 a7 a8 a9 a10 a11 a12 a13 a14 a15 a16 : Nat → Int32), L < i + 4 * r + 4 → i ≤ 260 → n ≤ i → ma_I n nh tr nc gr gc a3 a4 a6 a7 a8 a9 a10 a13 a14 a15 a16 → wL_law_12 (fun r => r = 1) L xs kc ks (r + 1) (nI n) (nI i) dr nh tr nc gr gc a1 a2 a3 a4 a5 a6 a7 a8 a9 a10 a11 a12 a13 a14 a15 a16 := by
  have cmp : ∀ i : Nat, i ≤ 260 → ((Int32.ofNat L) - 4 < nI i ↔ L < i + 4) := by
    intro i hi
    have h1 : (nI L - nI 4).toInt = (L : Int) - (4 : Nat) := pk_sub_toInt (by omega) (by omega)
    show nI L - nI 4 < nI i ↔ _
    rw [Int32.lt_iff_toInt_lt, h1, nI_toInt (by omega)]
    omega
  have fin : ∀ (k i n : Nat) (dr nh tr nc gr gc : Int32) (a1 a2 a3 a4 a5 a6 a7 a8 a9 a10 a11 a12 a13 a14 a15 a16 : Nat → Int32), n ≤ 260 → L < i + 4 → i ≤ 260 → ma_I n nh tr nc gr gc a3 a4 a6 a7 a8 a9 a10 a13 a14 a15 a16 → wL_law_12 (fun r => r = 1) L xs kc ks (k + 1) (nI n) (nI i) dr nh tr nc gr gc a1 a2 a3 a4 a5 a6 a7 a8 a9 a10 a11 a12 a13 a14 a15 a16 := by
    intro k i n dr nh tr nc gr gc a1 a2 a3 a4 a5 a6 a7 a8 a9 a10 a11 a12 a13 a14 a15 a16 hn hx hi hI
    exact br_t ((cmp i hi).mpr hx) (ma_holds hI (by omega) (fun tr' nc' gr' gc' b8 b9 b10 b11 b12 b13 b14 b15 b16 _ => rfl))
  intro r
  induction r with
  | zero =>
    intro i n dr nh tr nc gr gc a1 a2 a3 a4 a5 a6 a7 a8 a9 a10 a11 a12 a13 a14 a15 a16 h1 h2 h3 hI
    exact fin 0 i n dr nh tr nc gr gc a1 a2 a3 a4 a5 a6 a7 a8 a9 a10 a11 a12 a13 a14 a15 a16 (by omega) (by omega) h2 hI
  | succ r ih =>
    intro i n dr nh tr nc gr gc a1 a2 a3 a4 a5 a6 a7 a8 a9 a10 a11 a12 a13 a14 a15 a16 h1 h2 h3 hI
    by_cases hx : L < i + 4
    · exact fin (r + 1) i n dr nh tr nc gr gc a1 a2 a3 a4 a5 a6 a7 a8 a9 a10 a11 a12 a13 a14 a15 a16 (by omega) hx h2 hI
    · have HJ : ∀ (m : Nat) (dr nh tr nc gr gc : Int32) (a1 a2 a3 a4 a5 a6 a7 a8 a9 a10 a11 a12 a13 a14 a15 a16 : Nat → Int32), m ≤ n + 1 → ma_I m nh tr nc gr gc a3 a4 a6 a7 a8 a9 a10 a13 a14 a15 a16 → wL_law_12 (fun r => r = 1) L xs kc ks (r + 1) (nI m) (nI (i + 4)) dr nh tr nc gr gc a1 a2 a3 a4 a5 a6 a7 a8 a9 a10 a11 a12 a13 a14 a15 a16 := fun m dr nh tr nc gr gc a1 a2 a3 a4 a5 a6 a7 a8 a9 a10 a11 a12 a13 a14 a15 a16 hm hI' => ih (i + 4) m dr nh tr nc gr gc a1 a2 a3 a4 a5 a6 a7 a8 a9 a10 a11 a12 a13 a14 a15 a16 (by omega) (by omega) (by omega) hI'
      have h308 : ∀ (dr nh tr nc gr gc : Int32) (a1 a2 a3 a4 a5 a6 a7 a8 a9 a10 a11 a12 a13 a14 a15 a16 : Nat → Int32), ma_I n nh tr nc gr gc a3 a4 a6 a7 a8 a9 a10 a13 a14 a15 a16 → wL_law_308 (fun r => r = 1) L xs (wL_law_12 (fun r => r = 1) L xs kc ks (r + 1)) (nI n) (nI i) (-1) kc ks dr nh tr nc gr gc a1 a2 a3 a4 a5 a6 a7 a8 a9 a10 a11 a12 a13 a14 a15 a16 := fun dr nh tr nc gr gc a1 a2 a3 a4 a5 a6 a7 a8 a9 a10 a11 a12 a13 a14 a15 a16 hI' => ma_308n ma_m1lt hI' (by omega) (by omega) (by omega) hL HJ
      have h112 : ∀ x4 x5 : Int32, wL_law_112 (fun r => r = 1) L xs (wL_law_12 (fun r => r = 1) L xs kc ks (r + 1)) (nI n) (nI i) x4 x5 kc ks dr nh tr nc gr gc a1 a2 a3 a4 a5 a6 a7 a8 a9 a10 a11 a12 a13 a14 a15 a16 := fun x4 x5 => ma_112 hI (Nat.le_refl _) (by omega) (by omega) hL HJ
      have h136 : ∀ x4 x5 x6 : Int32, wL_law_136 (fun r => r = 1) L xs (wL_law_12 (fun r => r = 1) L xs kc ks (r + 1)) (nI n) (nI i) x4 x5 x6 kc ks dr nh tr nc gr gc a1 a2 a3 a4 a5 a6 a7 a8 a9 a10 a11 a12 a13 a14 a15 a16 := fun x4 x5 x6 => ma_136 hI (Nat.le_refl _) (by omega) (by omega) hL HJ
      have h160 : ∀ x4 : Int32, wL_law_160 (fun r => r = 1) L xs (wL_law_12 (fun r => r = 1) L xs kc ks (r + 1)) (nI n) (nI i) x4 (-1) kc ks dr nh tr nc gr gc a1 a2 a3 a4 a5 a6 a7 a8 a9 a10 a11 a12 a13 a14 a15 a16 := fun x4 => ma_160 hI (by omega) h308
      refine br_f (fun z => hx ((cmp i h2).mp z)) ⟨pk_in (i + 1) L (by omega) (nI_add i 1) (by omega), nm_e ⟨pk_in (i + 2) L (by omega) (nI_add i 2) (by omega), nm_e ⟨pk_in (i + 3) L (by omega) (nI_add i 3) (by omega), nm_e ⟨pk_in i L (by omega) rfl (by omega), nm_e ?_⟩⟩⟩⟩
      refine br_c (fun _ => ?_) (fun _ => br_c (fun _ => ?_) (fun _ => br_c (fun _ => h112 _ _) (fun _ => br_c (fun _ => h112 _ _) (fun _ => br_c (fun _ => h112 _ _) (fun _ => br_c (fun _ => h112 _ _) (fun _ => br_c (fun _ => h136 _ _ _) (fun _ => br_c (fun _ => h136 _ _ _) (fun _ => br_c (fun _ => h136 _ _ _) (fun _ => br_c (fun _ => h160 _) (fun _ => br_c (fun _ => h160 _) (fun _ => br_c (fun _ => ⟨by decide, ?_⟩) (fun _ => br_c (fun _ => ?_) (fun _ => br_c (fun _ => ?_) (fun _ => trivial))))))))))))))
      · exact ma_field (h308 _ _ _ _ _ _ _ _ _ _ _ _ _ _ _ _ _ _ _ _ _ _ hI) (fun _ _ _ => h308 _ _ _ _ _ _ _ _ _ _ _ _ _ _ _ _ _ _ _ _ _ _ hI)
      · exact ma_field (h308 _ _ _ _ _ _ _ _ _ _ _ _ _ _ _ _ _ _ _ _ _ _ hI) (fun _ _ _ => h308 _ _ _ _ _ _ _ _ _ _ _ _ _ _ _ _ _ _ _ _ _ _ hI)
      · exact ma_action (fun _ _ => h308 _ _ _ _ _ _ _ _ _ _ _ _ _ _ _ _ _ _ _ _ _ _ hI)
      · exact ma_setDefault (fun _ _ => h308 _ _ _ _ _ _ _ _ _ _ _ _ _ _ _ _ _ _ _ _ _ _ hI)
      · exact ma_process hI (fun _ b2 tr' nc' gr' gc' b8 b9 b10 b11 b12 b13 b14 b15 b16 hI' => h308 _ _ _ _ _ _ _ _ _ _ _ _ _ _ _ _ _ _ _ _ _ _ hI')
theorem ma_i154 {post : St1 → Prop} {dr nh tr nc gr gc : Int32} {a1 a2 a3 a5 a6 a7 a8 a9 a10 a11 a12 a13 a14 a15 a16 : Nat → Int32} {mc ms kc ks : Nat} (H : ∀ b4 : Nat → Int32, (∀ e, e < 32 → b4 e = -1) → post (dr, nh, tr, nc, gr, gc, a1, a2, a3, b4, a5, a6, a7, a8, a9, a10, a11, a12, a13, a14, a15, a16)) :
    ∀ (r m : Nat) (a4 : Nat → Int32), m + r = 32 → (∀ e, e < m → a4 e = -1) → wX_init_154 post mc ms kc ks dr nh tr nc gr gc (r + 1) (nI m) a1 a2 a3 a4 a5 a6 a7 a8 a9 a10 a11 a12 a13 a14 a15 a16 := by
  intro r
  induction r with
  | zero =>
    intro m a4 hm h
    have hm' : m = 32 := by omega
    subst hm'
    exact pk_le 32 32 (fun _ => H a4 h) (fun z => absurd z (by omega))
  | succ r ih =>
    intro m a4 hm h
    refine pk_le 32 m (fun z => absurd z (by omega)) (fun _ => ⟨pk_in m 32 (by omega), nm_r (e' := upd a4 m (-1)) (by rw [nI_clamp (by omega)]) (nm_r (nI_1 m) (ih (m + 1) _ (by omega) (fun j hj => ?_)))⟩)
    by_cases e : j = m
    · rw [e, pk_us]
    · rw [pk_un e]
      exact h j (by omega)
theorem i_vc (xs : Nat → Int32) (L : Nat) (hL : L ≤ 260) : wpL_law (fun r => r = 1) L xs := by
  refine ⟨16, 884, by omega, by omega, ?_⟩
  refine ⟨by omega, by omega, by omega, by omega, by omega, by omega, by omega, by omega, by omega, by omega, by omega, by omega, by omega, by omega, by omega, by omega, by omega, by omega, by omega, by omega, by omega, by omega, by omega, by omega, by omega, by omega, by omega, by omega, by omega, by omega, by omega, by omega, nm_e (nm_e ⟨33, ?_⟩)⟩
  refine ma_i154 (fun b4 h4 => ?_) 32 0 _ rfl (fun e he => absurd he (by omega))
  exact ⟨66, ma_law12 hL 65 0 0 _ _ _ _ _ _ _ _ _ _ _ _ _ _ _ _ _ _ _ _ _ _ (by omega) (by omega) (by omega) ⟨rfl, ma_C_0 (fun _ => rfl) h4, Or.inl rfl, Or.inl rfl⟩⟩
end
