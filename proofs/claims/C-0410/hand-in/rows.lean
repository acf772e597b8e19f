section
/-! pure rows to paste: stores, nI and lN arithmetic, masks, shifts, narrowing, branches by naturals (pk_le, pk_lt, pk_eq), loops (lp1 .. lp16: the measure of the state; rp1 ..: recursion), negatives. Take what you need -/
theorem pk_us {f : Nat → Int32} {k : Nat} {x : Int32} : upd f k x k = x := if_pos rfl
theorem pk_un {f : Nat → Int32} {k j : Nat} {x : Int32} (h : j ≠ k) : upd f k x j = f j := if_neg h
theorem pk_sub {a b : Nat} (h : b ≤ a) : nI a - nI b = nI (a - b) := by
  obtain ⟨c, rfl⟩ : ∃ c, a = c + b := ⟨a - b, by omega⟩
  rw [← nI_add, Int32.add_sub_cancel, Nat.add_sub_cancel]
theorem pk_m1 (n : Nat) : nI (n + 1) + (-1) = nI n := by
  rw [← nI_1, Int32.add_assoc, show (1 : Int32) + (-1) = 0 from rfl, Int32.add_zero]
theorem pk_mul (a b : Nat) : nI a * nI b = nI (a * b) := (Int32.ofNat_mul a b).symm
theorem pk_div {a d : Nat} (ha : a < 2 ^ 31) (h0 : 0 < d) (hd : d < 2 ^ 31) : nI a / nI d = nI (a / d) := by
  apply Int32.toInt_inj.mp
  rw [lg_idiv_nonneg (by rw [nI_toInt ha]; omega) (by rw [nI_toInt hd]; omega), nI_toInt ha, nI_toInt hd, nI_toInt (Nat.lt_of_le_of_lt (Nat.div_le_self a d) ha)]
  first | rfl | exact (Int.natCast_ediv _ _).symm
theorem pk_rem {a d : Nat} (ha : a < 2 ^ 31) (h0 : 0 < d) (hd : d < 2 ^ 31) : nI a - nI a / nI d * nI d = nI (a % d) := by
  rw [pk_div ha h0 hd, pk_mul, pk_sub (Nat.div_mul_le_self a d)]
  exact congrArg nI (by have := Nat.div_add_mod' a d; omega)
theorem pk_sub_toInt {a b : Nat} (ha : a < 2 ^ 30) (hb : b < 2 ^ 30) : (nI a - nI b).toInt = (a : Int) - b := by
  rw [Int32.toInt_sub, nI_toInt (by omega), nI_toInt (by omega)]
  exact Int.bmod_eq_of_le (by omega) (by omega)
theorem pk_sneg {a b : Nat} (hb : b < 2 ^ 30) (h : a < b) : nI a - nI b < 0 := by
  rw [Int32.lt_iff_toInt_lt, pk_sub_toInt (by omega) hb, show (0 : Int32).toInt = 0 from by decide]
  omega
theorem pk_ix (x : Int32) {n : Nat} (hn : n < 2 ^ 31) : x < 0 ∨ nI n ≤ x ∨ ∃ j : Nat, j < n ∧ x = nI j := by
  by_cases h : x < 0
  · exact Or.inl h
  · obtain ⟨j, hj, rfl⟩ := nI_of h
    by_cases h2 : j < n
    · exact Or.inr (Or.inr ⟨j, h2, rfl⟩)
    · exact Or.inr (Or.inl (nI_le (by omega) hj))
theorem pk_le {x y : Int32} {A B : Prop} (a b : Nat) (f : a ≤ b → A) (g : b < a → B) (hx : x = nI a := by rfl) (hy : y = nI b := by rfl) (ha : a < 2 ^ 31 := by omega) (hb : b < 2 ^ 31 := by omega) : (x ≤ y → A) ∧ (¬ x ≤ y → B) := by
  subst hx hy
  rw [nI_leI ha hb]
  exact ⟨f, fun z => g (by omega)⟩
theorem pk_lt {x y : Int32} {A B : Prop} (a b : Nat) (f : a < b → A) (g : b ≤ a → B) (hx : x = nI a := by rfl) (hy : y = nI b := by rfl) (ha : a < 2 ^ 31 := by omega) (hb : b < 2 ^ 31 := by omega) : (x < y → A) ∧ (¬ x < y → B) := by
  subst hx hy
  rw [nI_ltI ha hb]
  exact ⟨f, fun z => g (by omega)⟩
theorem pk_eq {x y : Int32} {A B : Prop} (a b : Nat) (f : a = b → A) (g : a ≠ b → B) (hx : x = nI a := by rfl) (hy : y = nI b := by rfl) (ha : a < 2 ^ 31 := by omega) (hb : b < 2 ^ 31 := by omega) : (x = y → A) ∧ (¬ x = y → B) := by
  subst hx hy
  rw [nI_eq ha hb]
  exact ⟨f, g⟩
theorem pk_in {x : Int32} (n N : Nat) (h : n < N) (hx : x = nI n := by rfl) (hN : N < 2 ^ 31 := by omega) : vp_in x N := by
  subst hx
  exact vp_in_nI h hN
theorem pk_cl {x : Int32} (n : Nat) (hx : x = nI n := by rfl) (h : n < 2 ^ 31 := by omega) : x.toNatClampNeg = n := by
  subst hx
  exact nI_clamp h
theorem pk_tn {n : Nat} (h : n < 2 ^ 32) : (nI n).toBitVec.toNat = n := Nat.mod_eq_of_lt h
theorem pk_and (x : Int32) {m : Int32} (k : Nat) (hm : m.toBitVec.toNat = 2 ^ k - 1) : x &&& m = nI (x.toBitVec.toNat % 2 ^ k) := by
  apply Int32.toBitVec_inj.mp
  apply BitVec.eq_of_toNat_eq
  rw [Int32.toBitVec_and, BitVec.toNat_and, hm, Nat.and_two_pow_sub_one_eq_mod]
  show _ = (BitVec.ofNat 32 _).toNat
  rw [BitVec.toNat_ofNat]
  exact (Nat.mod_eq_of_lt (Nat.lt_of_le_of_lt (Nat.mod_le _ _) x.toBitVec.isLt)).symm
theorem pk_andN {n : Nat} (h : n < 2 ^ 32) {m : Int32} (k : Nat) (hm : m.toBitVec.toNat = 2 ^ k - 1) : nI n &&& m = nI (n % 2 ^ k) := by
  rw [pk_and _ k hm, pk_tn h]
theorem pk_andE (x : Int32) {m : Int32} (k : Nat) (hm : m.toBitVec.toNat = 2 ^ k - 1) : ∃ j : Nat, j < 2 ^ k ∧ x &&& m = nI j := ⟨_, Nat.mod_lt _ (Nat.two_pow_pos k), pk_and x k hm⟩
theorem pk_andIn (x : Int32) {m : Int32} (k : Nat) (hm : m.toBitVec.toNat = 2 ^ k - 1) (hk : k ≤ 30) : vp_in (x &&& m) (2 ^ k) := by
  obtain ⟨j, hj, e⟩ := pk_andE x k hm
  rw [e]
  exact vp_in_nI hj (Nat.lt_of_le_of_lt (Nat.pow_le_pow_right (by decide) hk) (by decide))
theorem pk_shl (a s : Int32) (k : Nat) (hs : (s.toBitVec.smod 32).toNat = k) : (a <<< s).toBitVec.toNat = a.toBitVec.toNat * 2 ^ k % 2 ^ 32 := by
  show (a.toBitVec <<< (s.toBitVec.smod 32).toNat).toNat = _
  rw [hs, BitVec.toNat_shiftLeft, Nat.shiftLeft_eq]
theorem pk_shlN {n : Nat} (s : Int32) (k : Nat) (hs : (s.toBitVec.smod 32).toNat = k) (h : n * 2 ^ k < 2 ^ 32) : nI n <<< s = nI (n * 2 ^ k) := by
  apply Int32.toBitVec_inj.mp
  apply BitVec.eq_of_toNat_eq
  have hn : n < 2 ^ 32 := Nat.lt_of_le_of_lt (Nat.le_mul_of_pos_right n (Nat.two_pow_pos k)) h
  rw [pk_shl _ _ k hs, pk_tn hn, pk_tn h, Nat.mod_eq_of_lt h]
theorem pk_shr (a s : Int32) (k : Nat) (hs : (s.toBitVec.smod 32).toNat = k) : (a >>> s).toInt = a.toInt >>> k := by
  show (a.toBitVec.sshiftRight (s.toBitVec.smod 32).toNat).toInt = _
  rw [hs, BitVec.toInt_sshiftRight]
  rfl
theorem pk_shrN {n : Nat} (h : n < 2 ^ 31) (s : Int32) (k : Nat) (hs : (s.toBitVec.smod 32).toNat = k) : nI n >>> s = nI (n / 2 ^ k) := by
  apply Int32.toInt_inj.mp
  have h2 : n / 2 ^ k ≤ n := Nat.div_le_self _ _
  rw [pk_shr _ _ k hs, nI_toInt h, nI_toInt (by omega), Int.shiftRight_eq_div_pow]
  rfl
end
section
/-! counting, rows of runs, pictures of regions: plain Lean, no program -/
def zb_cn (f : Nat → Bool) : Nat → Nat
  | 0 => 0
  | n + 1 => zb_cn f n + (if f n = true then 1 else 0)
theorem zb_cn_t {f : Nat → Bool} {n : Nat} (h : f n = true) : zb_cn f (n + 1) = zb_cn f n + 1 := by
  show zb_cn f n + (if f n = true then 1 else 0) = _
  rw [if_pos h]
theorem zb_cn_f {f : Nat → Bool} {n : Nat} (h : f n = false) : zb_cn f (n + 1) = zb_cn f n := by
  show zb_cn f n + (if f n = true then 1 else 0) = _
  rw [h]; rfl
theorem zb_cn_add (f : Nat → Bool) (a : Nat) : ∀ d, zb_cn f (a + d) = zb_cn f a + zb_cn (fun t => f (a + t)) d := by
  intro d
  induction d with
  | zero => rfl
  | succ d ih =>
    show zb_cn f (a + d) + (if f (a + d) = true then 1 else 0) = zb_cn f a + (zb_cn (fun t => f (a + t)) d + (if f (a + d) = true then 1 else 0))
    rw [ih]; omega
theorem zb_cn_0 {f : Nat → Bool} : ∀ d, (∀ t, t < d → f t = false) → zb_cn f d = 0 := by
  intro d
  induction d with
  | zero => intro _; rfl
  | succ d ih => intro h; rw [zb_cn_f (h d (Nat.lt_succ_self d))]; exact ih (fun t ht => h t (Nat.lt_succ_of_lt ht))
theorem zb_cn_1 {f : Nat → Bool} : ∀ d, (∀ t, t < d → f t = true) → zb_cn f d = d := by
  intro d
  induction d with
  | zero => intro _; rfl
  | succ d ih => intro h; rw [zb_cn_t (h d (Nat.lt_succ_self d)), ih (fun t ht => h t (Nat.lt_succ_of_lt ht))]
theorem zb_cn_congr {f g : Nat → Bool} : ∀ d, (∀ t, t < d → f t = g t) → zb_cn f d = zb_cn g d := by
  intro d
  induction d with
  | zero => intro _; rfl
  | succ d ih =>
    intro h
    show zb_cn f d + (if f d = true then 1 else 0) = zb_cn g d + (if g d = true then 1 else 0)
    rw [ih (fun t ht => h t (Nat.lt_succ_of_lt ht)), h d (Nat.lt_succ_self d)]
theorem zb_cn_gap {f : Nat → Bool} {a b : Nat} (hab : a ≤ b) (h : ∀ t, a ≤ t → t < b → f t = false) : zb_cn f b = zb_cn f a := by
  have e : b = a + (b - a) := by omega
  rw [e, zb_cn_add, zb_cn_0 (b - a) (fun t ht => h (a + t) (by omega) (by omega))]
  rfl
theorem zb_cn_full {f : Nat → Bool} {a b : Nat} (hab : a ≤ b) (h : ∀ t, a ≤ t → t < b → f t = true) : zb_cn f b = zb_cn f a + (b - a) := by
  have e : b = a + (b - a) := by omega
  rw [e, zb_cn_add, zb_cn_1 (b - a) (fun t ht => h (a + t) (by omega) (by omega))]
  omega
theorem zb_cn_mono {f : Nat → Bool} {a b : Nat} (hab : a ≤ b) : zb_cn f a ≤ zb_cn f b := by
  have e : b = a + (b - a) := by omega
  rw [e, zb_cn_add]; omega
theorem zb_cn_le (f : Nat → Bool) : ∀ n, zb_cn f n ≤ n := by
  intro n
  induction n with
  | zero => exact Nat.le_refl 0
  | succ n ih => show zb_cn f n + (if f n = true then 1 else 0) ≤ n + 1; split <;> omega
theorem zb_cn_inj {f : Nat → Bool} {a b : Nat} (ha : f a = true) (hb : f b = true) (h : zb_cn f a = zb_cn f b) : a = b := by
  rcases Nat.lt_trichotomy a b with hl | he | hg
  · have h1 : zb_cn f (a + 1) ≤ zb_cn f b := zb_cn_mono hl
    rw [zb_cn_t ha] at h1; omega
  · exact he
  · have h1 : zb_cn f (b + 1) ≤ zb_cn f a := zb_cn_mono hg
    rw [zb_cn_t hb] at h1; omega

/-! a row of maximal runs -/
def zb_rw (L R : Nat → Nat) (f m x : Nat) (q : Nat → Bool) : Prop :=
  (∀ k, f ≤ k → k < m → L k ≤ R k ∧ R k < x ∧ (k + 1 < m → R k + 1 < L (k + 1))) ∧
  (∀ z, z < x → (q z = true ↔ ∃ k, f ≤ k ∧ k < m ∧ L k ≤ z ∧ z ≤ R k))
theorem zb_rw_0 (L R : Nat → Nat) (f : Nat) (q : Nat → Bool) : zb_rw L R f f 0 q :=
  ⟨fun k h1 h2 => by omega, fun z hz => by omega⟩
theorem zb_rw_skip {L R : Nat → Nat} {f m x e : Nat} {q : Nat → Bool} (h : zb_rw L R f m x q) (hxe : x ≤ e) (hq : ∀ z, x ≤ z → z < e → q z = false) : zb_rw L R f m e q := by
  refine ⟨fun k h1 h2 => ?_, fun z hz => ?_⟩
  · have := h.1 k h1 h2
    exact ⟨this.1, by omega, this.2.2⟩
  · by_cases hzx : z < x
    · exact h.2 z hzx
    · rw [hq z (by omega) hz]
      refine ⟨fun h0 => (by cases h0), fun ⟨k, h1, h2, h3, h4⟩ => ?_⟩
      have := h.1 k h1 h2
      omega
theorem zb_rw_ext {L R R' : Nat → Nat} {f m x e : Nat} {q : Nat → Bool} (h : zb_rw L R f m x q) (hfm : f < m) (hx : x ≤ R (m - 1) + 1) (hxe : x < e) (hq : ∀ z, x ≤ z → z < e → q z = true) (h1 : R' (m - 1) = e - 1) (h2 : ∀ k, k ≠ m - 1 → R' k = R k) : zb_rw L R' f m e q := by
  refine ⟨fun k a b => ?_, fun z hz => ?_⟩
  · have hk := h.1 k a b
    by_cases hkm : k = m - 1
    · subst hkm; rw [h1]; refine ⟨by omega, by omega, fun hc => by omega⟩
    · rw [h2 k hkm]; exact ⟨hk.1, by omega, hk.2.2⟩
  · have hl := h.1 (m - 1) (by omega) (by omega)
    by_cases hzx : z < x
    · rw [h.2 z hzx]
      constructor
      · rintro ⟨k, a, b, c, d⟩
        refine ⟨k, a, b, c, ?_⟩
        by_cases hkm : k = m - 1
        · subst hkm; rw [h1]; omega
        · rw [h2 k hkm]; exact d
      · rintro ⟨k, a, b, c, d⟩
        refine ⟨k, a, b, c, ?_⟩
        by_cases hkm : k = m - 1
        · subst hkm; omega
        · rw [h2 k hkm] at d; exact d
    · rw [hq z (by omega) hz]
      exact ⟨fun _ => ⟨m - 1, by omega, by omega, by omega, by rw [h1]; omega⟩, fun _ => rfl⟩
theorem zb_rw_new {L R L' R' : Nat → Nat} {f m x e : Nat} {q : Nat → Bool} (h : zb_rw L R f m x q) (hfm : f ≤ m) (hx : f < m → R (m - 1) + 1 < x) (hxe : x < e) (hq : ∀ z, x ≤ z → z < e → q z = true) (h1 : L' m = x) (h2 : R' m = e - 1) (h3 : ∀ k, k ≠ m → L' k = L k) (h4 : ∀ k, k ≠ m → R' k = R k) : zb_rw L' R' f (m + 1) e q := by
  refine ⟨fun k a b => ?_, fun z hz => ?_⟩
  · by_cases hkm : k = m
    · subst hkm; rw [h1, h2]; refine ⟨by omega, by omega, fun hc => by omega⟩
    · have hk := h.1 k a (by omega)
      rw [h3 k hkm, h4 k hkm]
      refine ⟨hk.1, by omega, fun hc => ?_⟩
      by_cases hk1 : k + 1 = m
      · rw [hk1, h1]; have := hx (by omega); rw [show m - 1 = k by omega] at this; exact this
      · rw [h3 (k + 1) hk1]; exact hk.2.2 (by omega)
  · by_cases hzx : z < x
    · rw [h.2 z hzx]
      constructor
      · rintro ⟨k, a, b, c, d⟩
        exact ⟨k, a, by omega, by rw [h3 k (by omega)]; exact c, by rw [h4 k (by omega)]; exact d⟩
      · rintro ⟨k, a, b, c, d⟩
        by_cases hkm : k = m
        · subst hkm; rw [h1] at c; omega
        · rw [h3 k hkm] at c; rw [h4 k hkm] at d
          exact ⟨k, a, by omega, c, d⟩
    · rw [hq z (by omega) hz]
      exact ⟨fun _ => ⟨m, by omega, by omega, by rw [h1]; omega, by rw [h2]; omega⟩, fun _ => rfl⟩
theorem zb_rw_2 {L R : Nat → Nat} {f m x : Nat} {q : Nat → Bool} (h : zb_rw L R f m x q) : ∀ j, f + j < m → 2 * j ≤ L (f + j) := by
  intro j
  induction j with
  | zero => intro _; omega
  | succ j ih =>
    intro hj
    have h1 := h.1 (f + j) (by omega) (by omega)
    have h2 := ih (by omega)
    have h3 := h1.2.2 (by omega)
    rw [show f + j + 1 = f + (j + 1) by omega] at h3
    omega
theorem zb_rw_n {L R : Nat → Nat} {f m x : Nat} {q : Nat → Bool} (h : zb_rw L R f m x q) (hf : f ≤ m) : 2 * (m - f) ≤ x + 1 := by
  by_cases hm : f = m
  · omega
  · have h1 := zb_rw_2 h (m - 1 - f) (by omega)
    have h2 := h.1 (m - 1) (by omega) (by omega)
    rw [show f + (m - 1 - f) = m - 1 by omega] at h1
    omega
theorem zb_rw_n2 {L R : Nat → Nat} {f m x : Nat} {q : Nat → Bool} (h : zb_rw L R f m x q) (hf : f ≤ m) (hx : f < m → R (m - 1) + 1 < x) : 2 * (m - f) ≤ x := by
  by_cases hm : f = m
  · omega
  · have h1 := zb_rw_2 h (m - 1 - f) (by omega)
    have h2 := h.1 (m - 1) (by omega) (by omega)
    have h3 := hx (by omega)
    rw [show f + (m - 1 - f) = m - 1 by omega] at h1
    omega
theorem zb_rw_sh {L R L' R' : Nat → Nat} {f m f' m' x : Nat} {q q' : Nat → Bool} (h : zb_rw L R f m x q) (hf : f ≤ m) (hm : m' = f' + (m - f)) (hL : ∀ j, j < m - f → L' (f' + j) = L (f + j) ∧ R' (f' + j) = R (f + j)) (hq : ∀ z, z < x → q' z = q z) : zb_rw L' R' f' m' x q' := by
  refine ⟨fun k a b => ?_, fun z hz => ?_⟩
  · have e := hL (k - f') (by omega)
    rw [show f' + (k - f') = k by omega] at e
    have hk := h.1 (f + (k - f')) (by omega) (by omega)
    rw [e.1, e.2]
    refine ⟨hk.1, hk.2.1, fun hc => ?_⟩
    have e2 := hL (k - f' + 1) (by omega)
    rw [show f' + (k - f' + 1) = k + 1 by omega] at e2
    rw [e2.1, show f + (k - f' + 1) = f + (k - f') + 1 by omega]
    exact hk.2.2 (by omega)
  · rw [hq z hz, h.2 z hz]
    constructor
    · rintro ⟨k, a, b, c, d⟩
      have e := hL (k - f) (by omega)
      rw [show f + (k - f) = k by omega] at e
      exact ⟨f' + (k - f), by omega, by omega, by rw [e.1]; exact c, by rw [e.2]; exact d⟩
    · rintro ⟨k, a, b, c, d⟩
      have e := hL (k - f') (by omega)
      rw [show f' + (k - f') = k by omega] at e
      exact ⟨f + (k - f'), by omega, by omega, by rw [← e.1]; exact c, by rw [← e.2]; exact d⟩
theorem zb_rw_cg {L R L' R' : Nat → Nat} {f m x : Nat} {q q' : Nat → Bool} (h : zb_rw L R f m x q) (hL : ∀ k, f ≤ k → k < m → L' k = L k ∧ R' k = R k) (hq : ∀ z, z < x → q' z = q z) : zb_rw L' R' f m x q' := by
  by_cases hf : f ≤ m
  · exact zb_rw_sh h hf (by omega) (fun j hj => hL (f + j) (by omega) (by omega)) hq
  · refine ⟨fun k a b => by omega, fun z hz => ?_⟩
    rw [hq z hz, h.2 z hz]
    constructor
    · rintro ⟨k, a, b, _⟩; omega
    · rintro ⟨k, a, b, _⟩; omega
theorem zb_rw_lt {L R : Nat → Nat} {f m x : Nat} {q : Nat → Bool} (h : zb_rw L R f m x q) {k : Nat} (hk : f ≤ k) : ∀ d, k + d + 1 < m → R k + 1 < L (k + d + 1) := by
  intro d
  induction d with
  | zero => intro hd; exact (h.1 k hk (by omega)).2.2 hd
  | succ d ih =>
    intro hd
    have h1 := ih (by omega)
    have h2 := h.1 (k + d + 1) (by omega) (by omega)
    have h3 := h2.2.2 (by omega)
    rw [show k + (d + 1) + 1 = k + d + 1 + 1 by omega]
    omega
theorem zb_rw_lt' {L R : Nat → Nat} {f m x : Nat} {q : Nat → Bool} (h : zb_rw L R f m x q) {k j : Nat} (hk : f ≤ k) (hkj : k < j) (hj : j < m) : R k + 1 < L j := by
  have := zb_rw_lt h hk (j - k - 1) (by omega)
  rw [show k + (j - k - 1) + 1 = j by omega] at this
  exact this
theorem zb_rw_in {L R : Nat → Nat} {f m x : Nat} {q : Nat → Bool} (h : zb_rw L R f m x q) {k z : Nat} (hk : f ≤ k) (hm : k < m) (h1 : L k ≤ z) (h2 : z ≤ R k) : q z = true := by
  have := h.1 k hk hm
  exact (h.2 z (by omega)).2 ⟨k, hk, hm, h1, h2⟩
theorem zb_rw_out {L R : Nat → Nat} {f m x : Nat} {q : Nat → Bool} (h : zb_rw L R f m x q) {z : Nat} (hz : z < x) (h1 : ∀ k, f ≤ k → k < m → z < L k ∨ R k < z) : q z = false := by
  cases hq : q z with
  | false => rfl
  | true =>
    obtain ⟨k, a, b, c, d⟩ := (h.2 z hz).1 hq
    have := h1 k a b
    omega
theorem zb_rw_aft {L R : Nat → Nat} {f m x : Nat} {q : Nat → Bool} (h : zb_rw L R f m x q) {k z : Nat} (hk : f ≤ k) (hm : k < m) (h1 : R k < z) (hz : z < x) (h2 : k + 1 < m → z < L (k + 1)) : q z = false := by
  refine zb_rw_out h hz (fun j a b => ?_)
  rcases Nat.lt_trichotomy j k with hl | he | hg
  · have := zb_rw_lt' h a hl hm
    have := h.1 k hk hm
    omega
  · subst he; omega
  · by_cases hj : j = k + 1
    · subst hj; have := h2 b; omega
    · have := zb_rw_lt' h (show f ≤ k + 1 by omega) (show k + 1 < j by omega) b
      have := h2 (by omega)
      have := h.1 (k + 1) (by omega) (by omega)
      omega
theorem zb_rw_bef {L R : Nat → Nat} {f m x : Nat} {q : Nat → Bool} (h : zb_rw L R f m x q) {z : Nat} (hz : z < x) (h2 : f < m → z < L f) : q z = false := by
  refine zb_rw_out h hz (fun j a b => ?_)
  by_cases hj : j = f
  · subst hj; have := h2 b; omega
  · have := zb_rw_lt' h (Nat.le_refl f) (show f < j by omega) b
    have := h2 (by omega)
    have := h.1 f (by omega) (by omega)
    omega
end
section
/-! where the runs of a row begin; two lists of runs of one row are one -/
def zb_st (q : Nat → Bool) (z : Nat) : Bool := q z && (z == 0 || !q (z - 1))
theorem zb_st_t {q : Nat → Bool} {z : Nat} (h1 : q z = true) (h2 : 0 < z → q (z - 1) = false) : zb_st q z = true := by
  unfold zb_st
  rw [h1]
  by_cases hz : z = 0
  · subst hz; rfl
  · rw [h2 (by omega)]; simp
theorem zb_st_f1 {q : Nat → Bool} {z : Nat} (h1 : q z = false) : zb_st q z = false := by
  unfold zb_st; rw [h1]; rfl
theorem zb_st_f2 {q : Nat → Bool} {z : Nat} (hz : 0 < z) (h1 : q (z - 1) = true) : zb_st q z = false := by
  unfold zb_st; rw [h1]
  have : (z == 0) = false := by simp; omega
  rw [this]; simp
theorem zb_st_iff {q : Nat → Bool} {z : Nat} : zb_st q z = true ↔ q z = true ∧ (0 < z → q (z - 1) = false) := by
  constructor
  · intro h
    cases hq : q z with
    | false => rw [zb_st_f1 hq] at h; cases h
    | true =>
      refine ⟨rfl, fun hz => ?_⟩
      cases hp : q (z - 1) with
      | false => rfl
      | true => rw [zb_st_f2 hz hp] at h; cases h
  · rintro ⟨h1, h2⟩; exact zb_st_t h1 h2
theorem zb_rw_st {L R : Nat → Nat} {f m x : Nat} {q : Nat → Bool} (h : zb_rw L R f m x q) {k : Nat} (hk : f ≤ k) (hm : k < m) : zb_st q (L k) = true := by
  have a := h.1 k hk hm
  refine zb_st_t (zb_rw_in h hk hm (Nat.le_refl _) a.1) (fun hz => ?_)
  by_cases hkf : k = f
  · subst hkf; exact zb_rw_bef h (by omega) (fun _ => by omega)
  · have b := h.1 (k - 1) (by omega) (by omega)
    have c := b.2.2 (by omega)
    rw [show k - 1 + 1 = k by omega] at c
    refine zb_rw_aft h (show f ≤ k - 1 by omega) (by omega) (by omega) (by omega) (fun _ => ?_)
    rw [show k - 1 + 1 = k by omega]
    omega
theorem zb_rw_sl {L R : Nat → Nat} {f m x : Nat} {q : Nat → Bool} (h : zb_rw L R f m x q) : ∀ j, f + j < m → zb_cn (zb_st q) (L (f + j)) = j := by
  intro j
  induction j with
  | zero =>
    intro hj
    have a := h.1 f (by omega) (by omega)
    show zb_cn (zb_st q) (L f) = 0
    exact zb_cn_0 (f := zb_st q) (L f) (fun t ht => zb_st_f1 (zb_rw_bef h (by omega) (fun _ => ht)))
  | succ j ih =>
    intro hj
    have a := h.1 (f + j) (by omega) (by omega)
    have b := a.2.2 (by omega)
    have c := h.1 (f + j + 1) (by omega) (by omega)
    have hs := zb_rw_st h (show f ≤ f + j by omega) (show f + j < m by omega)
    rw [show f + (j + 1) = f + j + 1 by omega]
    rw [zb_cn_gap (show L (f + j) + 1 ≤ L (f + j + 1) by omega) (fun t h1 h2 => ?_), zb_cn_t hs, ih (by omega)]
    by_cases ht : t ≤ R (f + j) + 1
    · exact zb_st_f2 (by omega) (zb_rw_in h (show f ≤ f + j by omega) (by omega) (by omega) (by omega))
    · exact zb_st_f1 (zb_rw_aft h (show f ≤ f + j by omega) (by omega) (by omega) (by omega) (fun _ => h2))
theorem zb_rw_sn {L R : Nat → Nat} {f m x : Nat} {q : Nat → Bool} (h : zb_rw L R f m x q) (hf : f ≤ m) : zb_cn (zb_st q) x = m - f := by
  by_cases hm : f = m
  · subst hm
    rw [zb_cn_0 x (fun t ht => zb_st_f1 (zb_rw_bef h ht (fun _ => by omega)))]
    omega
  · have a := h.1 (m - 1) (by omega) (by omega)
    have hs := zb_rw_st h (show f ≤ m - 1 by omega) (by omega)
    have e := zb_rw_sl h (m - 1 - f) (by omega)
    rw [show f + (m - 1 - f) = m - 1 by omega] at e
    rw [zb_cn_gap (show L (m - 1) + 1 ≤ x by omega) (fun t h1 h2 => ?_), zb_cn_t hs, e]
    · omega
    · by_cases ht : t ≤ R (m - 1) + 1
      · exact zb_st_f2 (by omega) (zb_rw_in h (show f ≤ m - 1 by omega) (by omega) (by omega) (by omega))
      · exact zb_st_f1 (zb_rw_aft h (show f ≤ m - 1 by omega) (by omega) (by omega) (by omega) (fun _ => by omega))
theorem zb_st_cg {q q' : Nat → Bool} {x : Nat} (hq : ∀ z, z < x → q' z = q z) : ∀ z, z < x → zb_st q' z = zb_st q z := by
  intro z hz
  unfold zb_st
  rw [hq z hz, hq (z - 1) (by omega)]
theorem zb_rw_un {L R L' R' : Nat → Nat} {f m f' m' x : Nat} {q q' : Nat → Bool} (h : zb_rw L R f m x q) (h' : zb_rw L' R' f' m' x q') (hf : f ≤ m) (hf' : f' ≤ m') (hq : ∀ z, z < x → q' z = q z) : m' - f' = m - f ∧ ∀ j, j < m - f → L' (f' + j) = L (f + j) ∧ R' (f' + j) = R (f + j) := by
  have g : zb_rw L' R' f' m' x q := zb_rw_cg h' (fun _ _ _ => ⟨rfl, rfl⟩) (fun z hz => (hq z hz).symm)
  have e : m' - f' = m - f := by rw [← zb_rw_sn g hf', zb_rw_sn h hf]
  refine ⟨e, fun j hj => ?_⟩
  have eL : L' (f' + j) = L (f + j) := by
    refine zb_cn_inj (zb_rw_st g (by omega) (by omega)) (zb_rw_st h (by omega) (by omega)) ?_
    rw [zb_rw_sl g j (by omega), zb_rw_sl h j (by omega)]
  refine ⟨eL, ?_⟩
  have a := h.1 (f + j) (by omega) (by omega)
  have b := g.1 (f' + j) (by omega) (by omega)
  rcases Nat.lt_trichotomy (R' (f' + j)) (R (f + j)) with hl | he | hg
  · have t1 := zb_rw_in h (show f ≤ f + j by omega) (by omega) (show L (f + j) ≤ R' (f' + j) + 1 by omega) (by omega)
    have t2 := zb_rw_aft g (show f' ≤ f' + j by omega) (by omega) (show R' (f' + j) < R' (f' + j) + 1 by omega) (by omega) (fun hc => b.2.2 hc)
    rw [t1] at t2; cases t2
  · exact he
  · have t1 := zb_rw_in g (show f' ≤ f' + j by omega) (by omega) (show L' (f' + j) ≤ R (f + j) + 1 by omega) (by omega)
    have t2 := zb_rw_aft h (show f ≤ f + j by omega) (by omega) (show R (f + j) < R (f + j) + 1 by omega) (by omega) (fun hc => a.2.2 hc)
    rw [t1] at t2; cases t2

/-! the picture of a region: rows below hi -/
def zb_row (c : Nat → Bool) (y : Nat) : Nat → Bool := fun x => c (24 * y + x)
def zb_P (c : Nat → Bool) (hi B : Nat) (T E F L R : Nat → Nat) : Prop :=
  F 0 = 0 ∧
  (∀ i, i < B → T i ≤ E i ∧ E i < hi ∧ F i < F (i + 1) ∧ ∀ y, T i ≤ y → y ≤ E i → zb_rw L R (F i) (F (i + 1)) 24 (zb_row c y)) ∧
  (∀ i, i + 1 < B → E i < T (i + 1) ∧ (E i + 1 = T (i + 1) → ¬ ∀ x, x < 24 → c (24 * E i + x) = c (24 * T (i + 1) + x))) ∧
  (∀ y, y < hi → (∀ i, i < B → y < T i ∨ E i < y) → ∀ x, x < 24 → c (24 * y + x) = false)
theorem zb_P_0 (c : Nat → Bool) (T E F L R : Nat → Nat) (hF : F 0 = 0) : zb_P c 0 0 T E F L R :=
  ⟨hF, fun i hi => by omega, fun i hi => by omega, fun y hy => by omega⟩
theorem zb_P_T {c : Nat → Bool} {hi B : Nat} {T E F L R : Nat → Nat} (h : zb_P c hi B T E F L R) : ∀ i, i < B → i ≤ T i := by
  intro i
  induction i with
  | zero => intro _; omega
  | succ i ih =>
    intro hB
    have a := ih (by omega)
    have b := (h.2.1 i (by omega)).1
    have d := (h.2.2.1 i hB).1
    omega
theorem zb_P_B {c : Nat → Bool} {hi B : Nat} {T E F L R : Nat → Nat} (h : zb_P c hi B T E F L R) : B ≤ hi := by
  by_cases hB : B = 0
  · omega
  · have a := zb_P_T h (B - 1) (by omega)
    have b := h.2.1 (B - 1) (by omega)
    omega
theorem zb_P_F {c : Nat → Bool} {hi B : Nat} {T E F L R : Nat → Nat} (h : zb_P c hi B T E F L R) : ∀ i, i ≤ B → F i ≤ 12 * i := by
  intro i
  induction i with
  | zero => intro _; rw [h.1]; omega
  | succ i ih =>
    intro hB
    have a := ih (by omega)
    have b := h.2.1 i (by omega)
    have d := zb_rw_n (b.2.2.2 (T i) (Nat.le_refl _) b.1) (by omega)
    omega
theorem zb_P_Fm {c : Nat → Bool} {hi B : Nat} {T E F L R : Nat → Nat} (h : zb_P c hi B T E F L R) {i : Nat} : ∀ j, i ≤ j → j ≤ B → F i ≤ F j := by
  intro j
  induction j with
  | zero => intro h1 _; rw [show i = 0 by omega]; exact Nat.le_refl _
  | succ j ih =>
    intro h1 h2
    by_cases hj : i = j + 1
    · rw [hj]; exact Nat.le_refl _
    · have a := ih (by omega) (by omega)
      have b := h.2.1 j (by omega)
      omega
theorem zb_P_Tm {c : Nat → Bool} {hi B : Nat} {T E F L R : Nat → Nat} (h : zb_P c hi B T E F L R) {i : Nat} : ∀ j, i < j → j < B → E i < T j := by
  intro j
  induction j with
  | zero => intro h1 _; omega
  | succ j ih =>
    intro h1 h2
    have d := (h.2.2.1 j h2).1
    by_cases hj : i = j
    · rw [hj]; exact d
    · have a := ih (by omega) (by omega)
      have b := h.2.1 j (by omega)
      omega
theorem zb_P_skip {c : Nat → Bool} {hi B h' : Nat} {T E F L R : Nat → Nat} (h : zb_P c hi B T E F L R) (hh : hi ≤ h') (he : ∀ y, hi ≤ y → y < h' → ∀ x, x < 24 → c (24 * y + x) = false) : zb_P c h' B T E F L R := by
  refine ⟨h.1, fun i hB => ?_, h.2.2.1, fun y hy hn => ?_⟩
  · have a := h.2.1 i hB
    exact ⟨a.1, by omega, a.2.2⟩
  · by_cases hyh : y < hi
    · exact h.2.2.2 y hyh hn
    · exact he y (by omega) hy
theorem zb_P_cg {c : Nat → Bool} {hi B : Nat} {T E F L R L' R' : Nat → Nat} (h : zb_P c hi B T E F L R) (hL : ∀ k, k < F B → L' k = L k ∧ R' k = R k) : zb_P c hi B T E F L' R' := by
  refine ⟨h.1, fun i hB => ?_, h.2.2.1, h.2.2.2⟩
  have a := h.2.1 i hB
  have b := zb_P_Fm h (i := i + 1) B (by omega) (Nat.le_refl _)
  exact ⟨a.1, a.2.1, a.2.2.1, fun y h1 h2 => zb_rw_cg (a.2.2.2 y h1 h2) (fun k _ hk => hL k (by omega)) (fun _ _ => rfl)⟩
theorem zb_P_join {c : Nat → Bool} {top e B : Nat} {T E E' F L R : Nat → Nat} (h : zb_P c top B T E F L R) (hB : 0 < B) (ht : E (B - 1) + 1 = top) (hte : top ≤ e) (hr : ∀ y, top ≤ y → y ≤ e → zb_rw L R (F (B - 1)) (F B) 24 (zb_row c y)) (h1 : E' (B - 1) = e) (h2 : ∀ i, i ≠ B - 1 → E' i = E i) : zb_P c (e + 1) B T E' F L R := by
  refine ⟨h.1, fun i hi => ?_, fun i hi => ?_, fun y hy hn => ?_⟩
  · have a := h.2.1 i hi
    by_cases hib : i = B - 1
    · subst hib
      rw [h1]
      refine ⟨by omega, by omega, a.2.2.1, fun y h3 h4 => ?_⟩
      by_cases hy : y ≤ E (B - 1)
      · exact a.2.2.2 y h3 hy
      · rw [show B - 1 + 1 = B by omega]; exact hr y (by omega) h4
    · rw [h2 i hib]
      exact ⟨a.1, by omega, a.2.2⟩
  · rw [h2 i (by omega)]; exact h.2.2.1 i hi
  · by_cases hyt : y < top
    · refine h.2.2.2 y hyt (fun i hi => ?_)
      have a := hn i hi
      by_cases hib : i = B - 1
      · subst hib; rw [h1] at a; omega
      · rw [h2 i hib] at a; exact a
    · have a := hn (B - 1) (by omega)
      rw [h1] at a
      have b := h.2.1 (B - 1) (by omega)
      omega
theorem zb_P_app {c : Nat → Bool} {top e B m : Nat} {T E F T' E' F' L R : Nat → Nat} (h : zb_P c top B T E F L R) (hte : top ≤ e) (hm : F B < m) (hr : ∀ y, top ≤ y → y ≤ e → zb_rw L R (F B) m 24 (zb_row c y)) (hadj : 0 < B → E (B - 1) + 1 = top → ¬ ∀ x, x < 24 → c (24 * E (B - 1) + x) = c (24 * top + x)) (hT : T' B = top) (hE : E' B = e) (hF : F' (B + 1) = m) (hT' : ∀ i, i < B → T' i = T i) (hE' : ∀ i, i < B → E' i = E i) (hF' : ∀ i, i ≤ B → F' i = F i) : zb_P c (e + 1) (B + 1) T' E' F' L R := by
  refine ⟨by rw [hF' 0 (by omega)]; exact h.1, fun i hi => ?_, fun i hi => ?_, fun y hy hn => ?_⟩
  · by_cases hib : i = B
    · subst hib
      rw [hT, hE, hF, hF' i (by omega)]
      exact ⟨hte, by omega, hm, hr⟩
    · have a := h.2.1 i (by omega)
      rw [hT' i (by omega), hE' i (by omega), hF' i (by omega), hF' (i + 1) (by omega)]
      exact ⟨a.1, by omega, a.2.2⟩
  · by_cases hib : i + 1 = B
    · rw [hE' i (by omega), hib, hT]
      rw [show B - 1 = i by omega] at hadj
      have a := h.2.1 i (by omega)
      exact ⟨a.2.1, hadj (by omega)⟩
    · rw [hE' i (by omega), hT' (i + 1) (by omega)]
      exact h.2.2.1 i (by omega)
  · by_cases hyt : y < top
    · refine h.2.2.2 y hyt (fun i hi => ?_)
      have a := hn i (by omega)
      rw [hT' i hi, hE' i hi] at a
      exact a
    · have a := hn B (by omega)
      rw [hT, hE] at a
      omega
theorem zb_P_gapT {c : Nat → Bool} {hi B : Nat} {T E F L R : Nat → Nat} (h : zb_P c hi B T E F L R) {i y : Nat} (hb : ∀ j, j < i → E j < y) (hi' : i < B) (hy : y < T i) : ∀ x, x < 24 → c (24 * y + x) = false := by
  have a := h.2.1 i hi'
  refine h.2.2.2 y (by omega) (fun j hj => ?_)
  rcases Nat.lt_trichotomy j i with hl | he | hg
  · exact Or.inr (hb j hl)
  · subst he; exact Or.inl hy
  · have := zb_P_Tm h j hg hj
    exact Or.inl (by omega)
theorem zb_P_gapB {c : Nat → Bool} {hi B : Nat} {T E F L R : Nat → Nat} (h : zb_P c hi B T E F L R) {y : Nat} (hb : ∀ j, j < B → E j < y) (hy : y < hi) : ∀ x, x < 24 → c (24 * y + x) = false :=
  h.2.2.2 y hy (fun j hj => Or.inr (hb j hj))
end
section
/-! how the arrays of the component hold a picture; the frame -/
def zb_bI : Bool → Int32
  | true => 1
  | false => 0
def zb_up (f : Nat → Nat) (k v : Nat) : Nat → Nat := fun j => if j = k then v else f j
theorem zb_up_s {f : Nat → Nat} {k v : Nat} : zb_up f k v k = v := if_pos rfl
theorem zb_up_n {f : Nat → Nat} {k v j : Nat} (h : j ≠ k) : zb_up f k v j = f j := if_neg h
theorem zb_i24 (r i : Nat) : nI r * 24 + nI i = nI (r * 24 + i) := by
  rw [show (24 : Int32) = nI 24 from rfl, pk_mul, nI_add]
theorem zb_i288 (r i : Nat) : nI r * 288 + nI i = nI (r * 288 + i) := by
  rw [show (288 : Int32) = nI 288 from rfl, pk_mul, nI_add]
theorem zb_m1 {e : Nat} (h : 0 < e) : nI e - 1 = nI (e - 1) := by
  rw [show (1 : Int32) = nI 1 from rfl, pk_sub h]
def zb_H (nb tp en fs bn nr lf rt : Nat → Int32) (r B : Nat) (T E F L R : Nat → Nat) (m : Nat) : Prop :=
  nb r = nI B ∧ nr r = nI m ∧
  (∀ i, i < B → tp (r * 24 + i) = nI (T i) ∧ en (r * 24 + i) = nI (E i) ∧ fs (r * 24 + i) = nI (F i) ∧ bn (r * 24 + i) = nI (F (i + 1) - F i)) ∧
  (∀ k, k < m → lf (r * 288 + k) = nI (L k) ∧ rt (r * 288 + k) = nI (R k))
def zb_Rg (nb tp en fs bn nr lf rt : Nat → Int32) (r : Nat) (c : Nat → Bool) : Prop :=
  ∃ (B : Nat) (T E F L R : Nat → Nat), zb_H nb tp en fs bn nr lf rt r B T E F L R (F B) ∧ zb_P c 24 B T E F L R
def zb_Fr (r : Nat) (S S' : SX) : Prop := ∀ q, q < 5 → q ≠ r →
  S'.1 q = S.1 q ∧ S'.2.2.2.2.2.1 q = S.2.2.2.2.2.1 q ∧
  (∀ i, i < 24 → S'.2.1 (q * 24 + i) = S.2.1 (q * 24 + i) ∧ S'.2.2.1 (q * 24 + i) = S.2.2.1 (q * 24 + i) ∧ S'.2.2.2.1 (q * 24 + i) = S.2.2.2.1 (q * 24 + i) ∧ S'.2.2.2.2.1 (q * 24 + i) = S.2.2.2.2.1 (q * 24 + i)) ∧
  (∀ k, k < 288 → S'.2.2.2.2.2.2.1 (q * 288 + k) = S.2.2.2.2.2.2.1 (q * 288 + k) ∧ S'.2.2.2.2.2.2.2 (q * 288 + k) = S.2.2.2.2.2.2.2 (q * 288 + k))
theorem zb_Fr_r (r : Nat) (S : SX) : zb_Fr r S S := fun _ _ _ => ⟨rfl, rfl, fun _ _ => ⟨rfl, rfl, rfl, rfl⟩, fun _ _ => ⟨rfl, rfl⟩⟩
theorem zb_Fr_t {r : Nat} {S S' S'' : SX} (h : zb_Fr r S S') (g : zb_Fr r S' S'') : zb_Fr r S S'' := by
  intro q hq hn
  have a := h q hq hn
  have b := g q hq hn
  refine ⟨b.1.trans a.1, b.2.1.trans a.2.1, fun i hi => ?_, fun k hk => ?_⟩
  · have a1 := a.2.2.1 i hi
    have b1 := b.2.2.1 i hi
    exact ⟨b1.1.trans a1.1, b1.2.1.trans a1.2.1, b1.2.2.1.trans a1.2.2.1, b1.2.2.2.trans a1.2.2.2⟩
  · have a1 := a.2.2.2 k hk
    have b1 := b.2.2.2 k hk
    exact ⟨b1.1.trans a1.1, b1.2.trans a1.2⟩
section
variable {nb tp en fs bn nr lf rt nb' tp' en' fs' bn' nr' lf' rt' : Nat → Int32}
theorem zb_Fr_H {r q B m : Nat} {T E F L R : Nat → Nat} (h : zb_Fr r (nb, tp, en, fs, bn, nr, lf, rt) (nb', tp', en', fs', bn', nr', lf', rt')) (hq : q < 5) (hn : q ≠ r) (H : zb_H nb tp en fs bn nr lf rt q B T E F L R m) (hB : B ≤ 24) (hm : m ≤ 288) : zb_H nb' tp' en' fs' bn' nr' lf' rt' q B T E F L R m := by
  obtain ⟨h1, h2, h3, h4⟩ := h q hq hn
  obtain ⟨g1, g2, g3, g4⟩ := H
  refine ⟨h1.trans g1, h2.trans g2, fun i hi => ?_, fun k hk => ?_⟩
  · have a := h3 i (by omega)
    have b := g3 i hi
    exact ⟨a.1.trans b.1, a.2.1.trans b.2.1, a.2.2.1.trans b.2.2.1, a.2.2.2.trans b.2.2.2⟩
  · have a := h4 k (by omega)
    have b := g4 k hk
    exact ⟨a.1.trans b.1, a.2.trans b.2⟩
theorem zb_P_FB {c : Nat → Bool} {hi B : Nat} {T E F L R : Nat → Nat} (h : zb_P c hi B T E F L R) (hh : hi ≤ 24) : B ≤ 24 ∧ F B ≤ 288 := by
  have a := zb_P_B h
  have b := zb_P_F h B (Nat.le_refl _)
  omega
theorem zb_Fr_Rg {r q : Nat} {c : Nat → Bool} (h : zb_Fr r (nb, tp, en, fs, bn, nr, lf, rt) (nb', tp', en', fs', bn', nr', lf', rt')) (hq : q < 5) (hn : q ≠ r) (H : zb_Rg nb tp en fs bn nr lf rt q c) : zb_Rg nb' tp' en' fs' bn' nr' lf' rt' q c := by
  obtain ⟨B, T, E, F, L, R, H, P⟩ := H
  have a := zb_P_FB P (Nat.le_refl _)
  exact ⟨B, T, E, F, L, R, zb_Fr_H h hq hn H a.1 a.2, P⟩
theorem zb_Fr_lf {r : Nat} (h : zb_Fr r (nb, tp, en, fs, bn, nr, lf, rt) (nb', tp', en', fs', bn', nr', lf', rt')) {k : Nat} (hk : k < 1440) (hn : k < r * 288 ∨ r * 288 + 288 ≤ k) : lf' k = lf k ∧ rt' k = rt k := by
  have a := (h (k / 288) (by omega) (by omega)).2.2.2 (k % 288) (by omega)
  rw [show k / 288 * 288 + k % 288 = k by omega] at a
  exact a
end
end
section
/-! start, addRun, equalRuns, endBand -/
section
variable {nb tp en fs bn nr lf rt : Nat → Int32}
theorem zx_start {post : SX → Prop} {r : Nat} (hr : r < 5) (K : post (upd nb r 0, tp, en, fs, bn, upd nr r 0, lf, rt)) : wpX_start post (nb, tp, en, fs, bn, nr, lf, rt) (nI r) := by
  have ir : vp_in (nI r) 5 := vp_in_nI hr (by omega)
  unfold wpX_start
  dsimp only
  rw [nI_clamp (show r < 2 ^ 31 by omega)]
  exact ⟨ir, nm_e ⟨ir, nm_e K⟩⟩
theorem zx_ar51 {post : SX → Prop} {r m x z : Nat} (hr : r < 5) (hm : nr r = nI m) (h288 : m < 288) (K : post (nb, tp, en, fs, bn, upd nr r (nI (m + 1)), upd lf (r * 288 + m) (nI x), upd rt (r * 288 + m) (nI z))) : wX_addRun_51 post (nI r) (nI x) (nI z) (nI (r * 288 + m)) nb tp en fs bn nr lf rt := by
  have ir : vp_in (nI r) 5 := vp_in_nI hr (by omega)
  have ia : vp_in (nI (r * 288 + m)) 1440 := vp_in_nI (by omega) (by omega)
  unfold wX_addRun_51
  rw [nI_clamp (show r < 2 ^ 31 by omega), nI_clamp (show r * 288 + m < 2 ^ 31 by omega), hm, nI_1 m]
  exact ⟨ir, br_t (nI_lt (b := 288) h288 (by decide)) ⟨ia, nm_e ⟨ia, nm_e ⟨ir, ir, nm_e K⟩⟩⟩⟩
theorem zx_addRun {post : SX → Prop} {r B m x e : Nat} {T E F L R : Nat → Nat} {q : Nat → Bool} (hr : r < 5) (H : zb_H nb tp en fs bn nr lf rt r B T E F L R m) (hf : F B ≤ m) (hrow : zb_rw L R (F B) m x q) (hxe : x < e) (he : e ≤ 24) (ht : ∀ z, x ≤ z → z < e → q z = true) (hroom : F B ≤ 276)
    (K : ∀ (nr' lf' rt' : Nat → Int32) (L' R' : Nat → Nat) (m' : Nat), zb_H nb tp en fs bn nr' lf' rt' r B T E F L' R' m' → F B ≤ m' → zb_rw L' R' (F B) m' e q → (∀ k, k < F B → L' k = L k ∧ R' k = R k) → zb_Fr r (nb, tp, en, fs, bn, nr, lf, rt) (nb, tp, en, fs, bn, nr', lf', rt') → post (nb, tp, en, fs, bn, nr', lf', rt')) :
    wpX_addRun post (nb, tp, en, fs, bn, nr, lf, rt) (nI r) (nI (F B)) (nI x) (nI (e - 1)) := by
  obtain ⟨hb, hm, hBd, hRn⟩ := H
  have ir : vp_in (nI r) 5 := vp_in_nI hr (by omega)
  have hmm := zb_rw_n hrow hf
  have hnew : (F B < m → R (m - 1) + 1 < x) → wX_addRun_51 post (nI r) (nI x) (nI (e - 1)) (nI (r * 288 + m)) nb tp en fs bn nr lf rt := by
    intro hx
    have h288 := zb_rw_n2 hrow hf hx
    refine zx_ar51 hr hm (by omega) (K _ _ _ (zb_up L m x) (zb_up R m (e - 1)) (m + 1) ⟨hb, pk_us, hBd, fun k hk => ?_⟩ (by omega) (zb_rw_new hrow hf hx hxe ht zb_up_s zb_up_s (fun k hk => zb_up_n hk) (fun k hk => zb_up_n hk)) (fun k hk => ⟨zb_up_n (by omega), zb_up_n (by omega)⟩) ?_)
    · by_cases hkm : k = m
      · subst hkm; rw [pk_us, pk_us, zb_up_s, zb_up_s]; exact ⟨rfl, rfl⟩
      · rw [pk_un (by omega), pk_un (by omega), zb_up_n hkm, zb_up_n hkm]; exact hRn k (by omega)
    · intro p hp hpr
      exact ⟨rfl, pk_un hpr, fun i hi => ⟨rfl, rfl, rfl, rfl⟩, fun k hk => ⟨pk_un (by omega), pk_un (by omega)⟩⟩
  unfold wpX_addRun
  dsimp only
  rw [nI_clamp (show r < 2 ^ 31 by omega), hm]
  refine ⟨ir, nm_r (zb_i288 r m) ⟨ir, pk_le m (F B) (fun h => hnew (fun _ => by omega)) (fun h => ?_)⟩⟩
  have e1 : nI (r * 288 + m) - 1 = nI (r * 288 + (m - 1)) := by
    rw [zb_m1 (by omega)]; exact congrArg nI (by omega)
  have ia : vp_in (nI (r * 288 + (m - 1))) 1440 := vp_in_nI (by omega) (by omega)
  have hR := hRn (m - 1) (by omega)
  have hw := hrow.1 (m - 1) (by omega) (by omega)
  rw [e1, nI_clamp (show r * 288 + (m - 1) < 2 ^ 31 by omega), hR.2, nI_1 (R (m - 1))]
  refine ⟨ia, pk_lt (R (m - 1) + 1) x (fun h1 => hnew (fun _ => h1)) (fun h1 => ⟨ia, nm_e ?_⟩)⟩
  refine K nr lf _ L (zb_up R (m - 1) (e - 1)) m ⟨hb, hm, hBd, fun k hk => ?_⟩ hf (zb_rw_ext hrow (by omega) h1 hxe ht zb_up_s (fun k hk => zb_up_n hk)) (fun k hk => ⟨rfl, zb_up_n (by omega)⟩) ?_
  · by_cases hkm : k = m - 1
    · subst hkm; rw [pk_us, zb_up_s]; exact ⟨hR.1, rfl⟩
    · rw [pk_un (by omega), zb_up_n hkm]; exact hRn k (by omega)
  · intro p hp hpr
    exact ⟨rfl, rfl, fun i hi => ⟨rfl, rfl, rfl, rfl⟩, fun k hk => ⟨rfl, pk_un (by omega)⟩⟩
theorem zx_er3 {post : Int32 → Prop} {a b n : Nat} (ha : a + n ≤ 1440) (hb : b + n ≤ 1440) (h1 : (∀ j, j < n → lf (a + j) = lf (b + j) ∧ rt (a + j) = rt (b + j)) → post 1) (h0 : ¬ (∀ j, j < n → lf (a + j) = lf (b + j) ∧ rt (a + j) = rt (b + j)) → post 0) : ∀ d i, i + d = n → (∀ j, j < i → lf (a + j) = lf (b + j) ∧ rt (a + j) = rt (b + j)) → wX_equalRuns_3 post (nI a) (nI b) (nI n) nb tp en fs bn nr lf rt (d + 1) (nI i) := by
  intro d
  induction d with
  | zero =>
    intro i hi hj
    have e : i = n := by omega
    subst e
    exact br_t (nI_le (Nat.le_refl _) (by omega)) (h1 hj)
  | succ d ih =>
    intro i hi hj
    have i1 : vp_in (nI (a + i)) 1440 := vp_in_nI (by omega) (by omega)
    have i2 : vp_in (nI (b + i)) 1440 := vp_in_nI (by omega) (by omega)
    rw [wX_equalRuns_3]
    dsimp only
    rw [nI_add, nI_add, nI_clamp (show a + i < 2 ^ 31 by omega), nI_clamp (show b + i < 2 ^ 31 by omega)]
    refine br_f (nI_ge (by omega) (by omega)) ⟨i1, i2, br_c (fun e1 => ⟨i1, i2, br_c (fun e2 => nm_r (nI_1 i) (ih (i + 1) (by omega) (fun j hj' => ?_))) (fun e2 => h0 (fun hh => e2 (hh i (by omega)).2))⟩) (fun e1 => h0 (fun hh => e1 (hh i (by omega)).1))⟩
    by_cases hji : j = i
    · subst hji; exact ⟨e1, e2⟩
    · exact hj j (by omega)
theorem zx_equalRuns {post : Int32 → Prop} {a b n : Nat} (ha : a + n ≤ 1440) (hb : b + n ≤ 1440) (h1 : (∀ j, j < n → lf (a + j) = lf (b + j) ∧ rt (a + j) = rt (b + j)) → post 1) (h0 : ¬ (∀ j, j < n → lf (a + j) = lf (b + j) ∧ rt (a + j) = rt (b + j)) → post 0) : wpX_equalRuns post (nb, tp, en, fs, bn, nr, lf, rt) (nI a) (nI b) (nI n) :=
  ⟨n + 1, zx_er3 ha hb h1 h0 n 0 (by omega) (fun j hj => by omega)⟩
theorem zx_eb115 {post : SX → Prop} {r B f top e n : Nat} (hr : r < 5) (hb : nb r = nI B) (hB : B < 24) (K : post (upd nb r (nI (B + 1)), upd tp (r * 24 + B) (nI top), upd en (r * 24 + B) (nI e), upd fs (r * 24 + B) (nI f), upd bn (r * 24 + B) (nI n), nr, lf, rt)) : wX_endBand_115 post (nI r) (nI f) (nI top) (nI e) (nI n) nb tp en fs bn nr lf rt := by
  have ir : vp_in (nI r) 5 := vp_in_nI hr (by omega)
  have ia : vp_in (nI (r * 24 + B)) 120 := vp_in_nI (by omega) (by omega)
  have ca : (nI (r * 24 + B)).toNatClampNeg = r * 24 + B := nI_clamp (by omega)
  unfold wX_endBand_115
  rw [nI_clamp (show r < 2 ^ 31 by omega), hb, zb_i24, nI_1 B]
  refine ⟨ir, br_t (nI_lt (b := 24) hB (by decide)) ⟨ir, nm_e ?_⟩⟩
  rw [ca]
  exact ⟨ia, nm_e ⟨ia, nm_e ⟨ia, nm_e ⟨ia, nm_e ⟨ir, ir, nm_e K⟩⟩⟩⟩⟩
theorem zx_endBand {post : SX → Prop} {r B m top e : Nat} {T E F L R : Nat → Nat} {c : Nat → Bool} (hr : r < 5) (H : zb_H nb tp en fs bn nr lf rt r B T E F L R m) (P : zb_P c top B T E F L R) (hf : F B ≤ m) (hrow : ∀ y, top ≤ y → y ≤ e → zb_rw L R (F B) m 24 (zb_row c y)) (hte : top ≤ e) (he : e < 24)
    (K : ∀ (nb' tp' en' fs' bn' nr' : Nat → Int32) (B' : Nat) (T' E' F' : Nat → Nat), zb_H nb' tp' en' fs' bn' nr' lf rt r B' T' E' F' L R (F' B') → zb_P c (e + 1) B' T' E' F' L R → zb_Fr r (nb, tp, en, fs, bn, nr, lf, rt) (nb', tp', en', fs', bn', nr', lf, rt) → post (nb', tp', en', fs', bn', nr', lf, rt)) :
    wpX_endBand post (nb, tp, en, fs, bn, nr, lf, rt) (nI r) (nI (F B)) (nI top) (nI e) := by
  obtain ⟨hb, hm, hBd, hRn⟩ := H
  have ir : vp_in (nI r) 5 := vp_in_nI hr (by omega)
  have hBt := zb_P_B P
  have hFB := zb_P_F P B (Nat.le_refl _)
  have hmm := zb_rw_n (hrow top (Nat.le_refl _) hte) hf
  have APP : F B < m → (0 < B → E (B - 1) + 1 = top → ¬ ∀ x, x < 24 → c (24 * E (B - 1) + x) = c (24 * top + x)) → wX_endBand_115 post (nI r) (nI (F B)) (nI top) (nI e) (nI (m - F B)) nb tp en fs bn nr lf rt := by
    intro hlt hadj
    refine zx_eb115 hr hb (by omega) (K _ _ _ _ _ nr (B + 1) (zb_up T B top) (zb_up E B e) (zb_up F (B + 1) m) ⟨pk_us, ?_, fun i hi => ?_, ?_⟩ (zb_P_app P hte hlt hrow hadj zb_up_s zb_up_s zb_up_s (fun i hi => zb_up_n (by omega)) (fun i hi => zb_up_n (by omega)) (fun i hi => zb_up_n (by omega))) ?_)
    · rw [zb_up_s]; exact hm
    · by_cases hiB : i = B
      · subst hiB
        rw [pk_us, pk_us, pk_us, pk_us, zb_up_s, zb_up_s, zb_up_s, zb_up_n (by omega)]
        exact ⟨rfl, rfl, rfl, rfl⟩
      · rw [pk_un (by omega), pk_un (by omega), pk_un (by omega), pk_un (by omega), zb_up_n hiB, zb_up_n hiB, zb_up_n (by omega), zb_up_n (by omega)]
        exact hBd i (by omega)
    · rw [zb_up_s]; exact hRn
    · intro p hp hpr
      exact ⟨pk_un hpr, rfl, fun i hi => ⟨pk_un (by omega), pk_un (by omega), pk_un (by omega), pk_un (by omega)⟩, fun k hk => ⟨rfl, rfl⟩⟩
  unfold wpX_endBand
  dsimp only
  rw [nI_clamp (show r < 2 ^ 31 by omega), hm, hb]
  refine ⟨ir, nm_r (pk_sub hf) (pk_eq (m - F B) 0 (fun h => ?_) (fun h => ⟨ir, nm_e ⟨ir, pk_le B 0 (fun h1 => APP (by omega) (fun h2 => by omega)) (fun h1 => ?_)⟩⟩))⟩
  · have em : m = F B := by omega
    subst em
    refine K nb tp en fs bn nr B T E F ⟨hb, hm, hBd, hRn⟩ (zb_P_skip P (by omega) (fun y h1 h2 x hx => ?_)) (zb_Fr_r _ _)
    exact zb_rw_bef (hrow y h1 (by omega)) hx (fun hh => by omega)
  · have e6 : nI r * 24 + nI B - 1 = nI (r * 24 + (B - 1)) := by
      rw [zb_i24, zb_m1 (by omega)]; exact congrArg nI (by omega)
    have i6 : vp_in (nI (r * 24 + (B - 1))) 120 := vp_in_nI (by omega) (by omega)
    have hB1 := hBd (B - 1) (by omega)
    have hP1 := P.2.1 (B - 1) (by omega)
    rw [show B - 1 + 1 = B by omega] at hB1 hP1
    have hPF := zb_P_F P (B - 1) (by omega)
    have hrw1 := hP1.2.2.2 (E (B - 1)) hP1.1 (Nat.le_refl _)
    rw [e6, nI_clamp (show r * 24 + (B - 1) < 2 ^ 31 by omega), hB1.2.1, hB1.2.2.1, hB1.2.2.2, nI_1 (E (B - 1)), zb_i288, zb_i288]
    refine ⟨i6, pk_eq (E (B - 1) + 1) top (fun h2 => ⟨i6, pk_eq (F B - F (B - 1)) (m - F B) (fun h3 => ⟨i6, ?_⟩) (fun h3 => APP (by omega) (fun _ _ hx => ?_))⟩) (fun h2 => APP (by omega) (fun _ h3 => by omega))⟩
    · refine zx_equalRuns (by omega) (by omega) (fun hall => br_f (by decide) ⟨i6, nm_e ⟨ir, nm_e ?_⟩⟩) (fun hno => br_t rfl (APP (by omega) (fun _ _ hx => hno (fun j hj => ?_))))
      · have hsame : ∀ j, j < m - F B → L (F (B - 1) + j) = L (F B + j) ∧ R (F (B - 1) + j) = R (F B + j) := by
          intro j hj
          have a := hall j hj
          have b1 := hRn (F (B - 1) + j) (by omega)
          have b2 := hRn (F B + j) (by omega)
          have w1 := hrw1.1 (F (B - 1) + j) (by omega) (by omega)
          have w2 := (hrow top (Nat.le_refl _) hte).1 (F B + j) (by omega) (by omega)
          rw [show r * 288 + F (B - 1) + j = r * 288 + (F (B - 1) + j) by omega, show r * 288 + F B + j = r * 288 + (F B + j) by omega, b1.1, b1.2, b2.1, b2.2, nI_eq (by omega) (by omega), nI_eq (by omega) (by omega)] at a
          exact a
        refine K nb tp _ fs bn _ B T (zb_up E (B - 1) e) F ⟨hb, pk_us, fun i hi => ?_, fun k hk => hRn k (by omega)⟩ (zb_P_join P (by omega) h2 hte (fun y h4 h5 => ?_) zb_up_s (fun i hi => zb_up_n hi)) ?_
        · by_cases hiB : i = B - 1
          · subst hiB; rw [pk_us, zb_up_s]
            have a := hBd (B - 1) (by omega)
            exact ⟨a.1, rfl, a.2.2⟩
          · rw [pk_un (by omega), zb_up_n hiB]; exact hBd i hi
        · exact zb_rw_sh (hrow y h4 h5) hf (by omega) hsame (fun _ _ => rfl)
        · intro p hp hpr
          exact ⟨rfl, pk_un hpr, fun i hi => ⟨rfl, pk_un (by omega), rfl, rfl⟩, fun k hk => ⟨rfl, rfl⟩⟩
      · have u := zb_rw_un hrw1 (hrow top (Nat.le_refl _) hte) (by omega) hf (fun z hz => (hx z hz).symm)
        have b1 := hRn (F (B - 1) + j) (by omega)
        have b2 := hRn (F B + j) (by omega)
        have w := u.2 j (by omega)
        rw [show r * 288 + F (B - 1) + j = r * 288 + (F (B - 1) + j) by omega, show r * 288 + F B + j = r * 288 + (F B + j) by omega, b1.1, b1.2, b2.1, b2.2, w.1, w.2]
        exact ⟨rfl, rfl⟩
    · have u := zb_rw_un hrw1 (hrow top (Nat.le_refl _) hte) (by omega) hf (fun z hz => (hx z hz).symm)
      omega
end
end
section
/-! wanted, the cursor of a side, mergeRuns -/
def zb_wt : Nat → Bool → Bool → Bool
  | 0, a, b => a || b
  | 1, a, b => a && b
  | 2, a, b => a && !b
  | _, a, b => a != b
theorem zx_wanted {post : Int32 → Prop} {k : Nat} (hk : k < 4) (a b : Bool) (K : post (zb_bI (zb_wt k a b))) : wpX_wanted post (nI k) (zb_bI a) (zb_bI b) := by
  have h : k = 0 ∨ k = 1 ∨ k = 2 ∨ k = 3 := by omega
  rcases h with rfl | rfl | rfl | rfl <;> cases a <;> cases b <;> unfold wpX_wanted <;> (repeat' first | exact K | refine br_t (by decide) ?_ | refine br_f (by decide) ?_)
def zb_cu (lf rt : Nat → Int32) (i e x : Nat) (q : Nat → Bool) : Prop := ∃ (L R : Nat → Nat) (f : Nat),
  zb_rw L R f e 24 q ∧ f ≤ i ∧ i ≤ e ∧ e ≤ 1440 ∧ (∀ k, f ≤ k → k < i → R k < x) ∧ (i < e → x ≤ R i) ∧
  (∀ k, f ≤ k → k < e → (k < 864 ∨ 1152 ≤ k) ∧ lf k = nI (L k) ∧ rt k = nI (R k))
def zb_sd (lf rt : Nat → Int32) (i e x : Nat) (b : Bool) (xa : Nat) : Prop :=
  (e ≤ i ∧ b = false ∧ xa = 24) ∨ (i < e ∧ (i < 864 ∨ 1152 ≤ i) ∧ ∃ l r, lf i = nI l ∧ rt i = nI r ∧ l ≤ 23 ∧ r ≤ 23 ∧ ((l ≤ x ∧ b = true ∧ xa = r + 1) ∨ (x < l ∧ b = false ∧ xa = l)))
def zb_nx (b : Bool) (ez xa i : Nat) : Nat := if b = true ∧ ez = xa then i + 1 else i
theorem zb_cu_fr {lf rt lf' rt' : Nat → Int32} {i e x : Nat} {q : Nat → Bool} (h : zb_cu lf rt i e x q) (hf : ∀ k, k < 1440 → (k < 864 ∨ 1152 ≤ k) → lf' k = lf k ∧ rt' k = rt k) : zb_cu lf' rt' i e x q := by
  obtain ⟨L, R, f, h1, h2, h3, h4, h5, h6, h7⟩ := h
  refine ⟨L, R, f, h1, h2, h3, h4, h5, h6, fun k k1 k2 => ?_⟩
  have a := h7 k k1 k2
  have b := hf k (by omega) a.1
  exact ⟨a.1, b.1.trans a.2.1, b.2.trans a.2.2⟩
theorem zb_cu_sd {lf rt : Nat → Int32} {i e x : Nat} {q : Nat → Bool} (h : zb_cu lf rt i e x q) (hx : x < 24) : ∃ (b : Bool) (xa : Nat), zb_sd lf rt i e x b xa ∧ x < xa ∧ xa ≤ 24 ∧ (∀ z, x ≤ z → z < xa → q z = b) ∧ (∀ ez, x < ez → ez ≤ xa → zb_cu lf rt (zb_nx b ez xa i) e ez q) := by
  obtain ⟨L, R, f, hw, hfi, hie, he, hlo, hhi, hA⟩ := h
  by_cases hc : i < e
  · have a := hw.1 i hfi hc
    have b := hA i hfi hc
    have hxR := hhi hc
    by_cases hl : L i ≤ x
    · refine ⟨true, R i + 1, Or.inr ⟨hc, b.1, L i, R i, b.2.1, b.2.2, by omega, by omega, Or.inl ⟨hl, rfl, rfl⟩⟩, by omega, by omega, fun z h1 h2 => zb_rw_in hw hfi hc (by omega) (by omega), fun ez h1 h2 => ?_⟩
      unfold zb_nx
      by_cases hez : ez = R i + 1
      · rw [if_pos ⟨rfl, hez⟩]
        refine ⟨L, R, f, hw, by omega, by omega, he, fun k k1 k2 => ?_, fun hh => ?_, hA⟩
        · by_cases hki : k = i
          · subst hki; omega
          · have := hlo k k1 (by omega); omega
        · have := a.2.2 hh
          have := hw.1 (i + 1) (by omega) hh
          omega
      · rw [if_neg (fun hh => hez hh.2)]
        exact ⟨L, R, f, hw, hfi, hie, he, fun k k1 k2 => by have := hlo k k1 k2; omega, fun _ => by omega, hA⟩
    · refine ⟨false, L i, Or.inr ⟨hc, b.1, L i, R i, b.2.1, b.2.2, by omega, by omega, Or.inr ⟨by omega, rfl, rfl⟩⟩, by omega, by omega, fun z h1 h2 => ?_, fun ez h1 h2 => ?_⟩
      · by_cases hif : i = f
        · subst hif; exact zb_rw_bef hw (by omega) (fun _ => h2)
        · have := hlo (i - 1) (by omega) (by omega)
          exact zb_rw_aft hw (show f ≤ i - 1 by omega) (by omega) (by omega) (by omega) (fun _ => by rw [show i - 1 + 1 = i by omega]; exact h2)
      · unfold zb_nx
        rw [if_neg (fun hh => by cases hh.1)]
        exact ⟨L, R, f, hw, hfi, hie, he, fun k k1 k2 => by have := hlo k k1 k2; omega, fun _ => by omega, hA⟩
  · refine ⟨false, 24, Or.inl ⟨by omega, rfl, rfl⟩, hx, Nat.le_refl _, fun z h1 h2 => ?_, fun ez h1 h2 => ?_⟩
    · by_cases hif : i = f
      · exact zb_rw_bef hw h2 (fun hh => by omega)
      · have := hlo (i - 1) (by omega) (by omega)
        exact zb_rw_aft hw (show f ≤ i - 1 by omega) (by omega) (by omega) (by omega) (fun _ => by omega)
    · unfold zb_nx
      rw [if_neg (fun hh => by cases hh.1)]
      exact ⟨L, R, f, hw, hfi, hie, he, fun k k1 k2 => by have := hlo k k1 k2; omega, fun _ => by omega, hA⟩
theorem zb_sd_fr {lf rt lf' rt' : Nat → Int32} {i e x xa : Nat} {b : Bool} (h : zb_sd lf rt i e x b xa) (he : e ≤ 1440) (hf : ∀ k, k < 1440 → (k < 864 ∨ 1152 ≤ k) → lf' k = lf k ∧ rt' k = rt k) : zb_sd lf' rt' i e x b xa := by
  rcases h with h | ⟨h1, h2, l, r, h3, h4, h5⟩
  · exact Or.inl h
  · have a := hf i (by omega) h2
    exact Or.inr ⟨h1, h2, l, r, a.1.trans h3, a.2.trans h4, h5⟩
section
variable {nb tp en fs bn nr lf rt : Nat → Int32} {post : SX → Prop} {J97 : Int32 → Int32 → Int32 → Int32 → (Nat → Int32) → (Nat → Int32) → (Nat → Int32) → (Nat → Int32) → (Nat → Int32) → (Nat → Int32) → (Nat → Int32) → (Nat → Int32) → Prop}
theorem zx_m308 {j e x ez xb g : Nat} {b : Bool} {x5 x6 x7 x8 x10 : Int32} (hs : zb_sd lf rt j e x b xb) (he : e ≤ 1440) (h0 : x < ez) (h1 : ez ≤ xb) (K : J97 x7 (nI (zb_nx b ez xb j)) (nI ez) (nI (g + 1)) nb tp en fs bn nr lf rt) (hez : ez ≤ 24) : wX_mergeRuns_308 post J97 x5 x6 x7 x8 (nI j) x10 (nI ez) (nI g) (zb_bI b) nb tp en fs bn nr lf rt := by
  unfold wX_mergeRuns_308
  unfold zb_nx at K
  cases b with
  | false =>
    rw [if_neg (fun hh => by cases hh.1)] at K
    exact br_t rfl (nm_r (nI_1 g) K)
  | true =>
    rcases hs with ⟨_, h, _⟩ | ⟨h2, h3, l, r, e1, e2, h4, h5, ⟨h6, _, h7⟩ | ⟨_, h6, _⟩⟩
    · cases h
    · rw [nI_clamp (show j < 2 ^ 31 by omega), e2]
      refine br_f (by decide) ⟨vp_in_nI (by omega) (by omega), pk_le ez r (fun h => ?_) (fun h => ?_)⟩
      · rw [if_neg (fun hh => by omega)] at K
        exact nm_r (nI_1 g) K
      · rw [if_pos ⟨rfl, by omega⟩] at K
        exact nm_r (nI_1 j) (nm_r (nI_1 g) K)
    · cases h6
theorem zx_m284 {i e x ez xa : Nat} {a : Bool} {x5 x6 x8 x9 x10 x12 x14 : Int32} (hs : zb_sd lf rt i e x a xa) (he : e ≤ 1440) (h0 : x < ez) (h1 : ez ≤ xa) (hez : ez ≤ 24) (K : wX_mergeRuns_308 post J97 x5 x6 (nI (zb_nx a ez xa i)) x8 x9 x10 (nI ez) x12 x14 nb tp en fs bn nr lf rt) : wX_mergeRuns_284 post J97 x5 x6 (nI i) x8 x9 x10 x12 (zb_bI a) x14 (nI ez) nb tp en fs bn nr lf rt := by
  unfold wX_mergeRuns_284
  unfold zb_nx at K
  cases a with
  | false =>
    rw [if_neg (fun hh => by cases hh.1)] at K
    exact br_t rfl K
  | true =>
    rcases hs with ⟨_, h, _⟩ | ⟨h2, h3, l, r, e1, e2, h4, h5, ⟨h6, _, h7⟩ | ⟨_, h6, _⟩⟩
    · cases h
    · rw [nI_clamp (show i < 2 ^ 31 by omega), e2]
      refine br_f (by decide) ⟨vp_in_nI (by omega) (by omega), pk_le ez r (fun h => ?_) (fun h => ?_)⟩
      · rw [if_neg (fun hh => by omega)] at K
        exact K
      · rw [if_pos ⟨rfl, by omega⟩] at K
        exact nm_r (nI_1 i) K
    · cases h6
theorem zx_m253 {k B m x ez : Nat} {T E F L R : Nat → Nat} {q : Nat → Bool} {a b : Bool} {x7 x8 x9 x10 x12 : Int32} (hk : k < 4) (H : zb_H nb tp en fs bn nr lf rt 3 B T E F L R m) (hf : F B ≤ m) (hrow : zb_rw L R (F B) m x q) (hxe : x < ez) (he : ez ≤ 24) (hq : ∀ z, x ≤ z → z < ez → q z = zb_wt k a b) (hroom : F B ≤ 276)
    (K : ∀ (nr' lf' rt' : Nat → Int32) (L' R' : Nat → Nat) (m' : Nat), zb_H nb tp en fs bn nr' lf' rt' 3 B T E F L' R' m' → F B ≤ m' → zb_rw L' R' (F B) m' ez q → (∀ k, k < F B → L' k = L k ∧ R' k = R k) → zb_Fr 3 (nb, tp, en, fs, bn, nr, lf, rt) (nb, tp, en, fs, bn, nr', lf', rt') → wX_mergeRuns_284 post J97 (nI k) (nI (F B)) x7 x8 x9 x10 x12 (zb_bI a) (zb_bI b) (nI ez) nb tp en fs bn nr' lf' rt') :
    wX_mergeRuns_253 post J97 (nI k) (nI (F B)) x7 x8 x9 x10 (nI x) x12 (zb_bI a) (zb_bI b) (nI ez) nb tp en fs bn nr lf rt := by
  unfold wX_mergeRuns_253
  refine zx_wanted hk a b ?_
  cases hw : zb_wt k a b with
  | false =>
    exact br_t rfl (K nr lf rt L R m H hf (zb_rw_skip hrow (by omega) (fun z h1 h2 => (hq z h1 h2).trans hw)) (fun _ _ => ⟨rfl, rfl⟩) (zb_Fr_r _ _))
  | true =>
    refine br_f (by decide) ?_
    rw [zb_m1 (show 0 < ez by omega)]
    exact zx_addRun (r := 3) (by decide) H hf hrow hxe he (fun z h1 h2 => (hq z h1 h2).trans hw) hroom K
theorem zx_m237 {xa xb : Nat} {x5 x6 x7 x8 x9 x10 x11 x12 x13 x14 : Int32} (ha : xa ≤ 24) (hb : xb ≤ 24) (K : ∀ ez, (ez = xa ∨ ez = xb) → ez ≤ xa → ez ≤ xb → wX_mergeRuns_253 post J97 x5 x6 x7 x8 x9 x10 x11 x12 x13 x14 (nI ez) nb tp en fs bn nr lf rt) : wX_mergeRuns_237 post J97 x5 x6 x7 x8 x9 x10 x11 x12 x13 x14 (nI xa) (nI xb) nb tp en fs bn nr lf rt := by
  unfold wX_mergeRuns_237
  exact pk_le xb xa (fun h => K xb (Or.inr rfl) h (Nat.le_refl _)) (fun h => K xa (Or.inl rfl) (Nat.le_refl _) (by omega))
theorem zx_m199 {j e x xb : Nat} {b : Bool} {x5 x6 x7 x8 x11 x12 x13 z0 : Int32} (hs : zb_sd lf rt j e x b xb) (hj : j ≤ 1440) (he : e ≤ 1440) (K : wX_mergeRuns_237 post J97 x5 x6 x7 x8 (nI j) (nI e) x11 x12 x13 (zb_bI b) z0 (nI xb) nb tp en fs bn nr lf rt) : wX_mergeRuns_199 post J97 x5 x6 x7 x8 (nI j) (nI e) x11 x12 x13 (zb_bI b) z0 nb tp en fs bn nr lf rt := by
  unfold wX_mergeRuns_199
  rcases hs with ⟨h1, h2, h3⟩ | ⟨h2, h3, l, r, e1, e2, h4, h5, ⟨h6, h7, h8⟩ | ⟨h6, h7, h8⟩⟩
  · subst h3; exact br_f (nI_nlt h1 (by omega)) K
  · subst h7 h8
    rw [nI_clamp (show j < 2 ^ 31 by omega), e2, nI_1 r]
    exact br_t (nI_lt h2 (by omega)) (br_f (by decide) ⟨vp_in_nI (by omega) (by omega), K⟩)
  · subst h7 h8
    rw [nI_clamp (show j < 2 ^ 31 by omega), e1]
    exact br_t (nI_lt h2 (by omega)) (br_t rfl ⟨vp_in_nI (by omega) (by omega), K⟩)
theorem zx_m161 {i e x xa : Nat} {a : Bool} {x5 x6 x9 x10 x11 x12 x14 : Int32} (hs : zb_sd lf rt i e x a xa) (hi : i ≤ 1440) (he : e ≤ 1440) (K : wX_mergeRuns_199 post J97 x5 x6 (nI i) (nI e) x9 x10 x11 x12 (zb_bI a) x14 (nI xa) nb tp en fs bn nr lf rt) : wX_mergeRuns_161 post J97 x5 x6 (nI i) (nI e) x9 x10 x11 x12 (zb_bI a) x14 nb tp en fs bn nr lf rt := by
  unfold wX_mergeRuns_161
  rcases hs with ⟨h1, h2, h3⟩ | ⟨h2, h3, l, r, e1, e2, h4, h5, ⟨h6, h7, h8⟩ | ⟨h6, h7, h8⟩⟩
  · subst h3; exact br_f (nI_nlt h1 (by omega)) K
  · subst h7 h8
    rw [nI_clamp (show i < 2 ^ 31 by omega), e2, nI_1 r]
    exact br_t (nI_lt h2 (by omega)) (br_f (by decide) ⟨vp_in_nI (by omega) (by omega), K⟩)
  · subst h7 h8
    rw [nI_clamp (show i < 2 ^ 31 by omega), e1]
    exact br_t (nI_lt h2 (by omega)) (br_t rfl ⟨vp_in_nI (by omega) (by omega), K⟩)
theorem zx_m135 {j e x xb : Nat} {b : Bool} {x5 x6 x7 x8 x12 z0 : Int32} (hs : zb_sd lf rt j e x b xb) (hj : j ≤ 1440) (he : e ≤ 1440) (hx : x < 24) (K : wX_mergeRuns_161 post J97 x5 x6 x7 x8 (nI j) (nI e) (nI x) x12 z0 (zb_bI b) nb tp en fs bn nr lf rt) : wX_mergeRuns_135 post J97 x5 x6 x7 x8 (nI j) (nI e) (nI x) x12 z0 nb tp en fs bn nr lf rt := by
  unfold wX_mergeRuns_135
  rcases hs with ⟨h1, h2, h3⟩ | ⟨h2, h3, l, r, e1, e2, h4, h5, ⟨h6, h7, h8⟩ | ⟨h6, h7, h8⟩⟩
  · subst h2; exact br_t (nI_le h1 (by omega)) K
  · subst h7
    rw [nI_clamp (show j < 2 ^ 31 by omega), e1]
    exact br_f (nI_ge h2 (by omega)) ⟨vp_in_nI (by omega) (by omega), br_f (nI_nlt h6 (by omega)) K⟩
  · subst h7
    rw [nI_clamp (show j < 2 ^ 31 by omega), e1]
    exact br_f (nI_ge h2 (by omega)) ⟨vp_in_nI (by omega) (by omega), br_t (nI_lt h6 (by omega)) K⟩
theorem zx_m97 {i e x xa g n : Nat} {a : Bool} {x5 x6 x9 x10 : Int32} (hs : zb_sd lf rt i e x a xa) (hi : i ≤ 1440) (he : e ≤ 1440) (hx : x < 24) (hg : g < 24) (K : wX_mergeRuns_135 post (wX_mergeRuns_97 post x5 x6 (nI e) x10 n) x5 x6 (nI i) (nI e) x9 x10 (nI x) (nI g) (zb_bI a) nb tp en fs bn nr lf rt) : wX_mergeRuns_97 post x5 x6 (nI e) x10 (n + 1) (nI i) x9 (nI x) (nI g) nb tp en fs bn nr lf rt := by
  rw [wX_mergeRuns_97]
  dsimp only
  refine br_f (nI_ge (b := 24) hg (by decide)) (br_f (nI_ge (b := 24) hx (by decide)) ?_)
  rcases hs with ⟨h1, h2, h3⟩ | ⟨h2, h3, l, r, e1, e2, h4, h5, ⟨h6, h7, h8⟩ | ⟨h6, h7, h8⟩⟩
  · subst h2; exact br_t (nI_le h1 (by omega)) K
  · subst h7
    rw [nI_clamp (show i < 2 ^ 31 by omega), e1]
    exact br_f (nI_ge h2 (by omega)) ⟨vp_in_nI (by omega) (by omega), br_f (nI_nlt h6 (by omega)) K⟩
  · subst h7
    rw [nI_clamp (show i < 2 ^ 31 by omega), e1]
    exact br_f (nI_ge h2 (by omega)) ⟨vp_in_nI (by omega) (by omega), br_t (nI_lt h6 (by omega)) K⟩
theorem zx_m97x {x g n : Nat} {x5 x6 x7 x8 x9 x10 : Int32} (hx : x = 24) (K : post (nb, tp, en, fs, bn, nr, lf, rt)) : wX_mergeRuns_97 post x5 x6 x8 x10 (n + 1) x7 x9 (nI x) (nI g) nb tp en fs bn nr lf rt := by
  subst hx
  rw [wX_mergeRuns_97]
  dsimp only
  exact br_c (fun _ => K) (fun _ => br_t (nI_le (Nat.le_refl _) (by decide)) K)
theorem zx_mr97 {k B eA eB : Nat} {T E F L0 R0 : Nat → Nat} {qa qb : Nat → Bool} (hk : k < 4) (hroom : F B ≤ 276) (heA : eA ≤ 1440) (heB : eB ≤ 1440)
    (K : ∀ (nr' lf' rt' : Nat → Int32) (L' R' : Nat → Nat) (m' : Nat), zb_H nb tp en fs bn nr' lf' rt' 3 B T E F L' R' m' → F B ≤ m' → zb_rw L' R' (F B) m' 24 (fun z => zb_wt k (qa z) (qb z)) → (∀ k, k < F B → L' k = L0 k ∧ R' k = R0 k) → zb_Fr 3 (nb, tp, en, fs, bn, nr, lf, rt) (nb, tp, en, fs, bn, nr', lf', rt') → post (nb, tp, en, fs, bn, nr', lf', rt')) :
    ∀ d x, 24 ≤ x + d → x ≤ 24 → ∀ (g i j : Nat) (nr' lf' rt' : Nat → Int32) (L R : Nat → Nat) (m : Nat), g ≤ x → i ≤ 1440 → j ≤ 1440 → zb_cu lf' rt' i eA x qa → zb_cu lf' rt' j eB x qb → zb_H nb tp en fs bn nr' lf' rt' 3 B T E F L R m → F B ≤ m → zb_rw L R (F B) m x (fun z => zb_wt k (qa z) (qb z)) → (∀ k, k < F B → L k = L0 k ∧ R k = R0 k) → zb_Fr 3 (nb, tp, en, fs, bn, nr, lf, rt) (nb, tp, en, fs, bn, nr', lf', rt') → wX_mergeRuns_97 post (nI k) (nI (F B)) (nI eA) (nI eB) (d + 1) (nI i) (nI j) (nI x) (nI g) nb tp en fs bn nr' lf' rt' := by
  intro d
  induction d with
  | zero =>
    intro x hd hx g i j nr' lf' rt' L R m hg hi hj hA hB H hf hrow hL hF
    have e : x = 24 := by omega
    subst e
    exact zx_m97x rfl (K nr' lf' rt' L R m H hf hrow hL hF)
  | succ d ih =>
    intro x hd hx g i j nr' lf' rt' L R m hg hi hj hA hB H hf hrow hL hF
    by_cases hx24 : x = 24
    · subst hx24
      exact zx_m97x rfl (K nr' lf' rt' L R m H hf hrow hL hF)
    · obtain ⟨a, xa, sA, a1, a2, a3, a4⟩ := zb_cu_sd hA (by omega)
      obtain ⟨b, xb, sB, b1, b2, b3, b4⟩ := zb_cu_sd hB (by omega)
      refine zx_m97 sA hi heA (by omega) (by omega) (zx_m135 sB hj heB (by omega) (zx_m161 sA hi heA (zx_m199 sB hj heB (zx_m237 a2 b2 (fun ez h1 h2 h3 => ?_)))))
      have hxe : x < ez := by omega
      refine zx_m253 hk H hf hrow hxe (by omega) (fun z h4 h5 => ?_) hroom (fun nr2 lf2 rt2 L2 R2 m2 H2 hf2 hrow2 hL2 hF2 => ?_)
      · show zb_wt k (qa z) (qb z) = _
        rw [a3 z h4 (by omega), b3 z h4 (by omega)]
      · have hfr : ∀ k, k < 1440 → (k < 864 ∨ 1152 ≤ k) → lf2 k = lf' k ∧ rt2 k = rt' k := fun k h6 h7 => zb_Fr_lf hF2 h6 h7
        have hnA : zb_nx a ez xa i ≤ 1440 := by
          unfold zb_nx
          rcases sA with ⟨_, h, _⟩ | ⟨h, _⟩
          · subst h; rw [if_neg (fun hh => by cases hh.1)]; exact hi
          · split <;> omega
        have hnB : zb_nx b ez xb j ≤ 1440 := by
          unfold zb_nx
          rcases sB with ⟨_, h, _⟩ | ⟨h, _⟩
          · subst h; rw [if_neg (fun hh => by cases hh.1)]; exact hj
          · split <;> omega
        refine zx_m284 (zb_sd_fr sA heA hfr) heA hxe h2 (by omega) (zx_m308 (zb_sd_fr sB heB hfr) heB hxe h3 ?_ (by omega))
        exact ih ez (by omega) (by omega) (g + 1) _ _ nr2 lf2 rt2 L2 R2 m2 (by omega) hnA hnB (zb_cu_fr (a4 ez hxe h2) hfr) (zb_cu_fr (b4 ez hxe h3) hfr) H2 hf2 hrow2 (fun k hk' => ⟨(hL2 k hk').1.trans (hL k hk').1, (hL2 k hk').2.trans (hL k hk').2⟩) (zb_Fr_t hF hF2)
def zb_src (fs bn lf rt : Nat → Int32) (a : Nat) (ca : Int32) (q : Nat → Bool) : Prop :=
  (ca = -1 ∧ ∀ z, z < 24 → q z = false) ∨
  ∃ (i f e : Nat) (L R : Nat → Nat), ca = nI (a * 24 + i) ∧ i < 24 ∧ fs (a * 24 + i) = nI f ∧ bn (a * 24 + i) = nI (e - f) ∧ f ≤ e ∧ e ≤ 288 ∧ zb_rw L R f e 24 q ∧ ∀ k, f ≤ k → k < e → lf (a * 288 + k) = nI (L k) ∧ rt (a * 288 + k) = nI (R k)
theorem zb_cu_n {q : Nat → Bool} (h : ∀ z, z < 24 → q z = false) : zb_cu lf rt 0 0 0 q :=
  ⟨fun _ => 0, fun _ => 0, 0, zb_rw_skip (zb_rw_0 _ _ _ _) (by omega) (fun z _ hz => h z hz), by omega, by omega, by omega, fun k _ h2 => by omega, fun h2 => by omega, fun k _ h2 => by omega⟩
theorem zb_cu_s {a f e : Nat} {L R : Nat → Nat} {q : Nat → Bool} (ha : a < 5) (ha3 : a ≠ 3) (h1 : f ≤ e) (h2 : e ≤ 288) (h3 : zb_rw L R f e 24 q) (h4 : ∀ k, f ≤ k → k < e → lf (a * 288 + k) = nI (L k) ∧ rt (a * 288 + k) = nI (R k)) : zb_cu lf rt (a * 288 + f) (a * 288 + e) 0 q := by
  refine ⟨fun k => L (k - a * 288), fun k => R (k - a * 288), a * 288 + f, zb_rw_sh h3 h1 (by omega) (fun j hj => ?_) (fun _ _ => rfl), by omega, by omega, by omega, fun k k1 k2 => by omega, fun _ => by omega, fun k k1 k2 => ?_⟩
  · rw [show a * 288 + f + j - a * 288 = f + j by omega]
    exact ⟨rfl, rfl⟩
  · have b := h4 (k - a * 288) (by omega) (by omega)
    rw [show a * 288 + (k - a * 288) = k by omega] at b
    exact ⟨by omega, b⟩
theorem zb_n1 : ¬ (0 : Int32) ≤ -1 := by decide
theorem zx_m47 {b : Nat} {cb x5 x6 x7 z0 : Int32} {qb : Nat → Bool} (hb : b < 5) (hb3 : b ≠ 3) (hs : zb_src fs bn lf rt b cb qb) (K : ∀ j eB, j ≤ 1440 → eB ≤ 1440 → zb_cu lf rt j eB 0 qb → ∃ n, wX_mergeRuns_97 post x5 x6 z0 (nI eB) n x7 (nI j) 0 0 nb tp en fs bn nr lf rt) : wX_mergeRuns_47 post cb (nI b) x5 x6 x7 z0 nb tp en fs bn nr lf rt := by
  unfold wX_mergeRuns_47
  rcases hs with ⟨rfl, h⟩ | ⟨i, f, e, L, R, rfl, h1, h2, h3, h4, h5, h6, h7⟩
  · refine br_f zb_n1 ?_
    unfold wX_mergeRuns_70
    exact br_f zb_n1 (K 0 0 (by omega) (by omega) (zb_cu_n h))
  · have i1 : vp_in (nI (b * 24 + i)) 120 := vp_in_nI (by omega) (by omega)
    have c1 : (nI (b * 24 + i)).toNatClampNeg = b * 24 + i := nI_clamp (by omega)
    have p1 : (0 : Int32) ≤ nI (b * 24 + i) := nI_pos' (by omega)
    rw [c1, h2, zb_i288]
    refine br_t p1 ⟨i1, ?_⟩
    unfold wX_mergeRuns_70
    rw [c1, h3, nI_add, show b * 288 + f + (e - f) = b * 288 + e by omega]
    exact br_t p1 ⟨i1, nm_e (K (b * 288 + f) (b * 288 + e) (by omega) (by omega) (zb_cu_s hb hb3 h4 h5 h6 h7))⟩
theorem zx_mergeRuns {k B a b : Nat} {ca cb : Int32} {T E F L R : Nat → Nat} {qa qb : Nat → Bool} (hk : k < 4) (ha : a < 5) (ha3 : a ≠ 3) (hb : b < 5) (hb3 : b ≠ 3) (hroom : F B ≤ 276) (H : zb_H nb tp en fs bn nr lf rt 3 B T E F L R (F B)) (sa : zb_src fs bn lf rt a ca qa) (sb : zb_src fs bn lf rt b cb qb)
    (K : ∀ (nr' lf' rt' : Nat → Int32) (L' R' : Nat → Nat) (m' : Nat), zb_H nb tp en fs bn nr' lf' rt' 3 B T E F L' R' m' → F B ≤ m' → zb_rw L' R' (F B) m' 24 (fun z => zb_wt k (qa z) (qb z)) → (∀ k, k < F B → L' k = L k ∧ R' k = R k) → zb_Fr 3 (nb, tp, en, fs, bn, nr, lf, rt) (nb, tp, en, fs, bn, nr', lf', rt') → post (nb, tp, en, fs, bn, nr', lf', rt')) :
    wpX_mergeRuns post (nb, tp, en, fs, bn, nr, lf, rt) ca (nI a) cb (nI b) (nI k) := by
  have KK : ∀ i eA, i ≤ 1440 → eA ≤ 1440 → zb_cu lf rt i eA 0 qa → ∀ j eB, j ≤ 1440 → eB ≤ 1440 → zb_cu lf rt j eB 0 qb → ∃ n, wX_mergeRuns_97 post (nI k) (nI (F B)) (nI eA) (nI eB) n (nI i) (nI j) 0 0 nb tp en fs bn nr lf rt := by
    intro i eA hi hA cA j eB hj hB cB
    exact ⟨24 + 1, zx_mr97 (L0 := L) (R0 := R) hk hroom hA hB K 24 0 (by omega) (by omega) 0 i j nr lf rt L R (F B) (by omega) hi hj cA cB H (Nat.le_refl _) (zb_rw_0 _ _ _ _) (fun _ _ => ⟨rfl, rfl⟩) (zb_Fr_r _ _)⟩
  unfold wpX_mergeRuns
  dsimp only
  rw [H.2.1]
  refine nm_e ?_
  rcases sa with ⟨rfl, h⟩ | ⟨i, f, e, L1, R1, rfl, h1, h2, h3, h4, h5, h6, h7⟩
  · refine br_f zb_n1 ?_
    unfold wX_mergeRuns_28
    exact br_f zb_n1 (zx_m47 hb hb3 sb (KK 0 0 (by omega) (by omega) (zb_cu_n h)))
  · have i1 : vp_in (nI (a * 24 + i)) 120 := vp_in_nI (by omega) (by omega)
    have c1 : (nI (a * 24 + i)).toNatClampNeg = a * 24 + i := nI_clamp (by omega)
    have p1 : (0 : Int32) ≤ nI (a * 24 + i) := nI_pos' (by omega)
    rw [c1, h2, zb_i288]
    refine br_t p1 ⟨i1, ?_⟩
    unfold wX_mergeRuns_28
    rw [c1, h3, nI_add, show a * 288 + f + (e - f) = a * 288 + e by omega]
    exact br_t p1 ⟨i1, zx_m47 hb hb3 sb (KK (a * 288 + f) (a * 288 + e) (by omega) (by omega) (zb_cu_s ha ha3 h4 h5 h6 h7))⟩
end
end
section
/-! bandAt, changeAfter, covering, merge, makeBox -/
theorem zb_rw_eq {L R : Nat → Nat} {f m x : Nat} {q q' : Nat → Bool} (h : zb_rw L R f m x q) (h' : zb_rw L R f m x q') : ∀ z, z < x → q z = q' z := by
  intro z hz
  have a := (h.2 z hz).trans (h'.2 z hz).symm
  cases h1 : q z <;> cases h2 : q' z
  · rfl
  · rw [h1, h2] at a; exact absurd (a.2 rfl) (by decide)
  · rw [h1, h2] at a; exact absurd (a.1 rfl) (by decide)
  · rfl
theorem zb_side {c : Nat → Bool} {B i y ya : Nat} {T E F L R : Nat → Nat} (P : zb_P c 24 B T E F L R) (hy : y < 24) (hi : i ≤ B) (h1 : ∀ j, j < i → E j < y) (h2 : i < B → y ≤ E i) (g1 : i < B → T i ≤ y → ya = E i + 1) (g2 : i < B → y < T i → ya = T i) (g3 : B ≤ i → ya = 24) : y < ya ∧ ya ≤ 24 ∧ ∀ y', y ≤ y' → y' < ya → ∀ x, x < 24 → c (24 * y' + x) = c (24 * y + x) := by
  by_cases hc : i < B
  · have a := P.2.1 i hc
    have b := h2 hc
    by_cases ht : T i ≤ y
    · have e := g1 hc ht
      refine ⟨by omega, by omega, fun y' k1 k2 x hx => ?_⟩
      exact zb_rw_eq (a.2.2.2 y' (by omega) (by omega)) (a.2.2.2 y ht b) x hx
    · have e := g2 hc (by omega)
      refine ⟨by omega, by omega, fun y' k1 k2 x hx => ?_⟩
      rw [zb_P_gapT P h1 hc (by omega) x hx, zb_P_gapT P (fun j hj => by have := h1 j hj; omega) hc (show y' < T i by omega) x hx]
  · have e := g3 (by omega)
    have hB : i = B := by omega
    subst hB
    refine ⟨by omega, by omega, fun y' k1 k2 x hx => ?_⟩
    rw [zb_P_gapB P h1 hy x hx, zb_P_gapB P (fun j hj => by have := h1 j hj; omega) (show y' < 24 by omega) x hx]
section
variable {nb tp en fs bn nr lf rt : Nat → Int32}
theorem zx_ba2 {post : Int32 → Prop} {r B m y : Nat} {T E F L R : Nat → Nat} (hr : r < 5) (hB : B ≤ 24) (hE : ∀ i, i < B → E i < 24) (hy : y < 24) (H : zb_H nb tp en fs bn nr lf rt r B T E F L R m) (K : ∀ i, i ≤ B → (∀ j, j < i → E j < y) → (i < B → y ≤ E i) → post (nI i)) : ∀ d i, i + d = B → (∀ j, j < i → E j < y) → wX_bandAt_2 post (nI r) (nI y) nb tp en fs bn nr lf rt (d + 1) (nI i) := by
  have ir : vp_in (nI r) 5 := vp_in_nI hr (by omega)
  intro d
  induction d with
  | zero =>
    intro i hi hj
    have e : i = B := by omega
    subst e
    rw [wX_bandAt_2]
    dsimp only
    rw [nI_clamp (show r < 2 ^ 31 by omega), H.1]
    exact ⟨ir, br_t (nI_le (Nat.le_refl _) (by omega)) (K i (Nat.le_refl _) hj (fun hh => by omega))⟩
  | succ d ih =>
    intro i hi hj
    have hEi := hE i (by omega)
    rw [wX_bandAt_2]
    dsimp only
    rw [nI_clamp (show r < 2 ^ 31 by omega), H.1, zb_i24, nI_clamp (show r * 24 + i < 2 ^ 31 by omega), (H.2.2.1 i (by omega)).2.1]
    refine ⟨ir, br_f (nI_ge (by omega) (by omega)) ⟨vp_in_nI (by omega) (by omega), pk_le y (E i) (fun h => K i (by omega) hj (fun _ => h)) (fun h => nm_r (nI_1 i) (ih (i + 1) (by omega) (fun j hj' => ?_)))⟩⟩
    by_cases hji : j = i
    · subst hji; exact h
    · exact hj j (by omega)
theorem zx_bandAt {post : Int32 → Prop} {r B m y : Nat} {T E F L R : Nat → Nat} {c : Nat → Bool} (hr : r < 5) (hy : y < 24) (H : zb_H nb tp en fs bn nr lf rt r B T E F L R m) (P : zb_P c 24 B T E F L R) (K : ∀ i, i ≤ B → (∀ j, j < i → E j < y) → (i < B → y ≤ E i) → post (nI i)) : wpX_bandAt post (nb, tp, en, fs, bn, nr, lf, rt) (nI r) (nI y) :=
  ⟨B + 1, zx_ba2 hr (zb_P_B P) (fun i hi => (P.2.1 i hi).2.1) hy H K B 0 (by omega) (fun j hj => by omega)⟩
theorem zx_changeAfter {post : Int32 → Prop} {r B m y i : Nat} {T E F L R : Nat → Nat} {c : Nat → Bool} (hr : r < 5) (hy : y < 24) (hi : i ≤ B) (H : zb_H nb tp en fs bn nr lf rt r B T E F L R m) (P : zb_P c 24 B T E F L R) (K : ∀ ya, (i < B → T i ≤ y → ya = E i + 1) → (i < B → y < T i → ya = T i) → (B ≤ i → ya = 24) → post (nI ya)) : wpX_changeAfter post (nb, tp, en, fs, bn, nr, lf, rt) (nI r) (nI i) (nI y) := by
  have ir : vp_in (nI r) 5 := vp_in_nI hr (by omega)
  have hB := zb_P_B P
  unfold wpX_changeAfter
  dsimp only
  rw [nI_clamp (show r < 2 ^ 31 by omega), H.1, zb_i24]
  refine ⟨ir, pk_lt i B (fun h => nm_e ?_) (fun h => K 24 (fun h1 => by omega) (fun h1 => by omega) (fun _ => rfl))⟩
  have ia : vp_in (nI (r * 24 + i)) 120 := vp_in_nI (by omega) (by omega)
  have a := H.2.2.1 i h
  have b := P.2.1 i h
  rw [nI_clamp (show r * 24 + i < 2 ^ 31 by omega), a.1, a.2.1, nI_1 (E i)]
  exact ⟨ia, pk_le (T i) y (fun h1 => ⟨ia, K (E i + 1) (fun _ _ => rfl) (fun _ h2 => by omega) (fun h2 => by omega)⟩) (fun h1 => ⟨ia, K (T i) (fun _ h2 => by omega) (fun _ _ => rfl) (fun h2 => by omega)⟩)⟩
theorem zx_covering {post : Int32 → Prop} {r B y i : Nat} {T E F L R : Nat → Nat} {c : Nat → Bool} (hr : r < 5) (hy : y < 24) (hi : i ≤ B) (H : zb_H nb tp en fs bn nr lf rt r B T E F L R (F B)) (P : zb_P c 24 B T E F L R) (h1 : ∀ j, j < i → E j < y) (h2 : i < B → y ≤ E i) (K : ∀ ca, zb_src fs bn lf rt r ca (zb_row c y) → post ca) : wpX_covering post (nb, tp, en, fs, bn, nr, lf, rt) (nI r) (nI i) (nI y) := by
  have ir : vp_in (nI r) 5 := vp_in_nI hr (by omega)
  have hB := zb_P_B P
  have hFB := (zb_P_FB P (Nat.le_refl _)).2
  unfold wpX_covering
  dsimp only
  rw [nI_clamp (show r < 2 ^ 31 by omega), H.1, zb_i24]
  refine ⟨ir, pk_lt i B (fun h => nm_e ?_) (fun h => K (-1) (Or.inl ⟨rfl, fun z hz => ?_⟩))⟩
  · have ia : vp_in (nI (r * 24 + i)) 120 := vp_in_nI (by omega) (by omega)
    have a := H.2.2.1 i h
    have b := P.2.1 i h
    have d := zb_P_Fm P (i := i + 1) B (by omega) (Nat.le_refl _)
    rw [nI_clamp (show r * 24 + i < 2 ^ 31 by omega), a.1]
    refine ⟨ia, pk_lt y (T i) (fun h3 => K (-1) (Or.inl ⟨rfl, fun z hz => zb_P_gapT P h1 h h3 z hz⟩)) (fun h3 => K _ (Or.inr ⟨i, F i, F (i + 1), L, R, rfl, by omega, a.2.2.1, a.2.2.2, by omega, by omega, b.2.2.2 y h3 (h2 h), fun k k1 k2 => H.2.2.2 k (by omega)⟩))⟩
  · exact zb_P_gapB P (fun j hj => h1 j (by omega)) hy z hz
theorem zx_m11s {post : SX → Prop} {k a b B n g y : Nat} {T E F L R : Nat → Nat} {ca cb : Nat → Bool} (hk : k < 4) (ha : a < 5) (ha3 : a ≠ 3) (hb : b < 5) (hb3 : b ≠ 3) (hg : g < 24) (hy : y < 24) (Ra : zb_Rg nb tp en fs bn nr lf rt a ca) (Rb : zb_Rg nb tp en fs bn nr lf rt b cb) (H : zb_H nb tp en fs bn nr lf rt 3 B T E F L R (F B)) (P : zb_P (fun t => zb_wt k (ca t) (cb t)) y B T E F L R)
    (K : ∀ (ez : Nat) (nb' tp' en' fs' bn' nr' lf' rt' : Nat → Int32) (B' : Nat) (T' E' F' L' R' : Nat → Nat), y < ez → ez ≤ 24 → zb_H nb' tp' en' fs' bn' nr' lf' rt' 3 B' T' E' F' L' R' (F' B') → zb_P (fun t => zb_wt k (ca t) (cb t)) ez B' T' E' F' L' R' → zb_Fr 3 (nb, tp, en, fs, bn, nr, lf, rt) (nb', tp', en', fs', bn', nr', lf', rt') → wX_merge_11 post (nI a) (nI b) (nI k) n (nI ez) (nI (g + 1)) nb' tp' en' fs' bn' nr' lf' rt') :
    wX_merge_11 post (nI a) (nI b) (nI k) (n + 1) (nI y) (nI g) nb tp en fs bn nr lf rt := by
  obtain ⟨Ba, Ta, Ea, Fa, La, Ra, Ha, Pa⟩ := Ra
  obtain ⟨Bb, Tb, Eb, Fb, Lb, Rb, Hb, Pb⟩ := Rb
  have hBy := zb_P_B P
  have hFy := zb_P_F P B (Nat.le_refl _)
  rw [wX_merge_11]
  dsimp only
  refine br_f (nI_ge (b := 24) hg (by decide)) (br_f (nI_ge (b := 24) hy (by decide)) ?_)
  refine zx_bandAt ha hy Ha Pa (fun ia a1 a2 a3 => zx_bandAt hb hy Hb Pb (fun ib b1 b2 b3 => zx_changeAfter ha hy a1 Ha Pa (fun ya a4 a5 a6 => zx_changeAfter hb hy b1 Hb Pb (fun yb b4 b5 b6 => ?_))))
  have sA := zb_side Pa hy a1 a2 a3 a4 a5 a6
  have sB := zb_side Pb hy b1 b2 b3 b4 b5 b6
  have M : ∀ ez, y < ez → ez ≤ ya → ez ≤ yb → wX_merge_79 post (wX_merge_11 post (nI a) (nI b) (nI k) n) (nI a) (nI b) (nI k) (nI y) (nI g) (nI ia) (nI ib) (nI ez) nb tp en fs bn nr lf rt := by
    intro ez h1 h2 h3
    unfold wX_merge_79
    refine zx_covering ha hy a1 Ha Pa a2 a3 (fun cz sa => zx_covering hb hy b1 Hb Pb b2 b3 (fun cw sb => ?_))
    rw [H.2.1]
    refine nm_e (zx_mergeRuns hk ha ha3 hb hb3 (by omega) H sa sb (fun nr2 lf2 rt2 L2 R2 m2 H2 hf2 hrow2 hL2 hF2 => ?_))
    dsimp only
    rw [zb_m1 (show 0 < ez by omega)]
    refine zx_endBand (r := 3) (by decide) H2 (zb_P_cg P hL2) hf2 (fun y' k1 k2 => zb_rw_cg hrow2 (fun _ _ _ => ⟨rfl, rfl⟩) (fun z hz => ?_)) (show y ≤ ez - 1 by omega) (by omega) (fun nb3 tp3 en3 fs3 bn3 nr3 B3 T3 E3 F3 H3 P3 hF3 => ?_)
    · show zb_wt k (ca (24 * y' + z)) (cb (24 * y' + z)) = zb_wt k (ca (24 * y + z)) (cb (24 * y + z))
      rw [sA.2.2 y' k1 (by omega) z hz, sB.2.2 y' k1 (by omega) z hz]
    · dsimp only
      rw [show ez - 1 + 1 = ez by omega] at P3
      exact nm_r (nI_1 g) (K ez nb3 tp3 en3 fs3 bn3 nr3 lf2 rt2 B3 T3 E3 F3 L2 R2 h1 (by omega) H3 P3 (zb_Fr_t hF2 hF3))
  exact pk_le yb ya (fun h => M yb sB.1 h (Nat.le_refl _)) (fun h => M ya sA.1 (Nat.le_refl _) (by omega))
theorem zx_m11x {post : SX → Prop} {x1 x2 x3 : Int32} {n g y : Nat} (hy : y = 24) (K : post (nb, tp, en, fs, bn, nr, lf, rt)) : wX_merge_11 post x1 x2 x3 (n + 1) (nI y) (nI g) nb tp en fs bn nr lf rt := by
  subst hy
  rw [wX_merge_11]
  exact br_c (fun _ => K) (fun _ => br_t (nI_le (Nat.le_refl _) (by decide)) K)
theorem zx_m11 {post : SX → Prop} {k a b : Nat} {ca cb : Nat → Bool} (hk : k < 4) (ha : a < 5) (ha3 : a ≠ 3) (hb : b < 5) (hb3 : b ≠ 3) (Ra : zb_Rg nb tp en fs bn nr lf rt a ca) (Rb : zb_Rg nb tp en fs bn nr lf rt b cb)
    (K : ∀ (nb' tp' en' fs' bn' nr' lf' rt' : Nat → Int32), zb_Rg nb' tp' en' fs' bn' nr' lf' rt' 3 (fun t => zb_wt k (ca t) (cb t)) → zb_Fr 3 (nb, tp, en, fs, bn, nr, lf, rt) (nb', tp', en', fs', bn', nr', lf', rt') → post (nb', tp', en', fs', bn', nr', lf', rt')) :
    ∀ d y, 24 ≤ y + d → y ≤ 24 → ∀ (g : Nat) (nb' tp' en' fs' bn' nr' lf' rt' : Nat → Int32) (B : Nat) (T E F L R : Nat → Nat), g ≤ y → zb_H nb' tp' en' fs' bn' nr' lf' rt' 3 B T E F L R (F B) → zb_P (fun t => zb_wt k (ca t) (cb t)) y B T E F L R → zb_Fr 3 (nb, tp, en, fs, bn, nr, lf, rt) (nb', tp', en', fs', bn', nr', lf', rt') → wX_merge_11 post (nI a) (nI b) (nI k) (d + 1) (nI y) (nI g) nb' tp' en' fs' bn' nr' lf' rt' := by
  intro d
  induction d with
  | zero =>
    intro y hd hy g nb' tp' en' fs' bn' nr' lf' rt' B T E F L R hg H P hF
    have e : y = 24 := by omega
    subst e
    exact zx_m11x rfl (K nb' tp' en' fs' bn' nr' lf' rt' ⟨B, T, E, F, L, R, H, P⟩ hF)
  | succ d ih =>
    intro y hd hy g nb' tp' en' fs' bn' nr' lf' rt' B T E F L R hg H P hF
    by_cases hy24 : y = 24
    · subst hy24
      exact zx_m11x rfl (K nb' tp' en' fs' bn' nr' lf' rt' ⟨B, T, E, F, L, R, H, P⟩ hF)
    · refine zx_m11s hk ha ha3 hb hb3 (by omega) (by omega) (zb_Fr_Rg hF ha ha3 Ra) (zb_Fr_Rg hF hb hb3 Rb) H P (fun ez nb2 tp2 en2 fs2 bn2 nr2 lf2 rt2 B2 T2 E2 F2 L2 R2 h1 h2 H2 P2 hF2 => ?_)
      exact ih ez (by omega) h2 (g + 1) nb2 tp2 en2 fs2 bn2 nr2 lf2 rt2 B2 T2 E2 F2 L2 R2 (by omega) H2 P2 (zb_Fr_t hF hF2)
theorem zb_H_start (r : Nat) (L R : Nat → Nat) : zb_H (upd nb r 0) tp en fs bn (upd nr r 0) lf rt r 0 (fun _ => 0) (fun _ => 0) (fun _ => 0) L R 0 :=
  ⟨pk_us, pk_us, fun i hi => by omega, fun k hk => by omega⟩
theorem zb_Fr_start (r : Nat) : zb_Fr r (nb, tp, en, fs, bn, nr, lf, rt) (upd nb r 0, tp, en, fs, bn, upd nr r 0, lf, rt) :=
  fun q hq hn => ⟨pk_un hn, pk_un hn, fun _ _ => ⟨rfl, rfl, rfl, rfl⟩, fun _ _ => ⟨rfl, rfl⟩⟩
theorem zx_merge {post : SX → Prop} {k a b : Nat} {ca cb : Nat → Bool} (hk : k < 4) (ha : a < 5) (ha3 : a ≠ 3) (hb : b < 5) (hb3 : b ≠ 3) (Ra : zb_Rg nb tp en fs bn nr lf rt a ca) (Rb : zb_Rg nb tp en fs bn nr lf rt b cb)
    (K : ∀ (nb' tp' en' fs' bn' nr' lf' rt' : Nat → Int32), zb_Rg nb' tp' en' fs' bn' nr' lf' rt' 3 (fun t => zb_wt k (ca t) (cb t)) → zb_Fr 3 (nb, tp, en, fs, bn, nr, lf, rt) (nb', tp', en', fs', bn', nr', lf', rt') → post (nb', tp', en', fs', bn', nr', lf', rt')) :
    wpX_merge post (nb, tp, en, fs, bn, nr, lf, rt) (nI a) (nI b) (nI k) := by
  unfold wpX_merge
  dsimp only
  refine zx_start (r := 3) (by decide) ?_
  dsimp only
  exact ⟨24 + 1, zx_m11 hk ha ha3 hb hb3 Ra Rb K 24 0 (by omega) (by omega) 0 _ _ _ _ _ _ _ _ 0 (fun _ => 0) (fun _ => 0) (fun _ => 0) (fun _ => 0) (fun _ => 0) (by omega) (zb_H_start 3 _ _) (zb_P_0 _ _ _ _ _ _ rfl) (zb_Fr_start 3)⟩
end
end
section
/-! makeBox, keep, cells -/
def zb_bx (l t w h : Nat) : Nat → Bool := fun j => decide (l ≤ j % 24 ∧ j % 24 < l + w ∧ t ≤ j / 24 ∧ j / 24 < t + h)
theorem zb_bx_at (l t w h y x : Nat) (hx : x < 24) : zb_bx l t w h (24 * y + x) = decide (l ≤ x ∧ x < l + w ∧ t ≤ y ∧ y < t + h) := by
  unfold zb_bx
  rw [show (24 * y + x) % 24 = x by omega, show (24 * y + x) / 24 = y by omega]
theorem zb_p1 (a : Nat) (ha : a < 2 ^ 30) : (nI a - 1).toInt = (a : Int) - 1 := by
  have := pk_sub_toInt (a := a) (b := 1) ha (by decide)
  exact this
theorem zb_p1_le {a b : Nat} (ha : a < 2 ^ 30) (hb : b < 2 ^ 30) : nI a - 1 ≤ nI b ↔ a ≤ b + 1 := by
  rw [Int32.le_iff_toInt_le, zb_p1 a ha, nI_toInt (by omega)]; omega
theorem zb_p1_lt {a b : Nat} (ha : a < 2 ^ 30) (hb : b < 2 ^ 30) : nI a - 1 < nI b ↔ a ≤ b := by
  rw [Int32.lt_iff_toInt_lt, zb_p1 a ha, nI_toInt (by omega)]; omega
theorem zb_le_p1 {a b : Nat} (ha : a < 2 ^ 30) (hb : b < 2 ^ 30) : nI b ≤ nI a - 1 ↔ b + 1 ≤ a := by
  rw [Int32.le_iff_toInt_le, zb_p1 a ha, nI_toInt (by omega)]; omega
theorem zb_if {c d A B : Prop} (e : c ↔ d) (f : d → A) (g : ¬ d → B) : (c → A) ∧ (¬ c → B) :=
  ⟨fun h => f (e.1 h), fun h => g (fun hd => h (e.2 hd))⟩
theorem zb_P_emp {c : Nat → Bool} {T E F L R : Nat → Nat} (hF : F 0 = 0) (h : ∀ y, y < 24 → ∀ x, x < 24 → c (24 * y + x) = false) : zb_P c 24 0 T E F L R :=
  zb_P_skip (zb_P_0 c T E F L R hF) (by omega) (fun y _ hy => h y hy)
section
variable {nb tp en fs bn nr lf rt : Nat → Int32}
theorem zx_mb63 {post : SX → Prop} {l t A D : Nat} {c : Nat → Bool} {L R : Nat → Nat} (hA : A ≤ 24) (hD : D ≤ 24) (hl : l < 32) (ht : t < 32) (hc : ∀ y, y < 24 → ∀ x, x < 24 → c (24 * y + x) = decide (l ≤ x ∧ x < A ∧ t ≤ y ∧ y < D)) (H : zb_H nb tp en fs bn nr lf rt 4 0 (fun _ => 0) (fun _ => 0) (fun _ => 0) L R 0)
    (K : ∀ (nb' tp' en' fs' bn' nr' lf' rt' : Nat → Int32), zb_Rg nb' tp' en' fs' bn' nr' lf' rt' 4 c → zb_Fr 4 (nb, tp, en, fs, bn, nr, lf, rt) (nb', tp', en', fs', bn', nr', lf', rt') → post (nb', tp', en', fs', bn', nr', lf', rt')) : wX_makeBox_63 post (nI l) (nI t) (nI A - 1) (nI D - 1) nb tp en fs bn nr lf rt := by
  have E0 : (A ≤ l ∨ D ≤ t) → post (nb, tp, en, fs, bn, nr, lf, rt) := by
    intro h
    refine K _ _ _ _ _ _ _ _ ⟨0, fun _ => 0, fun _ => 0, fun _ => 0, L, R, H, zb_P_emp rfl (fun y hy x hx => ?_)⟩ (zb_Fr_r _ _)
    rw [hc y hy x hx]
    exact decide_eq_false (fun hh => by omega)
  unfold wX_makeBox_63
  refine zb_if (zb_p1_lt (by omega) (by omega)) (fun h => E0 (Or.inl h)) (fun h => ?_)
  refine zb_if (zb_le_p1 (by omega) (by omega)) (fun h1 => ?_) (fun h1 => E0 (Or.inr (by omega)))
  rw [zb_m1 (show 0 < A by omega), zb_m1 (show 0 < D by omega)]
  refine zx_addRun (r := 4) (q := fun z => decide (l ≤ z ∧ z < A)) (by decide) H (Nat.le_refl _) (zb_rw_skip (zb_rw_0 L R 0 _) (Nat.zero_le l) (fun z _ hz => decide_eq_false (fun hh => by omega))) (show l < A by omega) hA (fun z h2 h3 => decide_eq_true ⟨h2, h3⟩) (by omega) (fun nr2 lf2 rt2 L2 R2 m2 H2 hf2 hrow2 hL2 hF2 => ?_)
  dsimp only
  have P0 : zb_P c t 0 (fun _ => 0) (fun _ => 0) (fun _ => 0) L2 R2 := by
    refine zb_P_skip (zb_P_0 c _ _ _ _ _ rfl) (Nat.zero_le t) (fun y _ hy x hx => ?_)
    rw [hc y (by omega) x hx]
    exact decide_eq_false (fun hh => by omega)
  refine zx_endBand (r := 4) (by decide) H2 P0 hf2 (fun y h2 h3 => zb_rw_cg (zb_rw_skip hrow2 hA (fun z h4 h5 => decide_eq_false (fun hh => by omega))) (fun _ _ _ => ⟨rfl, rfl⟩) (fun z hz => ?_)) (show t ≤ D - 1 by omega) (by omega) (fun nb3 tp3 en3 fs3 bn3 nr3 B3 T3 E3 F3 H3 P3 hF3 => ?_)
  · show c (24 * y + z) = _
    rw [hc y (by omega) z hz]
    exact decide_eq_decide.mpr ⟨fun hh => by omega, fun hh => by omega⟩
  · refine K nb3 tp3 en3 fs3 bn3 nr3 lf2 rt2 ⟨B3, T3, E3, F3, L2, R2, H3, zb_P_skip P3 (by omega) (fun y h2 h3 x hx => ?_)⟩ (zb_Fr_t hF2 hF3)
    rw [hc y (by omega) x hx]
    exact decide_eq_false (fun hh => by omega)
theorem zx_makeBox {post : SX → Prop} {p0 p1 : Int32} {l t w h : Nat} (e1 : p0 &&& 31 = nI l) (e2 : (p0 >>> ((5 : Int32) &&& 31)) &&& 31 = nI t) (e3 : p1 &&& 31 = nI w) (e4 : (p1 >>> ((5 : Int32) &&& 31)) &&& 31 = nI h) (hl : l < 32) (ht : t < 32) (hw : w < 32) (hh : h < 32)
    (K : ∀ (nb' tp' en' fs' bn' nr' lf' rt' : Nat → Int32), zb_Rg nb' tp' en' fs' bn' nr' lf' rt' 4 (zb_bx l t w h) → zb_Fr 4 (nb, tp, en, fs, bn, nr, lf, rt) (nb', tp', en', fs', bn', nr', lf', rt') → post (nb', tp', en', fs', bn', nr', lf', rt')) : wpX_makeBox post (nb, tp, en, fs, bn, nr, lf, rt) p0 p1 := by
  unfold wpX_makeBox
  dsimp only
  refine zx_start (r := 4) (by decide) ?_
  dsimp only
  rw [e1, e2, e3, e4]
  refine nm_e (nm_e ?_)
  rw [nI_add, nI_add]
  refine nm_e (nm_e ?_)
  have M : ∀ A D, A ≤ 24 → D ≤ 24 → (∀ x, x < 24 → (x < A ↔ x < l + w)) → (∀ y, y < 24 → (y < D ↔ y < t + h)) → wX_makeBox_63 post (nI l) (nI t) (nI A - 1) (nI D - 1) (upd nb 4 0) tp en fs bn (upd nr 4 0) lf rt := by
    intro A D hA hD hx hy
    refine zx_mb63 (c := zb_bx l t w h) (L := fun _ => 0) (R := fun _ => 0) hA hD hl ht (fun y h1 x h2 => ?_) (zb_H_start 4 _ _) (fun nb' tp' en' fs' bn' nr' lf' rt' g1 g2 => K _ _ _ _ _ _ _ _ g1 (zb_Fr_t (zb_Fr_start 4) g2))
    rw [zb_bx_at l t w h y x h2]
    have a := hx x h2
    have b := hy y h1
    exact decide_eq_decide.mpr ⟨fun hh => by omega, fun hh => by omega⟩
  have N : ∀ A, A ≤ 24 → (∀ x, x < 24 → (x < A ↔ x < l + w)) → wX_makeBox_52 post (nI l) (nI t) (nI A - 1) (nI (t + h) - 1) (upd nb 4 0) tp en fs bn (upd nr 4 0) lf rt := by
    intro A hA hx
    unfold wX_makeBox_52
    exact zb_if (zb_p1_le (b := 23) (by omega) (by omega)) (fun h1 => M A (t + h) hA (by omega) hx (fun y hy => Iff.rfl)) (fun h1 => M A 24 hA (by omega) hx (fun y hy => ⟨fun _ => by omega, fun _ => hy⟩))
  exact zb_if (zb_p1_le (b := 23) (by omega) (by omega)) (fun h1 => N (l + w) (by omega) (fun x hx => Iff.rfl)) (fun h1 => N 24 (by omega) (fun x hx => ⟨fun _ => by omega, fun _ => hx⟩))
end
def zb_ag (o w : Nat) (f f' : Nat → Int32) : Prop := ∀ p, (p < o ∨ o + w ≤ p) → f' p = f p
theorem zb_ag_r (o w : Nat) (f : Nat → Int32) : zb_ag o w f f := fun _ _ => rfl
theorem zb_ag_u {o w i : Nat} {f f' : Nat → Int32} {v : Int32} (h : zb_ag o w f f') (hi : i < w) : zb_ag o w f (upd f' (o + i) v) := by
  intro p hp
  rw [pk_un (by omega)]
  exact h p hp
theorem zb_lt_u {P : Nat → Int32 → Prop} {f : Nat → Int32} {o i : Nat} {v : Int32} (h : ∀ j, j < i → P j (f (o + j))) (hv : P i v) : ∀ j, j < i + 1 → P j (upd f (o + i) v (o + j)) := by
  intro j hj
  by_cases e : j = i
  · subst e; rw [pk_us]; exact hv
  · rw [pk_un (by omega)]; exact h j (by omega)
section
variable {nb tp en fs bn nr lf rt : Nat → Int32}
theorem zx_k124 {post : SX → Prop} {r m : Nat} {L R : Nat → Nat} (hr : r < 3) (hm : m ≤ 288) (h3 : nr 3 = nI m) (hL : ∀ k, k < m → lf (3 * 288 + k) = nI (L k) ∧ rt (3 * 288 + k) = nI (R k))
    (K : ∀ lf' rt', zb_ag (r * 288) 288 lf lf' → zb_ag (r * 288) 288 rt rt' → (∀ k, k < m → lf' (r * 288 + k) = nI (L k)) → (∀ k, k < m → rt' (r * 288 + k) = nI (R k)) → post (nb, tp, en, fs, bn, nr, lf', rt')) :
    ∀ d i, i + d = m → ∀ lf' rt', zb_ag (r * 288) 288 lf lf' → zb_ag (r * 288) 288 rt rt' → (∀ k, k < i → lf' (r * 288 + k) = nI (L k)) → (∀ k, k < i → rt' (r * 288 + k) = nI (R k)) → wX_keep_124 post (nI r) (d + 1) (nI i) nb tp en fs bn nr lf' rt' := by
  intro d
  induction d with
  | zero =>
    intro i hi lf' rt' h4 h5 h6 h7
    have e : i = m := by omega
    subst e
    rw [wX_keep_124]
    dsimp only
    rw [h3]
    exact br_t (nI_le (Nat.le_refl _) (by omega)) (K lf' rt' h4 h5 h6 h7)
  | succ d ih =>
    intro i hi lf' rt' h4 h5 h6 h7
    have i1 : vp_in (nI (864 + i)) 1440 := vp_in_nI (by omega) (by omega)
    have i2 : vp_in (nI (r * 288 + i)) 1440 := vp_in_nI (by omega) (by omega)
    have a := hL i (by omega)
    have e1 : lf' (864 + i) = nI (L i) := (h4 (864 + i) (by omega)).trans a.1
    have e2 : rt' (864 + i) = nI (R i) := (h5 (864 + i) (by omega)).trans a.2
    rw [wX_keep_124]
    dsimp only
    rw [h3, zb_i288, show (864 : Int32) + nI i = nI (864 + i) from nI_add 864 i, nI_clamp (show 864 + i < 2 ^ 31 by omega), nI_clamp (show r * 288 + i < 2 ^ 31 by omega), e1, e2]
    exact br_f (nI_ge (by omega) (by omega)) ⟨i1, i2, nm_e ⟨i1, i2, nm_e (nm_r (nI_1 i) (ih (i + 1) (by omega) _ _ (zb_ag_u h4 (by omega)) (zb_ag_u h5 (by omega)) (zb_lt_u (P := fun j v => v = nI (L j)) h6 rfl) (zb_lt_u (P := fun j v => v = nI (R j)) h7 rfl)))⟩⟩
theorem zx_k26 {post : SX → Prop} {r B : Nat} {T E F : Nat → Nat} (hr : r < 3) (hB : B ≤ 24) (h3 : nb 3 = nI B) (hT : ∀ i, i < B → tp (3 * 24 + i) = nI (T i) ∧ en (3 * 24 + i) = nI (E i) ∧ fs (3 * 24 + i) = nI (F i) ∧ bn (3 * 24 + i) = nI (F (i + 1) - F i))
    (K : ∀ tp' en' fs' bn', zb_ag (r * 24) 24 tp tp' → zb_ag (r * 24) 24 en en' → zb_ag (r * 24) 24 fs fs' → zb_ag (r * 24) 24 bn bn' → (∀ k, k < B → tp' (r * 24 + k) = nI (T k)) → (∀ k, k < B → en' (r * 24 + k) = nI (E k)) → (∀ k, k < B → fs' (r * 24 + k) = nI (F k)) → (∀ k, k < B → bn' (r * 24 + k) = nI (F (k + 1) - F k)) → ∃ n, wX_keep_124 post (nI r) n 0 nb tp' en' fs' bn' nr lf rt) :
    ∀ d i, i + d = B → ∀ tp' en' fs' bn', zb_ag (r * 24) 24 tp tp' → zb_ag (r * 24) 24 en en' → zb_ag (r * 24) 24 fs fs' → zb_ag (r * 24) 24 bn bn' → (∀ k, k < i → tp' (r * 24 + k) = nI (T k)) → (∀ k, k < i → en' (r * 24 + k) = nI (E k)) → (∀ k, k < i → fs' (r * 24 + k) = nI (F k)) → (∀ k, k < i → bn' (r * 24 + k) = nI (F (k + 1) - F k)) → wX_keep_26 post (nI r) (d + 1) (nI i) nb tp' en' fs' bn' nr lf rt := by
  intro d
  induction d with
  | zero =>
    intro i hi tp' en' fs' bn' g1 g2 g3 g4 g5 g6 g7 g8
    have e : i = B := by omega
    subst e
    rw [wX_keep_26]
    dsimp only
    rw [h3]
    exact br_t (nI_le (Nat.le_refl _) (by omega)) (K tp' en' fs' bn' g1 g2 g3 g4 g5 g6 g7 g8)
  | succ d ih =>
    intro i hi tp' en' fs' bn' g1 g2 g3 g4 g5 g6 g7 g8
    have i1 : vp_in (nI (72 + i)) 120 := vp_in_nI (by omega) (by omega)
    have i2 : vp_in (nI (r * 24 + i)) 120 := vp_in_nI (by omega) (by omega)
    have a := hT i (by omega)
    have e1 : tp' (72 + i) = nI (T i) := (g1 (72 + i) (by omega)).trans a.1
    have e2 : en' (72 + i) = nI (E i) := (g2 (72 + i) (by omega)).trans a.2.1
    have e3 : fs' (72 + i) = nI (F i) := (g3 (72 + i) (by omega)).trans a.2.2.1
    have e4 : bn' (72 + i) = nI (F (i + 1) - F i) := (g4 (72 + i) (by omega)).trans a.2.2.2
    rw [wX_keep_26]
    dsimp only
    rw [h3, zb_i24, show (72 : Int32) + nI i = nI (72 + i) from nI_add 72 i, nI_clamp (show 72 + i < 2 ^ 31 by omega), nI_clamp (show r * 24 + i < 2 ^ 31 by omega), e1, e2, e3, e4]
    exact br_f (nI_ge (by omega) (by omega)) ⟨i1, i2, nm_e ⟨i1, i2, nm_e ⟨i1, i2, nm_e ⟨i1, i2, nm_e (nm_r (nI_1 i) (ih (i + 1) (by omega) _ _ _ _ (zb_ag_u g1 (by omega)) (zb_ag_u g2 (by omega)) (zb_ag_u g3 (by omega)) (zb_ag_u g4 (by omega)) (zb_lt_u (P := fun j v => v = nI (T j)) g5 rfl) (zb_lt_u (P := fun j v => v = nI (E j)) g6 rfl) (zb_lt_u (P := fun j v => v = nI (F j)) g7 rfl) (zb_lt_u (P := fun j v => v = nI (F (j + 1) - F j)) g8 rfl)))⟩⟩⟩⟩
theorem zx_keep {post : SX → Prop} {r : Nat} {c : Nat → Bool} (hr : r < 3) (G : zb_Rg nb tp en fs bn nr lf rt 3 c)
    (K : ∀ (nb' tp' en' fs' bn' nr' lf' rt' : Nat → Int32), zb_Rg nb' tp' en' fs' bn' nr' lf' rt' r c → zb_Fr r (nb, tp, en, fs, bn, nr, lf, rt) (nb', tp', en', fs', bn', nr', lf', rt') → post (nb', tp', en', fs', bn', nr', lf', rt')) : wpX_keep post (nb, tp, en, fs, bn, nr, lf, rt) (nI r) := by
  obtain ⟨B, T, E, F, L, R, H, P⟩ := G
  have ir : vp_in (nI r) 5 := vp_in_nI (by omega) (by omega)
  have hB := zb_P_FB P (Nat.le_refl _)
  unfold wpX_keep
  dsimp only
  rw [nI_clamp (show r < 2 ^ 31 by omega), H.1, H.2.1]
  refine ⟨ir, nm_e ⟨ir, nm_e ⟨B + 1, zx_k26 hr hB.1 ((pk_un (by omega)).trans H.1) H.2.2.1 (fun tp' en' fs' bn' g1 g2 g3 g4 g5 g6 g7 g8 => ⟨F B + 1, zx_k124 hr hB.2 ((pk_un (by omega)).trans H.2.1) H.2.2.2 (fun lf' rt' g9 g10 g11 g12 => ?_) (F B) 0 (by omega) lf rt (zb_ag_r _ _ _) (zb_ag_r _ _ _) (fun k hk => by omega) (fun k hk => by omega)⟩) B 0 (by omega) tp en fs bn (zb_ag_r _ _ _) (zb_ag_r _ _ _) (zb_ag_r _ _ _) (zb_ag_r _ _ _) (fun k hk => by omega) (fun k hk => by omega) (fun k hk => by omega) (fun k hk => by omega)⟩⟩⟩
  refine K _ _ _ _ _ _ _ _ ⟨B, T, E, F, L, R, ⟨pk_us, pk_us, fun i hi => ⟨g5 i hi, g6 i hi, g7 i hi, g8 i hi⟩, fun k hk => ⟨g11 k hk, g12 k hk⟩⟩, P⟩ ?_
  intro q hq hn
  exact ⟨pk_un hn, pk_un hn, fun i hi => ⟨g1 _ (by omega), g2 _ (by omega), g3 _ (by omega), g4 _ (by omega)⟩, fun k hk => ⟨g9 _ (by omega), g10 _ (by omega)⟩⟩
end
theorem zb_cn_rows {c : Nat → Bool} {a W : Nat} : ∀ n, (∀ y, a ≤ y → y < a + n → zb_cn (zb_row c y) 24 = W) → zb_cn c (24 * (a + n)) = zb_cn c (24 * a) + W * n := by
  intro n
  induction n with
  | zero => intro _; rfl
  | succ n ih =>
    intro h
    have a1 := ih (fun y h1 h2 => h y h1 (by omega))
    have a2 := h (a + n) (by omega) (by omega)
    have a3 := zb_cn_add c (24 * (a + n)) 24
    rw [show 24 * (a + n) + 24 = 24 * (a + (n + 1)) by omega] at a3
    rw [a3, a1, Nat.mul_succ]
    have a4 : zb_cn (fun t => c (24 * (a + n) + t)) 24 = W := a2
    rw [a4]
    omega
section
variable {nb tp en fs bn nr lf rt : Nat → Int32}
theorem zx_c28 {post : Int32 → Prop} {J4 : Int32 → Int32 → Prop} {r b f n s i h : Nat} {L R : Nat → Nat} {q : Nat → Bool} (hr : r < 5) (hb : b < 120) (hfn : f + n ≤ 288) (hbn : bn b = nI n) (hfs : fs b = nI f) (hh : en b - tp b + 1 = nI h) (hrow : zb_rw L R f (f + n) 24 q) (hA : ∀ k, f ≤ k → k < f + n → lf (r * 288 + k) = nI (L k) ∧ rt (r * 288 + k) = nI (R k))
    (K : J4 (nI (s + zb_cn q 24 * h)) (nI (i + 1))) :
    ∀ d j, j + d = n → ∀ w z, w = zb_cn q z → z ≤ 24 → (j < n → z ≤ L (f + j)) → (∀ zz, z ≤ zz → zz < 24 → (j < n → zz < L (f + j)) → q zz = false) → wX_cells_28 post J4 (nI r) (nI s) (nI i) (nI b) nb tp en fs bn nr lf rt (d + 1) (nI w) (nI j) := by
  have ib : vp_in (nI b) 120 := vp_in_nI hb (by omega)
  intro d
  induction d with
  | zero =>
    intro j hj w z hw hz h1 h2
    have e : j = n := by omega
    subst e
    have hg : zb_cn q 24 = zb_cn q z := zb_cn_gap hz (fun t h3 h4 => h2 t h3 h4 (fun h5 => by omega))
    rw [wX_cells_28]
    dsimp only
    rw [nI_clamp (show b < 2 ^ 31 by omega), hbn, hh, pk_mul, nI_add, hw, ← hg]
    exact ⟨ib, br_t (nI_le (Nat.le_refl _) (by omega)) ⟨ib, ib, nm_e (nm_r (nI_1 i) K)⟩⟩
  | succ d ih =>
    intro j hj w z hw hz h1 h2
    have a := hA (f + j) (by omega) (by omega)
    have b1 := hrow.1 (f + j) (by omega) (by omega)
    have c1 := h1 (by omega)
    have ia : vp_in (nI (r * 288 + (f + j))) 1440 := vp_in_nI (by omega) (by omega)
    rw [wX_cells_28]
    dsimp only
    rw [nI_clamp (show b < 2 ^ 31 by omega), hbn, hfs, zb_i288, nI_add, show r * 288 + f + j = r * 288 + (f + j) by omega]
    refine ⟨ib, br_f (nI_ge (by omega) (by omega)) ⟨ib, nm_e ?_⟩⟩
    rw [nI_clamp (show r * 288 + (f + j) < 2 ^ 31 by omega), a.1, a.2, pk_sub b1.1, nI_1, nI_add]
    refine ⟨ia, ia, nm_e (nm_r (nI_1 j) (ih (j + 1) (by omega) _ (R (f + j) + 1) ?_ (by omega) (fun h5 => ?_) (fun zz h5 h6 h7 => ?_)))⟩
    · rw [zb_cn_full (show L (f + j) ≤ R (f + j) + 1 by omega) (fun t h5 h6 => zb_rw_in hrow (show f ≤ f + j by omega) (by omega) h5 (by omega)), zb_cn_gap (f := q) c1 (fun t h5 h6 => h2 t h5 (by omega) (fun _ => h6)), ← hw]
      omega
    · have := b1.2.2 (by omega)
      rw [show f + (j + 1) = f + j + 1 by omega]
      omega
    · exact zb_rw_aft hrow (show f ≤ f + j by omega) (by omega) (by omega) h6 (fun h8 => h7 (by omega))
theorem zx_c4 {post : Int32 → Prop} {r B : Nat} {T E F L R : Nat → Nat} {c : Nat → Bool} (hr : r < 5) (H : zb_H nb tp en fs bn nr lf rt r B T E F L R (F B)) (P : zb_P c 24 B T E F L R) (K : post (nI (zb_cn c 576))) :
    ∀ d i, i + d = B → ∀ s h, s = zb_cn c (24 * h) → h ≤ 24 → (∀ j, j < i → E j < h) → (i < B → h ≤ T i) → wX_cells_4 post (nI r) nb tp en fs bn nr lf rt (d + 1) (nI s) (nI i) := by
  have ir : vp_in (nI r) 5 := vp_in_nI hr (by omega)
  have hB := zb_P_FB P (Nat.le_refl _)
  intro d
  induction d with
  | zero =>
    intro i hi s h hs hh h1 h2
    have e : i = B := by omega
    subst e
    have hg : zb_cn c 576 = zb_cn c (24 * h) := zb_cn_gap (by omega) (fun t h3 h4 => by
      have := zb_P_gapB P (y := t / 24) (fun j hj => by have := h1 j hj; omega) (by omega) (t % 24) (by omega)
      rw [show 24 * (t / 24) + t % 24 = t by omega] at this
      exact this)
    rw [wX_cells_4]
    dsimp only
    rw [nI_clamp (show r < 2 ^ 31 by omega), H.1, hs, ← hg]
    exact ⟨ir, br_t (nI_le (Nat.le_refl _) (by omega)) K⟩
  | succ d ih =>
    intro i hi s h hs hh h1 h2
    have a := H.2.2.1 i (by omega)
    have b := P.2.1 i (by omega)
    have c2 := h2 (by omega)
    have hF := zb_P_Fm P (i := i + 1) B (by omega) (Nat.le_refl _)
    rw [wX_cells_4]
    dsimp only
    rw [nI_clamp (show r < 2 ^ 31 by omega), H.1, zb_i24]
    refine ⟨ir, br_f (nI_ge (by omega) (by omega)) (nm_e ⟨F (i + 1) - F i + 1, ?_⟩)⟩
    have hw := b.2.2.2 (T i) (Nat.le_refl _) b.1
    have eF : F i + (F (i + 1) - F i) = F (i + 1) := by omega
    refine zx_c28 (f := F i) (n := F (i + 1) - F i) (h := E i + 1 - T i) (L := L) (R := R) (q := zb_row c (T i)) hr (by omega) (by omega) a.2.2.2 a.2.2.1 ?_ (by rw [eF]; exact hw) (fun k k1 k2 => H.2.2.2 k (by omega)) ?_ _ 0 (by omega) 0 0 rfl (by omega) (fun _ => by omega) (fun zz h3 h4 h5 => zb_rw_bef hw h4 (fun h6 => h5 (by omega)))
    · rw [a.1, a.2.1, pk_sub b.1, nI_1, show E i - T i + 1 = E i + 1 - T i by omega]
    · refine ih (i + 1) (by omega) _ (E i + 1) ?_ (by omega) (fun j hj => ?_) (fun h3 => (P.2.2.1 i h3).1)
      · have g1 : zb_cn c (24 * T i) = zb_cn c (24 * h) := zb_cn_gap (by omega) (fun t h3 h4 => by
          have := zb_P_gapT P (i := i) (y := t / 24) (fun j hj => by have := h1 j hj; omega) (by omega) (by omega) (t % 24) (by omega)
          rw [show 24 * (t / 24) + t % 24 = t by omega] at this
          exact this)
        have g2 := zb_cn_rows (c := c) (a := T i) (W := zb_cn (zb_row c (T i)) 24) (E i + 1 - T i) (fun y h3 h4 => zb_cn_congr 24 (zb_rw_eq (b.2.2.2 y h3 (by omega)) hw))
        rw [show T i + (E i + 1 - T i) = E i + 1 by omega] at g2
        rw [g2, g1, ← hs]
      · by_cases hji : j = i
        · subst hji; omega
        · have := h1 j (by omega); omega
theorem zx_cells {post : Int32 → Prop} {r : Nat} {c : Nat → Bool} (hr : r < 5) (G : zb_Rg nb tp en fs bn nr lf rt r c) (K : post (nI (zb_cn c 576))) : wpX_cells post (nb, tp, en, fs, bn, nr, lf, rt) (nI r) := by
  obtain ⟨B, T, E, F, L, R, H, P⟩ := G
  exact ⟨B + 1, zx_c4 hr H P K B 0 (by omega) 0 0 rfl (by omega) (fun j hj => by omega) (fun _ => by omega)⟩
end
end
section
/-! move -/
theorem zb_s24 (a : Nat) (ha : a < 2 ^ 30) : (nI a - 24).toInt = (a : Int) - 24 :=
  pk_sub_toInt (a := a) (b := 24) ha (by decide)
theorem zb_s24_0 {a : Nat} (ha : a < 2 ^ 30) : 0 ≤ nI a - 24 ↔ 24 ≤ a := by
  rw [Int32.le_iff_toInt_le, zb_s24 a ha, show (0 : Int32).toInt = 0 from by decide]; omega
theorem zb_s24_23 {a : Nat} (ha : a < 2 ^ 30) : nI a - 24 ≤ 23 ↔ a ≤ 47 := by
  rw [Int32.le_iff_toInt_le, zb_s24 a ha, show (23 : Int32).toInt = 23 from by decide]; omega
theorem zb_s24_lt {a b : Nat} (ha : a < 2 ^ 30) (hb : b < 2 ^ 30) : nI a - 24 < nI b ↔ a < b + 24 := by
  rw [Int32.lt_iff_toInt_lt, zb_s24 a ha, nI_toInt (by omega)]; omega
theorem zb_s24_e {a : Nat} (ha : 24 ≤ a) : nI a - 24 = nI (a - 24) := pk_sub (b := 24) ha
theorem zb_s24_a (a b : Nat) : nI a + (nI b - 24) = nI (a + b) - 24 := by
  rw [Int32.sub_eq_add_neg, Int32.sub_eq_add_neg, ← Int32.add_assoc, nI_add]
theorem zb_bm {v : Int} (h1 : -4294967296 ≤ v) (h2 : v < 4294967296) : v.bmod (2 ^ 32) = if v < -2147483648 then v + 4294967296 else if v < 2147483648 then v else v - 4294967296 := by
  rw [Int.bmod_def]
  split <;> split <;> (try split) <;> omega
theorem zx_clamp (d : Int32) : ∃ n, n ≤ 48 ∧ (∀ post : Int32 → Prop, post (nI n - 24) → wpX_clampMove post d) ∧
    (∀ x, x < 24 → ((nI x + d < 0 ∨ 24 ≤ nI x + d) ∧ ¬ (24 ≤ x + n ∧ x + n < 48)) ∨ (¬ nI x + d < 0 ∧ ¬ 24 ≤ nI x + d ∧ 24 ≤ x + n ∧ x + n < 48 ∧ nI x + d = nI (x + n - 24))) := by
  have t0 : (0 : Int32).toInt = 0 := by decide
  have t24 : (24 : Int32).toInt = 24 := by decide
  have tm : (-24 : Int32).toInt = -24 := by decide
  have b1 := d.le_toInt
  have b2 := d.toInt_lt
  have hs : ∀ x, x < 24 → (nI x + d).toInt = if (x : Int) + d.toInt < 2147483648 then (x : Int) + d.toInt else (x : Int) + d.toInt - 4294967296 := by
    intro x hx
    rw [Int32.toInt_add, nI_toInt (by omega), zb_bm (by omega) (by omega), if_neg (by omega)]
  by_cases h1 : d ≤ 24
  · have h1' := Int32.le_iff_toInt_le.mp h1
    by_cases h2 : -24 ≤ d
    · have h2' := Int32.le_iff_toInt_le.mp h2
      rw [t24] at h1'
      rw [tm] at h2'
      have e : nI (d.toInt + 24).toNat - 24 = d := by
        apply Int32.toInt_inj.mp
        rw [zb_s24 _ (by omega)]; omega
      refine ⟨(d.toInt + 24).toNat, by omega, fun post hp => ?_, fun x hx => ?_⟩
      · rw [e] at hp; exact br_t h1 (br_t h2 hp)
      · have hx' := hs x hx
        rw [if_pos (by omega)] at hx'
        by_cases hc : 24 ≤ x + (d.toInt + 24).toNat ∧ x + (d.toInt + 24).toNat < 48
        · refine Or.inr ⟨?_, ?_, hc.1, hc.2, ?_⟩
          · rw [Int32.lt_iff_toInt_lt, hx', t0]; omega
          · rw [Int32.le_iff_toInt_le, hx', t24]; omega
          · apply Int32.toInt_inj.mp
            rw [hx', nI_toInt (by omega)]; omega
        · refine Or.inl ⟨?_, hc⟩
          rw [Int32.lt_iff_toInt_lt, Int32.le_iff_toInt_le, hx', t0, t24]; omega
    · have h2' : ¬ (-24 : Int32).toInt ≤ d.toInt := fun hh => h2 (Int32.le_iff_toInt_le.mpr hh)
      rw [tm] at h2'
      refine ⟨0, by omega, fun post hp => br_t h1 (br_f h2 hp), fun x hx => Or.inl ⟨?_, by omega⟩⟩
      have hx' := hs x hx
      rw [if_pos (by omega)] at hx'
      rw [Int32.lt_iff_toInt_lt, Int32.le_iff_toInt_le, hx', t0, t24]; omega
  · have h1' : ¬ d.toInt ≤ (24 : Int32).toInt := fun hh => h1 (Int32.le_iff_toInt_le.mpr hh)
    rw [t24] at h1'
    refine ⟨48, by omega, fun post hp => br_f h1 hp, fun x hx => Or.inl ⟨?_, by omega⟩⟩
    have hx' := hs x hx
    rw [Int32.lt_iff_toInt_lt, Int32.le_iff_toInt_le, hx', t0, t24]
    split <;> omega
def zb_mq (q : Nat → Bool) (p : Nat) : Nat → Bool := fun u => decide (p ≤ u + 24 ∧ u < p) && q (u + 24 - p)
theorem zb_mq_t {q : Nat → Bool} {p u : Nat} (h1 : p ≤ u + 24) (h2 : u < p) (h3 : q (u + 24 - p) = true) : zb_mq q p u = true := by
  unfold zb_mq
  rw [decide_eq_true ⟨h1, h2⟩, h3]; rfl
theorem zb_mq_f {q : Nat → Bool} {p u : Nat} (h : p ≤ u + 24 → u < p → q (u + 24 - p) = false) : zb_mq q p u = false := by
  unfold zb_mq
  by_cases hc : p ≤ u + 24 ∧ u < p
  · rw [h hc.1 hc.2]; simp
  · rw [decide_eq_false hc]; rfl
def zb_mv (c : Nat → Bool) (p s : Nat) : Nat → Bool := fun j => decide (s ≤ j / 24 + 24 ∧ j / 24 < s) && zb_mq (zb_row c (j / 24 + 24 - s)) p (j % 24)
theorem zb_mv_at (c : Nat → Bool) (p s v u : Nat) (hu : u < 24) : zb_mv c p s (24 * v + u) = (decide (s ≤ v + 24 ∧ v < s) && zb_mq (zb_row c (v + 24 - s)) p u) := by
  unfold zb_mv
  rw [show (24 * v + u) % 24 = u by omega, show (24 * v + u) / 24 = v by omega]
theorem zb_mv_t {c : Nat → Bool} {p s v u : Nat} (hu : u < 24) (h1 : s ≤ v + 24) (h2 : v < s) : zb_mv c p s (24 * v + u) = zb_mq (zb_row c (v + 24 - s)) p u := by
  rw [zb_mv_at c p s v u hu, decide_eq_true ⟨h1, h2⟩]; rfl
theorem zb_mv_f {c : Nat → Bool} {p s v u : Nat} (hu : u < 24) (h : s ≤ v + 24 → v < s → ∀ x, x < 24 → c (24 * (v + 24 - s) + x) = false) : zb_mv c p s (24 * v + u) = false := by
  by_cases hc : s ≤ v + 24 ∧ v < s
  · rw [zb_mv_t hu hc.1 hc.2]
    exact zb_mq_f (fun h1 h2 => h hc.1 hc.2 _ (by omega))
  · rw [zb_mv_at c p s v u hu, decide_eq_false hc]; rfl
section
variable {nb tp en fs bn nr lf rt : Nat → Int32}
theorem zx_mb11 {post : SX → Prop} {r b f n p top e B : Nat} {T E F L R L0 R0 : Nat → Nat} {q : Nat → Bool} {c : Nat → Bool} (hr : r < 3) (hb : b < 120) (hfn : f + n ≤ 288) (hp : p ≤ 48) (hbn : bn b = nI n) (hfs : fs b = nI f) (hrow : zb_rw L R f (f + n) 24 q) (hA : ∀ k, f ≤ k → k < f + n → lf (r * 288 + k) = nI (L k) ∧ rt (r * 288 + k) = nI (R k)) (hte : top ≤ e) (he : e < 24) (P : zb_P c top B T E F L0 R0) (hc : ∀ y, top ≤ y → y ≤ e → ∀ u, u < 24 → c (24 * y + u) = zb_mq q p u)
    (K : ∀ (nb' tp' en' fs' bn' nr' lf' rt' : Nat → Int32) (B' : Nat) (T' E' F' L' R' : Nat → Nat), zb_H nb' tp' en' fs' bn' nr' lf' rt' 3 B' T' E' F' L' R' (F' B') → zb_P c (e + 1) B' T' E' F' L' R' → zb_Fr 3 (nb, tp, en, fs, bn, nr, lf, rt) (nb', tp', en', fs', bn', nr', lf', rt') → post (nb', tp', en', fs', bn', nr', lf', rt')) :
    ∀ d j, j + d = n → ∀ (x : Nat) (nr' lf' rt' : Nat → Int32) (L3 R3 : Nat → Nat) (m3 : Nat), zb_H nb tp en fs bn nr' lf' rt' 3 B T E F L3 R3 m3 → F B ≤ m3 → zb_rw L3 R3 (F B) m3 x (zb_mq q p) → (∀ k, k < F B → L3 k = L0 k ∧ R3 k = R0 k) → zb_Fr 3 (nb, tp, en, fs, bn, nr, lf, rt) (nb, tp, en, fs, bn, nr', lf', rt') → x ≤ 24 → (j < n → x ≤ L (f + j) + p - 24) → (∀ u, x ≤ u → u < 24 → (j < n → u + 24 < L (f + j) + p) → zb_mq q p u = false) → wX_moveBand_11 post (nI r) (nI b) (nI p - 24) (nI top) (nI e) (nI (F B)) (d + 1) (nI j) nb tp en fs bn nr' lf' rt' := by
  have ib : vp_in (nI b) 120 := vp_in_nI hb (by omega)
  have hBt := zb_P_B P
  have hFB := zb_P_F P B (Nat.le_refl _)
  intro d
  induction d with
  | zero =>
    intro j hj x nr' lf' rt' L3 R3 m3 H hf hw hL hF hx h1 h2
    have ej : j = n := by omega
    subst ej
    rw [wX_moveBand_11]
    dsimp only
    rw [nI_clamp (show b < 2 ^ 31 by omega), hbn]
    refine ⟨ib, br_t (nI_le (Nat.le_refl _) (by omega)) ?_⟩
    refine zx_endBand (r := 3) (by decide) H (zb_P_cg P hL) hf (fun y k1 k2 => zb_rw_cg (zb_rw_skip hw hx (fun z k3 k4 => h2 z k3 k4 (fun k5 => by omega))) (fun _ _ _ => ⟨rfl, rfl⟩) (fun z hz => hc y k1 k2 z hz)) hte he (fun nb3 tp3 en3 fs3 bn3 nr3 B3 T3 E3 F3 H3 P3 hF3 => ?_)
    exact K nb3 tp3 en3 fs3 bn3 nr3 lf' rt' B3 T3 E3 F3 L3 R3 H3 P3 (zb_Fr_t hF hF3)
  | succ d ih =>
    intro j hj x nr' lf' rt' L3 R3 m3 H hf hw hL hF hx h1 h2
    have a := hA (f + j) (by omega) (by omega)
    have w := hrow.1 (f + j) (by omega) (by omega)
    have hx1 := h1 (by omega)
    have fr := zb_Fr_lf hF (k := r * 288 + (f + j)) (by omega) (by omega)
    have ia : vp_in (nI (r * 288 + (f + j))) 1440 := vp_in_nI (by omega) (by omega)
    have nxt : j + 1 < n → R (f + j) + 1 < L (f + (j + 1)) := by
      intro hh
      have := w.2.2 (by omega)
      rw [show f + (j + 1) = f + j + 1 by omega]
      exact this
    have aft : ∀ u, u < 24 → R (f + j) + p < u + 24 → (j + 1 < n → u + 24 < L (f + (j + 1)) + p) → zb_mq q p u = false := by
      intro u hu h3 h4
      refine zb_mq_f (fun h5 h6 => zb_rw_aft hrow (show f ≤ f + j by omega) (by omega) (by omega) (by omega) (fun h7 => ?_))
      have := h4 (by omega)
      rw [show f + j + 1 = f + (j + 1) by omega]
      omega
    have M : ∀ A, A ≤ 47 → A ≤ R (f + j) + p → (A = R (f + j) + p ∨ A = 47) → wX_moveBand_80 post (wX_moveBand_11 post (nI r) (nI b) (nI p - 24) (nI top) (nI e) (nI (F B)) (d + 1)) (nI r) (nI b) (nI p - 24) (nI top) (nI e) (nI (F B)) (nI j) (nI (L (f + j) + p - 24)) (nI A - 24) nb tp en fs bn nr' lf' rt' := by
      intro A hA1 hA2 hA3
      unfold wX_moveBand_80
      refine zb_if (zb_s24_lt (by omega) (by omega)) (fun h3 => nm_r (nI_1 j) ?_) (fun h3 => ?_)
      · refine ih (j + 1) (by omega) x nr' lf' rt' L3 R3 m3 H hf hw hL hF hx (fun h4 => by have := nxt h4; omega) (fun u h4 h5 h6 => ?_)
        by_cases h7 : u + 24 < L (f + j) + p
        · exact h2 u h4 h5 (fun _ => h7)
        · exact aft u h5 (by omega) h6
      · rw [zb_s24_e (show 24 ≤ A by omega), show A - 24 = (A - 23) - 1 by omega]
        refine zx_addRun (r := 3) (by decide) H hf (zb_rw_skip hw hx1 (fun z h4 h5 => h2 z h4 (by omega) (fun _ => by omega))) (show L (f + j) + p - 24 < A - 23 by omega) (by omega) (fun z h4 h5 => zb_mq_t (by omega) (by omega) (zb_rw_in hrow (show f ≤ f + j by omega) (by omega) (by omega) (by omega))) (by omega) (fun nr2 lf2 rt2 L2 R2 m2 H2 hf2 hw2 hL2 hF2 => ?_)
        dsimp only
        refine nm_r (nI_1 j) (ih (j + 1) (by omega) (A - 23) nr2 lf2 rt2 L2 R2 m2 H2 hf2 hw2 (fun k hk => ⟨(hL2 k hk).1.trans (hL k hk).1, (hL2 k hk).2.trans (hL k hk).2⟩) (zb_Fr_t hF hF2) (by omega) (fun h4 => by have := nxt h4; omega) (fun u h4 h5 h6 => aft u h5 (by omega) h6))
    have N : wX_moveBand_69 post (wX_moveBand_11 post (nI r) (nI b) (nI p - 24) (nI top) (nI e) (nI (F B)) (d + 1)) (nI r) (nI b) (nI p - 24) (nI top) (nI e) (nI (F B)) (nI j) (nI (L (f + j) + p - 24)) (nI (R (f + j) + p) - 24) nb tp en fs bn nr' lf' rt' := by
      unfold wX_moveBand_69
      exact zb_if (zb_s24_23 (by omega)) (fun h3 => M _ h3 (Nat.le_refl _) (Or.inl rfl)) (fun h3 => M 47 (by omega) (by omega) (Or.inr rfl))
    rw [wX_moveBand_11]
    dsimp only
    rw [nI_clamp (show b < 2 ^ 31 by omega), hbn, hfs, zb_i288, nI_add, show r * 288 + f + j = r * 288 + (f + j) by omega]
    refine ⟨ib, br_f (nI_ge (by omega) (by omega)) ⟨ib, nm_e ?_⟩⟩
    rw [nI_clamp (show r * 288 + (f + j) < 2 ^ 31 by omega), fr.1, fr.2, a.1, a.2, zb_s24_a, zb_s24_a]
    refine ⟨ia, nm_e ⟨ia, nm_e (zb_if (zb_s24_0 (by omega)) (fun h3 => ?_) (fun h3 => ?_))⟩⟩
    · rw [zb_s24_e h3]; exact N
    · rw [show L (f + j) + p - 24 = 0 by omega] at N; exact N
theorem zx_mv29 {post : Int32 → SX → Prop} {r p s : Nat} {cc : Nat → Bool} (hr : r < 3) (hp : p ≤ 48) (hs : s ≤ 48) {B T E F L R} (H : zb_H nb tp en fs bn nr lf rt r B T E F L R (F B)) (PR : zb_P cc 24 B T E F L R)
    (K : ∀ (nb' tp' en' fs' bn' nr' lf' rt' : Nat → Int32), zb_Rg nb' tp' en' fs' bn' nr' lf' rt' r (zb_mv cc p s) → (∀ q c, q < 3 → q ≠ r → zb_Rg nb tp en fs bn nr lf rt q c → zb_Rg nb' tp' en' fs' bn' nr' lf' rt' q c) → post (nI (zb_cn (zb_mv cc p s) 576)) (nb', tp', en', fs', bn', nr', lf', rt')) :
    ∀ d i, i + d = B → ∀ (hi : Nat) (nb' tp' en' fs' bn' nr' lf' rt' : Nat → Int32) (B3 : Nat) (T3 E3 F3 L3 R3 : Nat → Nat), zb_H nb' tp' en' fs' bn' nr' lf' rt' 3 B3 T3 E3 F3 L3 R3 (F3 B3) → zb_P (zb_mv cc p s) hi B3 T3 E3 F3 L3 R3 → zb_Fr 3 (nb, tp, en, fs, bn, nr, lf, rt) (nb', tp', en', fs', bn', nr', lf', rt') → hi ≤ 24 → (i < B → hi ≤ T i + s - 24) → (∀ v, hi ≤ v → v < 24 → (i < B → v + 24 < T i + s) → ∀ u, u < 24 → zb_mv cc p s (24 * v + u) = false) → wX_move_29 post (nI r) (nI p - 24) (nI s - 24) (d + 1) (nI i) nb' tp' en' fs' bn' nr' lf' rt' := by
  have ir : vp_in (nI r) 5 := vp_in_nI (by omega) (by omega)
  have hB := zb_P_FB PR (Nat.le_refl _)
  intro d
  induction d with
  | zero =>
    intro i hi h nb' tp' en' fs' bn' nr' lf' rt' B3 T3 E3 F3 L3 R3 H3 P3 hF hh h1 h2
    have ei : i = B := by omega
    subst ei
    have H' := zb_Fr_H hF (show r < 5 by omega) (by omega) H hB.1 hB.2
    rw [wX_move_29]
    dsimp only
    rw [nI_clamp (show r < 2 ^ 31 by omega), H'.1]
    refine ⟨ir, br_t (nI_le (Nat.le_refl _) (by omega)) ?_⟩
    refine zx_keep hr ⟨B3, T3, E3, F3, L3, R3, H3, zb_P_skip P3 hh (fun v k1 k2 => h2 v k1 k2 (fun k3 => by omega))⟩ (fun nb4 tp4 en4 fs4 bn4 nr4 lf4 rt4 G4 hF4 => ?_)
    dsimp only
    refine zx_cells (by omega) G4 (K nb4 tp4 en4 fs4 bn4 nr4 lf4 rt4 G4 (fun q c hq hqr G => ?_))
    exact zb_Fr_Rg hF4 (by omega) hqr (zb_Fr_Rg hF (by omega) (by omega) G)
  | succ d ih =>
    intro i hi h nb' tp' en' fs' bn' nr' lf' rt' B3 T3 E3 F3 L3 R3 H3 P3 hF hh h1 h2
    have H' := zb_Fr_H hF (show r < 5 by omega) (by omega) H hB.1 hB.2
    have a := H'.2.2.1 i (by omega)
    have b := PR.2.1 i (by omega)
    have hx1 := h1 (by omega)
    have hFm := zb_P_Fm PR (i := i + 1) B (by omega) (Nat.le_refl _)
    have ia : vp_in (nI (r * 24 + i)) 120 := vp_in_nI (by omega) (by omega)
    have nxt : i + 1 < B → E i < T (i + 1) := fun hh => (PR.2.2.1 i hh).1
    have aft : ∀ v, v < 24 → E i + s < v + 24 → (i + 1 < B → v + 24 < T (i + 1) + s) → ∀ u, u < 24 → zb_mv cc p s (24 * v + u) = false := by
      intro v hv h3 h4 u hu
      refine zb_mv_f hu (fun h5 h6 => ?_)
      by_cases hc : i + 1 < B
      · refine zb_P_gapT PR (i := i + 1) (fun j hj => ?_) hc (by have := h4 hc; omega)
        by_cases hji : j = i
        · subst hji; omega
        · have := zb_P_Tm PR i (show j < i by omega) (by omega)
          omega
      · refine zb_P_gapB PR (fun j hj => ?_) (by omega)
        by_cases hji : j = i
        · subst hji; omega
        · have := zb_P_Tm PR i (show j < i by omega) (by omega)
          omega
    have M : ∀ A, A ≤ 47 → A ≤ E i + s → (A = E i + s ∨ A = 47) → wX_move_92 post (wX_move_29 post (nI r) (nI p - 24) (nI s - 24) (d + 1)) (nI r) (nI p - 24) (nI s - 24) (nI i) (nI (r * 24 + i)) (nI (T i + s - 24)) (nI A - 24) nb' tp' en' fs' bn' nr' lf' rt' := by
      intro A hA1 hA2 hA3
      unfold wX_move_92
      refine zb_if (zb_s24_lt (by omega) (by omega)) (fun h3 => nm_r (nI_1 i) ?_) (fun h3 => ?_)
      · refine ih (i + 1) (by omega) h nb' tp' en' fs' bn' nr' lf' rt' B3 T3 E3 F3 L3 R3 H3 P3 hF hh (fun h4 => by have := nxt h4; omega) (fun v h4 h5 h6 => ?_)
        by_cases h7 : v + 24 < T i + s
        · exact h2 v h4 h5 (fun _ => h7)
        · exact aft v h5 (by omega) h6
      · rw [zb_s24_e (show 24 ≤ A by omega)]
        have hw := b.2.2.2 (T i) (Nat.le_refl _) b.1
        have eF : F i + (F (i + 1) - F i) = F (i + 1) := by omega
        have P4 : zb_P (zb_mv cc p s) (T i + s - 24) B3 T3 E3 F3 L3 R3 := zb_P_skip P3 hx1 (fun v h4 h5 => h2 v h4 (by omega) (fun _ => by omega))
        unfold wpX_moveBand
        dsimp only
        rw [H3.2.1]
        refine nm_e ⟨F (i + 1) - F i + 1, ?_⟩
        refine zx_mb11 (f := F i) (n := F (i + 1) - F i) (L := L) (R := R) (L0 := L3) (R0 := R3) (q := zb_row cc (T i)) (c := zb_mv cc p s) hr (by omega) (by omega) hp a.2.2.2 a.2.2.1 (by rw [eF]; exact hw) (fun k k1 k2 => H'.2.2.2 k (by omega)) (show T i + s - 24 ≤ A - 24 by omega) (by omega) P4 (fun y h4 h5 u hu => ?_) (fun nb4 tp4 en4 fs4 bn4 nr4 lf4 rt4 B4 T4 E4 F4 L4 R4 H4 P4 hF4 => ?_) _ 0 (by omega) 0 nr' lf' rt' L3 R3 (F3 B3) H3 (Nat.le_refl _) (zb_rw_0 _ _ _ _) (fun _ _ => ⟨rfl, rfl⟩) (zb_Fr_r _ _) (by omega) (fun _ => by omega) (fun u h4 h5 h6 => ?_)
        · rw [zb_mv_t hu (by omega) (by omega)]
          have ee := zb_rw_eq (b.2.2.2 (y + 24 - s) (by omega) (by omega)) hw
          unfold zb_mq
          by_cases hc : p ≤ u + 24 ∧ u < p
          · rw [ee (u + 24 - p) (by omega)]
          · rw [decide_eq_false hc]; rfl
        · dsimp only
          rw [show A - 24 + 1 = A - 23 by omega] at P4
          refine nm_r (nI_1 i) (ih (i + 1) (by omega) (A - 23) nb4 tp4 en4 fs4 bn4 nr4 lf4 rt4 B4 T4 E4 F4 L4 R4 H4 P4 (zb_Fr_t hF hF4) (by omega) (fun h4 => by have := nxt h4; omega) (fun v h4 h5 h6 => aft v h5 (by omega) h6))
        · exact zb_mq_f (fun h7 h8 => zb_rw_bef hw (by omega) (fun h9 => by have h10 : u + 24 < L (F i) + p := h6 (by omega); omega))
    have N : wX_move_81 post (wX_move_29 post (nI r) (nI p - 24) (nI s - 24) (d + 1)) (nI r) (nI p - 24) (nI s - 24) (nI i) (nI (r * 24 + i)) (nI (T i + s - 24)) (nI (E i + s) - 24) nb' tp' en' fs' bn' nr' lf' rt' := by
      unfold wX_move_81
      exact zb_if (zb_s24_23 (by omega)) (fun h3 => M _ h3 (Nat.le_refl _) (Or.inl rfl)) (fun h3 => M 47 (by omega) (by omega) (Or.inr rfl))
    rw [wX_move_29]
    dsimp only
    rw [nI_clamp (show r < 2 ^ 31 by omega), H'.1, zb_i24]
    refine ⟨ir, br_f (nI_ge (by omega) (by omega)) (nm_e ?_)⟩
    rw [nI_clamp (show r * 24 + i < 2 ^ 31 by omega), a.1, a.2.1, zb_s24_a, zb_s24_a]
    refine ⟨ia, nm_e ⟨ia, nm_e (zb_if (zb_s24_0 (by omega)) (fun h3 => ?_) (fun h3 => ?_))⟩⟩
    · rw [zb_s24_e h3]; exact N
    · rw [show T i + s - 24 = 0 by omega] at N; exact N
end
end
section
/-! rows that differ from the one above, where rectangles begin, one picture for one set of cells -/
noncomputable def zb_er (c : Nat → Bool) (y z : Nat) : Bool := @decide (∀ x, x < 24 → c (24 * y + x) = c (24 * z + x)) (Classical.propDecidable _)
theorem zb_er_t {c : Nat → Bool} {y z : Nat} (h : ∀ x, x < 24 → c (24 * y + x) = c (24 * z + x)) : zb_er c y z = true := @decide_eq_true _ (Classical.propDecidable _) h
theorem zb_er_f {c : Nat → Bool} {y z : Nat} (h : ¬ ∀ x, x < 24 → c (24 * y + x) = c (24 * z + x)) : zb_er c y z = false := @decide_eq_false _ (Classical.propDecidable _) h
theorem zb_er_i {c : Nat → Bool} {y z : Nat} (h : zb_er c y z = true) : ∀ x, x < 24 → c (24 * y + x) = c (24 * z + x) := @of_decide_eq_true _ (Classical.propDecidable _) h
noncomputable def zb_nt (c : Nat → Bool) (y : Nat) : Bool := y == 0 || !zb_er c (y - 1) y
theorem zb_nt_0 (c : Nat → Bool) : zb_nt c 0 = true := rfl
theorem zb_nt_s {c : Nat → Bool} {y : Nat} (h : 0 < y) : zb_nt c y = !zb_er c (y - 1) y := by
  unfold zb_nt
  have e : (y == 0) = false := by simp; omega
  rw [e]; rfl
section
variable {c : Nat → Bool} {B : Nat} {T E F L R : Nat → Nat}
theorem zb_P_ne (P : zb_P c 24 B T E F L R) {i y : Nat} (hi : i < B) (h1 : T i ≤ y) (h2 : y ≤ E i) : ∃ x, x < 24 ∧ c (24 * y + x) = true := by
  have a := P.2.1 i hi
  have b := (a.2.2.2 y h1 h2).1 (F i) (Nat.le_refl _) a.2.2.1
  exact ⟨L (F i), by omega, zb_rw_in (a.2.2.2 y h1 h2) (Nat.le_refl _) a.2.2.1 (Nat.le_refl _) b.1⟩
theorem zb_P_rq (P : zb_P c 24 B T E F L R) {i y z : Nat} (hi : i < B) (h1 : T i ≤ y) (h2 : y ≤ E i) (h3 : T i ≤ z) (h4 : z ≤ E i) : ∀ x, x < 24 → c (24 * y + x) = c (24 * z + x) := by
  have a := P.2.1 i hi
  exact zb_rw_eq (a.2.2.2 y h1 h2) (a.2.2.2 z h3 h4)
theorem zb_P_nt (P : zb_P c 24 B T E F L R) {i : Nat} (hi : i < B) : zb_nt c (T i) = true := by
  have a := P.2.1 i hi
  by_cases h0 : T i = 0
  · rw [h0]; rfl
  · rw [zb_nt_s (by omega)]
    rw [zb_er_f]
    · rfl
    · intro hh
      by_cases hadj : 0 < i ∧ E (i - 1) + 1 = T i
      · have b := P.2.2.1 (i - 1) (by omega)
        rw [show i - 1 + 1 = i by omega] at b
        refine b.2 hadj.2 ?_
        rw [show T i - 1 = E (i - 1) by omega] at hh
        exact hh
      · obtain ⟨x, hx, ht⟩ := zb_P_ne P hi (Nat.le_refl _) a.1
        have e := hh x hx
        rw [ht] at e
        have g := zb_P_gapT P (i := i) (y := T i - 1) (fun j hj => ?_) hi (by omega) x hx
        · rw [e] at g; cases g
        · have b := zb_P_Tm P i hj hi
          by_cases hji : j = i - 1
          · subst hji; omega
          · have d := zb_P_Tm P (i - 1) (show j < i - 1 by omega) (by omega)
            have d2 := zb_P_Tm P i (show i - 1 < i by omega) hi
            have d3 := P.2.1 (i - 1) (by omega)
            omega
theorem zb_P_nf (P : zb_P c 24 B T E F L R) {i y : Nat} (hi : i < B) (h1 : T i < y) (h2 : y ≤ E i) : zb_nt c y = false := by
  rw [zb_nt_s (by omega), zb_er_t (zb_P_rq P hi (show T i ≤ y - 1 by omega) (by omega) (by omega) h2)]
  rfl
theorem zb_P_af (P : zb_P c 24 B T E F L R) {i : Nat} (hi : i < B) (h24 : E i + 1 < 24) : ¬ ∀ x, x < 24 → c (24 * (E i + 1) + x) = c (24 * T i + x) := by
  have a := P.2.1 i hi
  intro hh
  have ee := zb_P_rq P hi (Nat.le_refl _) a.1 a.1 (Nat.le_refl (E i))
  by_cases hadj : i + 1 < B ∧ E i + 1 = T (i + 1)
  · refine (P.2.2.1 i hadj.1).2 hadj.2 (fun x hx => ?_)
    rw [← hadj.2, hh x hx, ee x hx]
  · obtain ⟨x, hx, ht⟩ := zb_P_ne P hi (Nat.le_refl _) a.1
    have e := hh x hx
    rw [ht] at e
    have lo : ∀ j, j < i + 1 → E j < E i + 1 := by
      intro j hj
      by_cases hji : j = i
      · subst hji; omega
      · have := zb_P_Tm P i (show j < i by omega) hi
        omega
    by_cases hb : i + 1 < B
    · have := (P.2.2.1 i hb).1
      have g := zb_P_gapT P (i := i + 1) (y := E i + 1) lo hb (by omega) x hx
      rw [e] at g; cases g
    · have g := zb_P_gapB P (y := E i + 1) (fun j hj => lo j (by omega)) h24 x hx
      rw [e] at g; cases g
theorem zb_P_of (P : zb_P c 24 B T E F L R) {k : Nat} : ∀ j, j ≤ B → k < F j → ∃ i, i < j ∧ F i ≤ k ∧ k < F (i + 1) := by
  intro j
  induction j with
  | zero => intro _ h; rw [P.1] at h; omega
  | succ j ih =>
    intro hj hk
    by_cases h : k < F j
    · obtain ⟨i, h1, h2, h3⟩ := ih (by omega) h
      exact ⟨i, by omega, h2, h3⟩
    · exact ⟨j, by omega, by omega, hk⟩
noncomputable def zb_bg (c : Nat → Bool) : Nat → Bool := fun t => zb_st (zb_row c (t / 24)) (t % 24) && zb_nt c (t / 24)
theorem zb_bg_at (c : Nat → Bool) (y x : Nat) (hx : x < 24) : zb_bg c (24 * y + x) = (zb_st (zb_row c y) x && zb_nt c y) := by
  unfold zb_bg
  rw [show (24 * y + x) % 24 = x by omega, show (24 * y + x) / 24 = y by omega]
theorem zb_bg_gap {y z : Nat} (hyz : y ≤ z) (h : ∀ v, y ≤ v → v < z → (∀ x, x < 24 → c (24 * v + x) = false) ∨ zb_nt c v = false) : zb_cn (zb_bg c) (24 * z) = zb_cn (zb_bg c) (24 * y) := by
  refine zb_cn_gap (by omega) (fun t h1 h2 => ?_)
  have e := zb_bg_at c (t / 24) (t % 24) (by omega)
  rw [show 24 * (t / 24) + t % 24 = t by omega] at e
  rw [e]
  rcases h (t / 24) (by omega) (by omega) with h3 | h3
  · rw [zb_st_f1 (q := zb_row c (t / 24)) (h3 (t % 24) (by omega))]; rfl
  · rw [h3]; simp
theorem zb_bg_row {y : Nat} (h : zb_nt c y = true) : ∀ x, x ≤ 24 → zb_cn (zb_bg c) (24 * y + x) = zb_cn (zb_bg c) (24 * y) + zb_cn (zb_st (zb_row c y)) x := by
  intro x hx
  rw [zb_cn_add]
  congr 1
  refine zb_cn_congr x (fun t ht => ?_)
  rw [zb_bg_at c y t (by omega), h]
  simp
theorem zb_bg_T (P : zb_P c 24 B T E F L R) : ∀ i, i < B → zb_cn (zb_bg c) (24 * T i) = F i := by
  intro i
  induction i with
  | zero =>
    intro hB
    have := P.2.1 0 hB
    rw [zb_bg_gap (Nat.zero_le (T 0)) (fun v h1 h2 => Or.inl (zb_P_gapT P (i := 0) (fun j hj => by omega) hB h2)), P.1]
    rfl
  | succ i ih =>
    intro hB
    have a := P.2.1 i (by omega)
    have b := P.2.1 (i + 1) hB
    have d := (P.2.2.1 i hB).1
    have hw := a.2.2.2 (T i) (Nat.le_refl _) a.1
    have e := zb_bg_row (zb_P_nt P (show i < B by omega)) 24 (Nat.le_refl _)
    rw [ih (by omega), zb_rw_sn hw (by omega)] at e
    rw [zb_bg_gap (show T i + 1 ≤ T (i + 1) by omega) (fun v h1 h2 => ?_), show 24 * (T i + 1) = 24 * T i + 24 by omega, e]
    · omega
    · by_cases hv : v ≤ E i
      · exact Or.inr (zb_P_nf P (show i < B by omega) (by omega) hv)
      · refine Or.inl (zb_P_gapT P (i := i + 1) (fun j hj => ?_) hB h2)
        by_cases hji : j = i
        · subst hji; omega
        · have := zb_P_Tm P i (show j < i by omega) (by omega)
          omega
theorem zb_bg_N (P : zb_P c 24 B T E F L R) : zb_cn (zb_bg c) 576 = F B := by
  by_cases hB : B = 0
  · subst hB
    have e := zb_bg_gap (c := c) (Nat.zero_le 24) (fun v h1 h2 => Or.inl (zb_P_gapB P (fun j hj => by omega) h2))
    rw [P.1]
    exact e
  · have hi : B - 1 < B := by omega
    have a := P.2.1 (B - 1) hi
    rw [show B - 1 + 1 = B by omega] at a
    have hw := a.2.2.2 (T (B - 1)) (Nat.le_refl _) a.1
    have e := zb_bg_row (zb_P_nt P hi) 24 (Nat.le_refl _)
    rw [zb_bg_T P _ hi, zb_rw_sn hw (by omega)] at e
    have g := zb_bg_gap (c := c) (show T (B - 1) + 1 ≤ 24 by omega) (fun v h1 h2 => ?_)
    · rw [show 24 * (T (B - 1) + 1) = 24 * T (B - 1) + 24 by omega, e] at g
      have g' : zb_cn (zb_bg c) 576 = F (B - 1) + (F B - F (B - 1)) := g
      rw [g']; omega
    · by_cases hv : v ≤ E (B - 1)
      · exact Or.inr (zb_P_nf P hi (by omega) hv)
      · refine Or.inl (zb_P_gapB P (fun j hj => ?_) h2)
        by_cases hji : j = B - 1
        · subst hji; omega
        · have := zb_P_Tm P (B - 1) (show j < B - 1 by omega) (by omega)
          omega
theorem zb_bg_k (P : zb_P c 24 B T E F L R) {i k : Nat} (hi : i < B) (h1 : F i ≤ k) (h2 : k < F (i + 1)) : L k < 24 ∧ zb_bg c (24 * T i + L k) = true ∧ zb_cn (zb_bg c) (24 * T i + L k) = k := by
  have a := P.2.1 i hi
  have hw := a.2.2.2 (T i) (Nat.le_refl _) a.1
  have w := hw.1 k h1 h2
  have s := zb_rw_sl hw (k - F i) (by omega)
  rw [show F i + (k - F i) = k by omega] at s
  refine ⟨by omega, ?_, ?_⟩
  · rw [zb_bg_at c (T i) (L k) (by omega), zb_rw_st hw h1 h2, zb_P_nt P hi]; rfl
  · rw [zb_bg_row (zb_P_nt P hi) (L k) (by omega), zb_bg_T P i hi, s]; omega
noncomputable def zb_bt (c : Nat → Bool) : Nat → Bool := fun y => decide (zb_cn (zb_row c y) 24 ≠ 0) && zb_nt c y
theorem zb_bt_t (P : zb_P c 24 B T E F L R) {i : Nat} (hi : i < B) : zb_bt c (T i) = true := by
  have a := P.2.1 i hi
  obtain ⟨x, hx, ht⟩ := zb_P_ne P hi (Nat.le_refl _) a.1
  have h1 : zb_cn (zb_row c (T i)) (x + 1) = zb_cn (zb_row c (T i)) x + 1 := zb_cn_t ht
  have h2 : zb_cn (zb_row c (T i)) (x + 1) ≤ zb_cn (zb_row c (T i)) 24 := zb_cn_mono (by omega)
  unfold zb_bt
  rw [decide_eq_true (by omega), zb_P_nt P hi]; rfl
theorem zb_bt_e {y : Nat} (h : ∀ x, x < 24 → c (24 * y + x) = false) : zb_bt c y = false := by
  unfold zb_bt
  rw [zb_cn_0 (f := zb_row c y) 24 h]; rfl
theorem zb_bt_n {y : Nat} (h : zb_nt c y = false) : zb_bt c y = false := by
  unfold zb_bt
  rw [h]; simp
theorem zb_bt_T (P : zb_P c 24 B T E F L R) : ∀ i, i < B → zb_cn (zb_bt c) (T i) = i := by
  intro i
  induction i with
  | zero =>
    intro hB
    exact zb_cn_0 (f := zb_bt c) (T 0) (fun v hv => zb_bt_e (zb_P_gapT P (i := 0) (fun j hj => by omega) hB hv))
  | succ i ih =>
    intro hB
    have a := P.2.1 i (by omega)
    have d := (P.2.2.1 i hB).1
    rw [zb_cn_gap (f := zb_bt c) (show T i + 1 ≤ T (i + 1) by omega) (fun v h1 h2 => ?_), zb_cn_t (zb_bt_t P (show i < B by omega)), ih (by omega)]
    by_cases hv : v ≤ E i
    · exact zb_bt_n (zb_P_nf P (show i < B by omega) (by omega) hv)
    · refine zb_bt_e (zb_P_gapT P (i := i + 1) (fun j hj => ?_) hB h2)
      by_cases hji : j = i
      · subst hji; omega
      · have := zb_P_Tm P i (show j < i by omega) (by omega)
        omega
theorem zb_bt_N (P : zb_P c 24 B T E F L R) : zb_cn (zb_bt c) 24 = B := by
  by_cases hB : B = 0
  · subst hB
    exact zb_cn_0 (f := zb_bt c) 24 (fun v hv => zb_bt_e (zb_P_gapB P (fun j hj => by omega) hv))
  · have hi : B - 1 < B := by omega
    have a := P.2.1 (B - 1) hi
    rw [zb_cn_gap (f := zb_bt c) (show T (B - 1) + 1 ≤ 24 by omega) (fun v h1 h2 => ?_), zb_cn_t (zb_bt_t P hi), zb_bt_T P _ hi]
    · omega
    · by_cases hv : v ≤ E (B - 1)
      · exact zb_bt_n (zb_P_nf P hi (by omega) hv)
      · refine zb_bt_e (zb_P_gapB P (fun j hj => ?_) h2)
        by_cases hji : j = B - 1
        · subst hji; omega
        · have := zb_P_Tm P (B - 1) (show j < B - 1 by omega) (by omega)
          omega
theorem zb_P_E {B' : Nat} {T' E' F' L' R' : Nat → Nat} (P : zb_P c 24 B T E F L R) (P' : zb_P c 24 B' T' E' F' L' R') {i : Nat} (hi : i < B) (hi' : i < B') (hT : T i = T' i) : ¬ E i < E' i := by
  intro hlt
  have a := P'.2.1 i hi'
  have b := P.2.1 i hi
  exact zb_P_af P hi (by omega) (zb_P_rq P' hi' (by omega) (by omega) (by omega) (by omega))
theorem zb_P_un {B' : Nat} {T' E' F' L' R' : Nat → Nat} (P : zb_P c 24 B T E F L R) (P' : zb_P c 24 B' T' E' F' L' R') : B = B' ∧ (∀ i, i < B → T i = T' i ∧ E i = E' i) ∧ (∀ i, i ≤ B → F i = F' i) ∧ (∀ k, k < F B → L k = L' k ∧ R k = R' k) := by
  have hB : B = B' := by rw [← zb_bt_N P, zb_bt_N P']
  subst hB
  have hT : ∀ i, i < B → T i = T' i := fun i hi => zb_cn_inj (zb_bt_t P hi) (zb_bt_t P' hi) (by rw [zb_bt_T P i hi, zb_bt_T P' i hi])
  have hU : ∀ i, i < B → F' (i + 1) - F' i = F (i + 1) - F i ∧ ∀ j, j < F (i + 1) - F i → L' (F' i + j) = L (F i + j) ∧ R' (F' i + j) = R (F i + j) := by
    intro i hi
    have a := P.2.1 i hi
    have a' := P'.2.1 i hi
    refine zb_rw_un (a.2.2.2 (T i) (Nat.le_refl _) a.1) (a'.2.2.2 (T' i) (Nat.le_refl _) a'.1) (by omega) (by omega) (fun z hz => ?_)
    rw [hT i hi]
  have hF : ∀ i, i ≤ B → F i = F' i := by
    intro i
    induction i with
    | zero => intro _; rw [P.1, P'.1]
    | succ i ih =>
      intro hi
      have u := (hU i (by omega)).1
      have v := ih (by omega)
      have a := P.2.1 i (by omega)
      have a' := P'.2.1 i (by omega)
      omega
  refine ⟨rfl, fun i hi => ⟨hT i hi, ?_⟩, hF, fun k hk => ?_⟩
  · have h1 := zb_P_E P P' hi hi (hT i hi)
    have h2 := zb_P_E P' P hi hi (hT i hi).symm
    omega
  · obtain ⟨i, h1, h2, h3⟩ := zb_P_of P B (Nat.le_refl _) hk
    have u := (hU i h1).2 (k - F i) (by omega)
    rw [← hF i (by omega), show F i + (k - F i) = k by omega] at u
    exact ⟨u.1.symm, u.2.symm⟩
theorem zb_P_eq {c' : Nat → Bool} {T' E' F' L' R' : Nat → Nat} (P : zb_P c 24 B T E F L R) (P' : zb_P c' 24 B T' E' F' L' R') (hT : ∀ i, i < B → T i = T' i ∧ E i = E' i ∧ F (i + 1) - F i = F' (i + 1) - F' i) (hL : ∀ k, k < F B → L k = L' k ∧ R k = R' k) : ∀ y, y < 24 → ∀ x, x < 24 → c (24 * y + x) = c' (24 * y + x) := by
  have hF : ∀ i, i ≤ B → F i = F' i := by
    intro i
    induction i with
    | zero => intro _; rw [P.1, P'.1]
    | succ i ih =>
      intro hi
      have u := (hT i (by omega)).2.2
      have v := ih (by omega)
      have a := P.2.1 i (by omega)
      have a' := P'.2.1 i (by omega)
      omega
  intro y hy x hx
  by_cases hc : ∃ i, i < B ∧ T i ≤ y ∧ y ≤ E i
  · obtain ⟨i, hi, h1, h2⟩ := hc
    have t := hT i hi
    have a := (P.2.1 i hi).2.2.2 y h1 h2
    have a' := (P'.2.1 i hi).2.2.2 y (by omega) (by omega)
    rw [← hF i (by omega), ← hF (i + 1) (by omega)] at a'
    have m := zb_P_Fm P (i := i + 1) B (by omega) (Nat.le_refl _)
    have a'' := zb_rw_cg a' (L' := L) (R' := R) (q' := zb_row c' y) (fun k k1 k2 => hL k (by omega)) (fun _ _ => rfl)
    exact zb_rw_eq a a'' x hx
  · have hn : ∀ i, i < B → y < T i ∨ E i < y := by
      intro i hi
      by_cases h1 : y < T i
      · exact Or.inl h1
      · by_cases h2 : E i < y
        · exact Or.inr h2
        · exact absurd ⟨i, hi, by omega, by omega⟩ hc
    rw [P.2.2.2 y hy hn x hx, P'.2.2.2 y hy (fun i hi => by have := hn i hi; have := hT i hi; omega) x hx]
end
end
section
/-! has, rectangle, around, same of the component -/
section
variable {nb tp en fs bn nr lf rt : Nat → Int32} {post : Int32 → Prop}
theorem zx_h57 {r b f n x : Nat} {L R : Nat → Nat} {q : Nat → Bool} (hr : r < 5) (hb : b < 120) (hx : x < 24) (hfn : f + n ≤ 288) (hbn : bn b = nI n) (hfs : fs b = nI f) (hrow : zb_rw L R f (f + n) 24 q) (hA : ∀ k, f ≤ k → k < f + n → lf (r * 288 + k) = nI (L k) ∧ rt (r * 288 + k) = nI (R k)) (K : post (zb_bI (q x))) :
    ∀ d j, j + d = n → (∀ k, f ≤ k → k < f + j → x < L k ∨ R k < x) → wX_has_57 post (nI r) (nI x) (nI b) nb tp en fs bn nr lf rt (d + 1) (nI j) := by
  have ib : vp_in (nI b) 120 := vp_in_nI hb (by omega)
  intro d
  induction d with
  | zero =>
    intro j hj h1
    have e : j = n := by omega
    subst e
    rw [zb_rw_out hrow hx h1] at K
    rw [wX_has_57]
    dsimp only
    rw [nI_clamp (show b < 2 ^ 31 by omega), hbn]
    exact ⟨ib, br_t (nI_le (Nat.le_refl _) (by omega)) K⟩
  | succ d ih =>
    intro j hj h1
    have a := hA (f + j) (by omega) (by omega)
    have w := hrow.1 (f + j) (by omega) (by omega)
    have ia : vp_in (nI (r * 288 + (f + j))) 1440 := vp_in_nI (by omega) (by omega)
    have go : x < L (f + j) ∨ R (f + j) < x → wX_has_57 post (nI r) (nI x) (nI b) nb tp en fs bn nr lf rt (d + 1) (nI (j + 1)) := by
      intro h2
      refine ih (j + 1) (by omega) (fun k k1 k2 => ?_)
      by_cases hk : k = f + j
      · subst hk; exact h2
      · exact h1 k k1 (by omega)
    rw [wX_has_57]
    dsimp only
    rw [nI_clamp (show b < 2 ^ 31 by omega), hbn, hfs, zb_i288, nI_add, show r * 288 + f + j = r * 288 + (f + j) by omega]
    refine ⟨ib, br_f (nI_ge (by omega) (by omega)) ⟨ib, nm_e ?_⟩⟩
    rw [nI_clamp (show r * 288 + (f + j) < 2 ^ 31 by omega), a.1, a.2]
    refine ⟨ia, pk_lt x (L (f + j)) (fun h2 => nm_r (nI_1 j) (go (Or.inl h2))) (fun h2 => ⟨ia, pk_lt (R (f + j)) x (fun h3 => nm_r (nI_1 j) (go (Or.inr h3))) (fun h3 => ?_)⟩)⟩
    rw [zb_rw_in hrow (show f ≤ f + j by omega) (by omega) h2 h3] at K
    exact K
theorem zx_bad_ok {r : Nat} (hr : r < 3) (K : post 0) : wpX_bad post (nI r) :=
  br_f (nI_pos (by omega)) (br_t (nI_le (b := 2) (by omega) (by decide)) K)
theorem zx_bad_no {p : Int32} (h : p < 0 ∨ ¬ p ≤ 2) (K : post 1) : wpX_bad post p :=
  br_c (fun _ => K) (fun h1 => br_f (by rcases h with h | h; exact absurd h h1; exact h) K)
theorem zx_has_in {r x y : Nat} {c : Nat → Bool} (hr : r < 3) (hx : x < 24) (hy : y < 24) (G : zb_Rg nb tp en fs bn nr lf rt r c) (K : post (zb_bI (c (24 * y + x)))) : wpX_has post (nb, tp, en, fs, bn, nr, lf, rt) (nI r) (nI x) (nI y) := by
  obtain ⟨B, T, E, F, L, R, H, P⟩ := G
  unfold wpX_has
  dsimp only
  refine zx_bad_ok hr (br_t rfl (br_f (nI_pos (by omega)) (br_f (nI_ge (b := 24) hx (by decide)) (br_f (nI_pos (by omega)) (br_t (nI_lt (b := 24) hy (by decide)) ?_)))))
  refine zx_bandAt (by omega) hy H P (fun i a1 a2 a3 => zx_covering (by omega) hy a1 H P a2 a3 (fun ca s => ?_))
  rcases s with ⟨rfl, h⟩ | ⟨i, f, e, L1, R1, rfl, h1, h2, h3, h4, h5, h6, h7⟩
  · have e : c (24 * y + x) = false := h x hx
    rw [e] at K
    exact br_f zb_n1 K
  · have ef : f + (e - f) = e := by omega
    refine br_t (nI_pos' (by omega)) ⟨e - f + 1, zx_h57 (f := f) (n := e - f) (L := L1) (R := R1) (q := zb_row c y) (by omega) (by omega) hx (by omega) h3 h2 (by rw [ef]; exact h6) (fun k k1 k2 => h7 k k1 (by omega)) K (e - f) 0 (by omega) (fun k k1 k2 => by omega)⟩
theorem zx_packed {a b d e : Nat} (K : post (nI (a + 32 * b + 1024 * d + 32768 * e))) : wpX_packed post (nI a) (nI b) (nI d) (nI e) := by
  unfold wpX_packed
  rw [show (32 : Int32) = nI 32 from rfl, show (1024 : Int32) = nI 1024 from rfl, show (32768 : Int32) = nI 32768 from rfl, pk_mul, pk_mul, pk_mul, nI_add, nI_add, nI_add]
  exact K
theorem zx_r63 {r B k i : Nat} {T E F L R : Nat → Nat} (hr : r < 5) (hB : B ≤ 24) (hm : F B ≤ 288) (H : zb_H nb tp en fs bn nr lf rt r B T E F L R (F B)) (hi : i < B) (hk : k < F B) (K : post (nI (L k + 32 * T i + 1024 * R k + 32768 * E i))) : wX_rectangle_63 post (nI r) (nI k) (nI i) nb tp en fs bn nr lf rt := by
  have i1 : vp_in (nI (r * 24 + i)) 120 := vp_in_nI (by omega) (by omega)
  have i2 : vp_in (nI (r * 288 + k)) 1440 := vp_in_nI (by omega) (by omega)
  have a := H.2.2.1 i hi
  have b := H.2.2.2 k hk
  unfold wX_rectangle_63
  rw [zb_i24, zb_i288]
  refine nm_e (nm_e ?_)
  rw [nI_clamp (show r * 24 + i < 2 ^ 31 by omega), nI_clamp (show r * 288 + k < 2 ^ 31 by omega), a.1, a.2.1, b.1, b.2]
  exact ⟨i2, i1, i2, i1, zx_packed K⟩
theorem zx_r28 {r B k : Nat} {T E F L R : Nat → Nat} (hr : r < 5) (hB : B ≤ 24) (hm : F B ≤ 288) (H : zb_H nb tp en fs bn nr lf rt r B T E F L R (F B)) (hF : ∀ i, i < B → F i ≤ 288) (hk : k < F B) (K : ∀ i, i < B → F i ≤ k → k < F (i + 1) → post (nI (L k + 32 * T i + 1024 * R k + 32768 * E i))) :
    ∀ d i, i + d + 1 = B → F i ≤ k → wX_rectangle_28 post (nI r) (nI k) nb tp en fs bn nr lf rt (d + 1) (nI i) := by
  have ir : vp_in (nI r) 5 := vp_in_nI hr (by omega)
  intro d
  induction d with
  | zero =>
    intro i hi h1
    rw [wX_rectangle_28]
    dsimp only
    rw [nI_clamp (show r < 2 ^ 31 by omega), H.1, zb_m1 (by omega)]
    refine ⟨ir, br_t (nI_le (by omega) (by omega)) (zx_r63 hr hB hm H (by omega) hk (K i (by omega) h1 ?_))⟩
    rw [show i + 1 = B by omega]; exact hk
  | succ d ih =>
    intro i hi h1
    have hF1 := hF (i + 1) (by omega)
    have a := H.2.2.1 (i + 1) (by omega)
    have i1 : vp_in (nI (r * 24 + (i + 1))) 120 := vp_in_nI (by omega) (by omega)
    rw [wX_rectangle_28]
    dsimp only
    rw [nI_clamp (show r < 2 ^ 31 by omega), H.1, zb_m1 (by omega), zb_i24, nI_1 (r * 24 + i), show r * 24 + i + 1 = r * 24 + (i + 1) by omega, nI_clamp (show r * 24 + (i + 1) < 2 ^ 31 by omega), a.2.2.1]
    exact ⟨ir, br_f (nI_ge (by omega) (by omega)) ⟨i1, pk_lt k (F (i + 1)) (fun h2 => zx_r63 hr hB hm H (by omega) hk (K i (by omega) h1 h2)) (fun h2 => nm_r (nI_1 i) (ih (i + 1) (by omega) h2))⟩⟩
theorem zx_rectangle_in {r k B : Nat} {T E F L R : Nat → Nat} {c : Nat → Bool} (hr : r < 3) (H : zb_H nb tp en fs bn nr lf rt r B T E F L R (F B)) (P : zb_P c 24 B T E F L R) (hk : k < F B) (K : ∀ i, i < B → F i ≤ k → k < F (i + 1) → post (nI (L k + 32 * T i + 1024 * R k + 32768 * E i))) : wpX_rectangle post (nb, tp, en, fs, bn, nr, lf, rt) (nI r) (nI k) := by
  have ir : vp_in (nI r) 5 := vp_in_nI (by omega) (by omega)
  have hB := zb_P_FB P (Nat.le_refl _)
  have hB0 : 0 < B := by
    by_cases h : B = 0
    · subst h; rw [P.1] at hk; omega
    · omega
  unfold wpX_rectangle
  dsimp only
  refine zx_bad_ok hr (br_t rfl (br_f (nI_pos (by omega)) ⟨ir, ?_⟩))
  rw [nI_clamp (show r < 2 ^ 31 by omega), H.2.1]
  refine br_t (nI_lt hk (by omega)) ⟨B - 1 + 1, zx_r28 (by omega) hB.1 hB.2 H (fun i hi => ?_) hk K (B - 1) 0 (by omega) (by rw [P.1]; omega)⟩
  have := zb_P_F P i (by omega)
  omega
theorem zx_rectangle_out {r B : Nat} {p : Int32} {T E F L R : Nat → Nat} {c : Nat → Bool} (hr : r < 3) (H : zb_H nb tp en fs bn nr lf rt r B T E F L R (F B)) (P : zb_P c 24 B T E F L R) (hk : p < 0 ∨ nI (F B) ≤ p) (K : post (-3)) : wpX_rectangle post (nb, tp, en, fs, bn, nr, lf, rt) (nI r) p := by
  have ir : vp_in (nI r) 5 := vp_in_nI (by omega) (by omega)
  unfold wpX_rectangle
  dsimp only
  refine zx_bad_ok hr (br_t rfl (br_c (fun _ => K) (fun h => ⟨ir, ?_⟩)))
  rw [nI_clamp (show r < 2 ^ 31 by omega), H.2.1]
  rcases hk with hk | hk
  · exact absurd hk h
  · exact br_f (Int32.not_lt.mpr hk) K
theorem zx_a69 {J33 : Int32 → Int32 → Int32 → Prop} {x1 : Int32} {i a b v : Nat} (hi : i < 1440) (hr : rt i = nI v) (hv : v < 24) (hb : b < 24) (K : ∀ b', b ≤ b' → v ≤ b' → (b' = b ∨ b' = v) → J33 (nI a) (nI b') (nI (i + 1))) : wX_around_69 post J33 x1 (nI a) (nI b) (nI i) nb tp en fs bn nr lf rt := by
  have ii : vp_in (nI i) 1440 := vp_in_nI hi (by omega)
  unfold wX_around_69
  rw [nI_clamp (show i < 2 ^ 31 by omega), hr]
  exact ⟨ii, pk_le v b (fun h => nm_r (nI_1 i) (K b (Nat.le_refl _) h (Or.inl rfl))) (fun h => ⟨ii, nm_e (nm_r (nI_1 i) (K v (by omega) (Nat.le_refl _) (Or.inr rfl)))⟩)⟩
theorem zx_a33 {r B : Nat} {T E F L R : Nat → Nat} (hr : r < 5) (hB : B ≤ 24) (hB0 : 0 < B) (hm : F B ≤ 288) (H : zb_H nb tp en fs bn nr lf rt r B T E F L R (F B)) (hL : ∀ k, k < F B → L k ≤ R k ∧ R k < 24)
    (K : ∀ a b, (∀ k, k < F B → a ≤ L k ∧ R k ≤ b) → (a = 24 ∨ ∃ k, k < F B ∧ a = L k) → (b = 0 ∨ ∃ k, k < F B ∧ b = R k) → post (nI (a + 32 * T 0 + 1024 * b + 32768 * E (B - 1)))) :
    ∀ d i, i + d = F B → ∀ a b, (∀ k, k < i → a ≤ L k ∧ R k ≤ b) → (a = 24 ∨ ∃ k, k < F B ∧ a = L k) → (b = 0 ∨ ∃ k, k < F B ∧ b = R k) → wX_around_33 post (nI r) nb tp en fs bn nr lf rt (d + 1) (nI a) (nI b) (nI (r * 288 + i)) := by
  have ir : vp_in (nI r) 5 := vp_in_nI hr (by omega)
  intro d
  induction d with
  | zero =>
    intro i hi a b h1 h2 h3
    have e : i = F B := by omega
    subst e
    have i1 : vp_in (nI (r * 24)) 120 := vp_in_nI (by omega) (by omega)
    have i2 : vp_in (nI (r * 24 + (B - 1))) 120 := vp_in_nI (by omega) (by omega)
    have a1 := (H.2.2.1 0 hB0).1
    have a2 := (H.2.2.1 (B - 1) (by omega)).2.1
    rw [wX_around_33]
    dsimp only
    rw [nI_clamp (show r < 2 ^ 31 by omega), H.1, H.2.1, zb_i288, zb_i24, zb_m1 (by omega), show nI r * 24 = nI (r * 24) from pk_mul r 24, show r * 24 + B - 1 = r * 24 + (B - 1) by omega]
    refine ⟨ir, br_t (nI_le (Nat.le_refl _) (by omega)) ⟨ir, nm_e ?_⟩⟩
    rw [nI_clamp (show r * 24 < 2 ^ 31 by omega), nI_clamp (show r * 24 + (B - 1) < 2 ^ 31 by omega), show tp (r * 24) = nI (T 0) from a1, a2]
    exact ⟨i1, i2, zx_packed (K a b h1 h2 h3)⟩
  | succ d ih =>
    intro i hi a b h1 h2 h3
    have i1 : vp_in (nI (r * 288 + i)) 1440 := vp_in_nI (by omega) (by omega)
    have e := H.2.2.2 i (by omega)
    have w := hL i (by omega)
    have ha : a ≤ 24 := by
      rcases h2 with h | ⟨k, k1, k2⟩
      · omega
      · have := hL k k1; omega
    have hb : b < 24 := by
      rcases h3 with h | ⟨k, k1, k2⟩
      · omega
      · have := hL k k1; omega
    have go : ∀ a', a' ≤ a → a' ≤ L i → (a' = a ∨ a' = L i) → wX_around_69 post (wX_around_33 post (nI r) nb tp en fs bn nr lf rt (d + 1)) (nI r) (nI a') (nI b) (nI (r * 288 + i)) nb tp en fs bn nr lf rt := by
      intro a' g1 g2 g3
      refine zx_a69 (by omega) e.2 w.2 hb (fun b' g4 g5 g6 => ?_)
      rw [show r * 288 + i + 1 = r * 288 + (i + 1) by omega]
      refine ih (i + 1) (by omega) a' b' (fun k hk => ?_) ?_ ?_
      · by_cases hki : k = i
        · subst hki; exact ⟨g2, g5⟩
        · have := h1 k (by omega); omega
      · rcases g3 with g | g
        · rw [g]; exact h2
        · exact Or.inr ⟨i, by omega, g⟩
      · rcases g6 with g | g
        · rw [g]; exact h3
        · exact Or.inr ⟨i, by omega, g⟩
    rw [wX_around_33]
    dsimp only
    rw [nI_clamp (show r < 2 ^ 31 by omega), H.2.1, zb_i288, nI_clamp (show r * 288 + i < 2 ^ 31 by omega), e.1]
    exact ⟨ir, br_f (nI_ge (by omega) (by omega)) ⟨i1, pk_le a (L i) (fun h => go a (Nat.le_refl _) h (Or.inl rfl)) (fun h => ⟨i1, nm_e (go (L i) (by omega) (Nat.le_refl _) (Or.inr rfl))⟩)⟩⟩
theorem zb_P_LR {c : Nat → Bool} {B : Nat} {T E F L R : Nat → Nat} (P : zb_P c 24 B T E F L R) : ∀ k, k < F B → L k ≤ R k ∧ R k < 24 := by
  intro k hk
  obtain ⟨i, h1, h2, h3⟩ := zb_P_of P B (Nat.le_refl _) hk
  have a := P.2.1 i h1
  have w := (a.2.2.2 (T i) (Nat.le_refl _) a.1).1 k h2 h3
  exact ⟨w.1, w.2.1⟩
theorem zx_around_in {r B : Nat} {T E F L R : Nat → Nat} {c : Nat → Bool} (hr : r < 3) (H : zb_H nb tp en fs bn nr lf rt r B T E F L R (F B)) (P : zb_P c 24 B T E F L R) (h0 : F B = 0 → post (-3)) (K : ∀ a b, 0 < B → (∀ k, k < F B → a ≤ L k ∧ R k ≤ b) → (∃ k, k < F B ∧ a = L k) → (∃ k, k < F B ∧ b = R k) → post (nI (a + 32 * T 0 + 1024 * b + 32768 * E (B - 1)))) : wpX_around post (nb, tp, en, fs, bn, nr, lf, rt) (nI r) := by
  have ir : vp_in (nI r) 5 := vp_in_nI (by omega) (by omega)
  have hB := zb_P_FB P (Nat.le_refl _)
  have hLR := zb_P_LR P
  unfold wpX_around
  dsimp only
  refine zx_bad_ok hr (br_t rfl ⟨ir, ?_⟩)
  rw [nI_clamp (show r < 2 ^ 31 by omega), H.2.1]
  refine pk_eq (F B) 0 (fun h => h0 h) (fun h => ?_)
  have hB0 : 0 < B := by
    by_cases h : B = 0
    · subst h; exact absurd P.1 h
    · omega
  rw [show nI r * 288 = nI (r * 288) from pk_mul r 288]
  refine nm_e ⟨F B + 1, zx_a33 (a := 24) (b := 0) (i := 0) (d := F B) (by omega) hB.1 hB0 hB.2 H hLR (fun a b h1 h2 h3 => ?_) (by omega) (fun k hk => by omega) (Or.inl rfl) (Or.inl rfl)⟩
  refine K a b hB0 h1 ?_ ?_
  · rcases h2 with h2 | h2
    · have := h1 0 (by omega); have := hLR 0 (by omega); omega
    · exact h2
  · rcases h3 with h3 | h3
    · have := h1 0 (by omega); exact ⟨0, by omega, by omega⟩
    · exact h3
theorem zx_s50 {r p B m : Nat} {T E F L R T' E' F' L' R' : Nat → Nat} (hr : r < 3) (hp : p < 3) (hB : B ≤ 24) (hm : m ≤ 288) (H : zb_H nb tp en fs bn nr lf rt r B T E F L R m) (H' : zb_H nb tp en fs bn nr lf rt p B T' E' F' L' R' m) (h24 : ∀ i, i < B → T i < 24 ∧ E i < 24 ∧ F (i + 1) - F i < 1000) (h24' : ∀ i, i < B → T' i < 24 ∧ E' i < 24 ∧ F' (i + 1) - F' i < 1000) (hL : ∀ k, k < m → L k < 24 ∧ R k < 24) (hL' : ∀ k, k < m → L' k < 24 ∧ R' k < 24)
    (K1 : (∀ i, i < B → T i = T' i ∧ E i = E' i ∧ F (i + 1) - F i = F' (i + 1) - F' i) → (∀ k, k < m → L k = L' k ∧ R k = R' k) → post 1)
    (K0 : ¬ ((∀ i, i < B → T i = T' i ∧ E i = E' i ∧ F (i + 1) - F i = F' (i + 1) - F' i) ∧ (∀ k, k < m → L k = L' k ∧ R k = R' k)) → post 0) :
    ∀ d i, i + d = B → (∀ j, j < i → T j = T' j ∧ E j = E' j ∧ F (j + 1) - F j = F' (j + 1) - F' j) → wX_same_50 post (nI r) (nI p) nb tp en fs bn nr lf rt (d + 1) (nI i) := by
  have ir : vp_in (nI r) 5 := vp_in_nI (by omega) (by omega)
  intro d
  induction d with
  | zero =>
    intro i hi h1
    have e : i = B := by omega
    subst e
    rw [wX_same_50]
    dsimp only
    rw [nI_clamp (show r < 2 ^ 31 by omega), H.1, H.2.1, show nI r * 288 = nI (r * 288) from pk_mul r 288, show nI p * 288 = nI (p * 288) from pk_mul p 288]
    refine ⟨ir, br_t (nI_le (Nat.le_refl _) (by omega)) ⟨ir, zx_equalRuns (by omega) (by omega) (fun hh => ⟨narrow_b1, K1 h1 (fun k hk => ?_)⟩) (fun hh => ⟨narrow_b0, K0 (fun h2 => hh (fun k hk => ?_))⟩)⟩⟩
    · have a := hh k hk
      have l1 := hL k hk
      have l2 := hL' k hk
      rw [(H.2.2.2 k hk).1, (H.2.2.2 k hk).2, (H'.2.2.2 k hk).1, (H'.2.2.2 k hk).2, nI_eq (by omega) (by omega), nI_eq (by omega) (by omega)] at a
      exact a
    · rw [(H.2.2.2 k hk).1, (H.2.2.2 k hk).2, (H'.2.2.2 k hk).1, (H'.2.2.2 k hk).2, (h2.2 k hk).1, (h2.2 k hk).2]
      exact ⟨rfl, rfl⟩
  | succ d ih =>
    intro i hi h1
    have i1 : vp_in (nI (r * 24 + i)) 120 := vp_in_nI (by omega) (by omega)
    have i2 : vp_in (nI (p * 24 + i)) 120 := vp_in_nI (by omega) (by omega)
    have a := H.2.2.1 i (by omega)
    have a' := H'.2.2.1 i (by omega)
    have b := h24 i (by omega)
    have b' := h24' i (by omega)
    rw [wX_same_50]
    dsimp only
    rw [nI_clamp (show r < 2 ^ 31 by omega), H.1, zb_i24, zb_i24]
    refine ⟨ir, br_f (nI_ge (by omega) (by omega)) (nm_e (nm_e ?_))⟩
    rw [nI_clamp (show r * 24 + i < 2 ^ 31 by omega), nI_clamp (show p * 24 + i < 2 ^ 31 by omega), a.1, a.2.1, a.2.2.2, a'.1, a'.2.1, a'.2.2.2]
    refine ⟨i1, i2, pk_eq (T i) (T' i) (fun e1 => ⟨i1, i2, pk_eq (E i) (E' i) (fun e2 => ⟨i1, i2, pk_eq (F (i + 1) - F i) (F' (i + 1) - F' i) (fun e3 => nm_r (nI_1 i) (ih (i + 1) (by omega) (fun j hj => ?_))) (fun e3 => K0 (fun hh => e3 (hh.1 i (by omega)).2.2))⟩) (fun e2 => K0 (fun hh => e2 (hh.1 i (by omega)).2.1))⟩) (fun e1 => K0 (fun hh => e1 (hh.1 i (by omega)).1))⟩
    by_cases hji : j = i
    · subst hji; exact ⟨e1, e2, e3⟩
    · exact h1 j (by omega)
theorem zx_same_in {r p : Nat} {c c' : Nat → Bool} (hr : r < 3) (hp : p < 3) (G : zb_Rg nb tp en fs bn nr lf rt r c) (G' : zb_Rg nb tp en fs bn nr lf rt p c') (K1 : (∀ y, y < 24 → ∀ x, x < 24 → c (24 * y + x) = c' (24 * y + x)) → post 1) (K0 : ¬ (∀ y, y < 24 → ∀ x, x < 24 → c (24 * y + x) = c' (24 * y + x)) → post 0) : wpX_same post (nb, tp, en, fs, bn, nr, lf, rt) (nI r) (nI p) := by
  obtain ⟨B, T, E, F, L, R, H, P⟩ := G
  obtain ⟨B', T', E', F', L', R', H', P'⟩ := G'
  have ir : vp_in (nI r) 5 := vp_in_nI (by omega) (by omega)
  have ip : vp_in (nI p) 5 := vp_in_nI (by omega) (by omega)
  have hB := zb_P_FB P (Nat.le_refl _)
  have hB' := zb_P_FB P' (Nat.le_refl _)
  have hLR := zb_P_LR P
  have hLR' := zb_P_LR P'
  have UN : (∀ y, y < 24 → ∀ x, x < 24 → c (24 * y + x) = c' (24 * y + x)) → B = B' ∧ (∀ i, i < B → T i = T' i ∧ E i = E' i) ∧ (∀ i, i ≤ B → F i = F' i) ∧ (∀ k, k < F B → L k = L' k ∧ R k = R' k) := by
    intro hc
    refine zb_P_un P ⟨P'.1, fun i hi => ?_, fun i hi => ?_, fun y hy h1 x hx => ?_⟩
    · have a := P'.2.1 i hi
      exact ⟨a.1, a.2.1, a.2.2.1, fun y h1 h2 => zb_rw_cg (a.2.2.2 y h1 h2) (fun _ _ _ => ⟨rfl, rfl⟩) (fun z hz => hc y (by omega) z hz)⟩
    · have a := P'.2.2.1 i hi
      have b := P'.2.1 i (by omega)
      have d := P'.2.1 (i + 1) hi
      refine ⟨a.1, fun h1 h2 => a.2 h1 (fun x hx => ?_)⟩
      rw [← hc (E' i) (by omega) x hx, ← hc (T' (i + 1)) (by omega) x hx]
      exact h2 x hx
    · rw [hc y hy x hx]; exact P'.2.2.2 y hy h1 x hx
  unfold wpX_same
  dsimp only
  refine zx_bad_ok hr (br_t rfl (zx_bad_ok hp (br_t rfl ⟨ir, ip, ?_⟩)))
  rw [nI_clamp (show r < 2 ^ 31 by omega), nI_clamp (show p < 2 ^ 31 by omega), H.1, H.2.1, H'.1, H'.2.1]
  refine pk_eq B B' (fun e1 => ⟨ir, ip, pk_eq (F B) (F' B') (fun e2 => ?_) (fun e2 => K0 (fun hc => ?_))⟩) (fun e1 => K0 (fun hc => e1 (UN hc).1))
  · subst e1
    rw [← e2] at H' hLR'
    refine ⟨B + 1, zx_s50 hr hp hB.1 hB.2 H H' (fun i hi => ?_) (fun i hi => ?_) (fun k hk => ?_) (fun k hk => ?_) (fun h1 h2 => K1 (zb_P_eq P P' h1 h2)) (fun hn => K0 (fun hc => hn ?_)) B 0 (by omega) (fun j hj => by omega)⟩
    · have a := P.2.1 i hi
      have b := zb_P_F P (i + 1) (by omega)
      omega
    · have a := P'.2.1 i hi
      have b := zb_P_F P' (i + 1) (by omega)
      omega
    · have := hLR k hk; omega
    · have := hLR' k hk; omega
    · have u := UN hc
      refine ⟨fun i hi => ⟨(u.2.1 i hi).1, (u.2.1 i hi).2, ?_⟩, u.2.2.2⟩
      rw [u.2.2.1 i (by omega), u.2.2.1 (i + 1) (by omega)]
  · have u := UN hc
    refine e2 ?_
    rw [u.2.2.1 B (Nat.le_refl _), u.1]
end
end
section
/-! the reference: the calls that write -/
def zy_C (a : Nat → Int32) (C : Nat → Bool) : Prop := ∀ j, j < 1728 → a j = zb_bI (C j)
def zy_D (C g : Nat → Bool) (o t : Nat) : Nat → Bool := fun j => if o ≤ j ∧ j < o + t then g (j - o) else C j
theorem zy_D_0 (C g : Nat → Bool) (o : Nat) : zy_D C g o 0 = C := by
  funext j
  exact if_neg (by omega)
theorem zy_D_in {C g : Nat → Bool} {o t i : Nat} (h : i < t) : zy_D C g o t (o + i) = g i := by
  unfold zy_D
  rw [if_pos (by omega), show o + i - o = i by omega]
theorem zy_D_out {C g : Nat → Bool} {o t j : Nat} (h : j < o ∨ o + t ≤ j) : zy_D C g o t j = C j := if_neg (by omega)
theorem zy_D_s {a : Nat → Int32} {C g : Nat → Bool} {o t : Nat} (h : zy_C a (zy_D C g o t)) : zy_C (upd a (o + t) (zb_bI (g t))) (zy_D C g o (t + 1)) := by
  intro j hj
  by_cases e : j = o + t
  · subst e
    rw [pk_us, zy_D_in (by omega)]
  · rw [pk_un e, h j hj]
    unfold zy_D
    by_cases hc : o ≤ j ∧ j < o + t
    · rw [if_pos hc, if_pos (by omega)]
    · rw [if_neg hc, if_neg (by omega)]
theorem zy_nar (b : Bool) : vp_nar .boolean (zb_bI b) = zb_bI b := by cases b <;> rfl
theorem zy_narr (b : Bool) : narrow .boolean (.int (zb_bI b)) = .int (zb_bI b) := by
  cases b
  · exact narrow_b0
  · exact narrow_b1
theorem zy_i576 (r i : Nat) : nI r * 576 + nI i = nI (r * 576 + i) := by
  rw [show (576 : Int32) = nI 576 from rfl, pk_mul, nI_add]
theorem zy_ix (r y x : Nat) : nI r * 576 + nI y * 24 + nI x = nI (r * 576 + (24 * y + x)) := by
  rw [show (576 : Int32) = nI 576 from rfl, show (24 : Int32) = nI 24 from rfl, pk_mul, pk_mul, nI_add, nI_add]
  exact congrArg nI (by omega)
section
variable {ac aw : Nat → Int32} {C : Nat → Bool}
theorem zy_bad_ok {post : Int32 → Prop} {u : SY} {r : Nat} (hr : r < 3) (K : post 0) : wpY_bad post u (nI r) :=
  br_f (nI_pos (by omega)) (br_t (nI_le (b := 2) (by omega) (by decide)) K)
theorem zy_bad_no {post : Int32 → Prop} {u : SY} {p : Int32} (h : p < 0 ∨ ¬ p ≤ 2) (K : post 1) : wpY_bad post u p :=
  br_c (fun _ => K) (fun h1 => br_f (by rcases h with h | h; exact absurd h h1; exact h) K)
theorem zy_mixed {post : Int32 → Prop} {k : Nat} (hk : k < 4) (a b : Bool) (K : post (zb_bI (zb_wt k a b))) : wpY_mixed post (ac, aw) (zb_bI a) (zb_bI b) (nI k) := by
  have h : k = 0 ∨ k = 1 ∨ k = 2 ∨ k = 3 := by omega
  rcases h with rfl | rfl | rfl | rfl <;> cases a <;> cases b <;> unfold wpY_mixed <;> (repeat' first | exact K | refine br_t (by decide) ?_ | refine br_f (by decide) ?_)
theorem zy_inBox {post : Int32 → Prop} {p2 p3 : Int32} {l t w h x y : Nat} (e1 : p2 &&& 31 = nI l) (e2 : (p2 >>> ((5 : Int32) &&& 31)) &&& 31 = nI t) (e3 : p3 &&& 31 = nI w) (e4 : (p3 >>> ((5 : Int32) &&& 31)) &&& 31 = nI h) (hl : l < 32) (ht : t < 32) (hw : w < 32) (hh : h < 32) (hx : x < 24) (hy : y < 24) (K : post (zb_bI (zb_bx l t w h (24 * y + x)))) : wpY_inBox post (ac, aw) (nI x) (nI y) p2 p3 := by
  rw [zb_bx_at l t w h y x hx] at K
  have K0 : ¬ (l ≤ x ∧ x < l + w ∧ t ≤ y ∧ y < t + h) → post 0 := by
    intro hn
    rw [decide_eq_false hn] at K
    exact K
  unfold wpY_inBox
  dsimp only
  rw [e1, e2, e3, e4]
  refine nm_e (nm_e (nm_e (nm_e ?_)))
  rw [nI_add, nI_add]
  refine pk_lt x l (fun g => K0 (by omega)) (fun g1 => pk_le (l + w) x (fun g => K0 (by omega)) (fun g2 => pk_lt y t (fun g => K0 (by omega)) (fun g3 => pk_le (t + h) y (fun g => K0 (by omega)) (fun g4 => ?_))))
  rw [decide_eq_true ⟨g1, g2, g3, g4⟩] at K
  exact K
theorem zy_a14 {post : Int32 → Prop} {r : Nat} (hr : r < 3) (hC : zy_C ac C) (K : post (nI (zb_cn (fun t => C (r * 576 + t)) 576))) :
    ∀ d i, i + d = 576 → wY_area_14 post (nI r) ac aw (d + 1) (nI (zb_cn (fun t => C (r * 576 + t)) i)) (nI i) := by
  intro d
  induction d with
  | zero =>
    intro i hi
    have e : i = 576 := by omega
    subst e
    exact br_t (nI_le (a := 576) (b := 576) (Nat.le_refl _) (by decide)) K
  | succ d ih =>
    intro i hi
    have ii : vp_in (nI (r * 576 + i)) 1728 := vp_in_nI (by omega) (by omega)
    rw [wY_area_14]
    dsimp only
    rw [zy_i576, nI_clamp (show r * 576 + i < 2 ^ 31 by omega), hC _ (show r * 576 + i < 1728 by omega)]
    refine br_f (nI_ge (b := 576) (by omega) (by decide)) ⟨ii, ?_⟩
    have ih' := ih (i + 1) (by omega)
    cases hc : C (r * 576 + i) with
    | false =>
      rw [zb_cn_f (f := fun t => C (r * 576 + t)) hc] at ih'
      exact br_t rfl (nm_r (nI_1 i) ih')
    | true =>
      rw [zb_cn_t (f := fun t => C (r * 576 + t)) hc] at ih'
      exact br_f (by decide) (nm_r (nI_1 _) (nm_r (nI_1 i) ih'))
theorem zy_area {post : Int32 → Prop} {r : Nat} (hr : r < 3) (hC : zy_C ac C) (K : post (nI (zb_cn (fun t => C (r * 576 + t)) 576))) : wpY_area post (ac, aw) (nI r) := by
  unfold wpY_area
  dsimp only
  exact zy_bad_ok hr (br_t rfl ⟨577, zy_a14 hr hC K 576 0 (by omega)⟩)
theorem zy_b35 {post : Int32 → SY → Prop} {J25 : Int32 → (Nat → Int32) → (Nat → Int32) → Prop} {p2 p3 : Int32} {l t w h r k y : Nat} {g : Nat → Bool} (e1 : p2 &&& 31 = nI l) (e2 : (p2 >>> ((5 : Int32) &&& 31)) &&& 31 = nI t) (e3 : p3 &&& 31 = nI w) (e4 : (p3 >>> ((5 : Int32) &&& 31)) &&& 31 = nI h) (hl : l < 32) (ht : t < 32) (hw : w < 32) (hh : h < 32) (hr : r < 3) (hk : k < 4) (hy : y < 24) (hg : ∀ i, i < 576 → g i = zb_wt k (C (r * 576 + i)) (zb_bx l t w h i))
    (K : ∀ ac', zy_C ac' (zy_D C g (r * 576) (24 * (y + 1))) → J25 (nI (y + 1)) ac' aw) :
    ∀ d x, x + d = 24 → ∀ ac', zy_C ac' (zy_D C g (r * 576) (24 * y + x)) → wY_box_35 post J25 (nI r) (nI k) p2 p3 (nI y) (d + 1) (nI x) ac' aw := by
  intro d
  induction d with
  | zero =>
    intro x hx ac' hC
    have e : x = 24 := by omega
    subst e
    exact br_t (nI_le (a := 24) (b := 24) (Nat.le_refl _) (by decide)) (nm_r (nI_1 y) (K ac' hC))
  | succ d ih =>
    intro x hx ac' hC
    have ii : vp_in (nI (r * 576 + (24 * y + x))) 1728 := vp_in_nI (by omega) (by omega)
    rw [wY_box_35]
    dsimp only
    rw [zy_ix]
    refine br_f (nI_ge (b := 24) (by omega) (by decide)) (nm_e (zy_inBox e1 e2 e3 e4 hl ht hw hh (by omega) hy ⟨ii, ?_⟩))
    rw [nI_clamp (show r * 576 + (24 * y + x) < 2 ^ 31 by omega), hC _ (show r * 576 + (24 * y + x) < 1728 by omega), zy_D_out (by omega)]
    refine zy_mixed hk _ _ ⟨ii, ?_⟩
    rw [zy_nar, ← hg (24 * y + x) (by omega)]
    exact nm_e (nm_r (nI_1 x) (ih (x + 1) (by omega) _ (zy_D_s hC)))
theorem zy_b25 {post : Int32 → SY → Prop} {p2 p3 : Int32} {l t w h r k : Nat} {g : Nat → Bool} (e1 : p2 &&& 31 = nI l) (e2 : (p2 >>> ((5 : Int32) &&& 31)) &&& 31 = nI t) (e3 : p3 &&& 31 = nI w) (e4 : (p3 >>> ((5 : Int32) &&& 31)) &&& 31 = nI h) (hl : l < 32) (ht : t < 32) (hw : w < 32) (hh : h < 32) (hr : r < 3) (hk : k < 4) (hg : ∀ i, i < 576 → g i = zb_wt k (C (r * 576 + i)) (zb_bx l t w h i))
    (K : ∀ ac', zy_C ac' (zy_D C g (r * 576) 576) → post (nI (zb_cn g 576)) (ac', aw)) :
    ∀ d y, y + d = 24 → ∀ ac', zy_C ac' (zy_D C g (r * 576) (24 * y)) → wY_box_25 post (nI r) (nI k) p2 p3 (d + 1) (nI y) ac' aw := by
  intro d
  induction d with
  | zero =>
    intro y hy ac' hC
    have e : y = 24 := by omega
    subst e
    refine br_t (nI_le (a := 24) (b := 24) (Nat.le_refl _) (by decide)) (zy_area hr hC ?_)
    rw [zb_cn_congr (g := g) 576 (fun t ht => zy_D_in ht)]
    exact K ac' hC
  | succ d ih =>
    intro y hy ac' hC
    refine br_f (nI_ge (b := 24) (by omega) (by decide)) ⟨25, zy_b35 e1 e2 e3 e4 hl ht hw hh hr hk (by omega) hg (fun ac2 hC2 => ih (y + 1) (by omega) ac2 hC2) 24 0 (by omega) ac' hC⟩
theorem zy_box {post : Int32 → SY → Prop} {p2 p3 : Int32} {l t w h r k : Nat} {g : Nat → Bool} (e1 : p2 &&& 31 = nI l) (e2 : (p2 >>> ((5 : Int32) &&& 31)) &&& 31 = nI t) (e3 : p3 &&& 31 = nI w) (e4 : (p3 >>> ((5 : Int32) &&& 31)) &&& 31 = nI h) (hl : l < 32) (ht : t < 32) (hw : w < 32) (hh : h < 32) (hr : r < 3) (hk : k < 4) (hg : ∀ i, i < 576 → g i = zb_wt k (C (r * 576 + i)) (zb_bx l t w h i)) (hC : zy_C ac C)
    (K : ∀ ac', zy_C ac' (zy_D C g (r * 576) 576) → post (nI (zb_cn g 576)) (ac', aw)) : wpY_box post (ac, aw) (nI r) (nI k) p2 p3 := by
  unfold wpY_box
  dsimp only
  exact zy_bad_ok hr (br_t rfl (br_f (nI_pos (by omega)) (br_t (nI_le (b := 3) (by omega) (by decide)) ⟨25, zy_b25 e1 e2 e3 e4 hl ht hw hh hr hk hg K 24 0 (by omega) ac (by rw [zy_D_0]; exact hC)⟩)))
def zy_W (a : Nat → Int32) (g : Nat → Bool) (n : Nat) : Prop := ∀ j, j < n → a j = zb_bI (g j)
theorem zy_W_s {a : Nat → Int32} {g : Nat → Bool} {n : Nat} (h : zy_W a g n) : zy_W (upd a n (zb_bI (g n))) g (n + 1) := by
  intro j hj
  by_cases e : j = n
  · subst e; exact pk_us
  · rw [pk_un e]; exact h j (by omega)
theorem zy_c99 {post : Int32 → SY → Prop} {r : Nat} {g : Nat → Bool} (hr : r < 3) (hW : zy_W aw g 576) (K : ∀ ac', zy_C ac' (zy_D C g (r * 576) 576) → post (nI (zb_cn g 576)) (ac', aw)) :
    ∀ d i, i + d = 576 → ∀ ac', zy_C ac' (zy_D C g (r * 576) i) → wY_combine_99 post (nI r) (d + 1) (nI i) ac' aw := by
  intro d
  induction d with
  | zero =>
    intro i hi ac' hC
    have e : i = 576 := by omega
    subst e
    refine br_t (nI_le (a := 576) (b := 576) (Nat.le_refl _) (by decide)) (zy_area hr hC ?_)
    rw [zb_cn_congr (g := g) 576 (fun t ht => zy_D_in ht)]
    exact K ac' hC
  | succ d ih =>
    intro i hi ac' hC
    have i1 : vp_in (nI i) 576 := vp_in_nI (by omega) (by omega)
    have i2 : vp_in (nI (r * 576 + i)) 1728 := vp_in_nI (by omega) (by omega)
    rw [wY_combine_99]
    dsimp only
    rw [zy_i576, nI_clamp (show r * 576 + i < 2 ^ 31 by omega), nI_clamp (show i < 2 ^ 31 by omega), hW i (by omega), zy_nar]
    exact br_f (nI_ge (b := 576) (by omega) (by decide)) ⟨i1, i2, nm_e (nm_r (nI_1 i) (ih (i + 1) (by omega) _ (zy_D_s hC)))⟩
theorem zy_m138 {post : Int32 → SY → Prop} {r : Nat} {g : Nat → Bool} (hr : r < 3) (hW : zy_W aw g 576) (K : ∀ ac', zy_C ac' (zy_D C g (r * 576) 576) → post (nI (zb_cn g 576)) (ac', aw)) :
    ∀ d i, i + d = 576 → ∀ ac', zy_C ac' (zy_D C g (r * 576) i) → wY_move_138 post (nI r) (d + 1) (nI i) ac' aw := by
  intro d
  induction d with
  | zero =>
    intro i hi ac' hC
    have e : i = 576 := by omega
    subst e
    refine br_t (nI_le (a := 576) (b := 576) (Nat.le_refl _) (by decide)) (zy_area hr hC ?_)
    rw [zb_cn_congr (g := g) 576 (fun t ht => zy_D_in ht)]
    exact K ac' hC
  | succ d ih =>
    intro i hi ac' hC
    have i1 : vp_in (nI i) 576 := vp_in_nI (by omega) (by omega)
    have i2 : vp_in (nI (r * 576 + i)) 1728 := vp_in_nI (by omega) (by omega)
    rw [wY_move_138]
    dsimp only
    rw [zy_i576, nI_clamp (show r * 576 + i < 2 ^ 31 by omega), nI_clamp (show i < 2 ^ 31 by omega), hW i (by omega), zy_nar]
    exact br_f (nI_ge (b := 576) (by omega) (by decide)) ⟨i1, i2, nm_e (nm_r (nI_1 i) (ih (i + 1) (by omega) _ (zy_D_s hC)))⟩
theorem zy_c43 {post : Int32 → SY → Prop} {r a b k : Nat} {g : Nat → Bool} (hr : r < 3) (ha : a < 3) (hb : b < 3) (hk : k < 4) (hC : zy_C ac C) (hg : ∀ i, i < 576 → g i = zb_wt k (C (a * 576 + i)) (C (b * 576 + i))) (K : ∀ ac' aw', zy_C ac' (zy_D C g (r * 576) 576) → post (nI (zb_cn g 576)) (ac', aw')) :
    ∀ d i, i + d = 576 → ∀ aw', zy_W aw' g i → wY_combine_43 post (nI r) (nI a) (nI b) (nI k) (d + 1) (nI i) ac aw' := by
  intro d
  induction d with
  | zero =>
    intro i hi aw' hW
    have e : i = 576 := by omega
    subst e
    exact br_t (nI_le (a := 576) (b := 576) (Nat.le_refl _) (by decide)) ⟨577, zy_c99 hr hW (fun ac' h => K ac' aw' h) 576 0 (by omega) ac (by rw [zy_D_0]; exact hC)⟩
  | succ d ih =>
    intro i hi aw' hW
    have i0 : vp_in (nI i) 576 := vp_in_nI (by omega) (by omega)
    have i1 : vp_in (nI (a * 576 + i)) 1728 := vp_in_nI (by omega) (by omega)
    have i2 : vp_in (nI (b * 576 + i)) 1728 := vp_in_nI (by omega) (by omega)
    rw [wY_combine_43]
    dsimp only
    rw [zy_i576, zy_i576, nI_clamp (show a * 576 + i < 2 ^ 31 by omega), nI_clamp (show b * 576 + i < 2 ^ 31 by omega), nI_clamp (show i < 2 ^ 31 by omega), hC _ (show a * 576 + i < 1728 by omega), hC _ (show b * 576 + i < 1728 by omega)]
    refine br_f (nI_ge (b := 576) (by omega) (by decide)) ⟨i1, i2, zy_mixed hk _ _ ⟨i0, ?_⟩⟩
    rw [zy_nar, ← hg i (by omega)]
    exact nm_e (nm_r (nI_1 i) (ih (i + 1) (by omega) _ (zy_W_s hW)))
theorem zy_combine {post : Int32 → SY → Prop} {r a b k : Nat} {g : Nat → Bool} (hr : r < 3) (ha : a < 3) (hb : b < 3) (hk : k < 4) (hC : zy_C ac C) (hg : ∀ i, i < 576 → g i = zb_wt k (C (a * 576 + i)) (C (b * 576 + i))) (K : ∀ ac' aw', zy_C ac' (zy_D C g (r * 576) 576) → post (nI (zb_cn g 576)) (ac', aw')) : wpY_combine post (ac, aw) (nI r) (nI a) (nI b) (nI k) := by
  unfold wpY_combine
  dsimp only
  exact zy_bad_ok hr (br_t rfl (zy_bad_ok ha (br_t rfl (zy_bad_ok hb (br_t rfl (br_f (nI_pos (by omega)) (br_t (nI_le (b := 3) (by omega) (by decide)) ⟨577, zy_c43 hr ha hb hk hC hg K 576 0 (by omega) aw (fun j hj => by omega)⟩)))))))
theorem zy_i12 {post : Int32 → SY → Prop} {r : Nat} {g : Nat → Bool} (hr : r < 3) (hg : ∀ i, i < 576 → g i = !C (r * 576 + i)) (K : ∀ ac', zy_C ac' (zy_D C g (r * 576) 576) → post (nI (zb_cn g 576)) (ac', aw)) :
    ∀ d i, i + d = 576 → ∀ ac', zy_C ac' (zy_D C g (r * 576) i) → wY_invert_12 post (nI r) (d + 1) (nI i) ac' aw := by
  intro d
  induction d with
  | zero =>
    intro i hi ac' hC
    have e : i = 576 := by omega
    subst e
    refine br_t (nI_le (a := 576) (b := 576) (Nat.le_refl _) (by decide)) (zy_area hr hC ?_)
    rw [zb_cn_congr (g := g) 576 (fun t ht => zy_D_in ht)]
    exact K ac' hC
  | succ d ih =>
    intro i hi ac' hC
    have i2 : vp_in (nI (r * 576 + i)) 1728 := vp_in_nI (by omega) (by omega)
    have hs := zy_D_s hC
    have e := hg i (by omega)
    rw [wY_invert_12]
    dsimp only
    rw [zy_i576, nI_clamp (show r * 576 + i < 2 ^ 31 by omega), hC _ (show r * 576 + i < 1728 by omega), zy_D_out (by omega)]
    refine br_f (nI_ge (b := 576) (by omega) (by decide)) ⟨i2, ?_⟩
    cases hc : C (r * 576 + i) with
    | false =>
      rw [hc] at e
      rw [e] at hs
      exact br_t rfl ⟨i2, nm_r (e' := upd ac' (r * 576 + i) (zb_bI true)) rfl (nm_r (nI_1 i) (ih (i + 1) (by omega) _ hs))⟩
    | true =>
      rw [hc] at e
      rw [e] at hs
      exact br_f (by decide) ⟨i2, nm_r (e' := upd ac' (r * 576 + i) (zb_bI false)) rfl (nm_r (nI_1 i) (ih (i + 1) (by omega) _ hs))⟩
theorem zy_invert {post : Int32 → SY → Prop} {r : Nat} {g : Nat → Bool} (hr : r < 3) (hC : zy_C ac C) (hg : ∀ i, i < 576 → g i = !C (r * 576 + i)) (K : ∀ ac', zy_C ac' (zy_D C g (r * 576) 576) → post (nI (zb_cn g 576)) (ac', aw)) : wpY_invert post (ac, aw) (nI r) := by
  unfold wpY_invert
  dsimp only
  exact zy_bad_ok hr (br_t rfl ⟨577, zy_i12 hr hg K 576 0 (by omega) ac (by rw [zy_D_0]; exact hC)⟩)
end
end
section
/-! the reference's move -/
def zy_g (c : Nat → Bool) (p s t : Nat) : Nat → Bool := fun j => zb_mv c p s j && decide (24 * (j / 24 + 24 - s) + (j % 24 + 24 - p) < t)
theorem zy_g_0 (c : Nat → Bool) (p s j : Nat) : zy_g c p s 0 j = false := by
  unfold zy_g
  rw [decide_eq_false (by omega)]; simp
theorem zb_mv_in {c : Nat → Bool} {p s j : Nat} (h : zb_mv c p s j = true) : s ≤ j / 24 + 24 ∧ j / 24 < s ∧ p ≤ j % 24 + 24 ∧ j % 24 < p := by
  unfold zb_mv at h
  rw [Bool.and_eq_true] at h
  have h1 := of_decide_eq_true h.1
  have h2 := h.2
  unfold zb_mq at h2
  rw [Bool.and_eq_true] at h2
  have h3 := of_decide_eq_true h2.1
  exact ⟨h1.1, h1.2, h3.1, h3.2⟩
theorem zy_g_576 {c : Nat → Bool} {p s j : Nat} : zy_g c p s 576 j = zb_mv c p s j := by
  unfold zy_g
  cases hm : zb_mv c p s j with
  | false => rfl
  | true =>
    have a := zb_mv_in hm
    rw [decide_eq_true (by omega)]; rfl
theorem zy_g_n {c : Nat → Bool} {p s y x j : Nat} (hx : x < 24) (h : zb_mv c p s j = true → ¬ (j / 24 + 24 = y + s ∧ j % 24 + 24 = x + p)) : zy_g c p s (24 * y + x + 1) j = zy_g c p s (24 * y + x) j := by
  unfold zy_g
  cases hm : zb_mv c p s j with
  | false => rfl
  | true =>
    have a := zb_mv_in hm
    have b := h hm
    congr 1
    exact decide_eq_decide.mpr ⟨fun g => by omega, fun g => by omega⟩
theorem zy_g_y {c : Nat → Bool} {p s y x : Nat} (hx : x < 24) (hy : y < 24) (h1 : 24 ≤ x + p) (h2 : x + p < 48) (h3 : 24 ≤ y + s) (h4 : y + s < 48) : zy_g c p s (24 * y + x + 1) ((y + s - 24) * 24 + (x + p - 24)) = c (24 * y + x) := by
  have e1 : ((y + s - 24) * 24 + (x + p - 24)) / 24 = y + s - 24 := by omega
  have e2 : ((y + s - 24) * 24 + (x + p - 24)) % 24 = x + p - 24 := by omega
  unfold zy_g zb_mv zb_mq zb_row
  rw [e1, e2, show y + s - 24 + 24 - s = y by omega, show x + p - 24 + 24 - p = x by omega, decide_eq_true (show 24 * y + x < 24 * y + x + 1 by omega), decide_eq_true (show s ≤ y + s - 24 + 24 ∧ y + s - 24 < s by omega), decide_eq_true (show p ≤ x + p - 24 + 24 ∧ x + p - 24 < p by omega)]
  simp
section
variable {ac aw : Nat → Int32} {C : Nat → Bool}
theorem zy_m48 {post : Int32 → SY → Prop} {J38 : Int32 → (Nat → Int32) → (Nat → Int32) → Prop} {r p s y : Nat} {dx dy : Int32} (hr : r < 3) (hp : p ≤ 48) (hs : s ≤ 48) (hC : zy_C ac C) (hy : y < 24)
    (hdx : ∀ x, x < 24 → ((nI x + dx < 0 ∨ 24 ≤ nI x + dx) ∧ ¬ (24 ≤ x + p ∧ x + p < 48)) ∨ (¬ nI x + dx < 0 ∧ ¬ 24 ≤ nI x + dx ∧ 24 ≤ x + p ∧ x + p < 48 ∧ nI x + dx = nI (x + p - 24)))
    (hdy : ((nI y + dy < 0 ∨ 24 ≤ nI y + dy) ∧ ¬ (24 ≤ y + s ∧ y + s < 48)) ∨ (¬ nI y + dy < 0 ∧ ¬ 24 ≤ nI y + dy ∧ 24 ≤ y + s ∧ y + s < 48 ∧ nI y + dy = nI (y + s - 24)))
    (K : ∀ aw', zy_W aw' (zy_g (fun t => C (r * 576 + t)) p s (24 * (y + 1))) 576 → J38 (nI (y + 1)) ac aw') :
    ∀ d x, x + d = 24 → ∀ aw', zy_W aw' (zy_g (fun t => C (r * 576 + t)) p s (24 * y + x)) 576 → wY_move_48 post J38 (nI r) dx dy (nI y) (d + 1) (nI x) ac aw' := by
  intro d
  induction d with
  | zero =>
    intro x hx aw' hW
    have e : x = 24 := by omega
    subst e
    exact br_t (nI_le (a := 24) (b := 24) (Nat.le_refl _) (by decide)) (nm_r (nI_1 y) (K aw' hW))
  | succ d ih =>
    intro x hx aw' hW
    have skip : ¬ ((24 ≤ x + p ∧ x + p < 48) ∧ (24 ≤ y + s ∧ y + s < 48)) → wY_move_48 post J38 (nI r) dx dy (nI y) (d + 1) (nI (x + 1)) ac aw' := by
      intro hn
      refine ih (x + 1) (by omega) aw' (fun j hj => ?_)
      rw [hW j hj, show 24 * y + (x + 1) = 24 * y + x + 1 by omega, zy_g_n (by omega) (fun hm hh => ?_)]
      have a := zb_mv_in hm
      omega
    rw [wY_move_48]
    dsimp only
    refine br_f (nI_ge (b := 24) (by omega) (by decide)) (nm_e (nm_e ?_))
    rcases hdx x (by omega) with ⟨g1, g2⟩ | ⟨g1, g2, g3, g4, g5⟩
    · have S := skip (fun hh => g2 hh.1)
      refine br_c (fun _ => nm_r (nI_1 x) S) (fun h1 => br_t ?_ (nm_r (nI_1 x) S))
      rcases g1 with g1 | g1
      · exact absurd g1 h1
      · exact g1
    · refine br_f g1 (br_f g2 ?_)
      rcases hdy with ⟨k1, k2⟩ | ⟨k1, k2, k3, k4, k5⟩
      · have S := skip (fun hh => k2 hh.2)
        refine br_c (fun _ => nm_r (nI_1 x) S) (fun h1 => br_t ?_ (nm_r (nI_1 x) S))
        rcases k1 with k1 | k1
        · exact absurd k1 h1
        · exact k1
      · refine br_f k1 (br_f k2 ?_)
        have i1 : vp_in (nI (r * 576 + (24 * y + x))) 1728 := vp_in_nI (by omega) (by omega)
        have i2 : vp_in (nI ((y + s - 24) * 24 + (x + p - 24))) 576 := vp_in_nI (by omega) (by omega)
        rw [g5, k5, zy_ix, zb_i24, nI_clamp (show r * 576 + (24 * y + x) < 2 ^ 31 by omega), nI_clamp (show (y + s - 24) * 24 + (x + p - 24) < 2 ^ 31 by omega), hC _ (show r * 576 + (24 * y + x) < 1728 by omega), zy_nar]
        refine ⟨i1, i2, nm_e (nm_r (nI_1 x) (ih (x + 1) (by omega) _ (fun j hj => ?_)))⟩
        rw [show 24 * y + (x + 1) = 24 * y + x + 1 by omega]
        by_cases e : j = (y + s - 24) * 24 + (x + p - 24)
        · subst e
          rw [pk_us, zy_g_y (by omega) hy g3 g4 k3 k4]
        · rw [pk_un e, hW j hj, zy_g_n (by omega) (fun hm hh => ?_)]
          have a := zb_mv_in hm
          omega
theorem zy_m38 {post : Int32 → SY → Prop} {r p s : Nat} {dx dy : Int32} (hr : r < 3) (hp : p ≤ 48) (hs : s ≤ 48) (hC : zy_C ac C)
    (hdx : ∀ x, x < 24 → ((nI x + dx < 0 ∨ 24 ≤ nI x + dx) ∧ ¬ (24 ≤ x + p ∧ x + p < 48)) ∨ (¬ nI x + dx < 0 ∧ ¬ 24 ≤ nI x + dx ∧ 24 ≤ x + p ∧ x + p < 48 ∧ nI x + dx = nI (x + p - 24)))
    (hdy : ∀ y, y < 24 → ((nI y + dy < 0 ∨ 24 ≤ nI y + dy) ∧ ¬ (24 ≤ y + s ∧ y + s < 48)) ∨ (¬ nI y + dy < 0 ∧ ¬ 24 ≤ nI y + dy ∧ 24 ≤ y + s ∧ y + s < 48 ∧ nI y + dy = nI (y + s - 24)))
    (K : ∀ ac' aw', zy_C ac' (zy_D C (zb_mv (fun t => C (r * 576 + t)) p s) (r * 576) 576) → post (nI (zb_cn (zb_mv (fun t => C (r * 576 + t)) p s) 576)) (ac', aw')) :
    ∀ d y, y + d = 24 → ∀ aw', zy_W aw' (zy_g (fun t => C (r * 576 + t)) p s (24 * y)) 576 → wY_move_38 post (nI r) dx dy (d + 1) (nI y) ac aw' := by
  intro d
  induction d with
  | zero =>
    intro y hy aw' hW
    have e : y = 24 := by omega
    subst e
    refine br_t (nI_le (a := 24) (b := 24) (Nat.le_refl _) (by decide)) ⟨577, zy_m138 (C := C) (g := zb_mv (fun t => C (r * 576 + t)) p s) hr (fun j hj => ?_) (fun ac' h => K ac' aw' h) 576 0 (by omega) ac (by rw [zy_D_0]; exact hC)⟩
    rw [hW j hj]
    exact congrArg zb_bI zy_g_576
  | succ d ih =>
    intro y hy aw' hW
    exact br_f (nI_ge (b := 24) (by omega) (by decide)) ⟨25, zy_m48 hr hp hs hC (by omega) hdx (hdy y (by omega)) (fun aw2 h2 => ih (y + 1) (by omega) aw2 h2) 24 0 (by omega) aw' hW⟩
theorem zy_m13 {post : Int32 → SY → Prop} {r : Nat} {dx dy : Int32} (K : ∀ aw', (∀ j, j < 576 → aw' j = 0) → ∃ n, wY_move_38 post (nI r) dx dy n 0 ac aw') :
    ∀ d i, i + d = 576 → ∀ aw', (∀ j, j < i → aw' j = 0) → wY_move_13 post (nI r) dx dy (d + 1) (nI i) ac aw' := by
  intro d
  induction d with
  | zero =>
    intro i hi aw' hW
    have e : i = 576 := by omega
    subst e
    exact br_t (nI_le (a := 576) (b := 576) (Nat.le_refl _) (by decide)) (K aw' hW)
  | succ d ih =>
    intro i hi aw' hW
    have i1 : vp_in (nI i) 576 := vp_in_nI (by omega) (by omega)
    rw [wY_move_13]
    dsimp only
    rw [nI_clamp (show i < 2 ^ 31 by omega)]
    refine br_f (nI_ge (b := 576) (by omega) (by decide)) ⟨i1, nm_r (e' := upd aw' i 0) (congrArg (upd aw' i) (zy_nar false)) (nm_r (nI_1 i) (ih (i + 1) (by omega) _ (fun j hj => ?_)))⟩
    by_cases e : j = i
    · subst e; exact pk_us
    · rw [pk_un e]; exact hW j (by omega)
theorem zy_move {post : Int32 → SY → Prop} {r p s : Nat} {dx dy : Int32} (hr : r < 3) (hp : p ≤ 48) (hs : s ≤ 48) (hC : zy_C ac C)
    (hdx : ∀ x, x < 24 → ((nI x + dx < 0 ∨ 24 ≤ nI x + dx) ∧ ¬ (24 ≤ x + p ∧ x + p < 48)) ∨ (¬ nI x + dx < 0 ∧ ¬ 24 ≤ nI x + dx ∧ 24 ≤ x + p ∧ x + p < 48 ∧ nI x + dx = nI (x + p - 24)))
    (hdy : ∀ y, y < 24 → ((nI y + dy < 0 ∨ 24 ≤ nI y + dy) ∧ ¬ (24 ≤ y + s ∧ y + s < 48)) ∨ (¬ nI y + dy < 0 ∧ ¬ 24 ≤ nI y + dy ∧ 24 ≤ y + s ∧ y + s < 48 ∧ nI y + dy = nI (y + s - 24)))
    (K : ∀ ac' aw', zy_C ac' (zy_D C (zb_mv (fun t => C (r * 576 + t)) p s) (r * 576) 576) → post (nI (zb_cn (zb_mv (fun t => C (r * 576 + t)) p s) 576)) (ac', aw')) : wpY_move post (ac, aw) (nI r) dx dy := by
  unfold wpY_move
  dsimp only
  refine zy_bad_ok hr (br_t rfl ⟨577, zy_m13 (fun aw' h0 => ⟨25, zy_m38 hr hp hs hC hdx hdy K 24 0 (by omega) aw' (fun j hj => ?_)⟩) 576 0 (by omega) aw (fun j hj => by omega)⟩)
  rw [h0 j hj]
  exact congrArg zb_bI (zy_g_0 (fun t => C (r * 576 + t)) p s j).symm
end
end
section
/-! the reference: the questions -/
def zy_c (C : Nat → Bool) (r : Nat) : Nat → Bool := fun t => C (r * 576 + t)
section
variable {ac aw : Nat → Int32} {C : Nat → Bool} {post : Int32 → Prop}
theorem zy_has_in {r x y : Nat} (hr : r < 3) (hC : zy_C ac C) (hx : x < 24) (hy : y < 24) (K : post (zb_bI (zy_c C r (24 * y + x)))) : wpY_has post (ac, aw) (nI r) (nI x) (nI y) := by
  have ii : vp_in (nI (r * 576 + (24 * y + x))) 1728 := vp_in_nI (by omega) (by omega)
  unfold wpY_has
  dsimp only
  rw [zy_ix, nI_clamp (show r * 576 + (24 * y + x) < 2 ^ 31 by omega), hC _ (show r * 576 + (24 * y + x) < 1728 by omega)]
  exact zy_bad_ok hr (br_t rfl (br_f (nI_pos (by omega)) (br_f (nI_nlt (a := 23) (by omega) (by omega)) (br_f (nI_pos (by omega)) (br_t (nI_le (b := 23) (by omega) (by decide)) ⟨ii, zy_narr _, K⟩)))))
theorem zy_has_out {r : Nat} {p q : Int32} (hr : r < 3) (h : p < 0 ∨ 23 < p ∨ q < 0 ∨ ¬ q ≤ 23) (K : post 0) : wpY_has post (ac, aw) (nI r) p q := by
  unfold wpY_has
  dsimp only
  refine zy_bad_ok hr (br_t rfl (br_c (fun _ => K) (fun h1 => br_c (fun _ => K) (fun h2 => br_c (fun _ => K) (fun h3 => br_f ?_ K)))))
  rcases h with h | h | h | h
  · exact absurd h h1
  · exact absurd h h2
  · exact absurd h h3
  · exact h
theorem zy_er25 {r y z : Nat} (hr : r < 3) (hC : zy_C ac C) (hy : y < 24) (hz : z < 24) (K : post (zb_bI (zb_er (zy_c C r) y z))) :
    ∀ d x, x + d = 24 → (∀ j, j < x → zy_c C r (24 * y + j) = zy_c C r (24 * z + j)) → wY_equalRows_25 post (nI r) (nI y) (nI z) ac aw (d + 1) (nI x) := by
  intro d
  induction d with
  | zero =>
    intro x hx h1
    have e : x = 24 := by omega
    subst e
    rw [zb_er_t h1] at K
    exact br_t (nI_le (a := 24) (b := 24) (Nat.le_refl _) (by decide)) K
  | succ d ih =>
    intro x hx h1
    have i1 : vp_in (nI (r * 576 + (24 * y + x))) 1728 := vp_in_nI (by omega) (by omega)
    have i2 : vp_in (nI (r * 576 + (24 * z + x))) 1728 := vp_in_nI (by omega) (by omega)
    rw [wY_equalRows_25]
    dsimp only
    rw [zy_ix, zy_ix, nI_clamp (show r * 576 + (24 * y + x) < 2 ^ 31 by omega), nI_clamp (show r * 576 + (24 * z + x) < 2 ^ 31 by omega), hC _ (show r * 576 + (24 * y + x) < 1728 by omega), hC _ (show r * 576 + (24 * z + x) < 1728 by omega)]
    refine br_f (nI_ge (b := 24) (by omega) (by decide)) ⟨i1, i2, ?_⟩
    by_cases hc : zy_c C r (24 * y + x) = zy_c C r (24 * z + x)
    · have hc' : C (r * 576 + (24 * y + x)) = C (r * 576 + (24 * z + x)) := hc
      refine br_t (by rw [hc']) (nm_r (nI_1 x) (ih (x + 1) (by omega) (fun j hj => ?_)))
      by_cases e : j = x
      · subst e; exact hc
      · exact h1 j (by omega)
    · rw [zb_er_f (fun hh => hc (hh x (by omega)))] at K
      refine br_f (fun hh => hc ?_) K
      show C (r * 576 + (24 * y + x)) = C (r * 576 + (24 * z + x))
      revert hh
      cases C (r * 576 + (24 * y + x)) <;> cases C (r * 576 + (24 * z + x)) <;> decide
theorem zy_er_in {r y z : Nat} (hr : r < 3) (hC : zy_C ac C) (hy : y < 24) (hz : z < 24) (K : post (zb_bI (zb_er (zy_c C r) y z))) : wpY_equalRows post (ac, aw) (nI r) (nI y) (nI z) := by
  unfold wpY_equalRows
  dsimp only
  exact br_f (nI_pos (by omega)) (br_f (nI_pos (by omega)) (br_f (nI_nlt (a := 23) (by omega) (by omega)) (br_t (nI_le (b := 23) (by omega) (by decide)) ⟨25, zy_er25 hr hC hy hz K 24 0 (by omega) (fun j hj => by omega)⟩)))
theorem zy_er_out {p0 p q : Int32} (h : p < 0 ∨ 23 < p) (K : post 0) : wpY_equalRows post (ac, aw) p0 p q := by
  unfold wpY_equalRows
  dsimp only
  refine br_c (fun _ => K) (fun h1 => br_c (fun _ => K) (fun h2 => br_t ?_ K))
  rcases h with h | h
  · exact absurd h h1
  · exact h
theorem zy_m1n : nI 0 - 1 < 0 := by decide
theorem zy_begins {r x y : Nat} (hr : r < 3) (hC : zy_C ac C) (hx : x < 24) (hy : y < 24) (K : post (zb_bI (zb_bg (zy_c C r) (24 * y + x)))) : wpY_begins post (ac, aw) (nI r) (nI x) (nI y) := by
  rw [zb_bg_at _ y x hx] at K
  unfold wpY_begins
  dsimp only
  refine zy_has_in hr hC hx hy ?_
  cases hq : zy_c C r (24 * y + x) with
  | false =>
    rw [zb_st_f1 (q := zb_row (zy_c C r) y) hq] at K
    exact br_t rfl K
  | true =>
    refine br_f (by decide) ?_
    have nt : zb_st (zb_row (zy_c C r) y) x = true → wpY_equalRows (fun r_9 => (r_9 = 0 → post 1) ∧ (¬ r_9 = 0 → post 0)) (ac, aw) (nI r) (nI y - 1) (nI y) := by
      intro hs
      rw [hs] at K
      by_cases hy0 : y = 0
      · subst hy0
        exact zy_er_out (Or.inl zy_m1n) (br_t rfl K)
      · rw [zb_m1 (by omega)]
        refine zy_er_in hr hC (by omega) hy ?_
        rw [zb_nt_s (by omega)] at K
        cases he : zb_er (zy_c C r) (y - 1) y with
        | false => rw [he] at K; exact br_t rfl K
        | true => rw [he] at K; exact br_f (by decide) K
    by_cases hx0 : x = 0
    · subst hx0
      exact zy_has_out hr (Or.inl zy_m1n) (br_t rfl (nt (zb_st_t hq (fun h => by omega))))
    · rw [zb_m1 (show 0 < x by omega)]
      refine zy_has_in hr hC (by omega) hy ?_
      cases hp : zy_c C r (24 * y + (x - 1)) with
      | false => exact br_t rfl (nt (zb_st_t hq (fun h => hp)))
      | true =>
        rw [zb_st_f2 (q := zb_row (zy_c C r) y) (by omega) hp] at K
        exact br_f (by decide) K
theorem zy_rs23 {J14 : Int32 → Int32 → Prop} {r y : Nat} (hr : r < 3) (hC : zy_C ac C) (hy : y < 24) (K : J14 (nI (zb_cn (zb_bg (zy_c C r)) (24 * (y + 1)))) (nI (y + 1))) :
    ∀ d x, x + d = 24 → wY_rectangles_23 post J14 (nI r) (nI y) ac aw (d + 1) (nI (zb_cn (zb_bg (zy_c C r)) (24 * y + x))) (nI x) := by
  intro d
  induction d with
  | zero =>
    intro x hx
    have e : x = 24 := by omega
    subst e
    exact br_t (nI_le (a := 24) (b := 24) (Nat.le_refl _) (by decide)) (nm_r (nI_1 y) K)
  | succ d ih =>
    intro x hx
    have ih' := ih (x + 1) (by omega)
    rw [show 24 * y + (x + 1) = 24 * y + x + 1 by omega] at ih'
    rw [wY_rectangles_23]
    dsimp only
    refine br_f (nI_ge (b := 24) (by omega) (by decide)) (zy_begins hr hC (by omega) hy ?_)
    cases hb : zb_bg (zy_c C r) (24 * y + x) with
    | false => rw [zb_cn_f hb] at ih'; exact br_t rfl (nm_r (nI_1 x) ih')
    | true => rw [zb_cn_t hb] at ih'; exact br_f (by decide) (nm_r (nI_1 _) (nm_r (nI_1 x) ih'))
theorem zy_rs14 {r : Nat} (hr : r < 3) (hC : zy_C ac C) (K : post (nI (zb_cn (zb_bg (zy_c C r)) 576))) :
    ∀ d y, y + d = 24 → wY_rectangles_14 post (nI r) ac aw (d + 1) (nI (zb_cn (zb_bg (zy_c C r)) (24 * y))) (nI y) := by
  intro d
  induction d with
  | zero =>
    intro y hy
    have e : y = 24 := by omega
    subst e
    exact br_t (nI_le (a := 24) (b := 24) (Nat.le_refl _) (by decide)) K
  | succ d ih =>
    intro y hy
    exact br_f (nI_ge (b := 24) (by omega) (by decide)) ⟨25, zy_rs23 hr hC (by omega) (ih (y + 1) (by omega)) 24 0 (by omega)⟩
theorem zy_rectangles {r : Nat} (hr : r < 3) (hC : zy_C ac C) (K : post (nI (zb_cn (zb_bg (zy_c C r)) 576))) : wpY_rectangles post (ac, aw) (nI r) := by
  unfold wpY_rectangles
  dsimp only
  exact zy_bad_ok hr (br_t rfl ⟨25, zy_rs14 hr hC K 24 0 (by omega)⟩)
theorem zy_f32 {J9 : Int32 → Int32 → Int32 → Prop} {r y v E k : Nat} {x2 x4 : Int32} (hr : r < 3) (hC : zy_C ac C) (hE : E < 24) (hy : y < 24) (hvE : v ≤ E) (h1 : ∀ z, v < z → z ≤ E → zb_er (zy_c C r) z y = true) (h2 : E + 1 < 24 → zb_er (zy_c C r) (E + 1) y = false) (K : ∀ v', v' ≤ E → (v' = v + 1 ∨ (v = E ∧ v' = v)) → J9 x4 (nI v') (nI (k + 1))) : wY_from_32 post J9 (nI r) x2 (nI y) x4 (nI v) (nI k) ac aw := by
  unfold wY_from_32
  rw [nI_1 v]
  by_cases hv : v = E
  · subst hv
    by_cases h24 : v + 1 < 24
    · refine zy_er_in hr hC h24 hy ?_
      rw [h2 h24]
      exact br_t rfl (nm_r (nI_1 k) (K v (Nat.le_refl _) (Or.inr ⟨rfl, rfl⟩)))
    · exact zy_er_out (Or.inr (nI_lt (a := 23) (by omega) (by omega))) (br_t rfl (nm_r (nI_1 k) (K v (Nat.le_refl _) (Or.inr ⟨rfl, rfl⟩))))
  · refine zy_er_in hr hC (by omega) hy ?_
    rw [h1 (v + 1) (by omega) (by omega)]
    exact br_f (by decide) (nm_e (nm_r (nI_1 k) (K (v + 1) (by omega) (Or.inl rfl))))
theorem zy_f9 {r x y R E : Nat} (hr : r < 3) (hC : zy_C ac C) (hR : R < 24) (hE : E < 24) (hy : y < 24) (h1 : ∀ z, y < z → z ≤ E → zb_er (zy_c C r) z y = true) (h2 : E + 1 < 24 → zb_er (zy_c C r) (E + 1) y = false) (h3 : ∀ z, x < z → z ≤ R → zy_c C r (24 * y + z) = true) (h4 : R + 1 < 24 → zy_c C r (24 * y + (R + 1)) = false) (K : post (nI (x + 32 * y + 1024 * R + 32768 * E))) :
    ∀ d k, k + d = 24 → ∀ u v, x ≤ u → u ≤ R → y ≤ v → v ≤ E → (u = R ∨ u = x + k) → (v = E ∨ v = y + k) → wY_from_9 post (nI r) (nI x) (nI y) ac aw (d + 1) (nI u) (nI v) (nI k) := by
  intro d
  induction d with
  | zero =>
    intro k hk u v g1 g2 g3 g4 g5 g6
    have e : k = 24 := by omega
    subst e
    have eu : u = R := by omega
    have ev : v = E := by omega
    subst eu ev
    rw [wY_from_9]
    dsimp only
    rw [show (32 : Int32) = nI 32 from rfl, show (1024 : Int32) = nI 1024 from rfl, show (32768 : Int32) = nI 32768 from rfl, pk_mul, pk_mul, pk_mul, nI_add, nI_add, nI_add]
    exact br_t (nI_le (a := 24) (b := 24) (Nat.le_refl _) (by decide)) K
  | succ d ih =>
    intro k hk u v g1 g2 g3 g4 g5 g6
    have go : ∀ u', x ≤ u' → u' ≤ R → (u' = R ∨ u' = x + (k + 1)) → wY_from_32 post (wY_from_9 post (nI r) (nI x) (nI y) ac aw (d + 1)) (nI r) (nI x) (nI y) (nI u') (nI v) (nI k) ac aw := by
      intro u' k1 k2 k3
      exact zy_f32 hr hC hE hy g4 (fun z k4 k5 => h1 z (by omega) k5) h2 (fun v' k4 k5 => ih (k + 1) (by omega) u' v' k1 k2 (by omega) k4 k3 (by omega))
    rw [wY_from_9]
    dsimp only
    rw [nI_1 u]
    refine br_f (nI_ge (b := 24) (by omega) (by decide)) ?_
    by_cases hu : u = R
    · subst hu
      by_cases h24 : u + 1 < 24
      · refine zy_has_in hr hC h24 hy ?_
        rw [h4 h24]
        exact br_t rfl (go u g1 g2 (Or.inl rfl))
      · exact zy_has_out hr (Or.inr (Or.inl (nI_lt (a := 23) (by omega) (by omega)))) (br_t rfl (go u g1 g2 (Or.inl rfl)))
    · refine zy_has_in hr hC (by omega) hy ?_
      rw [h3 (u + 1) (by omega) (by omega)]
      exact br_f (by decide) (nm_e (go (u + 1) (by omega) (by omega) (by omega)))
theorem zy_from {r x y R E : Nat} (hr : r < 3) (hC : zy_C ac C) (hxR : x ≤ R) (hR : R < 24) (hyE : y ≤ E) (hE : E < 24) (h1 : ∀ z, y < z → z ≤ E → zb_er (zy_c C r) z y = true) (h2 : E + 1 < 24 → zb_er (zy_c C r) (E + 1) y = false) (h3 : ∀ z, x < z → z ≤ R → zy_c C r (24 * y + z) = true) (h4 : R + 1 < 24 → zy_c C r (24 * y + (R + 1)) = false) (K : post (nI (x + 32 * y + 1024 * R + 32768 * E))) : wpY_from post (ac, aw) (nI r) (nI x) (nI y) :=
  ⟨25, zy_f9 hr hC hR hE (by omega) h1 h2 h3 h4 K 24 0 (by omega) x y (Nat.le_refl _) hxR (Nat.le_refl _) hyE (Or.inr rfl) (Or.inr rfl)⟩
theorem zy_rg25 {J15 : Int32 → Int32 → Prop} {r y : Nat} {p : Int32} (hr : r < 3) (hC : zy_C ac C) (hy : y < 24)
    (Kf : ∀ y x, y < 24 → x < 24 → zb_bg (zy_c C r) (24 * y + x) = true → nI (zb_cn (zb_bg (zy_c C r)) (24 * y + x)) = p → wpY_from post (ac, aw) (nI r) (nI x) (nI y))
    (K : (∀ t, t < 24 * (y + 1) → zb_bg (zy_c C r) t = true → ¬ nI (zb_cn (zb_bg (zy_c C r)) t) = p) → J15 (nI (zb_cn (zb_bg (zy_c C r)) (24 * (y + 1)))) (nI (y + 1))) :
    ∀ d x, x + d = 24 → (∀ t, t < 24 * y + x → zb_bg (zy_c C r) t = true → ¬ nI (zb_cn (zb_bg (zy_c C r)) t) = p) → wY_rectangle_25 post J15 (nI r) p (nI y) ac aw (d + 1) (nI (zb_cn (zb_bg (zy_c C r)) (24 * y + x))) (nI x) := by
  intro d
  induction d with
  | zero =>
    intro x hx h1
    have e : x = 24 := by omega
    subst e
    exact br_t (nI_le (a := 24) (b := 24) (Nat.le_refl _) (by decide)) (nm_r (nI_1 y) (K h1))
  | succ d ih =>
    intro x hx h1
    have ih' := ih (x + 1) (by omega)
    rw [show 24 * y + (x + 1) = 24 * y + x + 1 by omega] at ih'
    rw [wY_rectangle_25]
    dsimp only
    refine br_f (nI_ge (b := 24) (by omega) (by decide)) (zy_begins hr hC (by omega) hy ?_)
    cases hb : zb_bg (zy_c C r) (24 * y + x) with
    | false =>
      rw [zb_cn_f hb] at ih'
      refine br_t rfl (nm_r (nI_1 x) (ih' (fun t ht hbt => ?_)))
      by_cases e : t = 24 * y + x
      · subst e; rw [hb] at hbt; cases hbt
      · exact h1 t (by omega) hbt
    | true =>
      rw [zb_cn_t hb] at ih'
      refine br_f (by decide) (br_c (fun e => Kf y x hy (by omega) hb e) (fun ne => nm_r (nI_1 _) (nm_r (nI_1 x) (ih' (fun t ht hbt => ?_)))))
      by_cases e : t = 24 * y + x
      · subst e; exact ne
      · exact h1 t (by omega) hbt
theorem zy_rg15 {r : Nat} {p : Int32} (hr : r < 3) (hC : zy_C ac C)
    (Kf : ∀ y x, y < 24 → x < 24 → zb_bg (zy_c C r) (24 * y + x) = true → nI (zb_cn (zb_bg (zy_c C r)) (24 * y + x)) = p → wpY_from post (ac, aw) (nI r) (nI x) (nI y))
    (K : (∀ t, t < 576 → zb_bg (zy_c C r) t = true → ¬ nI (zb_cn (zb_bg (zy_c C r)) t) = p) → post (-3)) :
    ∀ d y, y + d = 24 → (∀ t, t < 24 * y → zb_bg (zy_c C r) t = true → ¬ nI (zb_cn (zb_bg (zy_c C r)) t) = p) → wY_rectangle_15 post (nI r) p ac aw (d + 1) (nI (zb_cn (zb_bg (zy_c C r)) (24 * y))) (nI y) := by
  intro d
  induction d with
  | zero =>
    intro y hy h1
    have e : y = 24 := by omega
    subst e
    exact br_t (nI_le (a := 24) (b := 24) (Nat.le_refl _) (by decide)) (K h1)
  | succ d ih =>
    intro y hy h1
    exact br_f (nI_ge (b := 24) (by omega) (by decide)) ⟨25, zy_rg25 hr hC (by omega) Kf (fun h2 => ih (y + 1) (by omega) h2) 24 0 (by omega) h1⟩
theorem zy_rectangle {r : Nat} {p : Int32} (hr : r < 3) (hC : zy_C ac C)
    (Kf : ∀ y x, y < 24 → x < 24 → zb_bg (zy_c C r) (24 * y + x) = true → nI (zb_cn (zb_bg (zy_c C r)) (24 * y + x)) = p → wpY_from post (ac, aw) (nI r) (nI x) (nI y))
    (K : (∀ t, t < 576 → zb_bg (zy_c C r) t = true → ¬ nI (zb_cn (zb_bg (zy_c C r)) t) = p) → post (-3)) : wpY_rectangle post (ac, aw) (nI r) p := by
  unfold wpY_rectangle
  dsimp only
  exact zy_bad_ok hr (br_t rfl ⟨25, zy_rg15 hr hC Kf K 24 0 (by omega) (fun t ht => by omega)⟩)
theorem zy_s20 {r q : Nat} (hr : r < 3) (hq : q < 3) (hC : zy_C ac C) (K1 : (∀ t, t < 576 → zy_c C r t = zy_c C q t) → post 1) (K0 : ¬ (∀ t, t < 576 → zy_c C r t = zy_c C q t) → post 0) :
    ∀ d i, i + d = 576 → (∀ t, t < i → zy_c C r t = zy_c C q t) → wY_same_20 post (nI r) (nI q) ac aw (d + 1) (nI i) := by
  intro d
  induction d with
  | zero =>
    intro i hi h1
    have e : i = 576 := by omega
    subst e
    exact br_t (nI_le (a := 576) (b := 576) (Nat.le_refl _) (by decide)) (K1 h1)
  | succ d ih =>
    intro i hi h1
    have i1 : vp_in (nI (r * 576 + i)) 1728 := vp_in_nI (by omega) (by omega)
    have i2 : vp_in (nI (q * 576 + i)) 1728 := vp_in_nI (by omega) (by omega)
    rw [wY_same_20]
    dsimp only
    rw [zy_i576, zy_i576, nI_clamp (show r * 576 + i < 2 ^ 31 by omega), nI_clamp (show q * 576 + i < 2 ^ 31 by omega), hC _ (show r * 576 + i < 1728 by omega), hC _ (show q * 576 + i < 1728 by omega)]
    refine br_f (nI_ge (b := 576) (by omega) (by decide)) ⟨i1, i2, ?_⟩
    by_cases hc : zy_c C r i = zy_c C q i
    · have hc' : C (r * 576 + i) = C (q * 576 + i) := hc
      refine br_t (by rw [hc']) (nm_r (nI_1 i) (ih (i + 1) (by omega) (fun j hj => ?_)))
      by_cases e : j = i
      · subst e; exact hc
      · exact h1 j (by omega)
    · refine br_f (fun hh => hc ?_) (K0 (fun hh => hc (hh i (by omega))))
      show C (r * 576 + i) = C (q * 576 + i)
      revert hh
      cases C (r * 576 + i) <;> cases C (q * 576 + i) <;> decide
theorem zy_same {r q : Nat} (hr : r < 3) (hq : q < 3) (hC : zy_C ac C) (K1 : (∀ t, t < 576 → zy_c C r t = zy_c C q t) → post 1) (K0 : ¬ (∀ t, t < 576 → zy_c C r t = zy_c C q t) → post 0) : wpY_same post (ac, aw) (nI r) (nI q) := by
  unfold wpY_same
  dsimp only
  exact zy_bad_ok hr (br_t rfl (zy_bad_ok hq (br_t rfl ⟨577, zy_s20 hr hq hC K1 K0 576 0 (by omega) (fun t ht => by omega)⟩)))
end
end
section
/-! the reference: around, covers -/
def zy_R (c : Nat → Bool) (t a b d e : Nat) : Prop :=
  (∃ s, s < t ∧ c s = true ∧ s % 24 = a) ∧ (∃ s, s < t ∧ c s = true ∧ s / 24 = b) ∧ (∃ s, s < t ∧ c s = true ∧ s % 24 = d) ∧ (∃ s, s < t ∧ c s = true ∧ s / 24 = e) ∧
  ∀ s, s < t → c s = true → a ≤ s % 24 ∧ s % 24 ≤ d ∧ b ≤ s / 24 ∧ s / 24 ≤ e
def zy_Q (c : Nat → Bool) (t : Nat) (v2 v3 v4 v5 : Int32) : Prop :=
  ((∀ s, s < t → c s = false) ∧ v2 = 24 ∧ v3 = 24 ∧ v4 = -1 ∧ v5 = -1) ∨
  ∃ a b d e : Nat, v2 = nI a ∧ v3 = nI b ∧ v4 = nI d ∧ v5 = nI e ∧ a < 24 ∧ b < 24 ∧ d < 24 ∧ e < 24 ∧ zy_R c t a b d e
theorem zy_ex_s {c : Nat → Bool} {t a a' v : Nat} {f : Nat → Nat} (h : ∃ s, s < t ∧ c s = true ∧ f s = a) (hc : c t = true) (hv : f t = v) (ha : a' = a ∨ a' = v) : ∃ s, s < t + 1 ∧ c s = true ∧ f s = a' := by
  rcases ha with ha | ha
  · obtain ⟨s, h1, h2, h3⟩ := h
    exact ⟨s, by omega, h2, by omega⟩
  · exact ⟨t, by omega, hc, by omega⟩
theorem zy_R_s {c : Nat → Bool} {y x a b d e a' b' d' e' : Nat} (hx : x < 24) (h : zy_R c (24 * y + x) a b d e) (hc : c (24 * y + x) = true) (a1 : a' ≤ a) (a2 : a' ≤ x) (a3 : a' = a ∨ a' = x) (b1 : b' ≤ b) (b2 : b' ≤ y) (b3 : b' = b ∨ b' = y) (d1 : d ≤ d') (d2 : x ≤ d') (d3 : d' = d ∨ d' = x) (e1 : e ≤ e') (e2 : y ≤ e') (e3 : e' = e ∨ e' = y) : zy_R c (24 * y + x + 1) a' b' d' e' := by
  obtain ⟨h1, h2, h3, h4, h5⟩ := h
  refine ⟨zy_ex_s (f := fun s => s % 24) h1 hc (show (24 * y + x) % 24 = x by omega) a3, zy_ex_s (f := fun s => s / 24) h2 hc (show (24 * y + x) / 24 = y by omega) b3, zy_ex_s (f := fun s => s % 24) h3 hc (show (24 * y + x) % 24 = x by omega) d3, zy_ex_s (f := fun s => s / 24) h4 hc (show (24 * y + x) / 24 = y by omega) e3, fun s hs hcs => ?_⟩
  by_cases es : s = 24 * y + x
  · subst es; omega
  · have := h5 s (by omega) hcs
    omega
theorem zy_R_0 {c : Nat → Bool} {y x : Nat} (hx : x < 24) (h : ∀ s, s < 24 * y + x → c s = false) (hc : c (24 * y + x) = true) : zy_R c (24 * y + x + 1) x y x y := by
  refine ⟨⟨24 * y + x, by omega, hc, by omega⟩, ⟨24 * y + x, by omega, hc, by omega⟩, ⟨24 * y + x, by omega, hc, by omega⟩, ⟨24 * y + x, by omega, hc, by omega⟩, fun s hs hcs => ?_⟩
  by_cases es : s = 24 * y + x
  · subst es; omega
  · rw [h s (by omega)] at hcs; cases hcs
theorem zy_ex_m {c : Nat → Bool} {t a : Nat} {f : Nat → Nat} (h : ∃ s, s < t ∧ c s = true ∧ f s = a) : ∃ s, s < t + 1 ∧ c s = true ∧ f s = a := by
  obtain ⟨s, h1, h2, h3⟩ := h
  exact ⟨s, by omega, h2, h3⟩
theorem zy_Q_f {c : Nat → Bool} {t : Nat} {v2 v3 v4 v5 : Int32} (h : zy_Q c t v2 v3 v4 v5) (hc : c t = false) : zy_Q c (t + 1) v2 v3 v4 v5 := by
  rcases h with ⟨h, g⟩ | ⟨a, b, d, e, k1, k2, k3, k4, k5, k6, k7, k8, h1, h2, h3, h4, h5⟩
  · refine Or.inl ⟨fun s hs => ?_, g⟩
    by_cases es : s = t
    · subst es; exact hc
    · exact h s (by omega)
  · refine Or.inr ⟨a, b, d, e, k1, k2, k3, k4, k5, k6, k7, k8, zy_ex_m (f := fun s => s % 24) h1, zy_ex_m (f := fun s => s / 24) h2, zy_ex_m (f := fun s => s % 24) h3, zy_ex_m (f := fun s => s / 24) h4, fun s hs hcs => ?_⟩
    by_cases es : s = t
    · subst es; rw [hc] at hcs; cases hcs
    · exact h5 s (by omega) hcs
theorem zy_nm1 {x : Nat} (hx : x < 24) : ¬ nI x ≤ -1 := by
  rw [Int32.le_iff_toInt_le, nI_toInt (by omega), show (-1 : Int32).toInt = -1 from by decide]; omega
section
variable {ac aw : Nat → Int32} {C : Nat → Bool} {post : Int32 → Prop}
theorem zy_ar95 {J25 J35 : Int32 → Int32 → Int32 → Int32 → Int32 → Prop} {x1 z0 x2 x4 : Int32} {e y x : Nat} (he : e < 24) (hy : y < 24) (K : ∀ e', e ≤ e' → y ≤ e' → (e' = e ∨ e' = y) → J35 x2 z0 x4 (nI e') (nI (x + 1))) : wY_around_95 post J25 J35 x1 x2 x4 (nI e) (nI y) (nI x) z0 ac aw := by
  unfold wY_around_95
  exact pk_le y e (fun h => nm_r (nI_1 x) (K e (Nat.le_refl _) h (Or.inl rfl))) (fun h => nm_r (nI_1 x) (K y (by omega) (Nat.le_refl _) (Or.inr rfl)))
theorem zy_ar81 {J25 J35 : Int32 → Int32 → Int32 → Int32 → Int32 → Prop} {x1 z0 x2 x5 x7 : Int32} {b y : Nat} (hb : b < 24) (hy : y < 24) (K : ∀ b', b' ≤ b → b' ≤ y → (b' = b ∨ b' = y) → wY_around_95 post J25 J35 x1 x2 z0 x5 (nI y) x7 (nI b') ac aw) : wY_around_81 post J25 J35 x1 x2 (nI b) x5 (nI y) x7 z0 ac aw := by
  unfold wY_around_81
  exact pk_le b y (fun h => K b (Nat.le_refl _) h (Or.inl rfl)) (fun h => K y (by omega) (Nat.le_refl _) (Or.inr rfl))
theorem zy_ar66 {J25 J35 : Int32 → Int32 → Int32 → Int32 → Int32 → Prop} {x1 z0 x3 x5 x6 : Int32} {d x : Nat} (hd : d < 24) (hx : x < 24) (K : ∀ d', d ≤ d' → x ≤ d' → (d' = d ∨ d' = x) → wY_around_81 post J25 J35 x1 z0 x3 x5 x6 (nI x) (nI d') ac aw) : wY_around_66 post J25 J35 x1 x3 (nI d) x5 x6 (nI x) z0 ac aw := by
  unfold wY_around_66
  exact pk_le x d (fun h => K d (Nat.le_refl _) h (Or.inl rfl)) (fun h => K x (by omega) (Nat.le_refl _) (Or.inr rfl))
theorem zy_arN {J25 J35 : Int32 → Int32 → Int32 → Int32 → Int32 → Prop} {x1 : Int32} {y x : Nat} (hx : x < 24) (hy : y < 24) (K : J35 (nI x) (nI y) (nI x) (nI y) (nI (x + 1))) : wY_around_66 post J25 J35 x1 24 (-1) (-1) (nI y) (nI x) (nI x) ac aw := by
  unfold wY_around_66
  refine br_f (zy_nm1 hx) ?_
  unfold wY_around_81
  refine br_f (nI_ge (b := 24) hy (by decide)) ?_
  unfold wY_around_95
  exact br_f (zy_nm1 hy) (nm_r (nI_1 x) K)
theorem zy_ar35 {J25 : Int32 → Int32 → Int32 → Int32 → Int32 → Prop} {r y : Nat} (hr : r < 3) (hC : zy_C ac C) (hy : y < 24) (K : ∀ v2 v3 v4 v5, zy_Q (zy_c C r) (24 * (y + 1)) v2 v3 v4 v5 → J25 v2 v3 v4 v5 (nI (y + 1))) :
    ∀ n x, x + n = 24 → ∀ v2 v3 v4 v5, zy_Q (zy_c C r) (24 * y + x) v2 v3 v4 v5 → wY_around_35 post J25 (nI r) (nI y) ac aw (n + 1) v2 v3 v4 v5 (nI x) := by
  intro n
  induction n with
  | zero =>
    intro x hx v2 v3 v4 v5 hQ
    have e : x = 24 := by omega
    subst e
    exact br_t (nI_le (a := 24) (b := 24) (Nat.le_refl _) (by decide)) (nm_r (nI_1 y) (K v2 v3 v4 v5 hQ))
  | succ n ih =>
    intro x hx v2 v3 v4 v5 hQ
    rw [wY_around_35]
    dsimp only
    refine br_f (nI_ge (b := 24) (by omega) (by decide)) (zy_has_in hr hC (by omega) hy ?_)
    cases hc : zy_c C r (24 * y + x) with
    | false => exact br_t rfl (nm_r (nI_1 x) (ih (x + 1) (by omega) v2 v3 v4 v5 (zy_Q_f hQ hc)))
    | true =>
      refine br_f (by decide) ?_
      rcases hQ with ⟨h, rfl, rfl, rfl, rfl⟩ | ⟨a, b, d, e, rfl, rfl, rfl, rfl, k5, k6, k7, k8, hR⟩
      · refine br_f (nI_ge (b := 24) (by omega) (by decide)) (zy_arN (by omega) hy (ih (x + 1) (by omega) _ _ _ _ ?_))
        exact Or.inr ⟨x, y, x, y, rfl, rfl, rfl, rfl, by omega, hy, by omega, hy, zy_R_0 (by omega) h hc⟩
      · have go : ∀ a', a' ≤ a → a' ≤ x → (a' = a ∨ a' = x) → wY_around_66 post J25 (wY_around_35 post J25 (nI r) (nI y) ac aw (n + 1)) (nI r) (nI b) (nI d) (nI e) (nI y) (nI x) (nI a') ac aw := by
          intro a' a1 a2 a3
          refine zy_ar66 k7 (by omega) (fun d' d1 d2 d3 => zy_ar81 k6 hy (fun b' b1 b2 b3 => zy_ar95 k8 hy (fun e' e1 e2 e3 => ih (x + 1) (by omega) _ _ _ _ ?_)))
          exact Or.inr ⟨a', b', d', e', rfl, rfl, rfl, rfl, by omega, by omega, by omega, by omega, zy_R_s (by omega) hR hc a1 a2 a3 b1 b2 b3 d1 d2 d3 e1 e2 e3⟩
        exact pk_le a x (fun h => go a (Nat.le_refl _) h (Or.inl rfl)) (fun h => go x (by omega) (Nat.le_refl _) (Or.inr rfl))
theorem zy_ar25 {r : Nat} (hr : r < 3) (hC : zy_C ac C) (K0 : (∀ s, s < 576 → zy_c C r s = false) → post (-3)) (K1 : ∀ a b d e, zy_R (zy_c C r) 576 a b d e → post (nI (a + 32 * b + 1024 * d + 32768 * e))) :
    ∀ n y, y + n = 24 → ∀ v2 v3 v4 v5, zy_Q (zy_c C r) (24 * y) v2 v3 v4 v5 → wY_around_25 post (nI r) ac aw (n + 1) v2 v3 v4 v5 (nI y) := by
  intro n
  induction n with
  | zero =>
    intro y hy v2 v3 v4 v5 hQ
    have e : y = 24 := by omega
    subst e
    rw [wY_around_25]
    dsimp only
    refine br_t (nI_le (a := 24) (b := 24) (Nat.le_refl _) (by decide)) ?_
    rcases hQ with ⟨h, rfl, rfl, rfl, rfl⟩ | ⟨a, b, d, e, rfl, rfl, rfl, rfl, k5, k6, k7, k8, hR⟩
    · exact br_f zb_n1 (K0 h)
    · rw [show (32 : Int32) = nI 32 from rfl, show (1024 : Int32) = nI 1024 from rfl, show (32768 : Int32) = nI 32768 from rfl, pk_mul, pk_mul, pk_mul, nI_add, nI_add, nI_add]
      exact br_t (nI_pos' (by omega)) (K1 a b d e hR)
  | succ n ih =>
    intro y hy v2 v3 v4 v5 hQ
    exact br_f (nI_ge (b := 24) (by omega) (by decide)) ⟨25, zy_ar35 hr hC (by omega) (fun w2 w3 w4 w5 h => ih (y + 1) (by omega) w2 w3 w4 w5 h) 24 0 (by omega) v2 v3 v4 v5 hQ⟩
theorem zy_around {r : Nat} (hr : r < 3) (hC : zy_C ac C) (K0 : (∀ s, s < 576 → zy_c C r s = false) → post (-3)) (K1 : ∀ a b d e, zy_R (zy_c C r) 576 a b d e → post (nI (a + 32 * b + 1024 * d + 32768 * e))) : wpY_around post (ac, aw) (nI r) := by
  unfold wpY_around
  dsimp only
  exact zy_bad_ok hr (br_t rfl ⟨25, zy_ar25 hr hC K0 K1 24 0 (by omega) _ _ _ _ (Or.inl ⟨fun s hs => by omega, rfl, rfl, rfl, rfl⟩)⟩)
theorem zy_cv29 {J19 : Int32 → Int32 → Int32 → Prop} {p2 p3 : Int32} {l t w h r y : Nat} (e1 : p2 &&& 31 = nI l) (e2 : (p2 >>> ((5 : Int32) &&& 31)) &&& 31 = nI t) (e3 : p3 &&& 31 = nI w) (e4 : (p3 >>> ((5 : Int32) &&& 31)) &&& 31 = nI h) (hl : l < 32) (ht : t < 32) (hw : w < 32) (hh : h < 32) (hr : r < 3) (hC : zy_C ac C) (hy : y < 24)
    (K : J19 (nI (zb_cn (fun s => zb_bx l t w h s && zy_c C r s) (24 * (y + 1)))) (nI (zb_cn (fun s => zb_bx l t w h s && !zy_c C r s) (24 * (y + 1)))) (nI (y + 1))) :
    ∀ n x, x + n = 24 → wY_covers_29 post J19 (nI r) p2 p3 (nI y) ac aw (n + 1) (nI (zb_cn (fun s => zb_bx l t w h s && zy_c C r s) (24 * y + x))) (nI (zb_cn (fun s => zb_bx l t w h s && !zy_c C r s) (24 * y + x))) (nI x) := by
  intro n
  induction n with
  | zero =>
    intro x hx
    have e : x = 24 := by omega
    subst e
    exact br_t (nI_le (a := 24) (b := 24) (Nat.le_refl _) (by decide)) (nm_r (nI_1 y) K)
  | succ n ih =>
    intro x hx
    have ih' := ih (x + 1) (by omega)
    rw [show 24 * y + (x + 1) = 24 * y + x + 1 by omega] at ih'
    rw [wY_covers_29]
    dsimp only
    refine br_f (nI_ge (b := 24) (by omega) (by decide)) (zy_inBox e1 e2 e3 e4 hl ht hw hh (by omega) hy ?_)
    cases hb : zb_bx l t w h (24 * y + x) with
    | false =>
      rw [zb_cn_f (f := fun s => zb_bx l t w h s && zy_c C r s) (by rw [hb]; rfl), zb_cn_f (f := fun s => zb_bx l t w h s && !zy_c C r s) (by rw [hb]; rfl)] at ih'
      refine br_t rfl ?_
      unfold wY_covers_68
      exact br_t rfl (nm_r (nI_1 x) ih')
    | true =>
      refine br_f (by decide) (zy_has_in hr hC (by omega) hy ?_)
      cases hc : zy_c C r (24 * y + x) with
      | false =>
        rw [zb_cn_f (f := fun s => zb_bx l t w h s && zy_c C r s) (by rw [hb, hc]; rfl), zb_cn_t (f := fun s => zb_bx l t w h s && !zy_c C r s) (by rw [hb, hc]; rfl)] at ih'
        refine br_t rfl ?_
        unfold wY_covers_68
        refine br_f (by decide) (zy_has_in hr hC (by omega) hy ?_)
        rw [hc]
        exact br_t rfl (nm_r (nI_1 _) (nm_r (nI_1 x) ih'))
      | true =>
        rw [zb_cn_t (f := fun s => zb_bx l t w h s && zy_c C r s) (by rw [hb, hc]; rfl), zb_cn_f (f := fun s => zb_bx l t w h s && !zy_c C r s) (by rw [hb, hc]; rfl)] at ih'
        refine br_f (by decide) (nm_r (nI_1 _) ?_)
        unfold wY_covers_68
        refine br_f (by decide) (zy_has_in hr hC (by omega) hy ?_)
        rw [hc]
        exact br_f (by decide) (nm_r (nI_1 x) ih')
theorem zy_covers {p2 p3 : Int32} {l t w h r : Nat} (e1 : p2 &&& 31 = nI l) (e2 : (p2 >>> ((5 : Int32) &&& 31)) &&& 31 = nI t) (e3 : p3 &&& 31 = nI w) (e4 : (p3 >>> ((5 : Int32) &&& 31)) &&& 31 = nI h) (hl : l < 32) (ht : t < 32) (hw : w < 32) (hh : h < 32) (hr : r < 3) (hC : zy_C ac C)
    (K0 : zb_cn (fun s => zb_bx l t w h s && zy_c C r s) 576 = 0 → post 0)
    (K2 : zb_cn (fun s => zb_bx l t w h s && zy_c C r s) 576 ≠ 0 → zb_cn (fun s => zb_bx l t w h s && !zy_c C r s) 576 = 0 → post 2)
    (K1 : zb_cn (fun s => zb_bx l t w h s && zy_c C r s) 576 ≠ 0 → zb_cn (fun s => zb_bx l t w h s && !zy_c C r s) 576 ≠ 0 → post 1) : wpY_covers post (ac, aw) (nI r) p2 p3 := by
  have main : ∀ n y, y + n = 24 → wY_covers_19 post (nI r) p2 p3 ac aw (n + 1) (nI (zb_cn (fun s => zb_bx l t w h s && zy_c C r s) (24 * y))) (nI (zb_cn (fun s => zb_bx l t w h s && !zy_c C r s) (24 * y))) (nI y) := by
    intro n
    induction n with
    | zero =>
      intro y hy
      have e : y = 24 := by omega
      subst e
      have b1 := zb_cn_le (fun s => zb_bx l t w h s && zy_c C r s) 576
      have b2 := zb_cn_le (fun s => zb_bx l t w h s && !zy_c C r s) 576
      rw [wY_covers_19]
      dsimp only
      exact br_t (nI_le (a := 24) (b := 24) (Nat.le_refl _) (by decide)) (pk_eq _ 0 (fun g => K0 g) (fun g => pk_eq _ 0 (fun g2 => K2 g g2) (fun g2 => K1 g g2)))
    | succ n ih =>
      intro y hy
      exact br_f (nI_ge (b := 24) (by omega) (by decide)) ⟨25, zy_cv29 e1 e2 e3 e4 hl ht hw hh hr hC (by omega) (ih (y + 1) (by omega)) 24 0 (by omega)⟩
  unfold wpY_covers
  dsimp only
  exact zy_bad_ok hr (br_t rfl ⟨25, main 24 0 (by omega)⟩)
end
end
section
/-! the relation and what the owed theorems share -/
def i_Rel (_k : Nat) (u : SX) (v : SY) : Prop := ∃ C : Nat → Bool, zy_C v.1 C ∧ ∀ r, r < 3 → zb_Rg u.1 u.2.1 u.2.2.1 u.2.2.2.1 u.2.2.2.2.1 u.2.2.2.2.2.1 u.2.2.2.2.2.2.1 u.2.2.2.2.2.2.2 r (zy_c C r)
theorem zb_reg (p : Int32) (n : Nat) (hn : n < 2 ^ 30) : (∃ r, r < n + 1 ∧ p = nI r) ∨ (p < 0 ∨ ¬ p ≤ nI n) := by
  rcases pk_ix p (n := n + 1) (by omega) with h | h | h
  · exact Or.inr (Or.inl h)
  · refine Or.inr (Or.inr ?_)
    rw [Int32.le_iff_toInt_le, nI_toInt (by omega)] at h
    rw [Int32.le_iff_toInt_le, nI_toInt (by omega)]
    omega
  · exact Or.inl h
theorem zb_msk (p : Int32) : ∃ l, l < 32 ∧ p &&& 31 = nI l := pk_andE p 5 (by decide)
theorem zb_P_cc {c c' : Nat → Bool} {B : Nat} {T E F L R : Nat → Nat} (h : ∀ t, t < 576 → c' t = c t) (P : zb_P c 24 B T E F L R) : zb_P c' 24 B T E F L R := by
  have hc : ∀ y, y < 24 → ∀ x, x < 24 → c' (24 * y + x) = c (24 * y + x) := fun y hy x hx => h _ (by omega)
  refine ⟨P.1, fun i hi => ?_, fun i hi => ?_, fun y hy h1 x hx => ?_⟩
  · have a := P.2.1 i hi
    exact ⟨a.1, a.2.1, a.2.2.1, fun y h1 h2 => zb_rw_cg (a.2.2.2 y h1 h2) (fun _ _ _ => ⟨rfl, rfl⟩) (fun z hz => hc y (by omega) z hz)⟩
  · have a := P.2.2.1 i hi
    have b := P.2.1 i (by omega)
    have d := P.2.1 (i + 1) hi
    refine ⟨a.1, fun h1 h2 => a.2 h1 (fun x hx => ?_)⟩
    rw [← hc (E i) (by omega) x hx, ← hc (T (i + 1)) (by omega) x hx]
    exact h2 x hx
  · rw [hc y hy x hx]; exact P.2.2.2 y hy h1 x hx
section
variable {nb tp en fs bn nr lf rt : Nat → Int32}
theorem zb_Rg_cc {c c' : Nat → Bool} {r : Nat} (h : ∀ t, t < 576 → c' t = c t) (G : zb_Rg nb tp en fs bn nr lf rt r c) : zb_Rg nb tp en fs bn nr lf rt r c' := by
  obtain ⟨B, T, E, F, L, R, H, P⟩ := G
  exact ⟨B, T, E, F, L, R, H, zb_P_cc h P⟩
theorem zb_fin {k r : Nat} {C g : Nat → Bool} {ac aw : Nat → Int32} (hr : r < 3) (hC : zy_C ac (zy_D C g (r * 576) 576)) (G : zb_Rg nb tp en fs bn nr lf rt r g) (Go : ∀ q, q < 3 → q ≠ r → zb_Rg nb tp en fs bn nr lf rt q (zy_c C q)) : i_Rel k (nb, tp, en, fs, bn, nr, lf, rt) (ac, aw) := by
  refine ⟨_, hC, fun q hq => ?_⟩
  by_cases e : q = r
  · subst e
    exact zb_Rg_cc (fun t ht => zy_D_in ht) G
  · exact zb_Rg_cc (fun t ht => zy_D_out (by omega)) (Go q hq e)
theorem zb_Rg_0 (r : Nat) : zb_Rg (upd (fun _ => 0) 0 0) (fun _ => 0) (fun _ => 0) (fun _ => 0) (fun _ => 0) (fun _ => 0) (fun _ => 0) (fun _ => 0) r (zy_c (fun _ => false) r) := by
  refine ⟨0, fun _ => 0, fun _ => 0, fun _ => 0, fun _ => 0, fun _ => 0, ⟨?_, rfl, fun i hi => absurd hi (Nat.not_lt_zero i), fun k hk => absurd hk (Nat.not_lt_zero k)⟩, zb_P_emp rfl (fun _ _ _ _ => rfl)⟩
  unfold upd
  split <;> rfl
end
theorem zb_cn_split (f g : Nat → Bool) : ∀ n, zb_cn f n = zb_cn (fun s => f s && g s) n + zb_cn (fun s => f s && !g s) n := by
  intro n
  induction n with
  | zero => rfl
  | succ n ih =>
    cases hf : f n with
    | false => rw [zb_cn_f hf, zb_cn_f (f := fun s => f s && g s) (by rw [hf]; rfl), zb_cn_f (f := fun s => f s && !g s) (by rw [hf]; rfl), ih]
    | true =>
      cases hg : g n with
      | false => rw [zb_cn_t hf, zb_cn_f (f := fun s => f s && g s) (by rw [hf, hg]; rfl), zb_cn_t (f := fun s => f s && !g s) (by rw [hf, hg]; rfl), ih]; omega
      | true => rw [zb_cn_t hf, zb_cn_t (f := fun s => f s && g s) (by rw [hf, hg]; rfl), zb_cn_f (f := fun s => f s && !g s) (by rw [hf, hg]; rfl), ih]; omega
theorem i_up {k : Nat} {u : SX} {v : SY} (h : i_Rel k u v) : i_Rel (k + 5) u v := h
theorem i_vc0 : wpX_init (fun u => wpY_init (fun v => i_Rel 0 u v)) := by
  unfold wpX_init
  refine nm_e ?_
  exact ⟨fun _ => false, fun _ _ => rfl, fun r _ => zb_Rg_0 r⟩
theorem i_vc_box {k : Nat} {u : SX} {v : SY} (I : i_Rel k u v) (hk : k + 5 ≤ 2560) (v1 : Int32) (v2 : Int32) (v3 : Int32) (v4 : Int32) : wpX_box (fun r u' => wpY_box (fun r' v' => r' = r ∧ i_Rel (k + 5) u' v') v v1 v2 v3 v4) u v1 v2 v3 v4 := by
  obtain ⟨nb, tp, en, fs, bn, nr, lf, rt⟩ := u
  obtain ⟨ac, aw⟩ := v
  obtain ⟨C, hC, hG⟩ := I
  rcases zb_reg v1 2 (by decide) with ⟨r, hr, rfl⟩ | hb
  · rcases zb_reg v2 3 (by decide) with ⟨q, hq, rfl⟩ | hb
    · obtain ⟨l, hl, e1⟩ := zb_msk v3
      obtain ⟨t, ht, e2⟩ := zb_msk (v3 >>> ((5 : Int32) &&& 31))
      obtain ⟨w, hw, e3⟩ := zb_msk v4
      obtain ⟨h, hh, e4⟩ := zb_msk (v4 >>> ((5 : Int32) &&& 31))
      unfold wpX_box
      dsimp only
      refine zx_bad_ok hr (br_t rfl (br_f (nI_pos (by omega)) (br_t (nI_le (b := 3) (by omega) (by decide)) ?_)))
      refine zx_makeBox e1 e2 e3 e4 hl ht hw hh (fun nb1 tp1 en1 fs1 bn1 nr1 lf1 rt1 G4 F4 => ?_)
      dsimp only
      refine zx_merge (b := 4) hq (by omega) (by omega) (by decide) (by decide) (zb_Fr_Rg F4 (by omega) (by omega) (hG r hr)) G4 (fun nb2 tp2 en2 fs2 bn2 nr2 lf2 rt2 G3 F3 => ?_)
      dsimp only
      refine zx_keep hr G3 (fun nb3 tp3 en3 fs3 bn3 nr3 lf3 rt3 Gr Fr => ?_)
      dsimp only
      refine zx_cells (by omega) Gr ?_
      exact zy_box e1 e2 e3 e4 hl ht hw hh hr hq (fun i hi => rfl) hC (fun ac' hC' => ⟨rfl, zb_fin hr hC' Gr (fun p hp hpr => zb_Fr_Rg Fr (by omega) hpr (zb_Fr_Rg F3 (by omega) (by omega) (zb_Fr_Rg F4 (by omega) (by omega) (hG p hp))))⟩)
    · unfold wpX_box
      dsimp only
      have B : ∀ P : Prop, P → ∀ Q : Prop, (v2 < 0 → P) ∧ (¬ v2 < 0 → (v2 ≤ 3 → Q) ∧ (¬ v2 ≤ 3 → P)) := fun P p Q => br_c (fun _ => p) (fun h1 => br_f (by rcases hb with hb | hb; exact absurd hb h1; exact hb) p)
      refine zx_bad_ok hr (br_t rfl (B _ ?_ _))
      unfold wpY_box
      dsimp only
      exact zy_bad_ok hr (br_t rfl (B _ ⟨rfl, C, hC, hG⟩ _))
  · unfold wpX_box
    dsimp only
    refine zx_bad_no hb (br_f (by decide) ?_)
    unfold wpY_box
    dsimp only
    exact zy_bad_no hb (br_f (by decide) ⟨rfl, C, hC, hG⟩)
theorem i_vc_combine {k : Nat} {u : SX} {v : SY} (I : i_Rel k u v) (hk : k + 5 ≤ 2560) (v1 : Int32) (v2 : Int32) (v3 : Int32) (v4 : Int32) : wpX_combine (fun r u' => wpY_combine (fun r' v' => r' = r ∧ i_Rel (k + 5) u' v') v v1 v2 v3 v4) u v1 v2 v3 v4 := by
  obtain ⟨nb, tp, en, fs, bn, nr, lf, rt⟩ := u
  obtain ⟨ac, aw⟩ := v
  obtain ⟨C, hC, hG⟩ := I
  rcases zb_reg v1 2 (by decide) with ⟨r, hr, rfl⟩ | hb
  · rcases zb_reg v2 2 (by decide) with ⟨a, ha, rfl⟩ | hb
    · rcases zb_reg v3 2 (by decide) with ⟨b, hb, rfl⟩ | hb
      · rcases zb_reg v4 3 (by decide) with ⟨q, hq, rfl⟩ | hbk
        · unfold wpX_combine
          dsimp only
          refine zx_bad_ok hr (br_t rfl (zx_bad_ok ha (br_t rfl (zx_bad_ok hb (br_t rfl (br_f (nI_pos (by omega)) (br_t (nI_le (b := 3) (by omega) (by decide)) ?_)))))))
          refine zx_merge hq (by omega) (by omega) (by omega) (by omega) (hG a ha) (hG b hb) (fun nb2 tp2 en2 fs2 bn2 nr2 lf2 rt2 G3 F3 => ?_)
          dsimp only
          refine zx_keep hr G3 (fun nb3 tp3 en3 fs3 bn3 nr3 lf3 rt3 Gr Fr => ?_)
          dsimp only
          refine zx_cells (by omega) Gr ?_
          exact zy_combine hr ha hb hq hC (fun i hi => rfl) (fun ac' aw' hC' => ⟨rfl, zb_fin hr hC' Gr (fun p hp hpr => zb_Fr_Rg Fr (by omega) hpr (zb_Fr_Rg F3 (by omega) (by omega) (hG p hp)))⟩)
        · unfold wpX_combine
          dsimp only
          have B : ∀ P : Prop, P → ∀ Q : Prop, (v4 < 0 → P) ∧ (¬ v4 < 0 → (v4 ≤ 3 → Q) ∧ (¬ v4 ≤ 3 → P)) := fun P p Q => br_c (fun _ => p) (fun h1 => br_f (by rcases hbk with hb | hb; exact absurd hb h1; exact hb) p)
          refine zx_bad_ok hr (br_t rfl (zx_bad_ok ha (br_t rfl (zx_bad_ok hb (br_t rfl (B _ ?_ _))))))
          unfold wpY_combine
          dsimp only
          exact zy_bad_ok hr (br_t rfl (zy_bad_ok ha (br_t rfl (zy_bad_ok hb (br_t rfl (B _ ⟨rfl, C, hC, hG⟩ _))))))
      · unfold wpX_combine
        dsimp only
        refine zx_bad_ok hr (br_t rfl (zx_bad_ok ha (br_t rfl (zx_bad_no hb (br_f (by decide) ?_)))))
        unfold wpY_combine
        dsimp only
        exact zy_bad_ok hr (br_t rfl (zy_bad_ok ha (br_t rfl (zy_bad_no hb (br_f (by decide) ⟨rfl, C, hC, hG⟩)))))
    · unfold wpX_combine
      dsimp only
      refine zx_bad_ok hr (br_t rfl (zx_bad_no hb (br_f (by decide) ?_)))
      unfold wpY_combine
      dsimp only
      exact zy_bad_ok hr (br_t rfl (zy_bad_no hb (br_f (by decide) ⟨rfl, C, hC, hG⟩)))
  · unfold wpX_combine
    dsimp only
    refine zx_bad_no hb (br_f (by decide) ?_)
    unfold wpY_combine
    dsimp only
    exact zy_bad_no hb (br_f (by decide) ⟨rfl, C, hC, hG⟩)
theorem i_vc_move {k : Nat} {u : SX} {v : SY} (I : i_Rel k u v) (hk : k + 5 ≤ 2560) (v1 : Int32) (v2 : Int32) (v3 : Int32) : wpX_move (fun r u' => wpY_move (fun r' v' => r' = r ∧ i_Rel (k + 5) u' v') v v1 v2 v3) u v1 v2 v3 := by
  obtain ⟨nb, tp, en, fs, bn, nr, lf, rt⟩ := u
  obtain ⟨ac, aw⟩ := v
  obtain ⟨C, hC, hG⟩ := I
  rcases zb_reg v1 2 (by decide) with ⟨r, hr, rfl⟩ | hb
  · obtain ⟨p, hp, cp, yp⟩ := zx_clamp v2
    obtain ⟨s, hs, cs, ys⟩ := zx_clamp v3
    obtain ⟨B, T, E, F, L, R, H, P⟩ := hG r hr
    have hB := zb_P_FB P (Nat.le_refl _)
    unfold wpX_move
    dsimp only
    refine zx_bad_ok hr (br_t rfl (cp _ (cs _ ?_)))
    refine zx_start (r := 3) (by decide) ?_
    dsimp only
    have F3 : zb_Fr 3 (nb, tp, en, fs, bn, nr, lf, rt) (upd nb 3 0, tp, en, fs, bn, upd nr 3 0, lf, rt) := zb_Fr_start 3
    refine ⟨B + 1, zx_mv29 hr hp hs (zb_Fr_H F3 (by omega) (by omega) H hB.1 hB.2) P (fun nb3 tp3 en3 fs3 bn3 nr3 lf3 rt3 Gr Go => ?_) B 0 (by omega) 0 _ _ _ _ _ _ _ _ 0 (fun _ => 0) (fun _ => 0) (fun _ => 0) (fun _ => 0) (fun _ => 0) (zb_H_start 3 _ _) (zb_P_0 _ _ _ _ _ _ rfl) (zb_Fr_r _ _) (by omega) (fun _ => by omega) (fun v h1 h2 h3 u hu => ?_)⟩
    · exact zy_move hr hp hs hC yp ys (fun ac' aw' hC' => ⟨rfl, zb_fin hr hC' Gr (fun q hq hqr => Go q _ hq hqr (zb_Fr_Rg F3 (by omega) (by omega) (hG q hq)))⟩)
    · refine zb_mv_f hu (fun h4 h5 => ?_)
      by_cases hB0 : 0 < B
      · exact zb_P_gapT P (i := 0) (fun j hj => by omega) hB0 (by have := h3 hB0; omega)
      · exact zb_P_gapB P (fun j hj => by omega) (by omega)
  · unfold wpX_move
    dsimp only
    refine zx_bad_no hb (br_f (by decide) ?_)
    unfold wpY_move
    dsimp only
    exact zy_bad_no hb (br_f (by decide) ⟨rfl, C, hC, hG⟩)
theorem i_vc_invert {k : Nat} {u : SX} {v : SY} (I : i_Rel k u v) (hk : k + 5 ≤ 2560) (v1 : Int32) : wpX_invert (fun r u' => wpY_invert (fun r' v' => r' = r ∧ i_Rel (k + 5) u' v') v v1) u v1 := by
  obtain ⟨nb, tp, en, fs, bn, nr, lf, rt⟩ := u
  obtain ⟨ac, aw⟩ := v
  obtain ⟨C, hC, hG⟩ := I
  rcases zb_reg v1 2 (by decide) with ⟨r, hr, rfl⟩ | hb
  · unfold wpX_invert
    dsimp only
    refine zx_bad_ok hr (br_t rfl ?_)
    refine zx_makeBox (l := 0) (t := 0) (w := 24) (h := 24) (by decide) (by decide) (by decide) (by decide) (by decide) (by decide) (by decide) (by decide) (fun nb1 tp1 en1 fs1 bn1 nr1 lf1 rt1 G4 F4 => ?_)
    dsimp only
    refine zx_merge (k := 3) (b := 4) (by decide) (by omega) (by omega) (by decide) (by decide) (zb_Fr_Rg F4 (by omega) (by omega) (hG r hr)) G4 (fun nb2 tp2 en2 fs2 bn2 nr2 lf2 rt2 G3 F3 => ?_)
    dsimp only
    refine zx_keep hr G3 (fun nb3 tp3 en3 fs3 bn3 nr3 lf3 rt3 Gr Fr => ?_)
    dsimp only
    refine zx_cells (by omega) Gr ?_
    refine zy_invert hr hC (fun i hi => ?_) (fun ac' hC' => ⟨rfl, zb_fin hr hC' Gr (fun p hp hpr => zb_Fr_Rg Fr (by omega) hpr (zb_Fr_Rg F3 (by omega) (by omega) (zb_Fr_Rg F4 (by omega) (by omega) (hG p hp))))⟩)
    have e : zb_bx 0 0 24 24 i = true := decide_eq_true (by omega)
    show zb_wt 3 (zy_c C r i) (zb_bx 0 0 24 24 i) = _
    rw [e]
    show (zy_c C r i != true) = !zy_c C r i
    cases zy_c C r i <;> rfl
  · unfold wpX_invert
    dsimp only
    refine zx_bad_no hb (br_f (by decide) ?_)
    unfold wpY_invert
    dsimp only
    exact zy_bad_no hb (br_f (by decide) ⟨rfl, C, hC, hG⟩)
theorem i_vc_area {k : Nat} {u : SX} {v : SY} (I : i_Rel k u v) (hk : k + 5 ≤ 2560) (v1 : Int32) : wpX_area (fun r => wpY_area (fun r' => r' = r ∧ i_Rel (k + 5) u v) v v1) u v1 := by
  obtain ⟨nb, tp, en, fs, bn, nr, lf, rt⟩ := u
  obtain ⟨ac, aw⟩ := v
  obtain ⟨C, hC, hG⟩ := I
  rcases zb_reg v1 2 (by decide) with ⟨r, hr, rfl⟩ | hb
  · unfold wpX_area
    dsimp only
    refine zx_bad_ok hr (br_t rfl (zx_cells (by omega) (hG r hr) ?_))
    exact zy_area hr hC ⟨rfl, C, hC, hG⟩
  · unfold wpX_area
    dsimp only
    refine zx_bad_no hb (br_f (by decide) ?_)
    unfold wpY_area
    dsimp only
    exact zy_bad_no hb (br_f (by decide) ⟨rfl, C, hC, hG⟩)
end
section
/-! the questions -/
theorem zb_24i {p : Int32} (h : nI 24 ≤ p) : 23 < p ∧ ¬ p ≤ 23 ∧ ¬ p < 24 := by
  rw [Int32.le_iff_toInt_le, nI_toInt (by omega)] at h
  have t : (23 : Int32).toInt = 23 := by decide
  have t4 : (24 : Int32).toInt = 24 := by decide
  refine ⟨?_, ?_, ?_⟩
  · rw [Int32.lt_iff_toInt_lt, t]; omega
  · rw [Int32.le_iff_toInt_le, t]; omega
  · rw [Int32.lt_iff_toInt_lt, t4]; omega
theorem i_vc_has {k : Nat} {u : SX} {v : SY} (I : i_Rel k u v) (hk : k + 5 ≤ 2560) (v1 : Int32) (v2 : Int32) (v3 : Int32) : wpX_has (fun r => wpY_has (fun r' => r' = r ∧ i_Rel (k + 5) u v) v v1 v2 v3) u v1 v2 v3 := by
  obtain ⟨nb, tp, en, fs, bn, nr, lf, rt⟩ := u
  obtain ⟨ac, aw⟩ := v
  obtain ⟨C, hC, hG⟩ := I
  rcases zb_reg v1 2 (by decide) with ⟨r, hr, rfl⟩ | hb
  · have OUT : (v2 < 0 ∨ nI 24 ≤ v2 ∨ v3 < 0 ∨ nI 24 ≤ v3) → wpX_has (fun r' => wpY_has (fun r'' => r'' = r' ∧ i_Rel (k + 5) (nb, tp, en, fs, bn, nr, lf, rt) (ac, aw)) (ac, aw) (nI r) v2 v3) (nb, tp, en, fs, bn, nr, lf, rt) (nI r) v2 v3 := by
      intro h
      have Y0 : wpY_has (fun r'' => r'' = 0 ∧ i_Rel (k + 5) (nb, tp, en, fs, bn, nr, lf, rt) (ac, aw)) (ac, aw) (nI r) v2 v3 := by
        refine zy_has_out hr ?_ ⟨rfl, C, hC, hG⟩
        rcases h with h | h | h | h
        · exact Or.inl h
        · exact Or.inr (Or.inl (zb_24i h).1)
        · exact Or.inr (Or.inr (Or.inl h))
        · exact Or.inr (Or.inr (Or.inr (zb_24i h).2.1))
      unfold wpX_has
      dsimp only
      refine zx_bad_ok hr (br_t rfl (br_c (fun _ => Y0) (fun h1 => br_c (fun _ => Y0) (fun h2 => br_c (fun _ => Y0) (fun h3 => br_f ?_ Y0)))))
      rcases h with h | h | h | h
      · exact absurd h h1
      · exact absurd h h2
      · exact absurd h h3
      · exact (zb_24i h).2.2
    rcases pk_ix v2 (n := 24) (by decide) with h | h | ⟨x, hx, rfl⟩
    · exact OUT (Or.inl h)
    · exact OUT (Or.inr (Or.inl h))
    · rcases pk_ix v3 (n := 24) (by decide) with h | h | ⟨y, hy, rfl⟩
      · exact OUT (Or.inr (Or.inr (Or.inl h)))
      · exact OUT (Or.inr (Or.inr (Or.inr h)))
      · exact zx_has_in hr hx hy (hG r hr) (zy_has_in hr hC hx hy ⟨rfl, C, hC, hG⟩)
  · unfold wpX_has
    dsimp only
    refine zx_bad_no hb (br_f (by decide) ?_)
    unfold wpY_has
    dsimp only
    exact zy_bad_no hb (br_f (by decide) ⟨rfl, C, hC, hG⟩)
theorem i_vc_rectangles {k : Nat} {u : SX} {v : SY} (I : i_Rel k u v) (hk : k + 5 ≤ 2560) (v1 : Int32) : wpX_rectangles (fun r => wpY_rectangles (fun r' => r' = r ∧ i_Rel (k + 5) u v) v v1) u v1 := by
  obtain ⟨nb, tp, en, fs, bn, nr, lf, rt⟩ := u
  obtain ⟨ac, aw⟩ := v
  obtain ⟨C, hC, hG⟩ := I
  rcases zb_reg v1 2 (by decide) with ⟨r, hr, rfl⟩ | hb
  · obtain ⟨B, T, E, F, L, R, H, P⟩ := hG r hr
    have e : nr r = nI (F B) := H.2.1
    unfold wpX_rectangles
    dsimp only
    rw [nI_clamp (show r < 2 ^ 31 by omega), e]
    refine zx_bad_ok hr (br_t rfl ⟨vp_in_nI (by omega) (by omega), ?_⟩)
    refine zy_rectangles hr hC ?_
    rw [zb_bg_N P]
    exact ⟨rfl, C, hC, hG⟩
  · unfold wpX_rectangles
    dsimp only
    refine zx_bad_no hb (br_f (by decide) ?_)
    unfold wpY_rectangles
    dsimp only
    exact zy_bad_no hb (br_f (by decide) ⟨rfl, C, hC, hG⟩)
theorem i_vc_rectangle {k : Nat} {u : SX} {v : SY} (I : i_Rel k u v) (hk : k + 5 ≤ 2560) (v1 : Int32) (v2 : Int32) : wpX_rectangle (fun r => wpY_rectangle (fun r' => r' = r ∧ i_Rel (k + 5) u v) v v1 v2) u v1 v2 := by
  obtain ⟨nb, tp, en, fs, bn, nr, lf, rt⟩ := u
  obtain ⟨ac, aw⟩ := v
  obtain ⟨C, hC, hG⟩ := I
  rcases zb_reg v1 2 (by decide) with ⟨r, hr, rfl⟩ | hb
  · obtain ⟨B, T, E, F, L, R, H, P⟩ := hG r hr
    have hB := zb_P_FB P (Nat.le_refl _)
    have OUT : (v2 < 0 ∨ nI (F B) ≤ v2) → wpX_rectangle (fun r' => wpY_rectangle (fun r'' => r'' = r' ∧ i_Rel (k + 5) (nb, tp, en, fs, bn, nr, lf, rt) (ac, aw)) (ac, aw) (nI r) v2) (nb, tp, en, fs, bn, nr, lf, rt) (nI r) v2 := by
      intro h
      refine zx_rectangle_out hr H P h (zy_rectangle hr hC (fun y x hy hx hb e => ?_) (fun _ => ⟨rfl, C, hC, hG⟩))
      have g1 : zb_cn (zb_bg (zy_c C r)) (24 * y + x + 1) ≤ zb_cn (zb_bg (zy_c C r)) 576 := zb_cn_mono (by omega)
      rw [zb_cn_t hb, zb_bg_N P] at g1
      subst e
      rcases h with h | h
      · exact absurd h (nI_pos (by omega))
      · exact absurd h (nI_ge (by omega) (by omega))
    rcases pk_ix v2 (n := F B) (by omega) with h | h | ⟨j, hj, rfl⟩
    · exact OUT (Or.inl h)
    · exact OUT (Or.inr h)
    · refine zx_rectangle_in hr H P hj (fun i hi h1 h2 => ?_)
      have g := zb_bg_k P hi h1 h2
      have a := P.2.1 i hi
      have hw := a.2.2.2 (T i) (Nat.le_refl _) a.1
      have w := hw.1 j h1 h2
      refine zy_rectangle hr hC (fun y x hy hx hb e => ?_) (fun hn => ?_)
      · have b1 := zb_cn_le (zb_bg (zy_c C r)) (24 * y + x)
        rw [nI_eq (by omega) (by omega)] at e
        have ee := zb_cn_inj hb g.2.1 (e.trans g.2.2.symm)
        have ex : x = L j := by have := g.1; omega
        have ey : y = T i := by have := g.1; omega
        subst ex ey
        refine zy_from hr hC w.1 w.2.1 a.1 a.2.1 (fun z h3 h4 => zb_er_t (zb_P_rq P hi (by omega) h4 (Nat.le_refl _) a.1)) (fun h3 => zb_er_f (zb_P_af P hi h3)) (fun z h3 h4 => zb_rw_in hw h1 h2 (by omega) h4) (fun h3 => zb_rw_aft hw h1 h2 (by omega) h3 (fun h4 => w.2.2 h4)) ⟨rfl, C, hC, hG⟩
      · exact absurd (congrArg nI g.2.2) (hn _ (by have := g.1; omega) g.2.1)
  · unfold wpX_rectangle
    dsimp only
    refine zx_bad_no hb (br_f (by decide) ?_)
    unfold wpY_rectangle
    dsimp only
    exact zy_bad_no hb (br_f (by decide) ⟨rfl, C, hC, hG⟩)
theorem zb_P_at {c : Nat → Bool} {B : Nat} {T E F L R : Nat → Nat} (P : zb_P c 24 B T E F L R) {s : Nat} (hs : s < 576) (hc : c s = true) : ∃ i k, i < B ∧ T i ≤ s / 24 ∧ s / 24 ≤ E i ∧ F i ≤ k ∧ k < F (i + 1) ∧ L k ≤ s % 24 ∧ s % 24 ≤ R k := by
  have e : 24 * (s / 24) + s % 24 = s := by omega
  by_cases h : ∃ i, i < B ∧ T i ≤ s / 24 ∧ s / 24 ≤ E i
  · obtain ⟨i, hi, h1, h2⟩ := h
    have hw := (P.2.1 i hi).2.2.2 (s / 24) h1 h2
    have hq : zb_row c (s / 24) (s % 24) = true := by
      show c (24 * (s / 24) + s % 24) = true
      rw [e]; exact hc
    obtain ⟨k, k1, k2, k3, k4⟩ := (hw.2 (s % 24) (by omega)).1 hq
    exact ⟨i, k, hi, h1, h2, k1, k2, k3, k4⟩
  · have g := P.2.2.2 (s / 24) (by omega) (fun i hi => ?_) (s % 24) (by omega)
    · rw [e, hc] at g; cases g
    · by_cases h1 : s / 24 < T i
      · exact Or.inl h1
      · by_cases h2 : E i < s / 24
        · exact Or.inr h2
        · exact absurd ⟨i, hi, by omega, by omega⟩ h
theorem i_vc_around {k : Nat} {u : SX} {v : SY} (I : i_Rel k u v) (hk : k + 5 ≤ 2560) (v1 : Int32) : wpX_around (fun r => wpY_around (fun r' => r' = r ∧ i_Rel (k + 5) u v) v v1) u v1 := by
  obtain ⟨nb, tp, en, fs, bn, nr, lf, rt⟩ := u
  obtain ⟨ac, aw⟩ := v
  obtain ⟨C, hC, hG⟩ := I
  rcases zb_reg v1 2 (by decide) with ⟨r, hr, rfl⟩ | hb
  · obtain ⟨B, T, E, F, L, R, H, P⟩ := hG r hr
    refine zx_around_in hr H P (fun h0 => ?_) (fun a b hB0 h1 h2 h3 => ?_)
    · refine zy_around hr hC (fun _ => ⟨rfl, C, hC, hG⟩) (fun a b d e hR => ?_)
      obtain ⟨s, s1, s2, s3⟩ := hR.1
      obtain ⟨i, j, i1, i2, i3, i4, i5, i6, i7⟩ := zb_P_at P s1 s2
      have := zb_P_Fm P (i := i + 1) B (by omega) (Nat.le_refl _)
      omega
    · refine zy_around hr hC (fun hn => ?_) (fun a' b' d' e' hR => ?_)
      · have p0 := P.2.1 0 hB0
        obtain ⟨x, hx, ht⟩ := zb_P_ne P hB0 (Nat.le_refl _) p0.1
        rw [hn _ (by omega)] at ht; cases ht
      · obtain ⟨q1, q2, q3, q4, q5⟩ := hR
        have cell : ∀ i j z, i < B → F i ≤ j → j < F (i + 1) → L j ≤ z → z ≤ R j → ∀ y, T i ≤ y → y ≤ E i → a' ≤ z ∧ z ≤ d' ∧ b' ≤ y ∧ y ≤ e' := by
          intro i j z hi h4 h5 h6 h7 y h8 h9
          have pi := P.2.1 i hi
          have hw := pi.2.2.2 y h8 h9
          have w := hw.1 j h4 h5
          have ht : zy_c C r (24 * y + z) = true := zb_rw_in hw h4 h5 h6 h7
          have := q5 (24 * y + z) (by omega) ht
          omega
        have ea : a = a' := by
          obtain ⟨j, j1, j2⟩ := h2
          obtain ⟨i, i1, i2, i3⟩ := zb_P_of P B (Nat.le_refl _) j1
          have pi := P.2.1 i i1
          have w := (zb_P_LR P) j j1
          have c1 := cell i j (L j) i1 i2 i3 (Nat.le_refl _) w.1 (T i) (Nat.le_refl _) pi.1
          obtain ⟨s, s1, s2, s3⟩ := q1
          obtain ⟨i', j', g1, g2, g3, g4, g5, g6, g7⟩ := zb_P_at P s1 s2
          have m := zb_P_Fm P (i := i' + 1) B (by omega) (Nat.le_refl _)
          have c2 := h1 j' (by omega)
          omega
        have ed : b = d' := by
          obtain ⟨j, j1, j2⟩ := h3
          obtain ⟨i, i1, i2, i3⟩ := zb_P_of P B (Nat.le_refl _) j1
          have pi := P.2.1 i i1
          have w := (zb_P_LR P) j j1
          have c1 := cell i j (R j) i1 i2 i3 w.1 (Nat.le_refl _) (T i) (Nat.le_refl _) pi.1
          obtain ⟨s, s1, s2, s3⟩ := q3
          obtain ⟨i', j', g1, g2, g3, g4, g5, g6, g7⟩ := zb_P_at P s1 s2
          have m := zb_P_Fm P (i := i' + 1) B (by omega) (Nat.le_refl _)
          have c2 := h1 j' (by omega)
          omega
        have eb : T 0 = b' := by
          have pi := P.2.1 0 hB0
          have w := (pi.2.2.2 (T 0) (Nat.le_refl _) pi.1).1 (F 0) (Nat.le_refl _) pi.2.2.1
          have c1 := cell 0 (F 0) (L (F 0)) hB0 (Nat.le_refl _) pi.2.2.1 (Nat.le_refl _) w.1 (T 0) (Nat.le_refl _) pi.1
          obtain ⟨s, s1, s2, s3⟩ := q2
          obtain ⟨i', j', g1, g2, g3, g4, g5, g6, g7⟩ := zb_P_at P s1 s2
          by_cases hi0 : i' = 0
          · subst hi0; omega
          · have := zb_P_Tm P i' (show 0 < i' by omega) g1
            omega
        have ee : E (B - 1) = e' := by
          have hi : B - 1 < B := by omega
          have pi := P.2.1 (B - 1) hi
          have w := (pi.2.2.2 (T (B - 1)) (Nat.le_refl _) pi.1).1 (F (B - 1)) (Nat.le_refl _) pi.2.2.1
          have c1 := cell (B - 1) (F (B - 1)) (L (F (B - 1))) hi (Nat.le_refl _) pi.2.2.1 (Nat.le_refl _) w.1 (E (B - 1)) pi.1 (Nat.le_refl _)
          obtain ⟨s, s1, s2, s3⟩ := q4
          obtain ⟨i', j', g1, g2, g3, g4, g5, g6, g7⟩ := zb_P_at P s1 s2
          by_cases hi0 : i' = B - 1
          · subst hi0; omega
          · have := zb_P_Tm P (B - 1) (show i' < B - 1 by omega) hi
            omega
        rw [ea, ed, eb, ee]
        exact ⟨rfl, C, hC, hG⟩
  · unfold wpX_around
    dsimp only
    refine zx_bad_no hb (br_f (by decide) ?_)
    unfold wpY_around
    dsimp only
    exact zy_bad_no hb (br_f (by decide) ⟨rfl, C, hC, hG⟩)
theorem i_vc_same {k : Nat} {u : SX} {v : SY} (I : i_Rel k u v) (hk : k + 5 ≤ 2560) (v1 : Int32) (v2 : Int32) : wpX_same (fun r => wpY_same (fun r' => r' = r ∧ i_Rel (k + 5) u v) v v1 v2) u v1 v2 := by
  obtain ⟨nb, tp, en, fs, bn, nr, lf, rt⟩ := u
  obtain ⟨ac, aw⟩ := v
  obtain ⟨C, hC, hG⟩ := I
  rcases zb_reg v1 2 (by decide) with ⟨r, hr, rfl⟩ | hb
  · rcases zb_reg v2 2 (by decide) with ⟨p, hp, rfl⟩ | hb
    · refine zx_same_in hr hp (hG r hr) (hG p hp) (fun h => ?_) (fun h => ?_)
      · refine zy_same hr hp hC (fun _ => ⟨rfl, C, hC, hG⟩) (fun hn => absurd (fun t ht => ?_) hn)
        have e := h (t / 24) (by omega) (t % 24) (by omega)
        rw [show 24 * (t / 24) + t % 24 = t by omega] at e
        exact e
      · exact zy_same hr hp hC (fun hh => absurd (fun y hy x hx => hh _ (by omega)) h) (fun _ => ⟨rfl, C, hC, hG⟩)
    · unfold wpX_same
      dsimp only
      refine zx_bad_ok hr (br_t rfl (zx_bad_no hb (br_f (by decide) ?_)))
      unfold wpY_same
      dsimp only
      exact zy_bad_ok hr (br_t rfl (zy_bad_no hb (br_f (by decide) ⟨rfl, C, hC, hG⟩)))
  · unfold wpX_same
    dsimp only
    refine zx_bad_no hb (br_f (by decide) ?_)
    unfold wpY_same
    dsimp only
    exact zy_bad_no hb (br_f (by decide) ⟨rfl, C, hC, hG⟩)
theorem i_vc_covers {k : Nat} {u : SX} {v : SY} (I : i_Rel k u v) (hk : k + 5 ≤ 2560) (v1 : Int32) (v2 : Int32) (v3 : Int32) : wpX_covers (fun r u' => wpY_covers (fun r' => r' = r ∧ i_Rel (k + 5) u' v) v v1 v2 v3) u v1 v2 v3 := by
  obtain ⟨nb, tp, en, fs, bn, nr, lf, rt⟩ := u
  obtain ⟨ac, aw⟩ := v
  obtain ⟨C, hC, hG⟩ := I
  rcases zb_reg v1 2 (by decide) with ⟨r, hr, rfl⟩ | hb
  · obtain ⟨l, hl, e1⟩ := zb_msk v2
    obtain ⟨t, ht, e2⟩ := zb_msk (v2 >>> ((5 : Int32) &&& 31))
    obtain ⟨w, hw, e3⟩ := zb_msk v3
    obtain ⟨h, hh, e4⟩ := zb_msk (v3 >>> ((5 : Int32) &&& 31))
    unfold wpX_covers
    dsimp only
    refine zx_bad_ok hr (br_t rfl ?_)
    refine zx_makeBox e1 e2 e3 e4 hl ht hw hh (fun nb1 tp1 en1 fs1 bn1 nr1 lf1 rt1 G4 F4 => ?_)
    dsimp only
    refine zx_merge (k := 1) (b := 4) (by decide) (by omega) (by omega) (by decide) (by decide) (zb_Fr_Rg F4 (by omega) (by omega) (hG r hr)) G4 (fun nb2 tp2 en2 fs2 bn2 nr2 lf2 rt2 G3 F3 => ?_)
    dsimp only
    have G4' := zb_Fr_Rg F3 (show 4 < 5 by decide) (by decide) G4
    have REL : i_Rel (k + 5) (nb2, tp2, en2, fs2, bn2, nr2, lf2, rt2) (ac, aw) := ⟨C, hC, fun q hq => zb_Fr_Rg F3 (by omega) (by omega) (zb_Fr_Rg F4 (by omega) (by omega) (hG q hq))⟩
    have ci : zb_cn (fun s => zb_wt 1 (zy_c C r s) (zb_bx l t w h s)) 576 = zb_cn (fun s => zb_bx l t w h s && zy_c C r s) 576 := zb_cn_congr 576 (fun s _ => Bool.and_comm _ _)
    have sp := zb_cn_split (zb_bx l t w h) (zy_c C r) 576
    have b1 := zb_cn_le (fun s => zb_bx l t w h s && zy_c C r s) 576
    have b2 := zb_cn_le (zb_bx l t w h) 576
    refine zx_cells (r := 3) (by decide) G3 ?_
    rw [ci]
    refine pk_eq _ 0 (fun g => ?_) (fun g => zx_cells (r := 4) (by decide) G4' (pk_eq _ _ (fun g2 => ?_) (fun g2 => ?_)))
    · exact zy_covers e1 e2 e3 e4 hl ht hw hh hr hC (fun _ => ⟨rfl, REL⟩) (fun g3 => absurd g g3) (fun g3 => absurd g g3)
    · exact zy_covers e1 e2 e3 e4 hl ht hw hh hr hC (fun g3 => absurd g3 g) (fun _ _ => ⟨rfl, REL⟩) (fun _ g4 => absurd (by omega) g4)
    · exact zy_covers e1 e2 e3 e4 hl ht hw hh hr hC (fun g3 => absurd g3 g) (fun _ g4 => absurd (by omega) g2) (fun _ _ => ⟨rfl, REL⟩)
  · unfold wpX_covers
    dsimp only
    refine zx_bad_no hb (br_f (by decide) ?_)
    unfold wpY_covers
    dsimp only
    exact zy_bad_no hb (br_f (by decide) ⟨rfl, C, hC, hG⟩)
end
