section
/-! rows of the kit's rows to paste (starting text) -/
theorem pk_us {f : Nat → Int32} {k : Nat} {x : Int32} : upd f k x k = x := if_pos rfl
theorem pk_un {f : Nat → Int32} {k j : Nat} {x : Int32} (h : j ≠ k) : upd f k x j = f j := if_neg h
theorem pk_sub {a b : Nat} (h : b ≤ a) : nI a - nI b = nI (a - b) := by
  obtain ⟨c, rfl⟩ : ∃ c, a = c + b := ⟨a - b, by omega⟩
  rw [← nI_add, Int32.add_sub_cancel, Nat.add_sub_cancel]
theorem pk_m1 (n : Nat) : nI (n + 1) + (-1) = nI n := by
  rw [← nI_1, Int32.add_assoc, show (1 : Int32) + (-1) = 0 from rfl, Int32.add_zero]
theorem pk_mul (a b : Nat) : nI a * nI b = nI (a * b) := (Int32.ofNat_mul a b).symm
theorem pk_div {a d : Nat} (ha : a < 2 ^ 31) (h0 : 0 < d) (hd : d < 2 ^ 31) : nI a / nI d = nI (a / d) := by
  apply Int32.toInt_inj.mp
  rw [lg_idiv_nonneg (by rw [nI_toInt ha]; omega) (by rw [nI_toInt hd]; omega), nI_toInt ha, nI_toInt hd, nI_toInt (Nat.lt_of_le_of_lt (Nat.div_le_self a d) ha)]
  first | rfl | exact (Int.natCast_ediv _ _).symm
theorem pk_rem {a d : Nat} (ha : a < 2 ^ 31) (h0 : 0 < d) (hd : d < 2 ^ 31) : nI a - nI a / nI d * nI d = nI (a % d) := by
  rw [pk_div ha h0 hd, pk_mul, pk_sub (Nat.div_mul_le_self a d)]
  exact congrArg nI (by have := Nat.div_add_mod' a d; omega)
theorem pk_sub_toInt {a b : Nat} (ha : a < 2 ^ 30) (hb : b < 2 ^ 30) : (nI a - nI b).toInt = (a : Int) - b := by
  rw [Int32.toInt_sub, nI_toInt (by omega), nI_toInt (by omega)]
  exact Int.bmod_eq_of_le (by omega) (by omega)
theorem pk_sneg {a b : Nat} (hb : b < 2 ^ 30) (h : a < b) : nI a - nI b < 0 := by
  rw [Int32.lt_iff_toInt_lt, pk_sub_toInt (by omega) hb, show (0 : Int32).toInt = 0 from by decide]
  omega
theorem pk_ix (x : Int32) {n : Nat} (hn : n < 2 ^ 31) : x < 0 ∨ nI n ≤ x ∨ ∃ j : Nat, j < n ∧ x = nI j := by
  by_cases h : x < 0
  · exact Or.inl h
  · obtain ⟨j, hj, rfl⟩ := nI_of h
    by_cases h2 : j < n
    · exact Or.inr (Or.inr ⟨j, h2, rfl⟩)
    · exact Or.inr (Or.inl (nI_le (by omega) hj))
theorem pk_le {x y : Int32} {A B : Prop} (a b : Nat) (f : a ≤ b → A) (g : b < a → B) (hx : x = nI a := by rfl) (hy : y = nI b := by rfl) (ha : a < 2 ^ 31 := by omega) (hb : b < 2 ^ 31 := by omega) : (x ≤ y → A) ∧ (¬ x ≤ y → B) := by
  subst hx hy
  rw [nI_leI ha hb]
  exact ⟨f, fun z => g (by omega)⟩
theorem pk_lt {x y : Int32} {A B : Prop} (a b : Nat) (f : a < b → A) (g : b ≤ a → B) (hx : x = nI a := by rfl) (hy : y = nI b := by rfl) (ha : a < 2 ^ 31 := by omega) (hb : b < 2 ^ 31 := by omega) : (x < y → A) ∧ (¬ x < y → B) := by
  subst hx hy
  rw [nI_ltI ha hb]
  exact ⟨f, fun z => g (by omega)⟩
theorem pk_eq {x y : Int32} {A B : Prop} (a b : Nat) (f : a = b → A) (g : a ≠ b → B) (hx : x = nI a := by rfl) (hy : y = nI b := by rfl) (ha : a < 2 ^ 31 := by omega) (hb : b < 2 ^ 31 := by omega) : (x = y → A) ∧ (¬ x = y → B) := by
  subst hx hy
  rw [nI_eq ha hb]
  exact ⟨f, g⟩
theorem pk_in {x : Int32} (n N : Nat) (h : n < N) (hx : x = nI n := by rfl) (hN : N < 2 ^ 31 := by omega) : vp_in x N := by
  subst hx
  exact vp_in_nI h hN
theorem pk_cl {x : Int32} (n : Nat) (hx : x = nI n := by rfl) (h : n < 2 ^ 31 := by omega) : x.toNatClampNeg = n := by
  subst hx
  exact nI_clamp h
theorem pk_loop {σ : Type} (W : Nat → Nat → σ → Prop) (I : Nat → σ → Prop) (e i0 : Nat) (s : σ) (hi : i0 ≤ e) (h0 : I i0 s) (hx : ∀ n s, I e s → W (n + 1) e s)
    (hs : ∀ n i s, i < e → I i s → (∀ s', I (i + 1) s' → W n (i + 1) s') → W (n + 1) i s) : ∃ n, W n i0 s :=
  ⟨e + 1, loop_i W I e hx hs (e + 1) i0 s hi (by omega) h0⟩
theorem pk_least (P : Nat → Prop) (h : ∃ k, P k) : ∃ k, P k ∧ ∀ j, j < k → ¬ P j := by
  obtain ⟨k, hk⟩ := h
  induction k using Nat.strongRecOn with
  | ind k ih =>
    by_cases e : ∃ j, j < k ∧ P j
    · obtain ⟨j, hj, pj⟩ := e
      exact ih j hj pj
    · exact ⟨k, hk, fun j hj pj => e ⟨j, hj, pj⟩⟩
def bt (x : Int32) (i : Nat) : Bool := x.toBitVec.getLsbD i
theorem b_ext {x y : Int32} (h : ∀ i, i < 32 → bt x i = bt y i) : x = y := Int32.toBitVec_inj.mp (BitVec.eq_of_getLsbD_eq (fun i hi => h i hi))
theorem b_or (x y : Int32) (i : Nat) : bt (x ||| y) i = (bt x i || bt y i) := by unfold bt; rw [Int32.toBitVec_or, BitVec.getLsbD_or]
theorem b_and (x y : Int32) (i : Nat) : bt (x &&& y) i = (bt x i && bt y i) := by unfold bt; rw [Int32.toBitVec_and, BitVec.getLsbD_and]
theorem b_xor (x y : Int32) (i : Nat) : bt (x ^^^ y) i = (bt x i ^^ bt y i) := by unfold bt; rw [Int32.toBitVec_xor, BitVec.getLsbD_xor]
theorem b_big {x : Int32} {i : Nat} (h : 32 ≤ i) : bt x i = false := BitVec.getLsbD_of_ge _ _ h
theorem b_m1 : ∀ i, i < 32 → bt (-1) i = true := by decide +kernel
theorem b_0 (i : Nat) : bt 0 i = false := BitVec.getLsbD_zero
theorem s_l : ∀ n, n < 32 → ((nI n &&& 31).toBitVec.smod 32).toNat = n := by decide +kernel
theorem b_shl (n : Nat) (hn : n < 32) (x : Int32) {i : Nat} (hi : i < 32) : bt (x <<< (nI n &&& 31)) i = (decide (n ≤ i) && bt x (i - n)) := by
  unfold bt
  rw [Int32.toBitVec_shiftLeft]
  show (x.toBitVec <<< ((nI n &&& 31).toBitVec.smod 32).toNat).getLsbD i = _
  rw [s_l n hn, BitVec.getLsbD_shiftLeft]
  rcases Nat.lt_or_ge i n with h | h
  · simp [h, Nat.not_le.mpr h]
  · simp [hi, h, Nat.not_lt.mpr h]
theorem b_sshr (n : Nat) (hn : n < 32) (x : Int32) {i : Nat} (hi : i < 32) : bt (x >>> (nI n &&& 31)) i = if n + i < 32 then bt x (n + i) else bt x 31 := by
  unfold bt
  rw [Int32.toBitVec_shiftRight]
  show (x.toBitVec.sshiftRight ((nI n &&& 31).toBitVec.smod 32).toNat).getLsbD i = _
  rw [s_l n hn, BitVec.getLsbD_sshiftRight, BitVec.msb_eq_getLsbD_last]
  simp [hi]
end
section
/-! sums, counts, maxima; bits of words -/
def zz_sm (f : Nat → Nat) : Nat → Nat
  | 0 => 0
  | n + 1 => zz_sm f n + f n
theorem zz_sm_congr {f g : Nat → Nat} : ∀ n, (∀ k, k < n → f k = g k) → zz_sm f n = zz_sm g n
  | 0, _ => rfl
  | n + 1, h => by
    show zz_sm f n + f n = zz_sm g n + g n
    rw [zz_sm_congr n (fun k hk => h k (by omega)), h n (by omega)]
theorem zz_sm_add (f g : Nat → Nat) : ∀ n, zz_sm (fun k => f k + g k) n = zz_sm f n + zz_sm g n
  | 0 => rfl
  | n + 1 => by
    show zz_sm (fun k => f k + g k) n + (f n + g n) = (zz_sm f n + f n) + (zz_sm g n + g n)
    rw [zz_sm_add f g n]; omega
theorem zz_sm_zero : ∀ n, zz_sm (fun _ => 0) n = 0
  | 0 => rfl
  | n + 1 => by
    show zz_sm (fun _ => 0) n + 0 = 0
    rw [zz_sm_zero n]
theorem zz_sm_swap (F : Nat → Nat → Nat) (m : Nat) : ∀ n, zz_sm (fun i => zz_sm (fun j => F i j) m) n = zz_sm (fun j => zz_sm (fun i => F i j) n) m
  | 0 => by
    show 0 = zz_sm (fun _ => 0) m
    rw [zz_sm_zero]
  | n + 1 => by
    show zz_sm (fun i => zz_sm (fun j => F i j) m) n + zz_sm (fun j => F n j) m = zz_sm (fun j => zz_sm (fun i => F i j) n + F n j) m
    rw [zz_sm_swap F m n, zz_sm_add]
theorem zz_sm_app (f : Nat → Nat) (a : Nat) : ∀ b, zz_sm f (a + b) = zz_sm f a + zz_sm (fun k => f (a + k)) b
  | 0 => rfl
  | b + 1 => by
    show zz_sm f (a + b) + f (a + b) = zz_sm f a + (zz_sm (fun k => f (a + k)) b + f (a + b))
    rw [zz_sm_app f a b]; omega
theorem zz_sm_split (F : Nat → Nat → Nat) (m : Nat) (hm : 0 < m) : ∀ n, zz_sm (fun c => F (c / m) (c % m)) (m * n) = zz_sm (fun i => zz_sm (fun j => F i j) m) n
  | 0 => rfl
  | n + 1 => by
    rw [Nat.mul_succ, zz_sm_app, zz_sm_split F m hm n]
    show _ + _ = _ + zz_sm (fun j => F n j) m
    congr 1
    apply zz_sm_congr
    intro k hk
    rw [Nat.mul_add_div hm, Nat.div_eq_of_lt hk, Nat.add_zero, Nat.mul_add_mod, Nat.mod_eq_of_lt hk]
def zz_cn (p : Nat → Bool) (n : Nat) : Nat := zz_sm (fun k => (p k).toNat) n
theorem zz_cn_s (p : Nat → Bool) (n : Nat) : zz_cn p (n + 1) = zz_cn p n + (p n).toNat := rfl
theorem zz_cn_congr {p q : Nat → Bool} {n : Nat} (h : ∀ k, k < n → p k = q k) : zz_cn p n = zz_cn q n := zz_sm_congr n (fun k hk => by rw [h k hk])
theorem zz_cn_le (p : Nat → Bool) : ∀ n, zz_cn p n ≤ n
  | 0 => Nat.le_refl 0
  | n + 1 => by
    rw [zz_cn_s]
    have := zz_cn_le p n
    have := Bool.toNat_le (p n)
    omega
theorem zz_cn_mono {p q : Nat → Bool} : ∀ n, (∀ k, k < n → p k = true → q k = true) → zz_cn p n ≤ zz_cn q n
  | 0, _ => Nat.le_refl 0
  | n + 1, h => by
    rw [zz_cn_s, zz_cn_s]
    have h1 := zz_cn_mono n (fun k hk => h k (by omega))
    have h2 := h n (by omega)
    cases hp : p n
    · simp only [Bool.toNat_false]; omega
    · rw [h2 hp]; omega
theorem zz_cn_lt {p q : Nat → Bool} (k0 : Nat) (hq : q k0 = true) (hp : p k0 = false) : ∀ n, k0 < n → (∀ k, k < n → p k = true → q k = true) → zz_cn p n < zz_cn q n
  | 0, h0, _ => by omega
  | n + 1, h0, h => by
    rw [zz_cn_s, zz_cn_s]
    have h2 := h n (by omega)
    by_cases e : k0 = n
    · have h1 := zz_cn_mono n (fun k hk => h k (by omega))
      subst e
      rw [hq, hp]
      simp only [Bool.toNat_false, Bool.toNat_true]
      omega
    · have h1 := zz_cn_lt k0 hq hp n (by omega) (fun k hk => h k (by omega))
      cases hp' : p n
      · simp only [Bool.toNat_false]; omega
      · rw [h2 hp']; omega
theorem zz_cn_zero {p : Nat → Bool} : ∀ n, (∀ k, k < n → p k = false) → zz_cn p n = 0
  | 0, _ => rfl
  | n + 1, h => by
    rw [zz_cn_s, zz_cn_zero n (fun k hk => h k (by omega)), h n (by omega)]
    rfl
theorem zz_cn_zero' {p : Nat → Bool} : ∀ n, zz_cn p n = 0 → ∀ k, k < n → p k = false
  | 0, _, k, hk => by omega
  | n + 1, h, k, hk => by
    rw [zz_cn_s] at h
    by_cases e : k = n
    · subst e
      cases hp : p k
      · rfl
      · rw [hp, Bool.toNat_true] at h; omega
    · exact zz_cn_zero' n (by omega) k (by omega)
theorem zz_cn_del {p q : Nat → Bool} (k0 : Nat) (hp : p k0 = true) : ∀ n, k0 < n → (∀ k, k < n → q k = (p k && decide (k ≠ k0))) → zz_cn p n = zz_cn q n + 1
  | 0, h0, _ => by omega
  | n + 1, h0, h => by
    rw [zz_cn_s, zz_cn_s, h n (by omega)]
    by_cases e : k0 = n
    · subst e
      have h1 : zz_cn p k0 = zz_cn q k0 := zz_cn_congr (fun k hk => by rw [h k (by omega), decide_eq_true (by omega : k ≠ k0), Bool.and_true])
      rw [hp, h1]
      simp
    · have h1 := zz_cn_del k0 hp n (by omega) (fun k hk => h k (by omega))
      rw [decide_eq_true (by omega : n ≠ k0), Bool.and_true]
      omega
theorem zz_cn_all : ∀ n, zz_cn (fun _ => true) n = n
  | 0 => rfl
  | n + 1 => by
    rw [zz_cn_s, zz_cn_all n]
    rfl
theorem zz_cn_ltn {p : Nat → Bool} {n : Nat} (k0 : Nat) (h0 : k0 < n) (hp : p k0 = false) : zz_cn p n < n := by
  have := zz_cn_lt (p := p) (q := fun _ => true) k0 rfl hp n h0 (fun _ _ _ => rfl)
  rwa [zz_cn_all] at this
/-! greatest values -/
def zz_mx (f : Nat → Nat) : Nat → Nat
  | 0 => 0
  | n + 1 => if f n ≤ zz_mx f n then zz_mx f n else f n
theorem zz_mx_le {f : Nat → Nat} {B : Nat} : ∀ n, zz_mx f n ≤ B ↔ ∀ k, k < n → f k ≤ B
  | 0 => ⟨fun _ k hk => by omega, fun _ => Nat.zero_le _⟩
  | n + 1 => by
    have ih := zz_mx_le (f := f) (B := B) n
    have e : zz_mx f (n + 1) = if f n ≤ zz_mx f n then zz_mx f n else f n := rfl
    rw [e]
    constructor
    · intro h k hk
      by_cases ek : k = n
      · subst ek
        split at h <;> omega
      · refine ih.1 ?_ k (by omega)
        split at h <;> omega
    · intro h
      have h1 := ih.2 (fun k hk => h k (by omega))
      have h2 := h n (by omega)
      split <;> omega
theorem zz_mx_eq {f g : Nat → Nat} {m n : Nat} (h : ∀ B, (∀ k, k < m → f k ≤ B) ↔ (∀ k, k < n → g k ≤ B)) : zz_mx f m = zz_mx g n :=
  Nat.le_antisymm ((zz_mx_le m).2 ((h _).2 ((zz_mx_le n).1 (Nat.le_refl _)))) ((zz_mx_le n).2 ((h _).1 ((zz_mx_le m).1 (Nat.le_refl _))))
theorem zz_mx_congr {f g : Nat → Nat} {n : Nat} (h : ∀ k, k < n → f k = g k) : zz_mx f n = zz_mx g n :=
  zz_mx_eq (fun _ => ⟨fun a k hk => h k hk ▸ a k hk, fun a k hk => (h k hk).symm ▸ a k hk⟩)
/-! bits -/
theorem zz_not (x : Int32) {i : Nat} (hi : i < 32) : bt (x ^^^ (-1)) i = !bt x i := by rw [b_xor, b_m1 i hi, Bool.xor_true]
theorem zz_neg (x : Int32) {i : Nat} (hi : i < 32) : bt (-x) i = true ↔ ¬ (bt x i = true ↔ ∃ j, j < i ∧ bt x j = true) := by
  unfold bt
  rw [Int32.toBitVec_neg, BitVec.getLsbD_neg, decide_eq_true hi, Bool.true_and]
  cases hx : x.toBitVec.getLsbD i
  · simp
  · simp
theorem zz_low (x : Int32) {i : Nat} (hi : i < 32) : bt (x &&& (-x)) i = true ↔ bt x i = true ∧ ¬ ∃ j, j < i ∧ bt x j = true := by
  rw [b_and, Bool.and_eq_true, zz_neg x hi]
  constructor
  · intro h
    exact ⟨h.1, fun e => h.2 ⟨fun _ => e, fun _ => h.1⟩⟩
  · intro h
    exact ⟨h.1, fun e => h.2 (e.1 h.1)⟩
theorem zz_sub1 (x : Int32) {i : Nat} (hi : i < 32) : bt (x - 1) i = !bt (-x) i := by
  have e : (x - 1).toBitVec = ~~~((-x).toBitVec) := by
    rw [Int32.toBitVec_sub, Int32.toBitVec_neg, BitVec.not_neg]
    rfl
  unfold bt
  rw [e, BitVec.getLsbD_not, decide_eq_true hi, Bool.true_and]
theorem zz_clr (x : Int32) {i : Nat} (hi : i < 32) : bt (x &&& (x - 1)) i = true ↔ bt x i = true ∧ ∃ j, j < i ∧ bt x j = true := by
  rw [b_and, Bool.and_eq_true, zz_sub1 x hi]
  have h := zz_neg x hi
  constructor
  · intro g
    refine ⟨g.1, Classical.byContradiction fun n => ?_⟩
    have h2 : bt (-x) i = true := h.2 (fun e => n (e.1 g.1))
    rw [h2] at g
    exact absurd g.2 (by decide)
  · intro g
    refine ⟨g.1, ?_⟩
    cases e : bt (-x) i
    · rfl
    · exact absurd ⟨fun _ => g.2, fun _ => g.1⟩ (h.1 e)
theorem zz_odd : ∀ i, i < 32 → bt 43690 i = decide (i < 17 ∧ i % 2 = 1) := by decide +kernel
theorem zz_even : ∀ i, i < 32 → bt 87381 i = decide (i < 17 ∧ i % 2 = 0) := by decide +kernel
theorem zz_all : ∀ i, i < 32 → bt 131071 i = decide (i < 17) := by decide +kernel
theorem zz_edg : ∀ i, i < 32 → bt 65537 i = decide (i = 0 ∨ i = 16) := by decide +kernel
theorem zz_one : ∀ l, l < 32 → ∀ i, i < 32 → bt ((1 : Int32) <<< (nI l &&& 31)) i = decide (i = l) := by decide +kernel
theorem zz_span : ∀ l, l < 9 → ∀ r, r < 9 → l ≤ r → ∀ i, i < 32 → bt (((1 : Int32) <<< ((nI (2 * r) + 1) &&& 31)) - ((1 : Int32) <<< (nI (2 * l) &&& 31))) i = decide (2 * l ≤ i ∧ i ≤ 2 * r) := by decide +kernel
theorem zz_ne0 {x : Int32} (h : ¬ x = 0) : ∃ i, i < 32 ∧ bt x i = true := by
  apply Classical.byContradiction
  intro n
  apply h
  apply b_ext
  intro i hi
  rw [b_0]
  cases e : bt x i
  · rfl
  · exact absurd ⟨i, hi, e⟩ n
theorem zz_eq0 {x : Int32} (h : ∀ i, i < 32 → bt x i = false) : x = 0 := b_ext (fun i hi => by rw [h i hi, b_0])
theorem zz_bne {x : Int32} {i : Nat} (h : bt x i = true) : ¬ x = 0 := by
  intro e
  rw [e, b_0] at h
  exact absurd h (by decide)
/-! the numbers of the walks -/
theorem zz_ix (s j : Nat) : 17 * nI s + nI j = nI (17 * s + j) := by
  show nI 17 * nI s + nI j = _
  rw [pk_mul, nI_add]
theorem zz_cx (s j : Nat) (h : 17 * s + j < 2 ^ 31) : (17 * nI s + nI j).toNatClampNeg = 17 * s + j := pk_cl _ (zz_ix s j) h
theorem zz_iy (s j : Nat) : 289 * nI s + nI j = nI (289 * s + j) := by
  show nI 289 * nI s + nI j = _
  rw [pk_mul, nI_add]
theorem zz_cy (s j : Nat) (h : 289 * s + j < 2 ^ 31) : (289 * nI s + nI j).toNatClampNeg = 289 * s + j := pk_cl _ (zz_iy s j) h
theorem zz_d9 {f : Nat} (h : f < 2 ^ 31) : nI f / 9 = nI (f / 9) := pk_div h (by decide) (by decide)
theorem zz_r9 {f : Nat} (h : f < 2 ^ 31) : nI f - nI f / 9 * 9 = nI (f % 9) := pk_rem h (by decide) (by decide)
theorem zz_d17 {f : Nat} (h : f < 2 ^ 31) : nI f / 17 = nI (f / 17) := pk_div h (by decide) (by decide)
theorem zz_r17 {f : Nat} (h : f < 2 ^ 31) : nI f - nI f / 17 * 17 = nI (f % 17) := pk_rem h (by decide) (by decide)
theorem zz_d2 {f : Nat} (h : f < 2 ^ 31) : nI f / 2 = nI (f / 2) := pk_div h (by decide) (by decide)
theorem zz_r2 {f : Nat} (h : f < 2 ^ 31) : nI f - nI f / 2 * 2 = nI (f % 2) := pk_rem h (by decide) (by decide)
theorem zz_d3 {f : Nat} (h : f < 2 ^ 31) : nI f / 3 = nI (f / 3) := pk_div h (by decide) (by decide)
theorem zz_r3 {f : Nat} (h : f < 2 ^ 31) : nI f - nI f / 3 * 3 = nI (f % 3) := pk_rem h (by decide) (by decide)
theorem zz_d12 {f : Nat} (h : f < 2 ^ 31) : nI f / 12 = nI (f / 12) := pk_div h (by decide) (by decide)
theorem zz_r12 {f : Nat} (h : f < 2 ^ 31) : nI f - nI f / 12 * 12 = nI (f % 12) := pk_rem h (by decide) (by decide)
theorem zz_t2 (a : Nat) : 2 * nI a = nI (2 * a) := pk_mul 2 a
theorem zz_t4 (a : Nat) : 4 * nI a = nI (4 * a) := pk_mul 4 a
theorem zz_t17 (a : Nat) : 17 * nI a = nI (17 * a) := pk_mul 17 a
theorem zz_t34 (a : Nat) : 34 * nI a = nI (34 * a) := pk_mul 34 a
theorem zz_t289 (a : Nat) : 289 * nI a = nI (289 * a) := pk_mul 289 a
theorem zz_a2 (a : Nat) : nI a + 2 = nI (a + 2) := nI_add a 2
theorem zz_m1 (j : Nat) : nI j - 1 = nI (j + 1) - 2 := by
  rw [← nI_1, Int32.sub_eq_add_neg, Int32.sub_eq_add_neg, Int32.add_assoc]
  rfl
theorem zz_p1 (j : Nat) : nI j + 1 = nI (j + 3) - 2 := by
  show _ = nI (j + 3) - nI 2
  rw [pk_sub (by omega), nI_1]
  exact congrArg nI (by omega)
theorem zz_p0 (j : Nat) : nI j = nI (j + 2) - 2 := by
  show _ = nI (j + 2) - nI 2
  rw [pk_sub (by omega)]
  exact congrArg nI (by omega)
theorem zz_p2 (j : Nat) : nI j + 2 = nI (j + 4) - 2 := by
  show nI j + nI 2 = nI (j + 4) - nI 2
  rw [pk_sub (by omega), nI_add]
  exact congrArg nI (by omega)
theorem zz_n9 : ¬ (9 : Int32) = 0 := by decide
theorem zz_n17 : ¬ (17 : Int32) = 0 := by decide
theorem zz_n2 : ¬ (2 : Int32) = 0 := by decide
theorem zz_n3 : ¬ (3 : Int32) = 0 := by decide
theorem zz_n12 : ¬ (12 : Int32) = 0 := by decide
/-! whether a number is one of the first n -/
def zz_bad (n : Nat) (x : Int32) : Prop := x < 0 ∨ (¬ x < 0 ∧ nI n ≤ x)
theorem zz_num (n : Nat) (hn : n < 2 ^ 31) (x : Int32) : (∃ s, s < n ∧ x = nI s) ∨ zz_bad n x := by
  by_cases h : x < 0
  · exact Or.inr (Or.inl h)
  · rcases pk_ix x hn with h1 | h1 | h1
    · exact absurd h1 h
    · exact Or.inr (Or.inr ⟨h, h1⟩)
    · exact Or.inl h1
theorem zz_pred_lt {x : Int32} {n : Nat} (hn : n + 1 < 2 ^ 31) (h : nI (n + 1) ≤ x) : nI n < x := Int32.lt_of_lt_of_le (nI_lt (Nat.lt_succ_self n) hn) h
/-! 0 or 1 -/
def zz_o (b : Bool) : Int32 := cond b 1 0
theorem zz_o_0 {b : Bool} : zz_o b = 0 ↔ b = false := by cases b <;> decide
theorem zz_o_n (b : Bool) : narrow .boolean (.int (zz_o b)) = .int (zz_o b) := by cases b <;> rfl
theorem zz_o_v (b : Bool) : vp_nar .boolean (zz_o b) = zz_o b := by cases b <;> rfl
theorem zz_uu (f : Nat → Int32) (a : Nat) (x y : Int32) : upd (upd f a x) a y = upd f a y := by
  funext j
  unfold upd
  by_cases h : j = a
  · rw [if_pos h, if_pos h]
  · rw [if_neg h, if_neg h, if_neg h]
theorem zz_ue (f : Nat → Int32) (a : Nat) : upd f a (f a) = f := by
  funext j
  unfold upd
  by_cases h : j = a
  · rw [if_pos h, h]
  · rw [if_neg h]
end
section
/-! the picture: M slot column row; both sides against it -/
def zz_RX (rr : Nat → Int32) (M : Nat → Nat → Nat → Bool) : Prop := ∀ s, s < 12 → ∀ j, j < 17 → ∀ i, i < 32 → bt (rr (17 * s + j)) i = (decide (i < 17) && M s i j)
def zz_RY (mb : Nat → Int32) (M : Nat → Nat → Nat → Bool) : Prop := ∀ s, s < 12 → ∀ c, c < 289 → mb (289 * s + c) = zz_o (M s (c / 17) (c % 17))
theorem zz_RX_upd {rr : Nat → Int32} {M1 M2 : Nat → Nat → Nat → Bool} {s j : Nat} {x : Int32} (h : zz_RX rr M1) (hj : j < 17) (hx : ∀ i, i < 32 → bt x i = (decide (i < 17) && M2 s i j))
    (hf : ∀ t i b, t < 12 → i < 17 → b < 17 → (t ≠ s ∨ b ≠ j) → M2 t i b = M1 t i b) : zz_RX (upd rr (17 * s + j) x) M2 := by
  intro t ht b hb i hi
  by_cases e : t = s ∧ b = j
  · obtain ⟨e1, e2⟩ := e
    rw [e1, e2, pk_us]
    exact hx i hi
  · rw [pk_un (by omega), h t ht b hb i hi]
    by_cases hi2 : i < 17
    · rw [hf t i b ht hi2 hb (by omega)]
    · simp [hi2]
theorem zz_RY_upd {mb : Nat → Int32} {M1 M2 : Nat → Nat → Nat → Bool} {s c : Nat} {x : Int32} (h : zz_RY mb M1) (hc : c < 289) (hx : x = zz_o (M2 s (c / 17) (c % 17)))
    (hf : ∀ t d, t < 12 → d < 289 → (t ≠ s ∨ d ≠ c) → M2 t (d / 17) (d % 17) = M1 t (d / 17) (d % 17)) : zz_RY (upd mb (289 * s + c) x) M2 := by
  intro t ht d hd
  by_cases e : t = s ∧ d = c
  · obtain ⟨e1, e2⟩ := e
    rw [e1, e2, pk_us]
    exact hx
  · rw [pk_un (by omega), h t ht d hd, hf t d ht hd (by omega)]
theorem zz_RX_congr {rr : Nat → Int32} {M1 M2 : Nat → Nat → Nat → Bool} (h : zz_RX rr M1) (e : ∀ t i b, t < 12 → i < 17 → b < 17 → M2 t i b = M1 t i b) : zz_RX rr M2 := by
  intro t ht b hb i hi
  rw [h t ht b hb i hi]
  by_cases hi2 : i < 17
  · rw [e t i b ht hi2 hb]
  · simp [hi2]
theorem zz_RY_congr {mb : Nat → Int32} {M1 M2 : Nat → Nat → Nat → Bool} (h : zz_RY mb M1) (e : ∀ t i b, t < 12 → i < 17 → b < 17 → M2 t i b = M1 t i b) : zz_RY mb M2 := by
  intro t ht c hc
  rw [h t ht c hc, e t (c / 17) (c % 17) ht (by omega) (by omega)]
def zz_put (s : Nat) (N : Nat → Nat → Bool) (M : Nat → Nat → Nat → Bool) : Nat → Nat → Nat → Bool := fun t i j => if t = s then N i j else M t i j
theorem zz_put_s (s : Nat) (N : Nat → Nat → Bool) (M : Nat → Nat → Nat → Bool) : zz_put s N M s = N := by
  funext i j
  unfold zz_put
  rw [if_pos rfl]
theorem zz_put_n {s t : Nat} (h : t ≠ s) (N : Nat → Nat → Bool) (M : Nat → Nat → Nat → Bool) : zz_put s N M t = M t := by
  funext i j
  unfold zz_put
  rw [if_neg h]
/-- rows below j already hold N -/
def zz_mr (s j : Nat) (N : Nat → Nat → Bool) (M : Nat → Nat → Nat → Bool) : Nat → Nat → Nat → Bool := fun t i b => if t = s ∧ b < j then N i b else M t i b
/-- cells below c already hold N -/
def zz_mc (s c : Nat) (N : Nat → Nat → Bool) (M : Nat → Nat → Nat → Bool) : Nat → Nat → Nat → Bool := fun t i b => if t = s ∧ 17 * i + b < c then N i b else M t i b
theorem zz_mr_at {s j : Nat} {N : Nat → Nat → Bool} {M : Nat → Nat → Nat → Bool} {i b : Nat} (h : b < j) : zz_mr s j N M s i b = N i b := if_pos ⟨rfl, h⟩
theorem zz_mr_no {s j : Nat} {N : Nat → Nat → Bool} {M : Nat → Nat → Nat → Bool} {t i b : Nat} (h : j ≤ b) : zz_mr s j N M t i b = M t i b := if_neg (fun z => by have := z.2; omega)
theorem zz_mr_ne {s j : Nat} {N : Nat → Nat → Bool} {M : Nat → Nat → Nat → Bool} {t i b : Nat} (h : t ≠ s) : zz_mr s j N M t i b = M t i b := if_neg (fun z => h z.1)
theorem zz_mc_at {s c : Nat} {N : Nat → Nat → Bool} {M : Nat → Nat → Nat → Bool} {i b : Nat} (h : 17 * i + b < c) : zz_mc s c N M s i b = N i b := if_pos ⟨rfl, h⟩
theorem zz_mc_no {s c : Nat} {N : Nat → Nat → Bool} {M : Nat → Nat → Nat → Bool} {t i b : Nat} (h : c ≤ 17 * i + b) : zz_mc s c N M t i b = M t i b := if_neg (fun z => by have := z.2; omega)
theorem zz_mc_ne {s c : Nat} {N : Nat → Nat → Bool} {M : Nat → Nat → Nat → Bool} {t i b : Nat} (h : t ≠ s) : zz_mc s c N M t i b = M t i b := if_neg (fun z => h z.1)
theorem zz_mr_0 {rr : Nat → Int32} {N : Nat → Nat → Bool} {M : Nat → Nat → Nat → Bool} {s j : Nat} (h : zz_RX rr M) (e : ∀ b, b < j → ∀ i, i < 17 → N i b = M s i b) : zz_RX rr (zz_mr s j N M) := by
  refine zz_RX_congr h (fun t i b ht hi hb => ?_)
  by_cases c : t = s ∧ b < j
  · obtain ⟨c1, c2⟩ := c
    subst c1
    rw [zz_mr_at c2, e b c2 i hi]
  · exact if_neg c
theorem zz_mr_2 {rr : Nat → Int32} {N : Nat → Nat → Bool} {M : Nat → Nat → Nat → Bool} {s j : Nat} {x : Int32} (h : zz_RX rr (zz_mr s j N M)) (hj : j < 17)
    (hx : ∀ i, i < 32 → bt x i = (decide (i < 17) && N i j)) (e : ∀ i, i < 17 → N i (j + 1) = M s i (j + 1)) : zz_RX (upd rr (17 * s + j) x) (zz_mr s (j + 2) N M) := by
  refine zz_RX_upd h hj (fun i hi => ?_) (fun t i b ht hi hb hne => ?_)
  · rw [zz_mr_at (by omega)]
    exact hx i hi
  · by_cases ts : t = s
    · subst ts
      by_cases c : b < j
      · rw [zz_mr_at c, zz_mr_at (by omega)]
      · by_cases c2 : b = j + 1
        · subst c2
          rw [zz_mr_at (by omega), zz_mr_no (by omega), e i hi]
        · rw [zz_mr_no (by omega), zz_mr_no (by omega)]
    · rw [zz_mr_ne ts, zz_mr_ne ts]
theorem zz_mr_1 {rr : Nat → Int32} {N : Nat → Nat → Bool} {M : Nat → Nat → Nat → Bool} {s j : Nat} {x : Int32} (h : zz_RX rr (zz_mr s j N M)) (hj : j < 17)
    (hx : ∀ i, i < 32 → bt x i = (decide (i < 17) && N i j)) : zz_RX (upd rr (17 * s + j) x) (zz_mr s (j + 1) N M) := by
  refine zz_RX_upd h hj (fun i hi => ?_) (fun t i b ht hi hb hne => ?_)
  · rw [zz_mr_at (by omega)]
    exact hx i hi
  · by_cases ts : t = s
    · subst ts
      by_cases c : b < j
      · rw [zz_mr_at c, zz_mr_at (by omega)]
      · rw [zz_mr_no (by omega), zz_mr_no (by omega)]
    · rw [zz_mr_ne ts, zz_mr_ne ts]
theorem zz_mr_e {rr : Nat → Int32} {N : Nat → Nat → Bool} {M : Nat → Nat → Nat → Bool} {s j : Nat} (h : zz_RX rr (zz_mr s j N M)) (e : ∀ b, j ≤ b → b < 17 → ∀ i, i < 17 → N i b = M s i b) : zz_RX rr (zz_put s N M) := by
  refine zz_RX_congr h (fun t i b ht hi hb => ?_)
  by_cases ts : t = s
  · subst ts
    rw [zz_put_s]
    by_cases c : b < j
    · rw [zz_mr_at c]
    · rw [zz_mr_no (by omega), e b (by omega) hb i hi]
  · rw [zz_put_n ts, zz_mr_ne ts]
theorem zz_mr_rd {rr : Nat → Int32} {N : Nat → Nat → Bool} {M : Nat → Nat → Nat → Bool} {s j t : Nat} (h : zz_RX rr (zz_mr s j N M)) (ht : t < 12) (hj : j < 17) {i : Nat} (hi : i < 32) : bt (rr (17 * t + j)) i = (decide (i < 17) && M t i j) := by
  rw [h t ht j hj i hi, zz_mr_no (Nat.le_refl j)]
theorem zz_mc_0 {mb : Nat → Int32} {N : Nat → Nat → Bool} {M : Nat → Nat → Nat → Bool} {s : Nat} (h : zz_RY mb M) : zz_RY mb (zz_mc s 0 N M) :=
  zz_RY_congr h (fun t i b _ _ _ => zz_mc_no (Nat.zero_le _))
theorem zz_mc_1 {mb : Nat → Int32} {N : Nat → Nat → Bool} {M : Nat → Nat → Nat → Bool} {s c : Nat} {x : Int32} (h : zz_RY mb (zz_mc s c N M)) (hc : c < 289)
    (hx : x = zz_o (N (c / 17) (c % 17))) : zz_RY (upd mb (289 * s + c) x) (zz_mc s (c + 1) N M) := by
  refine zz_RY_upd h hc ?_ (fun t d ht hd hne => ?_)
  · rw [zz_mc_at (by omega)]
    exact hx
  · by_cases ts : t = s
    · subst ts
      by_cases cd : d < c
      · rw [zz_mc_at (by omega), zz_mc_at (by omega)]
      · rw [zz_mc_no (by omega), zz_mc_no (by omega)]
    · rw [zz_mc_ne ts, zz_mc_ne ts]
theorem zz_mc_k {mb : Nat → Int32} {N : Nat → Nat → Bool} {M : Nat → Nat → Nat → Bool} {s c : Nat} (h : zz_RY mb (zz_mc s c N M))
    (hx : N (c / 17) (c % 17) = M s (c / 17) (c % 17)) : zz_RY mb (zz_mc s (c + 1) N M) := by
  refine zz_RY_congr h (fun t i b ht hi hb => ?_)
  by_cases ts : t = s
  · subst ts
    by_cases cd : 17 * i + b < c
    · rw [zz_mc_at (by omega), zz_mc_at (by omega)]
    · by_cases ce : 17 * i + b = c
      · rw [zz_mc_at (by omega), zz_mc_no (by omega)]
        have e1 : c / 17 = i := by omega
        have e2 : c % 17 = b := by omega
        rw [e1, e2] at hx
        exact hx
      · rw [zz_mc_no (by omega), zz_mc_no (by omega)]
  · rw [zz_mc_ne ts, zz_mc_ne ts]
theorem zz_mc_e {mb : Nat → Int32} {N : Nat → Nat → Bool} {M : Nat → Nat → Nat → Bool} {s : Nat} (h : zz_RY mb (zz_mc s 289 N M)) : zz_RY mb (zz_put s N M) := by
  refine zz_RY_congr h (fun t i b ht hi hb => ?_)
  by_cases ts : t = s
  · subst ts
    rw [zz_put_s, zz_mc_at (by omega)]
  · rw [zz_put_n ts, zz_mc_ne ts]
theorem zz_mc_rd {mb : Nat → Int32} {N : Nat → Nat → Bool} {M : Nat → Nat → Nat → Bool} {s c t : Nat} (h : zz_RY mb (zz_mc s c N M)) (ht : t < 12) (hc : c < 289) : mb (289 * t + c) = zz_o (M t (c / 17) (c % 17)) := by
  rw [h t ht c hc, zz_mc_no (by omega)]
/-! kinds -/
def zz_okk (k : Int32) (N : Nat → Nat → Bool) : Prop :=
  (k = 0 ∧ ∀ i j, i < 17 → j < 17 → N i j = false) ∨ (k = 1 ∧ ∀ i j, i < 17 → j < 17 → N i j = true → i % 2 = 0 ∧ j % 2 = 0) ∨
  (k = 2 ∧ ∀ i j, i < 17 → j < 17 → N i j = true → (i + j) % 2 = 1) ∨ (k = 3 ∧ ∀ i j, i < 17 → j < 17 → N i j = true → i % 2 = 1 ∧ j % 2 = 1)
def zz_Ty (kd : Nat → Int32) (M : Nat → Nat → Nat → Bool) : Prop := ∀ s, s < 12 → zz_okk (kd s) (M s)
theorem zz_Ty_put {kd : Nat → Int32} {M : Nat → Nat → Nat → Bool} {s : Nat} {k : Int32} {N : Nat → Nat → Bool} (h : zz_Ty kd M) (hk : zz_okk k N) : zz_Ty (upd kd s k) (zz_put s N M) := by
  intro t ht
  by_cases e : t = s
  · subst e
    rw [pk_us, zz_put_s]
    exact hk
  · rw [pk_un e, zz_put_n e]
    exact h t ht
theorem zz_Ty_putk {kd : Nat → Int32} {M : Nat → Nat → Nat → Bool} {s : Nat} {N : Nat → Nat → Bool} (h : zz_Ty kd M) (hk : zz_okk (kd s) N) : zz_Ty kd (zz_put s N M) := by
  have := zz_Ty_put (s := s) h hk
  rwa [zz_ue] at this
theorem zz_ok0 {N : Nat → Nat → Bool} (h : ∀ i j, i < 17 → j < 17 → N i j = false) : zz_okk 0 N := Or.inl ⟨rfl, h⟩
theorem zz_ok1 {N : Nat → Nat → Bool} (h : ∀ i j, i < 17 → j < 17 → N i j = true → i % 2 = 0 ∧ j % 2 = 0) : zz_okk 1 N := Or.inr (Or.inl ⟨rfl, h⟩)
theorem zz_ok2 {N : Nat → Nat → Bool} (h : ∀ i j, i < 17 → j < 17 → N i j = true → (i + j) % 2 = 1) : zz_okk 2 N := Or.inr (Or.inr (Or.inl ⟨rfl, h⟩))
theorem zz_ok3 {N : Nat → Nat → Bool} (h : ∀ i j, i < 17 → j < 17 → N i j = true → i % 2 = 1 ∧ j % 2 = 1) : zz_okk 3 N := Or.inr (Or.inr (Or.inr ⟨rfl, h⟩))
theorem zz_of0 {N : Nat → Nat → Bool} (h : zz_okk 0 N) : ∀ i j, i < 17 → j < 17 → N i j = false := by
  rcases h with h | h | h | h
  · exact h.2
  · exact absurd h.1 (by decide)
  · exact absurd h.1 (by decide)
  · exact absurd h.1 (by decide)
theorem zz_of1 {N : Nat → Nat → Bool} (h : zz_okk 1 N) : ∀ i j, i < 17 → j < 17 → N i j = true → i % 2 = 0 ∧ j % 2 = 0 := by
  rcases h with h | h | h | h
  · exact absurd h.1 (by decide)
  · exact h.2
  · exact absurd h.1 (by decide)
  · exact absurd h.1 (by decide)
theorem zz_of2 {N : Nat → Nat → Bool} (h : zz_okk 2 N) : ∀ i j, i < 17 → j < 17 → N i j = true → (i + j) % 2 = 1 := by
  rcases h with h | h | h | h
  · exact absurd h.1 (by decide)
  · exact absurd h.1 (by decide)
  · exact h.2
  · exact absurd h.1 (by decide)
theorem zz_of3 {N : Nat → Nat → Bool} (h : zz_okk 3 N) : ∀ i j, i < 17 → j < 17 → N i j = true → i % 2 = 1 ∧ j % 2 = 1 := by
  rcases h with h | h | h | h
  · exact absurd h.1 (by decide)
  · exact absurd h.1 (by decide)
  · exact absurd h.1 (by decide)
  · exact h.2
theorem zz_kk {k : Int32} {N : Nat → Nat → Bool} (h : zz_okk k N) : k = 0 ∨ k = 1 ∨ k = 2 ∨ k = 3 := by
  rcases h with h | h | h | h
  · exact Or.inl h.1
  · exact Or.inr (Or.inl h.1)
  · exact Or.inr (Or.inr (Or.inl h.1))
  · exact Or.inr (Or.inr (Or.inr h.1))
/-! the relation -/
def i_Rel (_ : Nat) (u : SX) (v : SY) : Prop := u.1 = v.1 ∧ ∃ M : Nat → Nat → Nat → Bool, zz_Ty u.1 M ∧ zz_RX u.2.1 M ∧ zz_RY v.2.1 M
theorem i_up {k : Nat} {u : SX} {v : SY} (h : i_Rel k u v) : i_Rel (k + 4) u v := h
theorem zz_el {P : SX → SY → Prop} {k : Nat} {u : SX} {v : SY}
    (h : ∀ (kd rr ins rim gd gn mb hd f1 f2 pc qu : Nat → Int32) (M : Nat → Nat → Nat → Bool), zz_Ty kd M → zz_RX rr M → zz_RY mb M → P (kd, rr, ins, rim, gd, gn) (kd, mb, hd, f1, f2, pc, qu)) (I : i_Rel k u v) : P u v := by
  obtain ⟨kd, rr, ins, rim, gd, gn⟩ := u
  obtain ⟨kd', mb, hd, f1, f2, pc, qu⟩ := v
  obtain ⟨e, M, hT, hX, hY⟩ := I
  have e' : kd = kd' := e
  subst e'
  exact h kd rr ins rim gd gn mb hd f1 f2 pc qu M hT hX hY
theorem zz_in {k : Nat} {kd rr ins rim gd gn mb hd f1 f2 pc qu : Nat → Int32} {M : Nat → Nat → Nat → Bool} (hT : zz_Ty kd M) (hX : zz_RX rr M) (hY : zz_RY mb M) : i_Rel k (kd, rr, ins, rim, gd, gn) (kd, mb, hd, f1, f2, pc, qu) := ⟨rfl, M, hT, hX, hY⟩
/-! how many elements a slot has -/
def zz_ct (M : Nat → Nat → Nat → Bool) (s : Nat) : Nat := zz_cn (fun c => M s (c / 17) (c % 17)) 289
theorem zz_ct_x {rr : Nat → Int32} {M : Nat → Nat → Nat → Bool} (h : zz_RX rr M) {s : Nat} (hs : s < 12) : zz_sm (fun j => zz_cn (bt (rr (17 * s + j))) 17) 17 = zz_ct M s := by
  have e1 : zz_sm (fun j => zz_cn (bt (rr (17 * s + j))) 17) 17 = zz_sm (fun j => zz_sm (fun i => (M s i j).toNat) 17) 17 := by
    apply zz_sm_congr
    intro j hj
    apply zz_sm_congr
    intro i hi
    rw [h s hs j hj i (by omega), decide_eq_true hi, Bool.true_and]
  rw [e1, ← zz_sm_swap (fun i j => (M s i j).toNat) 17 17]
  exact (zz_sm_split (fun i j => (M s i j).toNat) 17 (by decide) 17).symm
theorem zz_ct_0 {M : Nat → Nat → Nat → Bool} {s : Nat} (h : zz_ct M s = 0) : ∀ i j, i < 17 → j < 17 → M s i j = false := by
  intro i j hi hj
  have h2 : M s ((17 * i + j) / 17) ((17 * i + j) % 17) = false := zz_cn_zero' 289 h (17 * i + j) (by omega)
  have e1 : (17 * i + j) / 17 = i := by omega
  have e2 : (17 * i + j) % 17 = j := by omega
  rw [e1, e2] at h2
  exact h2
theorem zz_ct_le (M : Nat → Nat → Nat → Bool) (s : Nat) : zz_ct M s ≤ 289 := zz_cn_le _ _
end
section
/-! X: small methods -/
section
variable {kd rr ins rim gd gn : Nat → Int32} {M : Nat → Nat → Nat → Bool}
theorem xx_slot1 {post : Int32 → Prop} {s : Nat} (hs : s < 12) (h : post 1) : wpX_isSlot post (nI s) := br_f (nI_pos (by omega)) (br_f (nI_ge (b := 12) hs (by decide)) h)
theorem xx_slot0 {post : Int32 → Prop} {x : Int32} (hb : zz_bad 12 x) (h : post 0) : wpX_isSlot post x := by
  rcases hb with hb | ⟨h1, h2⟩
  · exact br_t hb h
  · exact br_f h1 (br_t h2 h)
theorem xx_vert1 {post : Int32 → Prop} {s : Nat} (hs : s < 81) (h : post 1) : wpX_isVertex post (nI s) := br_f (nI_pos (by omega)) (br_f (nI_ge (b := 81) hs (by decide)) h)
theorem xx_vert0 {post : Int32 → Prop} {x : Int32} (hb : zz_bad 81 x) (h : post 0) : wpX_isVertex post x := by
  rcases hb with hb | ⟨h1, h2⟩
  · exact br_t hb h
  · exact br_f h1 (br_t h2 h)
theorem xx_ones_l (post : Int32 → Prop) : ∀ d c k x, (∀ i, 17 ≤ i → i < 32 → bt x i = false) → zz_cn (bt x) 17 = d → c + d ≤ 17 → post (nI (k + d)) → wX_ones_6 post (d + 1) (nI k) x (nI c) := by
  intro d
  induction d with
  | zero =>
    intro c k x hlo hn hc hp
    have hx : x = 0 := zz_eq0 (fun i hi => by
      by_cases h : i < 17
      · exact zz_cn_zero' 17 hn i h
      · exact hlo i (by omega) hi)
    exact pk_le 17 c (fun _ => hp) (fun _ => br_t hx hp)
  | succ d ih =>
    intro c k x hlo hn hc hp
    have hx : ¬ x = 0 := by
      intro e
      rw [e, zz_cn_zero 17 (fun k _ => b_0 k)] at hn
      omega
    obtain ⟨l, hl, hmin⟩ := pk_least (fun i => i < 32 ∧ bt x i = true) (zz_ne0 hx)
    have hl17 : l < 17 := by
      apply Classical.byContradiction
      intro g
      have := hlo l (by omega) hl.1
      rw [hl.2] at this
      exact absurd this (by decide)
    have hmin' : ∀ j, j < l → ¬ bt x j = true := fun j hj z => hmin j hj ⟨by omega, z⟩
    have hq : ∀ i, i < 32 → bt (x &&& (x - 1)) i = (bt x i && decide (i ≠ l)) := by
      intro i hi
      rw [Bool.eq_iff_iff, zz_clr x hi, Bool.and_eq_true, decide_eq_true_eq]
      constructor
      · rintro ⟨a, j, hj, b⟩
        refine ⟨a, fun e => ?_⟩
        exact hmin' j (by omega) b
      · rintro ⟨a, b⟩
        refine ⟨a, l, ?_, hl.2⟩
        apply Classical.byContradiction
        intro g
        exact hmin' i (by omega) a
    have hcn := zz_cn_del (p := bt x) (q := bt (x &&& (x - 1))) l hl.2 17 hl17 (fun k hk => hq k (by omega))
    refine pk_le 17 c (fun g => by omega) (fun _ => br_f hx (nm_e (nm_r (nI_1 k) (nm_r (nI_1 c) ?_))))
    refine ih (c + 1) (k + 1) _ (fun i h1 h2 => ?_) (by omega) (by omega) ?_
    · rw [hq i h2, hlo i h1 h2]
      rfl
    · rw [show k + 1 + d = k + (d + 1) by omega]
      exact hp
theorem xx_ones {post : Int32 → Prop} {x : Int32} (hlo : ∀ i, 17 ≤ i → i < 32 → bt x i = false) (h : post (nI (zz_cn (bt x) 17))) : wpX_ones post x := by
  refine Exists.intro (zz_cn (bt x) 17 + 1) ?_
  have := zz_cn_le (bt x) 17
  exact xx_ones_l post (zz_cn (bt x) 17) 0 0 x hlo rfl (by omega) (by rw [Nat.zero_add]; exact h)
theorem zz_RX_lo (h : zz_RX rr M) {s : Nat} (hs : s < 12) {j : Nat} (hj : j < 17) : ∀ i, 17 ≤ i → i < 32 → bt (rr (17 * s + j)) i = false := by
  intro i h1 h2
  rw [h s hs j hj i h2, decide_eq_false (by omega), Bool.false_and]
/-! the grid with a border of two -/
def zz_G (N : Nat → Nat → Bool) (a b : Nat) : Bool := decide (2 ≤ a ∧ a ≤ 18 ∧ 2 ≤ b ∧ b ≤ 18) && N (a - 2) (b - 2)
def zz_w (rr : Nat → Int32) (s b : Nat) : Int32 := if 2 ≤ b ∧ b < 19 then rr (17 * s + (b - 2)) else 0
theorem zz_w_bt (h : zz_RX rr M) {s : Nat} (hs : s < 12) (b : Nat) {i : Nat} (hi : i < 32) : bt (zz_w rr s b) i = zz_G (M s) (i + 2) b := by
  unfold zz_w zz_G
  by_cases c : 2 ≤ b ∧ b < 19
  · rw [if_pos c, h s hs (b - 2) (by omega) i hi]
    by_cases d : i < 17
    · rw [decide_eq_true d, decide_eq_true (by omega : 2 ≤ i + 2 ∧ i + 2 ≤ 18 ∧ 2 ≤ b ∧ b ≤ 18)]
      rfl
    · rw [decide_eq_false d, decide_eq_false (by omega : ¬ (2 ≤ i + 2 ∧ i + 2 ≤ 18 ∧ 2 ≤ b ∧ b ≤ 18))]
      rfl
  · rw [if_neg c, b_0, decide_eq_false (by omega : ¬ (2 ≤ i + 2 ∧ i + 2 ≤ 18 ∧ 2 ≤ b ∧ b ≤ 18))]
    rfl
theorem zz_w_in (rr : Nat → Int32) (s j : Nat) (hj : j < 17) : zz_w rr s (j + 2) = rr (17 * s + j) := by
  unfold zz_w
  rw [if_pos (by omega)]
  rfl
theorem xx_row {post : Int32 → Prop} {s b : Nat} (hs : s < 12) (hb : b ≤ 30) (h : post (zz_w rr s b)) : wpX_row post (kd, rr, ins, rim, gd, gn) (nI s) (nI b - 2) := by
  unfold wpX_row
  dsimp only
  by_cases c : b < 2
  · have e : zz_w rr s b = 0 := if_neg (by omega)
    rw [e] at h
    exact br_t (pk_sneg (b := 2) (by decide) c) h
  · have e : nI b - 2 = nI (b - 2) := pk_sub (b := 2) (by omega)
    rw [e, zz_cx s (b - 2) (by omega)]
    refine br_f (nI_pos (by omega)) (pk_lt (b - 2) 17 (fun g => And.intro (pk_in (17 * s + (b - 2)) 204 (by omega) (zz_ix s (b - 2))) ?_) (fun g => ?_))
    · have e2 : zz_w rr s b = rr (17 * s + (b - 2)) := if_pos (by omega)
      rw [← e2]
      exact h
    · have e2 : zz_w rr s b = 0 := if_neg (by omega)
      rw [← e2]
      exact h
theorem xx_row0 {post : Int32 → Prop} {s j : Nat} (hs : s < 12) (hj : j < 17) (h : post (zz_w rr s (j + 2))) : wpX_row post (kd, rr, ins, rim, gd, gn) (nI s) (nI j) := by
  rw [zz_p0 j]
  exact xx_row hs (by omega) h
theorem xx_rowp {post : Int32 → Prop} {s j : Nat} (hs : s < 12) (hj : j < 17) (h : post (zz_w rr s (j + 3))) : wpX_row post (kd, rr, ins, rim, gd, gn) (nI s) (nI j + 1) := by
  rw [zz_p1 j]
  exact xx_row hs (by omega) h
theorem xx_rowm {post : Int32 → Prop} {s j : Nat} (hs : s < 12) (hj : j < 17) (h : post (zz_w rr s (j + 1))) : wpX_row post (kd, rr, ins, rim, gd, gn) (nI s) (nI j - 1) := by
  rw [zz_m1 j]
  exact xx_row hs (by omega) h
theorem xx_rowp2 {post : Int32 → Prop} {s j : Nat} (hs : s < 12) (hj : j < 17) (h : post (zz_w rr s (j + 4))) : wpX_row post (kd, rr, ins, rim, gd, gn) (nI s) (nI j + 2) := by
  rw [zz_p2 j]
  exact xx_row hs (by omega) h
theorem xx_count_l {post : Int32 → Prop} {s : Nat} (hs : s < 12) (hR : zz_RX rr M) (h : post (nI (zz_sm (fun j => zz_cn (bt (rr (17 * s + j))) 17) 17))) : ∀ d j, j + d = 17 →
    wX_count_4 post (nI s) kd rr ins rim gd gn (d + 1) (nI (zz_sm (fun j => zz_cn (bt (rr (17 * s + j))) 17) j)) (nI j) := by
  intro d
  induction d with
  | zero =>
    intro j hj
    obtain rfl : j = 17 := by omega
    exact pk_le 17 17 (fun _ => h) (fun g => by omega)
  | succ d ih =>
    intro j hj
    refine pk_le 17 j (fun g => by omega) (fun _ => And.intro (pk_in (17 * s + j) 204 (by omega) (zz_ix s j)) ?_)
    rw [zz_cx s j (by omega)]
    refine xx_ones (zz_RX_lo hR hs (by omega)) ?_
    refine nm_r (nI_add _ _) (nm_r (nI_1 j) ?_)
    exact ih (j + 1) (by omega)
theorem xx_count {post : Int32 → Prop} {s : Nat} (hs : s < 12) (hR : zz_RX rr M) (h : post (nI (zz_ct M s))) : wpX_count post (kd, rr, ins, rim, gd, gn) (nI s) := by
  refine Exists.intro 18 ?_
  rw [← zz_ct_x hR hs] at h
  exact xx_count_l hs hR h 17 0 rfl
theorem xx_empty_l {post : SX → Prop} {s : Nat} (hs : s < 12) (hc : ∀ rr', zz_RX rr' (zz_put s (fun _ _ => false) M) → post (kd, rr', ins, rim, gd, gn)) : ∀ d j rr, j + d = 17 → zz_RX rr (zz_mr s j (fun _ _ => false) M) →
    wX_empty_9 post (nI s) (d + 1) (nI j) kd rr ins rim gd gn := by
  intro d
  induction d with
  | zero =>
    intro j rr hj hR
    obtain rfl : j = 17 := by omega
    exact pk_le 17 17 (fun _ => hc rr (zz_mr_e hR (fun b h1 h2 => by omega))) (fun g => by omega)
  | succ d ih =>
    intro j rr hj hR
    refine pk_le 17 j (fun g => by omega) (fun _ => And.intro (pk_in (17 * s + j) 204 (by omega) (zz_ix s j)) ?_)
    rw [zz_cx s j (by omega)]
    refine nm_e (nm_r (nI_1 j) ?_)
    refine ih (j + 1) _ (by omega) (zz_mr_1 hR (by omega) (fun i hi => ?_))
    rw [b_0, Bool.and_false]
theorem xx_empty {post : SX → Prop} {s : Nat} (hs : s < 12) (hR : zz_RX rr M) (hc : ∀ rr', zz_RX rr' (zz_put s (fun _ _ => false) M) → post (upd kd s 0, rr', ins, rim, gd, gn)) : wpX_empty post (kd, rr, ins, rim, gd, gn) (nI s) := by
  unfold wpX_empty
  dsimp only
  rw [nI_clamp (by omega : s < 2 ^ 31)]
  refine And.intro (pk_in s 12 hs) (nm_e (Exists.intro 18 ?_))
  exact xx_empty_l hs hc 17 0 rr rfl (zz_mr_0 hR (fun b hb => by omega))
theorem xx_settle {post : Int32 → SX → Prop} {s : Nat} (hs : s < 12) (hR : zz_RX rr M) (h0 : zz_ct M s = 0 → post 0 (upd kd s 0, rr, ins, rim, gd, gn)) (h1 : zz_ct M s ≠ 0 → post (nI (zz_ct M s)) (kd, rr, ins, rim, gd, gn)) :
    wpX_settle post (kd, rr, ins, rim, gd, gn) (nI s) := by
  unfold wpX_settle
  dsimp only
  refine xx_count hs hR ?_
  rw [nI_clamp (by omega : s < 2 ^ 31)]
  by_cases e : zz_ct M s = 0
  · rw [e]
    exact br_t rfl (And.intro (pk_in s 12 hs) (nm_e (h0 e)))
  · have := zz_ct_le M s
    exact br_f (nI_ne0 (by omega) (by omega)) (h1 e)
theorem xx_takes1 {post : Int32 → Prop} {s : Nat} {k : Int32} (hs : s < 12) (hk : kd s = 0 ∨ kd s = k) (h : post 1) : wpX_takes post (kd, rr, ins, rim, gd, gn) (nI s) k := by
  unfold wpX_takes
  dsimp only
  rw [nI_clamp (by omega : s < 2 ^ 31)]
  refine And.intro (pk_in s 12 hs) (br_c (fun _ => h) (fun g => And.intro (pk_in s 12 hs) (br_t ?_ h)))
  rcases hk with hk | hk
  · exact absurd hk g
  · exact hk
theorem xx_takes0 {post : Int32 → Prop} {s : Nat} {k : Int32} (hs : s < 12) (hk0 : ¬ kd s = 0) (hk : ¬ kd s = k) (h : post 0) : wpX_takes post (kd, rr, ins, rim, gd, gn) (nI s) k := by
  unfold wpX_takes
  dsimp only
  rw [nI_clamp (by omega : s < 2 ^ 31)]
  exact And.intro (pk_in s 12 hs) (br_f hk0 (And.intro (pk_in s 12 hs) (br_f hk h)))
theorem xx_les {post : Int32 → Prop} {a b : Nat} (ha : a < 2 ^ 31) (hb : b < 2 ^ 31) (h : post (nI (min a b))) : wpX_lesser post (nI a) (nI b) :=
  pk_le b a (fun g => by rw [Nat.min_eq_right g] at h; exact h) (fun g => by rw [Nat.min_eq_left (by omega)] at h; exact h)
theorem xx_gre {post : Int32 → Prop} {a b : Nat} (ha : a < 2 ^ 31) (hb : b < 2 ^ 31) (h : post (nI (max a b))) : wpX_greater post (nI a) (nI b) :=
  pk_le a b (fun g => by rw [Nat.max_eq_right g] at h; exact h) (fun g => by rw [Nat.max_eq_left (by omega)] at h; exact h)
theorem xx_span {post : Int32 → Prop} {l r : Nat} (hl : l < 9) (hr : r < 9) (hlr : l ≤ r) (h : ∀ w, (∀ i, i < 32 → bt w i = decide (2 * l ≤ i ∧ i ≤ 2 * r)) → post w) : wpX_span post (2 * nI l) (2 * nI r) := by
  rw [zz_t2, zz_t2]
  exact pk_le (2 * l) (2 * r) (fun _ => h _ (zz_span l hl r hr hlr)) (fun g => by omega)
theorem xx_flat1 {post : Int32 → Prop} {f t : Nat} (hf : f < 81) (ht : t < 81) (c : f / 9 = t / 9 ∨ f % 9 = t % 9) (h : post 1) : wpX_flat post (nI f) (nI t) := by
  unfold wpX_flat
  rw [zz_r9 (by omega : f < 2 ^ 31), zz_r9 (by omega : t < 2 ^ 31), zz_d9 (by omega : f < 2 ^ 31), zz_d9 (by omega : t < 2 ^ 31)]
  exact ⟨zz_n9, zz_n9, pk_eq (f / 9) (t / 9) (fun _ => h) (fun g => ⟨zz_n9, zz_n9, pk_eq (f % 9) (t % 9) (fun _ => h) (fun g2 => by omega)⟩)⟩
theorem xx_flat0 {post : Int32 → Prop} {f t : Nat} (hf : f < 81) (ht : t < 81) (c : ¬ (f / 9 = t / 9 ∨ f % 9 = t % 9)) (h : post 0) : wpX_flat post (nI f) (nI t) := by
  unfold wpX_flat
  rw [zz_r9 (by omega : f < 2 ^ 31), zz_r9 (by omega : t < 2 ^ 31), zz_d9 (by omega : f < 2 ^ 31), zz_d9 (by omega : t < 2 ^ 31)]
  exact ⟨zz_n9, zz_n9, pk_eq (f / 9) (t / 9) (fun g => by omega) (fun g => ⟨zz_n9, zz_n9, pk_eq (f % 9) (t % 9) (fun g2 => by omega) (fun g2 => h)⟩)⟩
theorem xx_cols {post : Int32 → Prop} {f t : Nat} (hf : f < 81) (ht : t < 81) (h : ∀ w, (∀ i, i < 32 → bt w i = decide (2 * min (f / 9) (t / 9) ≤ i ∧ i ≤ 2 * max (f / 9) (t / 9) ∧ i % 2 = 1)) → post w) : wpX_columns post (nI f) (nI t) := by
  unfold wpX_columns
  rw [zz_d9 (by omega : f < 2 ^ 31), zz_d9 (by omega : t < 2 ^ 31)]
  refine ⟨zz_n9, zz_n9, xx_les (by omega) (by omega) ⟨zz_n9, zz_n9, xx_gre (by omega) (by omega) (xx_span (by omega) (by omega) (by omega) (fun w hw => h _ (fun i hi => ?_)))⟩⟩
  rw [b_and, hw i hi, zz_odd i hi, ← Bool.decide_and]
  exact decide_eq_decide.mpr (by omega)
def zz_ar (k : Int32) : Int32 := if k = 0 then -2 else if k = 3 then 0 else -3
theorem xx_areaB {post : Int32 → Prop} {x : Int32} (hb : zz_bad 12 x) (h : post (-1)) : wpX_areaRefusal post (kd, rr, ins, rim, gd, gn) x := by
  unfold wpX_areaRefusal
  dsimp only
  exact xx_slot0 hb (br_t rfl h)
theorem xx_areaS {post : Int32 → Prop} {s : Nat} (hs : s < 12) (h : post (zz_ar (kd s))) : wpX_areaRefusal post (kd, rr, ins, rim, gd, gn) (nI s) := by
  unfold wpX_areaRefusal
  dsimp only
  rw [nI_clamp (by omega : s < 2 ^ 31)]
  unfold zz_ar at h
  refine xx_slot1 hs (br_f (by decide) (And.intro (pk_in s 12 hs) (br_c (fun g => ?_) (fun g => And.intro (pk_in s 12 hs) (br_c (fun g2 => ?_) (fun g2 => ?_))))))
  · rw [if_pos g] at h
    exact h
  · rw [if_neg g, if_pos g2] at h
    exact h
  · rw [if_neg g, if_neg g2] at h
    exact h
def zz_pr (k l : Int32) : Int32 := if k = 0 then -2 else if l = 0 then -2 else 0
theorem xx_pairB {post : Int32 → Prop} {x y : Int32} (hb : zz_bad 12 x) (h : post (-1)) : wpX_pairRefusal post (kd, rr, ins, rim, gd, gn) x y := by
  unfold wpX_pairRefusal
  dsimp only
  exact xx_slot0 hb (br_t rfl h)
theorem xx_pairC {post : Int32 → Prop} {s : Nat} {y : Int32} (hs : s < 12) (hb : zz_bad 12 y) (h : post (-1)) : wpX_pairRefusal post (kd, rr, ins, rim, gd, gn) (nI s) y := by
  unfold wpX_pairRefusal
  dsimp only
  exact xx_slot1 hs (br_f (by decide) (xx_slot0 hb (br_t rfl h)))
theorem xx_pairS {post : Int32 → Prop} {s t : Nat} (hs : s < 12) (ht : t < 12) (h : post (zz_pr (kd s) (kd t))) : wpX_pairRefusal post (kd, rr, ins, rim, gd, gn) (nI s) (nI t) := by
  unfold wpX_pairRefusal
  dsimp only
  rw [nI_clamp (by omega : s < 2 ^ 31), nI_clamp (by omega : t < 2 ^ 31)]
  unfold zz_pr at h
  refine xx_slot1 hs (br_f (by decide) (xx_slot1 ht (br_f (by decide) (And.intro (pk_in s 12 hs) (br_c (fun g => ?_) (fun g => And.intro (pk_in t 12 ht) (br_c (fun g2 => ?_) (fun g2 => ?_))))))))
  · rw [if_pos g] at h
    exact h
  · rw [if_neg g, if_pos g2] at h
    exact h
  · rw [if_neg g, if_neg g2] at h
    exact h
end
end
section
/-! Y: small methods -/
def zz_bes (N : Nat → Nat → Bool) (i j : Nat) : Nat := (zz_G N (i + 1) (j + 2)).toNat + (zz_G N (i + 3) (j + 2)).toNat + (zz_G N (i + 2) (j + 1)).toNat + (zz_G N (i + 2) (j + 3)).toNat
def zz_cor (N : Nat → Nat → Bool) (i j : Nat) : Nat := (zz_G N (i + 1) (j + 1)).toNat + (zz_G N (i + 3) (j + 1)).toNat + (zz_G N (i + 1) (j + 3)).toNat + (zz_G N (i + 3) (j + 3)).toNat
def zz_pt (k : Int32) (N : Nat → Nat → Bool) (i j : Nat) : Nat :=
  if zz_G N (i + 2) (j + 2) = true then 0
  else if k = 2 then (if i % 2 = 0 ∧ j % 2 = 0 then (if zz_bes N i j = 0 then 2 else zz_bes N i j % 2) else 2)
  else if k = 1 then 2
  else if i % 2 = 1 ∧ j % 2 = 1 then 2
  else if i % 2 = 0 ∧ j % 2 = 0 then (if zz_cor N i j = 4 then 0 else if zz_cor N i j = 0 then 2 else 1)
  else (if zz_bes N i j = 2 then 0 else if zz_bes N i j = 1 then 1 else 2)
def zz_rec (f t i j : Nat) : Bool := decide (2 * min (f / 9) (t / 9) ≤ i ∧ i ≤ 2 * max (f / 9) (t / 9) ∧ 2 * min (f % 9) (t % 9) ≤ j ∧ j ≤ 2 * max (f % 9) (t % 9))
section
variable {kd mb hd f1 f2 pc qu : Nat → Int32} {M : Nat → Nat → Nat → Bool}
theorem yy_slot1 {post : Int32 → Prop} {s : Nat} (hs : s < 12) (h : post 1) : wpY_isSlot post (kd, mb, hd, f1, f2, pc, qu) (nI s) := br_f (nI_pos (by omega)) (br_f (nI_nlt (a := 11) (by omega) (by decide)) h)
theorem yy_slot0 {post : Int32 → Prop} {x : Int32} (hb : zz_bad 12 x) (h : post 0) : wpY_isSlot post (kd, mb, hd, f1, f2, pc, qu) x := by
  rcases hb with hb | ⟨h1, h2⟩
  · exact br_t hb h
  · exact br_f h1 (br_t (zz_pred_lt (n := 11) (by decide) h2) h)
theorem yy_vert1 {post : Int32 → Prop} {s : Nat} (hs : s < 81) (h : post 1) : wpY_isVertex post (kd, mb, hd, f1, f2, pc, qu) (nI s) := br_f (nI_pos (by omega)) (br_f (nI_nlt (a := 80) (by omega) (by decide)) h)
theorem yy_vert0 {post : Int32 → Prop} {x : Int32} (hb : zz_bad 81 x) (h : post 0) : wpY_isVertex post (kd, mb, hd, f1, f2, pc, qu) x := by
  rcases hb with hb | ⟨h1, h2⟩
  · exact br_t hb h
  · exact br_f h1 (br_t (zz_pred_lt (n := 80) (by decide) h2) h)
theorem yy_count_l {post : Int32 → Prop} {s : Nat} (hs : s < 12) (hY : zz_RY mb M) (h : post (nI (zz_ct M s))) : ∀ d c, c + d = 289 →
    wY_count_4 post (nI s) kd mb hd f1 f2 pc qu (d + 1) (nI (zz_cn (fun c => M s (c / 17) (c % 17)) c)) (nI c) := by
  intro d
  induction d with
  | zero =>
    intro c hc
    obtain rfl : c = 289 := by omega
    exact pk_le 289 289 (fun _ => h) (fun g => by omega)
  | succ d ih =>
    intro c hc
    have ih' := ih (c + 1) (by omega)
    rw [zz_cn_s] at ih'
    refine pk_le 289 c (fun g => by omega) (fun _ => And.intro (pk_in (289 * s + c) 3468 (by omega) (zz_iy s c)) ?_)
    rw [zz_cy s c (by omega), hY s hs c (by omega)]
    cases hb : M s (c / 17) (c % 17) with
    | false =>
      simp only [hb, Bool.toNat_false, Nat.add_zero] at ih'
      exact br_t rfl (nm_r (nI_1 c) ih')
    | true =>
      simp only [hb, Bool.toNat_true] at ih'
      exact br_f (by decide) (nm_r (nI_1 _) (nm_r (nI_1 c) ih'))
theorem yy_count {post : Int32 → Prop} {s : Nat} (hs : s < 12) (hY : zz_RY mb M) (h : post (nI (zz_ct M s))) : wpY_count post (kd, mb, hd, f1, f2, pc, qu) (nI s) := by
  refine Exists.intro 290 ?_
  exact yy_count_l hs hY h 289 0 rfl
theorem yy_empty_l {post : SY → Prop} {s : Nat} (hs : s < 12) (hc : ∀ mb', zz_RY mb' (zz_put s (fun _ _ => false) M) → post (kd, mb', hd, f1, f2, pc, qu)) : ∀ d c mb, c + d = 289 → zz_RY mb (zz_mc s c (fun _ _ => false) M) →
    wY_empty_9 post (nI s) (d + 1) (nI c) kd mb hd f1 f2 pc qu := by
  intro d
  induction d with
  | zero =>
    intro c mb hc' hR
    obtain rfl : c = 289 := by omega
    exact pk_le 289 289 (fun _ => hc mb (zz_mc_e hR)) (fun g => by omega)
  | succ d ih =>
    intro c mb hc' hR
    refine pk_le 289 c (fun g => by omega) (fun _ => And.intro (pk_in (289 * s + c) 3468 (by omega) (zz_iy s c)) ?_)
    rw [zz_cy s c (by omega)]
    exact nm_e (nm_r (nI_1 c) (ih (c + 1) _ (by omega) (zz_mc_1 hR (by omega) rfl)))
theorem yy_empty {post : SY → Prop} {s : Nat} (hs : s < 12) (hR : zz_RY mb M) (hc : ∀ mb', zz_RY mb' (zz_put s (fun _ _ => false) M) → post (upd kd s 0, mb', hd, f1, f2, pc, qu)) : wpY_empty post (kd, mb, hd, f1, f2, pc, qu) (nI s) := by
  unfold wpY_empty
  dsimp only
  rw [nI_clamp (by omega : s < 2 ^ 31)]
  refine And.intro (pk_in s 12 hs) (nm_e (Exists.intro 290 ?_))
  exact yy_empty_l hs hc 289 0 mb rfl (zz_mc_0 hR)
theorem yy_settle {post : Int32 → SY → Prop} {s : Nat} (hs : s < 12) (hR : zz_RY mb M) (h0 : zz_ct M s = 0 → post 0 (upd kd s 0, mb, hd, f1, f2, pc, qu)) (h1 : zz_ct M s ≠ 0 → post (nI (zz_ct M s)) (kd, mb, hd, f1, f2, pc, qu)) :
    wpY_settle post (kd, mb, hd, f1, f2, pc, qu) (nI s) := by
  unfold wpY_settle
  dsimp only
  refine yy_count hs hR ?_
  rw [nI_clamp (by omega : s < 2 ^ 31)]
  by_cases e : zz_ct M s = 0
  · rw [e]
    exact br_t rfl (And.intro (pk_in s 12 hs) (nm_e (h0 e)))
  · have := zz_ct_le M s
    exact br_f (nI_ne0 (by omega) (by omega)) (h1 e)
theorem yy_has {post : Int32 → Prop} {s a b : Nat} (hs : s < 12) (hY : zz_RY mb M) (ha : a ≤ 30) (hb : b ≤ 30) (h : post (zz_o (zz_G (M s) a b))) : wpY_has post (kd, mb, hd, f1, f2, pc, qu) (nI s) (nI a - 2) (nI b - 2) := by
  unfold wpY_has
  dsimp only
  by_cases ci : 2 ≤ a ∧ a ≤ 18 ∧ 2 ≤ b ∧ b ≤ 18
  · have e : zz_G (M s) a b = M s (a - 2) (b - 2) := by
      unfold zz_G
      rw [decide_eq_true ci, Bool.true_and]
    have e1 : nI a - 2 = nI (a - 2) := pk_sub (b := 2) (by omega)
    have e2 : nI b - 2 = nI (b - 2) := pk_sub (b := 2) (by omega)
    have e3 : 289 * nI s + 17 * nI (a - 2) + nI (b - 2) = nI (289 * s + (17 * (a - 2) + (b - 2))) := by
      rw [zz_t289, zz_t17, nI_add, nI_add, Nat.add_assoc]
    rw [e1, e2, e3, nI_clamp (by omega), hY s hs (17 * (a - 2) + (b - 2)) (by omega)]
    rw [show (17 * (a - 2) + (b - 2)) / 17 = a - 2 by omega, show (17 * (a - 2) + (b - 2)) % 17 = b - 2 by omega]
    rw [e] at h
    refine br_f (nI_pos (by omega)) (br_f (nI_nlt (a := 16) (by omega) (by decide)) (br_f (nI_pos (by omega)) (br_f (nI_nlt (a := 16) (by omega) (by decide)) (And.intro (vp_in_nI (by omega) (by decide)) ?_))))
    cases hm : M s (a - 2) (b - 2) with
    | false => rw [hm] at h; exact br_t rfl h
    | true => rw [hm] at h; exact br_f (by decide) h
  · have e : zz_G (M s) a b = false := by
      unfold zz_G
      rw [decide_eq_false ci, Bool.false_and]
    rw [e] at h
    by_cases c1 : a < 2
    · exact br_t (pk_sneg (b := 2) (by decide) c1) h
    have e1 : nI a - 2 = nI (a - 2) := pk_sub (b := 2) (by omega)
    rw [e1]
    refine br_f (nI_pos (by omega)) (pk_lt 16 (a - 2) (fun _ => h) (fun g => ?_))
    by_cases c2 : b < 2
    · exact br_t (pk_sneg (b := 2) (by decide) c2) h
    have e2 : nI b - 2 = nI (b - 2) := pk_sub (b := 2) (by omega)
    rw [e2]
    exact br_f (nI_pos (by omega)) (pk_lt 16 (b - 2) (fun _ => h) (fun g2 => by omega))
theorem yy_hasE {post : Int32 → Prop} {s : Nat} {x y : Int32} (a b : Nat) (hx : x = nI a - 2) (hy : y = nI b - 2) (hs : s < 12) (hY : zz_RY mb M) (ha : a ≤ 30) (hb : b ≤ 30) (h0 : zz_G (M s) a b = false → post 0) (h1 : zz_G (M s) a b = true → post 1) :
    wpY_has post (kd, mb, hd, f1, f2, pc, qu) (nI s) x y := by
  subst hx hy
  refine yy_has hs hY ha hb ?_
  cases e : zz_G (M s) a b with
  | false => exact h0 e
  | true => exact h1 e
theorem yy_b63 {post : Int32 → Prop} {s i j z : Nat} (hs : s < 12) (hY : zz_RY mb M) (hi : i < 17) (hj : j < 17) (h : post (nI (z + (zz_G (M s) (i + 2) (j + 3)).toNat))) : wY_besides_63 post (nI s) (nI i) (nI j) (nI z) kd mb hd f1 f2 pc qu :=
  yy_hasE (i + 2) (j + 3) (zz_p0 i) (zz_p1 j) hs hY (by omega) (by omega) (fun e => br_t rfl (by rw [e] at h; exact h)) (fun e => br_f (by decide) (by rw [e] at h; rw [nI_1]; exact h))
theorem yy_b40 {post : Int32 → Prop} {s i j z : Nat} (hs : s < 12) (hY : zz_RY mb M) (hi : i < 17) (hj : j < 17) (h : post (nI (z + (zz_G (M s) (i + 2) (j + 1)).toNat + (zz_G (M s) (i + 2) (j + 3)).toNat))) : wY_besides_40 post (nI s) (nI i) (nI j) (nI z) kd mb hd f1 f2 pc qu :=
  yy_hasE (i + 2) (j + 1) (zz_p0 i) (zz_m1 j) hs hY (by omega) (by omega) (fun e => br_t rfl (yy_b63 hs hY hi hj (by rw [e] at h; exact h))) (fun e => br_f (by decide) (by rw [nI_1]; exact yy_b63 hs hY hi hj (by rw [e] at h; exact h)))
theorem yy_b17 {post : Int32 → Prop} {s i j z : Nat} (hs : s < 12) (hY : zz_RY mb M) (hi : i < 17) (hj : j < 17) (h : post (nI (z + (zz_G (M s) (i + 3) (j + 2)).toNat + (zz_G (M s) (i + 2) (j + 1)).toNat + (zz_G (M s) (i + 2) (j + 3)).toNat))) : wY_besides_17 post (nI s) (nI i) (nI j) (nI z) kd mb hd f1 f2 pc qu :=
  yy_hasE (i + 3) (j + 2) (zz_p1 i) (zz_p0 j) hs hY (by omega) (by omega) (fun e => br_t rfl (yy_b40 hs hY hi hj (by rw [e] at h; exact h))) (fun e => br_f (by decide) (by rw [nI_1]; exact yy_b40 hs hY hi hj (by rw [e] at h; exact h)))
theorem yy_bes {post : Int32 → Prop} {s i j : Nat} (hs : s < 12) (hY : zz_RY mb M) (hi : i < 17) (hj : j < 17) (h : post (nI (zz_bes (M s) i j))) : wpY_besides post (kd, mb, hd, f1, f2, pc, qu) (nI s) (nI i) (nI j) := by
  unfold wpY_besides
  dsimp only
  unfold zz_bes at h
  exact yy_hasE (i + 1) (j + 2) (zz_m1 i) (zz_p0 j) hs hY (by omega) (by omega) (fun e => br_t rfl (yy_b17 (z := 0) hs hY hi hj (by rw [e] at h; exact h))) (fun e => br_f (by decide) (yy_b17 (z := 1) hs hY hi hj (by rw [e] at h; exact h)))
theorem yy_c69 {post : Int32 → Prop} {s i j z : Nat} (hs : s < 12) (hY : zz_RY mb M) (hi : i < 17) (hj : j < 17) (h : post (nI (z + (zz_G (M s) (i + 3) (j + 3)).toNat))) : wY_corners_69 post (nI s) (nI i) (nI j) (nI z) kd mb hd f1 f2 pc qu :=
  yy_hasE (i + 3) (j + 3) (zz_p1 i) (zz_p1 j) hs hY (by omega) (by omega) (fun e => br_t rfl (by rw [e] at h; exact h)) (fun e => br_f (by decide) (by rw [e] at h; rw [nI_1]; exact h))
theorem yy_c44 {post : Int32 → Prop} {s i j z : Nat} (hs : s < 12) (hY : zz_RY mb M) (hi : i < 17) (hj : j < 17) (h : post (nI (z + (zz_G (M s) (i + 1) (j + 3)).toNat + (zz_G (M s) (i + 3) (j + 3)).toNat))) : wY_corners_44 post (nI s) (nI i) (nI j) (nI z) kd mb hd f1 f2 pc qu :=
  yy_hasE (i + 1) (j + 3) (zz_m1 i) (zz_p1 j) hs hY (by omega) (by omega) (fun e => br_t rfl (yy_c69 hs hY hi hj (by rw [e] at h; exact h))) (fun e => br_f (by decide) (by rw [nI_1]; exact yy_c69 hs hY hi hj (by rw [e] at h; exact h)))
theorem yy_c19 {post : Int32 → Prop} {s i j z : Nat} (hs : s < 12) (hY : zz_RY mb M) (hi : i < 17) (hj : j < 17) (h : post (nI (z + (zz_G (M s) (i + 3) (j + 1)).toNat + (zz_G (M s) (i + 1) (j + 3)).toNat + (zz_G (M s) (i + 3) (j + 3)).toNat))) : wY_corners_19 post (nI s) (nI i) (nI j) (nI z) kd mb hd f1 f2 pc qu :=
  yy_hasE (i + 3) (j + 1) (zz_p1 i) (zz_m1 j) hs hY (by omega) (by omega) (fun e => br_t rfl (yy_c44 hs hY hi hj (by rw [e] at h; exact h))) (fun e => br_f (by decide) (by rw [nI_1]; exact yy_c44 hs hY hi hj (by rw [e] at h; exact h)))
theorem yy_cor {post : Int32 → Prop} {s i j : Nat} (hs : s < 12) (hY : zz_RY mb M) (hi : i < 17) (hj : j < 17) (h : post (nI (zz_cor (M s) i j))) : wpY_corners post (kd, mb, hd, f1, f2, pc, qu) (nI s) (nI i) (nI j) := by
  unfold wpY_corners
  dsimp only
  unfold zz_cor at h
  exact yy_hasE (i + 1) (j + 1) (zz_m1 i) (zz_m1 j) hs hY (by omega) (by omega) (fun e => br_t rfl (yy_c19 (z := 0) hs hY hi hj (by rw [e] at h; exact h))) (fun e => br_f (by decide) (yy_c19 (z := 1) hs hY hi hj (by rw [e] at h; exact h)))
theorem zz_bes_le (N : Nat → Nat → Bool) (i j : Nat) : zz_bes N i j ≤ 4 := by
  unfold zz_bes
  have := Bool.toNat_le (zz_G N (i + 1) (j + 2))
  have := Bool.toNat_le (zz_G N (i + 3) (j + 2))
  have := Bool.toNat_le (zz_G N (i + 2) (j + 1))
  have := Bool.toNat_le (zz_G N (i + 2) (j + 3))
  omega
theorem zz_cor_le (N : Nat → Nat → Bool) (i j : Nat) : zz_cor N i j ≤ 4 := by
  unfold zz_cor
  have := Bool.toNat_le (zz_G N (i + 1) (j + 1))
  have := Bool.toNat_le (zz_G N (i + 3) (j + 1))
  have := Bool.toNat_le (zz_G N (i + 1) (j + 3))
  have := Bool.toNat_le (zz_G N (i + 3) (j + 3))
  omega
theorem yy_p95v {post : Int32 → Prop} {s i j : Nat} {x4 : Int32} (hs : s < 12) (hY : zz_RY mb M) (hi : i < 17) (hj : j < 17)
    (h : post (nI (if zz_cor (M s) i j = 4 then 0 else if zz_cor (M s) i j = 0 then 2 else 1))) : wY_partOf_95 post (nI s) (nI i) (nI j) x4 1 kd mb hd f1 f2 pc qu := by
  unfold wY_partOf_95
  have hc := zz_cor_le (M s) i j
  refine br_f (by decide) (yy_cor hs hY hi hj (pk_eq (zz_cor (M s) i j) 4 (fun e => ?_) (fun e => pk_eq (zz_cor (M s) i j) 0 (fun e2 => ?_) (fun e2 => ?_))))
  · rw [if_pos e] at h
    exact h
  · rw [if_neg e, if_pos e2] at h
    exact h
  · rw [if_neg e, if_neg e2] at h
    exact h
theorem yy_p95e {post : Int32 → Prop} {s i j n : Nat} (hn : n ≤ 4)
    (h : post (nI (if n = 2 then 0 else if n = 1 then 1 else 2))) : wY_partOf_95 post (nI s) (nI i) (nI j) (nI n) 0 kd mb hd f1 f2 pc qu := by
  unfold wY_partOf_95
  refine br_t rfl (pk_eq n 2 (fun e => ?_) (fun e => pk_eq n 1 (fun e2 => ?_) (fun e2 => ?_)))
  · rw [if_pos e] at h
    exact h
  · rw [if_neg e, if_pos e2] at h
    exact h
  · rw [if_neg e, if_neg e2] at h
    exact h
theorem yy_p38v {post : Int32 → Prop} {s i j n : Nat} (hs : s < 12) (hY : zz_RY mb M) (hi : i < 17) (hj : j < 17) (hn : n ≤ 4) (hi2 : i % 2 = 0) (hj2 : j % 2 = 0)
    (h : post (nI (if kd s = 2 then (if n = 0 then 2 else n % 2) else if kd s = 1 then 2 else (if zz_cor (M s) i j = 4 then 0 else if zz_cor (M s) i j = 0 then 2 else 1)))) :
    wY_partOf_38 post (nI s) (nI i) (nI j) (nI n) 1 kd mb hd f1 f2 pc qu := by
  unfold wY_partOf_38
  rw [nI_clamp (by omega : s < 2 ^ 31), zz_r2 (by omega : i < 2 ^ 31), zz_r2 (by omega : j < 2 ^ 31), zz_r2 (by omega : n < 2 ^ 31)]
  refine And.intro (pk_in s 12 hs) (br_c (fun g => br_f (by decide) (pk_eq n 0 (fun e => ?_) (fun e => And.intro zz_n2 ?_))) (fun g => And.intro (pk_in s 12 hs) (br_c (fun g2 => ?_) (fun g2 => And.intro zz_n2 (pk_eq (i % 2) 1 (fun e => by omega) (fun e => ?_))))))
  · rw [if_pos g, if_pos e] at h
    exact h
  · rw [if_pos g, if_neg e] at h
    exact h
  · rw [if_neg g, if_pos g2] at h
    exact h
  · rw [if_neg g, if_neg g2] at h
    exact yy_p95v hs hY hi hj h
theorem yy_p38e {post : Int32 → Prop} {s i j n : Nat} (hs : s < 12) (hi : i < 17) (hj : j < 17) (hn : n ≤ 4)
    (h : post (nI (if kd s = 2 then 2 else if kd s = 1 then 2 else if i % 2 = 1 ∧ j % 2 = 1 then 2 else (if n = 2 then 0 else if n = 1 then 1 else 2)))) :
    wY_partOf_38 post (nI s) (nI i) (nI j) (nI n) 0 kd mb hd f1 f2 pc qu := by
  unfold wY_partOf_38
  rw [nI_clamp (by omega : s < 2 ^ 31), zz_r2 (by omega : i < 2 ^ 31), zz_r2 (by omega : j < 2 ^ 31)]
  refine And.intro (pk_in s 12 hs) (br_c (fun g => br_t rfl ?_) (fun g => And.intro (pk_in s 12 hs) (br_c (fun g2 => ?_) (fun g2 => And.intro zz_n2 (pk_eq (i % 2) 1 (fun e => And.intro zz_n2 (pk_eq (j % 2) 1 (fun e2 => ?_) (fun e2 => ?_))) (fun e => ?_))))))
  · rw [if_pos g] at h
    exact h
  · rw [if_neg g, if_pos g2] at h
    exact h
  · rw [if_neg g, if_neg g2, if_pos ⟨e, e2⟩] at h
    exact h
  · rw [if_neg g, if_neg g2, if_neg (fun z => e2 z.2)] at h
    exact yy_p95e hn h
  · rw [if_neg g, if_neg g2, if_neg (fun z => e z.1)] at h
    exact yy_p95e hn h
theorem yy_part {post : Int32 → Prop} {s i j : Nat} (hs : s < 12) (hY : zz_RY mb M) (hi : i < 17) (hj : j < 17) (h : post (nI (zz_pt (kd s) (M s) i j))) : wpY_partOf post (kd, mb, hd, f1, f2, pc, qu) (nI s) (nI i) (nI j) := by
  unfold wpY_partOf
  dsimp only
  rw [zz_r2 (by omega : i < 2 ^ 31), zz_r2 (by omega : j < 2 ^ 31)]
  unfold zz_pt at h
  refine yy_hasE (i + 2) (j + 2) (zz_p0 i) (zz_p0 j) hs hY (by omega) (by omega) (fun e => br_t rfl ?_) (fun e => br_f (by decide) ?_)
  · rw [e, if_neg (by decide)] at h
    have hn := zz_bes_le (M s) i j
    refine yy_bes hs hY hi hj (And.intro zz_n2 (pk_eq (i % 2) 0 (fun e1 => And.intro zz_n2 (pk_eq (j % 2) 0 (fun e2 => ?_) (fun e2 => ?_))) (fun e1 => ?_)))
    · refine yy_p38v hs hY hi hj hn e1 e2 ?_
      rw [if_pos (⟨e1, e2⟩ : i % 2 = 0 ∧ j % 2 = 0), if_neg (by omega : ¬ (i % 2 = 1 ∧ j % 2 = 1)), if_pos (⟨e1, e2⟩ : i % 2 = 0 ∧ j % 2 = 0)] at h
      exact h
    · refine yy_p38e hs hi hj hn ?_
      rw [if_neg (fun z => e2 z.2 : ¬ (i % 2 = 0 ∧ j % 2 = 0)), if_neg (fun z => e2 z.2 : ¬ (i % 2 = 0 ∧ j % 2 = 0))] at h
      exact h
    · refine yy_p38e hs hi hj hn ?_
      rw [if_neg (fun z => e1 z.1 : ¬ (i % 2 = 0 ∧ j % 2 = 0)), if_neg (fun z => e1 z.1 : ¬ (i % 2 = 0 ∧ j % 2 = 0))] at h
      exact h
  · rw [e, if_pos rfl] at h
    exact h
theorem yy_least {post : Int32 → Prop} {a b : Nat} (ha : a < 2 ^ 31) (hb : b < 2 ^ 31) (h : post (nI (min a b))) : wpY_least post (kd, mb, hd, f1, f2, pc, qu) (nI a) (nI b) :=
  pk_le b a (fun g => by rw [Nat.min_eq_right g] at h; exact h) (fun g => by rw [Nat.min_eq_left (by omega)] at h; exact h)
theorem yy_most {post : Int32 → Prop} {a b : Nat} (ha : a < 2 ^ 31) (hb : b < 2 ^ 31) (h : post (nI (max a b))) : wpY_most post (kd, mb, hd, f1, f2, pc, qu) (nI a) (nI b) :=
  pk_le a b (fun g => by rw [Nat.max_eq_right g] at h; exact h) (fun g => by rw [Nat.max_eq_left (by omega)] at h; exact h)
theorem yy_btw {post : Int32 → Prop} {i j f t : Nat} (hi : i < 100) (hj : j < 100) (hf : f < 81) (ht : t < 81) (h0 : zz_rec f t i j = false → post 0) (h1 : zz_rec f t i j = true → post 1) : wpY_isBetween post (kd, mb, hd, f1, f2, pc, qu) (nI i) (nI j) (nI f) (nI t) := by
  unfold wpY_isBetween
  dsimp only
  rw [zz_r9 (by omega : f < 2 ^ 31), zz_r9 (by omega : t < 2 ^ 31), zz_d9 (by omega : f < 2 ^ 31), zz_d9 (by omega : t < 2 ^ 31)]
  refine ⟨zz_n9, zz_n9, yy_least (by omega) (by omega) (nm_r (zz_t2 _) ⟨zz_n9, zz_n9, yy_most (by omega) (by omega) (nm_r (zz_t2 _) ⟨zz_n9, zz_n9, yy_least (by omega) (by omega) (nm_r (zz_t2 _) ⟨zz_n9, zz_n9, yy_most (by omega) (by omega) (nm_r (zz_t2 _) ?_)⟩)⟩)⟩)⟩
  exact pk_lt i (2 * min (f / 9) (t / 9)) (fun g => h0 (decide_eq_false (by omega))) (fun g => pk_lt (2 * max (f / 9) (t / 9)) i (fun g2 => h0 (decide_eq_false (by omega))) (fun g2 =>
    pk_lt j (2 * min (f % 9) (t % 9)) (fun g3 => h0 (decide_eq_false (by omega))) (fun g3 => pk_lt (2 * max (f % 9) (t % 9)) j (fun g4 => h0 (decide_eq_false (by omega))) (fun g4 => h1 (decide_eq_true (by omega))))))
theorem yy_areaB {post : Int32 → Prop} {x : Int32} (hb : zz_bad 12 x) (h : post (-1)) : wpY_badArea post (kd, mb, hd, f1, f2, pc, qu) x := by
  unfold wpY_badArea
  dsimp only
  exact yy_slot0 hb (br_t rfl h)
theorem yy_areaS {post : Int32 → Prop} {s : Nat} (hs : s < 12) (h : post (zz_ar (kd s))) : wpY_badArea post (kd, mb, hd, f1, f2, pc, qu) (nI s) := by
  unfold wpY_badArea
  dsimp only
  rw [nI_clamp (by omega : s < 2 ^ 31)]
  unfold zz_ar at h
  refine yy_slot1 hs (br_f (by decide) (And.intro (pk_in s 12 hs) (br_c (fun g => ?_) (fun g => And.intro (pk_in s 12 hs) (br_c (fun g2 => ?_) (fun g2 => ?_))))))
  · rw [if_pos g] at h
    exact h
  · rw [if_neg g, if_pos g2] at h
    exact h
  · rw [if_neg g, if_neg g2] at h
    exact h
theorem yy_pairB {post : Int32 → Prop} {x y : Int32} (hb : zz_bad 12 x) (h : post (-1)) : wpY_badPair post (kd, mb, hd, f1, f2, pc, qu) x y := by
  unfold wpY_badPair
  dsimp only
  exact yy_slot0 hb (br_t rfl h)
theorem yy_pairC {post : Int32 → Prop} {s : Nat} {y : Int32} (hs : s < 12) (hb : zz_bad 12 y) (h : post (-1)) : wpY_badPair post (kd, mb, hd, f1, f2, pc, qu) (nI s) y := by
  unfold wpY_badPair
  dsimp only
  exact yy_slot1 hs (br_f (by decide) (yy_slot0 hb (br_t rfl h)))
theorem yy_pairS {post : Int32 → Prop} {s t : Nat} (hs : s < 12) (ht : t < 12) (h : post (zz_pr (kd s) (kd t))) : wpY_badPair post (kd, mb, hd, f1, f2, pc, qu) (nI s) (nI t) := by
  unfold wpY_badPair
  dsimp only
  rw [nI_clamp (by omega : s < 2 ^ 31), nI_clamp (by omega : t < 2 ^ 31)]
  unfold zz_pr at h
  refine yy_slot1 hs (br_f (by decide) (yy_slot1 ht (br_f (by decide) (And.intro (pk_in s 12 hs) (br_c (fun g => ?_) (fun g => And.intro (pk_in t 12 ht) (br_c (fun g2 => ?_) (fun g2 => ?_))))))))
  · rw [if_pos g] at h
    exact h
  · rw [if_neg g, if_pos g2] at h
    exact h
  · rw [if_neg g, if_neg g2] at h
    exact h
end
/-! refusals, for both sides at once -/
theorem zz_area (kd : Nat → Int32) (x : Int32) : (∃ s, s < 12 ∧ x = nI s ∧ kd s = 3) ∨ (∃ r : Int32, ¬ r = 0 ∧ ¬ 0 ≤ r ∧
    (∀ (rr ins rim gd gn : Nat → Int32) (post : Int32 → Prop), post r → wpX_areaRefusal post (kd, rr, ins, rim, gd, gn) x) ∧ (∀ (mb hd f1 f2 pc qu : Nat → Int32) (post : Int32 → Prop), post r → wpY_badArea post (kd, mb, hd, f1, f2, pc, qu) x)) := by
  rcases zz_num 12 (by decide) x with ⟨s, hs, rfl⟩ | hb
  · by_cases hk : kd s = 3
    · exact Or.inl ⟨s, hs, rfl, hk⟩
    · refine Or.inr ⟨zz_ar (kd s), ?_, ?_, fun _ _ _ _ _ _ h => xx_areaS hs h, fun _ _ _ _ _ _ _ h => yy_areaS hs h⟩
      · unfold zz_ar
        rw [if_neg hk]
        split <;> decide
      · unfold zz_ar
        rw [if_neg hk]
        split <;> decide
  · exact Or.inr ⟨-1, by decide, by decide, fun _ _ _ _ _ _ h => xx_areaB hb h, fun _ _ _ _ _ _ _ h => yy_areaB hb h⟩
theorem zz_area0 {kd : Nat → Int32} {s : Nat} (hk : kd s = 3) : zz_ar (kd s) = 0 := by rw [hk]; rfl
theorem xx_area3 {kd rr ins rim gd gn : Nat → Int32} {post : Int32 → Prop} {s : Nat} (hs : s < 12) (hk : kd s = 3) (h : post 0) : wpX_areaRefusal post (kd, rr, ins, rim, gd, gn) (nI s) := xx_areaS hs (by rw [zz_area0 hk]; exact h)
theorem yy_area3 {kd mb hd f1 f2 pc qu : Nat → Int32} {post : Int32 → Prop} {s : Nat} (hs : s < 12) (hk : kd s = 3) (h : post 0) : wpY_badArea post (kd, mb, hd, f1, f2, pc, qu) (nI s) := yy_areaS hs (by rw [zz_area0 hk]; exact h)
theorem zz_pair (kd : Nat → Int32) (x y : Int32) : (∃ s t, s < 12 ∧ t < 12 ∧ x = nI s ∧ y = nI t ∧ ¬ kd s = 0 ∧ ¬ kd t = 0) ∨ (∃ r : Int32, ¬ r = 0 ∧ ¬ 0 ≤ r ∧
    (∀ (rr ins rim gd gn : Nat → Int32) (post : Int32 → Prop), post r → wpX_pairRefusal post (kd, rr, ins, rim, gd, gn) x y) ∧ (∀ (mb hd f1 f2 pc qu : Nat → Int32) (post : Int32 → Prop), post r → wpY_badPair post (kd, mb, hd, f1, f2, pc, qu) x y)) := by
  rcases zz_num 12 (by decide) x with ⟨s, hs, rfl⟩ | hb
  · rcases zz_num 12 (by decide) y with ⟨t, ht, rfl⟩ | hb
    · by_cases hk : kd s = 0
      · exact Or.inr ⟨zz_pr (kd s) (kd t), by unfold zz_pr; rw [if_pos hk]; decide, by unfold zz_pr; rw [if_pos hk]; decide, fun _ _ _ _ _ _ h => xx_pairS hs ht h, fun _ _ _ _ _ _ _ h => yy_pairS hs ht h⟩
      · by_cases hl : kd t = 0
        · exact Or.inr ⟨zz_pr (kd s) (kd t), by unfold zz_pr; rw [if_neg hk, if_pos hl]; decide, by unfold zz_pr; rw [if_neg hk, if_pos hl]; decide, fun _ _ _ _ _ _ h => xx_pairS hs ht h, fun _ _ _ _ _ _ _ h => yy_pairS hs ht h⟩
        · exact Or.inl ⟨s, t, hs, ht, rfl, rfl, hk, hl⟩
    · exact Or.inr ⟨-1, by decide, by decide, fun _ _ _ _ _ _ h => xx_pairC hs hb h, fun _ _ _ _ _ _ _ h => yy_pairC hs hb h⟩
  · exact Or.inr ⟨-1, by decide, by decide, fun _ _ _ _ _ _ h => xx_pairB hb h, fun _ _ _ _ _ _ _ h => yy_pairB hb h⟩
theorem xx_pair0 {kd rr ins rim gd gn : Nat → Int32} {post : Int32 → Prop} {s t : Nat} (hs : s < 12) (ht : t < 12) (hk : ¬ kd s = 0) (hl : ¬ kd t = 0) (h : post 0) : wpX_pairRefusal post (kd, rr, ins, rim, gd, gn) (nI s) (nI t) := xx_pairS hs ht (by unfold zz_pr; rw [if_neg hk, if_neg hl]; exact h)
theorem yy_pair0 {kd mb hd f1 f2 pc qu : Nat → Int32} {post : Int32 → Prop} {s t : Nat} (hs : s < 12) (ht : t < 12) (hk : ¬ kd s = 0) (hl : ¬ kd t = 0) (h : post 0) : wpY_badPair post (kd, mb, hd, f1, f2, pc, qu) (nI s) (nI t) := yy_pairS hs ht (by unfold zz_pr; rw [if_neg hk, if_neg hl]; exact h)
end
section
/-! shapes: clear, point, line, rectangle, cut -/
theorem zz_rec_iff {f t i j : Nat} : zz_rec f t i j = true ↔ (2 * min (f / 9) (t / 9) ≤ i ∧ i ≤ 2 * max (f / 9) (t / 9) ∧ 2 * min (f % 9) (t % 9) ≤ j ∧ j ≤ 2 * max (f % 9) (t % 9)) := by
  unfold zz_rec
  exact decide_eq_true_iff
theorem zz_nle {x : Int32} {n : Nat} (hn : n + 1 < 2 ^ 31) (h : nI (n + 1) ≤ x) : ¬ x ≤ nI n := fun z => Int32.lt_irrefl (Int32.lt_of_lt_of_le (zz_pred_lt hn h) z)
theorem zz_k1 {k : Int32} {N : Nat → Nat → Bool} (h : zz_okk k N) : k ≤ 1 ↔ k = 0 ∨ k = 1 := by
  rcases zz_kk h with e | e | e | e <;> rw [e] <;> decide
theorem i_vc0 : wpX_init (fun u => wpY_init (fun v => i_Rel 0 u v)) := by
  unfold wpX_init wpY_init
  have e : upd (fun _ => (0 : Int32)) 0 0 = fun _ => 0 := by
    funext j
    unfold upd
    split <;> rfl
  refine nm_r e ?_
  exact zz_in (M := fun _ _ _ => false) (fun s _ => zz_ok0 (fun _ _ _ _ => rfl)) (fun s _ j _ i _ => by rw [b_0, Bool.and_false]) (fun s _ c _ => rfl)
theorem i_vc_clear {k : Nat} {u : SX} {v : SY} (I : i_Rel k u v) (hk : k + 4 ≤ 2048) (v1 : Int32) : wpX_clear (fun r u' => wpY_clear (fun r' v' => r' = r ∧ i_Rel (k + 4) u' v') v v1) u v1 := by
  refine zz_el (P := fun u v => wpX_clear (fun r u' => wpY_clear (fun r' v' => r' = r ∧ i_Rel (k + 4) u' v') v v1) u v1) ?_ I
  intro kd rr ins rim gd gn mb hd f1 f2 pc qu M hT hX hY
  unfold wpX_clear wpY_clear
  dsimp only
  rcases zz_num 12 (by decide) v1 with ⟨s, hs, rfl⟩ | hb
  · rw [nI_clamp (by omega : s < 2 ^ 31)]
    refine xx_slot1 hs (br_f (by decide) (And.intro (pk_in s 12 hs) (nm_e (xx_empty hs hX (fun rr' hX' => ?_)))))
    refine yy_slot1 hs (br_f (by decide) (And.intro (pk_in s 12 hs) (nm_e (yy_empty hs hY (fun mb' hY' => ?_)))))
    exact ⟨rfl, zz_in (zz_Ty_put hT (zz_ok0 (fun _ _ _ _ => rfl))) hX' hY'⟩
  · exact xx_slot0 hb (br_t rfl (yy_slot0 hb (br_t rfl ⟨rfl, zz_in hT hX hY⟩)))
def zz_pnt (v : Nat) (N : Nat → Nat → Bool) : Nat → Nat → Bool := fun i j => N i j || decide (i = 2 * (v / 9) ∧ j = 2 * (v % 9))
theorem xx_point {kd rr ins rim gd gn : Nat → Int32} {M : Nat → Nat → Nat → Bool} {post : Int32 → SX → Prop} {s v : Nat} (hs : s < 12) (hv : v < 81) (hk : kd s = 0 ∨ kd s = 1) (hX : zz_RX rr M)
    (hc : ∀ rr', zz_RX rr' (zz_put s (zz_pnt v (M s)) M) → post (nI (zz_ct (zz_put s (zz_pnt v (M s)) M) s)) (upd kd s 1, rr', ins, rim, gd, gn)) : wpX_point post (kd, rr, ins, rim, gd, gn) (nI s) (nI v) := by
  unfold wpX_point
  dsimp only
  rw [zz_r9 (by omega : v < 2 ^ 31), zz_d9 (by omega : v < 2 ^ 31), zz_t2, zz_t2, zz_cx s (2 * (v % 9)) (by omega), nI_clamp (by omega : s < 2 ^ 31)]
  refine xx_slot1 hs (br_f (by decide) (xx_takes1 hs hk (br_f (by decide) (xx_vert1 hv (br_f (by decide) (And.intro (pk_in s 12 hs) (nm_e
    (And.intro zz_n9 (And.intro (pk_in (17 * s + 2 * (v % 9)) 204 (by omega) (zz_ix s (2 * (v % 9)))) (And.intro zz_n9 (And.intro (pk_in (17 * s + 2 * (v % 9)) 204 (by omega) (zz_ix s (2 * (v % 9)))) (nm_e ?_))))))))))))
  have hX' : zz_RX (upd rr (17 * s + 2 * (v % 9)) (rr (17 * s + 2 * (v % 9)) ||| ((1 : Int32) <<< (nI (2 * (v / 9)) &&& 31)))) (zz_put s (zz_pnt v (M s)) M) := by
    refine zz_RX_upd hX (by omega) (fun i hi => ?_) (fun t i b ht hi hb hne => ?_)
    · rw [b_or, hX s hs (2 * (v % 9)) (by omega) i hi, zz_one (2 * (v / 9)) (by omega) i hi, zz_put_s]
      unfold zz_pnt
      by_cases c : i < 17
      · simp [c]
      · simp [c]
        omega
    · by_cases ts : t = s
      · subst ts
        rw [zz_put_s]
        unfold zz_pnt
        rw [decide_eq_false (by omega), Bool.or_false]
      · rw [zz_put_n ts]
  exact xx_count hs hX' (hc _ hX')
theorem yy_point {kd mb hd f1 f2 pc qu : Nat → Int32} {M : Nat → Nat → Nat → Bool} {post : Int32 → SY → Prop} {s v : Nat} (hs : s < 12) (hv : v < 81) (hk : kd s ≤ 1) (hY : zz_RY mb M)
    (hc : ∀ mb', zz_RY mb' (zz_put s (zz_pnt v (M s)) M) → post (nI (zz_ct (zz_put s (zz_pnt v (M s)) M) s)) (upd kd s 1, mb', hd, f1, f2, pc, qu)) : wpY_point post (kd, mb, hd, f1, f2, pc, qu) (nI s) (nI v) := by
  unfold wpY_point
  dsimp only
  have e : 289 * nI s + nI (34 * (v / 9)) + nI (2 * (v % 9)) = nI (289 * s + (34 * (v / 9) + 2 * (v % 9))) := by rw [zz_t289, nI_add, nI_add, Nat.add_assoc]
  rw [zz_r9 (by omega : v < 2 ^ 31), zz_d9 (by omega : v < 2 ^ 31), zz_t2, zz_t34, e, nI_clamp (by omega : s < 2 ^ 31), nI_clamp (by omega : 289 * s + (34 * (v / 9) + 2 * (v % 9)) < 2 ^ 31)]
  refine yy_slot1 hs (br_f (by decide) (And.intro (pk_in s 12 hs) (br_t hk (yy_vert1 hv (br_f (by decide) (And.intro (pk_in s 12 hs) (nm_e
    (And.intro zz_n9 (And.intro zz_n9 (And.intro (vp_in_nI (by omega) (by decide)) (nm_e ?_)))))))))))
  have hY' : zz_RY (upd mb (289 * s + (34 * (v / 9) + 2 * (v % 9))) (vp_nar .boolean 1)) (zz_put s (zz_pnt v (M s)) M) := by
    refine zz_RY_upd hY (by omega) ?_ (fun t d ht hd hne => ?_)
    · rw [zz_put_s]
      unfold zz_pnt
      rw [decide_eq_true (by omega), Bool.or_true]
      rfl
    · by_cases ts : t = s
      · subst ts
        rw [zz_put_s]
        unfold zz_pnt
        rw [decide_eq_false (by omega), Bool.or_false]
      · rw [zz_put_n ts]
  exact yy_count hs hY' (hc _ hY')
theorem i_vc_point {k : Nat} {u : SX} {v : SY} (I : i_Rel k u v) (hk : k + 4 ≤ 2048) (v1 : Int32) (v2 : Int32) : wpX_point (fun r u' => wpY_point (fun r' v' => r' = r ∧ i_Rel (k + 4) u' v') v v1 v2) u v1 v2 := by
  refine zz_el (P := fun u v => wpX_point (fun r u' => wpY_point (fun r' v' => r' = r ∧ i_Rel (k + 4) u' v') v v1 v2) u v1 v2) ?_ I
  intro kd rr ins rim gd gn mb hd f1 f2 pc qu M hT hX hY
  rcases zz_num 12 (by decide) v1 with ⟨s, hs, rfl⟩ | hb
  · by_cases hkk : kd s = 0 ∨ kd s = 1
    · have hk1 := (zz_k1 (hT s hs)).2 hkk
      rcases zz_num 81 (by decide) v2 with ⟨w, hw, rfl⟩ | hb2
      · refine xx_point hs hw hkk hX (fun rr' hX' => yy_point hs hw hk1 hY (fun mb' hY' => ⟨rfl, zz_in (zz_Ty_put hT (zz_ok1 (fun i j hi hj e => ?_))) hX' hY'⟩))
        unfold zz_pnt at e
        rw [Bool.or_eq_true, decide_eq_true_iff] at e
        rcases e with e | e
        · rcases hkk with h0 | h1
          · have := hT s hs
            rw [h0] at this
            rw [zz_of0 this i j hi hj] at e
            exact absurd e (by decide)
          · have := hT s hs
            rw [h1] at this
            exact zz_of1 this i j hi hj e
        · omega
      · unfold wpX_point
        dsimp only
        refine xx_slot1 hs (br_f (by decide) (xx_takes1 hs hkk (br_f (by decide) (xx_vert0 hb2 (br_t rfl ?_)))))
        unfold wpY_point
        dsimp only
        rw [nI_clamp (by omega : s < 2 ^ 31)]
        exact yy_slot1 hs (br_f (by decide) (And.intro (pk_in s 12 hs) (br_t hk1 (yy_vert0 hb2 (br_t rfl ⟨rfl, zz_in hT hX hY⟩)))))
    · have hk1 : ¬ kd s ≤ 1 := fun z => hkk ((zz_k1 (hT s hs)).1 z)
      unfold wpX_point
      dsimp only
      refine xx_slot1 hs (br_f (by decide) (xx_takes0 hs (fun z => hkk (Or.inl z)) (fun z => hkk (Or.inr z)) (br_t rfl ?_)))
      unfold wpY_point
      dsimp only
      rw [nI_clamp (by omega : s < 2 ^ 31)]
      exact yy_slot1 hs (br_f (by decide) (And.intro (pk_in s 12 hs) (br_f hk1 ⟨rfl, zz_in hT hX hY⟩)))
  · unfold wpX_point wpY_point
    dsimp only
    exact xx_slot0 hb (br_t rfl (yy_slot0 hb (br_t rfl ⟨rfl, zz_in hT hX hY⟩)))
/-! rectangles -/
def zz_cells (f t : Nat) (b : Bool) (N : Nat → Nat → Bool) : Nat → Nat → Bool := fun i j => if zz_rec f t i j = true ∧ i % 2 = 1 ∧ j % 2 = 1 then b else N i j
theorem zz_cells_n {f t : Nat} {b : Bool} {N : Nat → Nat → Bool} {i j : Nat} (h : ¬ (zz_rec f t i j = true ∧ i % 2 = 1 ∧ j % 2 = 1)) : zz_cells f t b N i j = N i j := if_neg h
theorem zz_cells_y {f t : Nat} {b : Bool} {N : Nat → Nat → Bool} {i j : Nat} (h : zz_rec f t i j = true ∧ i % 2 = 1 ∧ j % 2 = 1) : zz_cells f t b N i j = b := if_pos h
theorem zz_cells_out {f t : Nat} {b : Bool} {N : Nat → Nat → Bool} {i j : Nat} (h : j % 2 = 0 ∨ j < 2 * min (f % 9) (t % 9) ∨ 2 * max (f % 9) (t % 9) < j) : zz_cells f t b N i j = N i j := by
  refine zz_cells_n (fun z => ?_)
  have := zz_rec_iff.1 z.1
  omega
section
variable {kd ins rim gd gn : Nat → Int32} {M : Nat → Nat → Nat → Bool}
theorem xx_rect_l {post : Int32 → SX → Prop} {s f t : Nat} (hs : s < 12) (hf : f < 81) (ht : t < 81) {w : Int32} (hw : ∀ i, i < 32 → bt w i = decide (2 * min (f / 9) (t / 9) ≤ i ∧ i ≤ 2 * max (f / 9) (t / 9) ∧ i % 2 = 1))
    (hc : ∀ rr', zz_RX rr' (zz_put s (zz_cells f t true (M s)) M) → post (nI (zz_ct (zz_put s (zz_cells f t true (M s)) M) s)) (kd, rr', ins, rim, gd, gn)) :
    ∀ n j rr, j % 2 = 1 → j ≤ 17 → 2 * min (f % 9) (t % 9) < j → 17 < n + j → zz_RX rr (zz_mr s j (zz_cells f t true (M s)) M) →
    wX_rectangle_95 post (nI s) w (nI (2 * max (f % 9) (t % 9))) n (nI j) kd rr ins rim gd gn := by
  intro n
  induction n with
  | zero => intro j rr h1 h2 h3 h4 hR; omega
  | succ n ih =>
    intro j rr h1 h2 h3 h4 hR
    refine pk_le (2 * max (f % 9) (t % 9)) j (fun g => ?_) (fun g => And.intro (pk_in (17 * s + j) 204 (by omega) (zz_ix s j)) (And.intro (pk_in (17 * s + j) 204 (by omega) (zz_ix s j)) ?_))
    · have hX' := zz_mr_e hR (fun b hb1 hb2 i hi => zz_cells_out (by omega))
      exact xx_count hs hX' (hc rr hX')
    · rw [zz_cx s j (by omega)]
      refine nm_e (nm_r (zz_a2 j) (ih (j + 2) _ (by omega) (by omega) (by omega) (by omega) (zz_mr_2 hR (by omega) (fun i hi => ?_) (fun i hi => zz_cells_out (by omega)))))
      rw [b_or, zz_mr_rd hR hs (by omega) hi, hw i hi]
      by_cases c : 2 * min (f / 9) (t / 9) ≤ i ∧ i ≤ 2 * max (f / 9) (t / 9) ∧ i % 2 = 1
      · rw [zz_cells_y ⟨zz_rec_iff.2 (by omega), by omega, by omega⟩, decide_eq_true c, decide_eq_true (by omega : i < 17), Bool.or_true]
        rfl
      · rw [zz_cells_n (fun z => c (by have := zz_rec_iff.1 z.1; omega)), decide_eq_false c, Bool.or_false]
theorem xx_cut_l {post : Int32 → SX → Prop} {s f t : Nat} (hs : s < 12) (hf : f < 81) (ht : t < 81) {w : Int32} (hw : ∀ i, i < 32 → bt w i = decide (2 * min (f / 9) (t / 9) ≤ i ∧ i ≤ 2 * max (f / 9) (t / 9) ∧ i % 2 = 1))
    (hc0 : ∀ rr', zz_RX rr' (zz_put s (zz_cells f t false (M s)) M) → zz_ct (zz_put s (zz_cells f t false (M s)) M) s = 0 → post 0 (upd kd s 0, rr', ins, rim, gd, gn))
    (hc1 : ∀ rr', zz_RX rr' (zz_put s (zz_cells f t false (M s)) M) → zz_ct (zz_put s (zz_cells f t false (M s)) M) s ≠ 0 → post (nI (zz_ct (zz_put s (zz_cells f t false (M s)) M) s)) (kd, rr', ins, rim, gd, gn)) :
    ∀ n j rr, j % 2 = 1 → j ≤ 17 → 2 * min (f % 9) (t % 9) < j → 17 < n + j → zz_RX rr (zz_mr s j (zz_cells f t false (M s)) M) →
    wX_cut_82 post (nI s) w (nI (2 * max (f % 9) (t % 9))) n (nI j) kd rr ins rim gd gn := by
  intro n
  induction n with
  | zero => intro j rr h1 h2 h3 h4 hR; omega
  | succ n ih =>
    intro j rr h1 h2 h3 h4 hR
    refine pk_le (2 * max (f % 9) (t % 9)) j (fun g => ?_) (fun g => And.intro (pk_in (17 * s + j) 204 (by omega) (zz_ix s j)) (And.intro (pk_in (17 * s + j) 204 (by omega) (zz_ix s j)) ?_))
    · have hX' := zz_mr_e hR (fun b hb1 hb2 i hi => zz_cells_out (by omega))
      exact xx_settle hs hX' (hc0 rr hX') (hc1 rr hX')
    · rw [zz_cx s j (by omega)]
      refine nm_e (nm_r (zz_a2 j) (ih (j + 2) _ (by omega) (by omega) (by omega) (by omega) (zz_mr_2 hR (by omega) (fun i hi => ?_) (fun i hi => zz_cells_out (by omega)))))
      rw [b_and, zz_mr_rd hR hs (by omega) hi, zz_not w hi, hw i hi]
      by_cases c : 2 * min (f / 9) (t / 9) ≤ i ∧ i ≤ 2 * max (f / 9) (t / 9) ∧ i % 2 = 1
      · rw [zz_cells_y ⟨zz_rec_iff.2 (by omega), by omega, by omega⟩, decide_eq_true c, Bool.not_true, Bool.and_false, Bool.and_false]
      · rw [zz_cells_n (fun z => c (by have := zz_rec_iff.1 z.1; omega)), decide_eq_false c, Bool.not_false, Bool.and_true]
end
section
variable {kd hd f1 f2 pc qu : Nat → Int32} {M : Nat → Nat → Nat → Bool}
theorem yy_set_l {post : SY → Prop} {s f t : Nat} {b : Bool} (hs : s < 12) (hf : f < 81) (ht : t < 81) (hc : ∀ mb', zz_RY mb' (zz_put s (zz_cells f t b (M s)) M) → post (kd, mb', hd, f1, f2, pc, qu)) :
    ∀ d c mb, c + d = 289 → zz_RY mb (zz_mc s c (zz_cells f t b (M s)) M) → wY_setCells_3 post (nI s) (nI f) (nI t) (zz_o b) (d + 1) (nI c) kd mb hd f1 f2 pc qu := by
  intro d
  induction d with
  | zero =>
    intro c mb hc' hR
    obtain rfl : c = 289 := by omega
    exact pk_le 289 289 (fun _ => hc mb (zz_mc_e hR)) (fun g => by omega)
  | succ d ih =>
    intro c mb hc' hR
    refine pk_le 289 c (fun g => by omega) (fun _ => ?_)
    rw [zz_r17 (by omega : c < 2 ^ 31), zz_d17 (by omega : c < 2 ^ 31), zz_r2 (by omega : c / 17 < 2 ^ 31), zz_r2 (by omega : c % 17 < 2 ^ 31)]
    refine And.intro zz_n17 (And.intro zz_n2 (pk_eq (c / 17 % 2) 1 (fun e1 => And.intro zz_n17 (And.intro zz_n2 (pk_eq (c % 17 % 2) 1 (fun e2 => And.intro zz_n17 (And.intro zz_n17 (yy_btw (by omega) (by omega) hf ht (fun e3 => br_t rfl ?_) (fun e3 => br_f (by decide) ?_)))) (fun e2 => ?_)))) (fun e1 => ?_)))
    · exact nm_r (nI_1 c) (ih (c + 1) mb (by omega) (zz_mc_k hR (zz_cells_n (fun z => by rw [e3] at z; exact absurd z.1 (by decide)))))
    · rw [zz_cy s c (by omega)]
      refine And.intro (pk_in (289 * s + c) 3468 (by omega) (zz_iy s c)) (nm_e (nm_r (nI_1 c) (ih (c + 1) _ (by omega) (zz_mc_1 hR (by omega) ?_))))
      rw [zz_cells_y ⟨e3, e1, e2⟩, zz_o_v]
    · exact nm_r (nI_1 c) (ih (c + 1) mb (by omega) (zz_mc_k hR (zz_cells_n (fun z => e2 z.2.2))))
    · exact nm_r (nI_1 c) (ih (c + 1) mb (by omega) (zz_mc_k hR (zz_cells_n (fun z => e1 z.2.1))))
theorem yy_set {mb : Nat → Int32} {post : SY → Prop} {s f t : Nat} (b : Bool) (hs : s < 12) (hf : f < 81) (ht : t < 81) (hY : zz_RY mb M) (hc : ∀ mb', zz_RY mb' (zz_put s (zz_cells f t b (M s)) M) → post (kd, mb', hd, f1, f2, pc, qu)) :
    wpY_setCells post (kd, mb, hd, f1, f2, pc, qu) (nI s) (nI f) (nI t) (zz_o b) := by
  refine Exists.intro 290 ?_
  exact yy_set_l hs hf ht hc 289 0 mb rfl (zz_mc_0 hY)
theorem yy_crnB {mb : Nat → Int32} {post : Int32 → Prop} {x y : Int32} (hb : zz_bad 81 x) (h : post (-4)) : wpY_badCorners post (kd, mb, hd, f1, f2, pc, qu) x y := by
  unfold wpY_badCorners
  dsimp only
  exact yy_vert0 hb (br_t rfl h)
theorem yy_crnC {mb : Nat → Int32} {post : Int32 → Prop} {f : Nat} {y : Int32} (hf : f < 81) (hb : zz_bad 81 y) (h : post (-4)) : wpY_badCorners post (kd, mb, hd, f1, f2, pc, qu) (nI f) y := by
  unfold wpY_badCorners
  dsimp only
  exact yy_vert1 hf (br_f (by decide) (yy_vert0 hb (br_t rfl h)))
theorem yy_crnS {mb : Nat → Int32} {post : Int32 → Prop} {f t : Nat} (hf : f < 81) (ht : t < 81) (h5 : (f / 9 = t / 9 ∨ f % 9 = t % 9) → post (-5)) (h0 : ¬ (f / 9 = t / 9 ∨ f % 9 = t % 9) → post 0) : wpY_badCorners post (kd, mb, hd, f1, f2, pc, qu) (nI f) (nI t) := by
  unfold wpY_badCorners
  dsimp only
  rw [zz_r9 (by omega : f < 2 ^ 31), zz_r9 (by omega : t < 2 ^ 31), zz_d9 (by omega : f < 2 ^ 31), zz_d9 (by omega : t < 2 ^ 31)]
  exact yy_vert1 hf (br_f (by decide) (yy_vert1 ht (br_f (by decide) ⟨zz_n9, zz_n9, pk_eq (f / 9) (t / 9) (fun e => h5 (Or.inl e)) (fun e => ⟨zz_n9, zz_n9, pk_eq (f % 9) (t % 9) (fun e2 => h5 (Or.inr e2)) (fun e2 => h0 (fun z => by omega))⟩)⟩)))
end
/-- both sides' tests of two corners: a refusal for both, or two vertices that are not in one row or column -/
theorem zz_crn (x y : Int32) : (∃ f t, f < 81 ∧ t < 81 ∧ x = nI f ∧ y = nI t ∧ ¬ (f / 9 = t / 9 ∨ f % 9 = t % 9)) ∨ (∃ r : Int32, ¬ 0 ≤ r ∧
    (∀ (A : Int32 → Prop) (B : Prop), A r → r = -4 → wpX_isVertex (fun r1 => (r1 = 0 → A (-4)) ∧ (¬ r1 = 0 → wpX_isVertex (fun r2 => (r2 = 0 → A (-4)) ∧ (¬ r2 = 0 → B)) y)) x) ∧
    (¬ r = -4 → r = -5 ∧ ∃ f t, f < 81 ∧ t < 81 ∧ x = nI f ∧ y = nI t ∧ (f / 9 = t / 9 ∨ f % 9 = t % 9)) ∧
    (∀ (kd mb hd f1 f2 pc qu : Nat → Int32) (post : Int32 → Prop), post r → wpY_badCorners post (kd, mb, hd, f1, f2, pc, qu) x y)) := by
  rcases zz_num 81 (by decide) x with ⟨f, hf, rfl⟩ | hb
  · rcases zz_num 81 (by decide) y with ⟨t, ht, rfl⟩ | hb
    · by_cases c : f / 9 = t / 9 ∨ f % 9 = t % 9
      · exact Or.inr ⟨-5, by decide, fun A B _ e => absurd e (by decide), fun _ => ⟨rfl, f, t, hf, ht, rfl, rfl, c⟩, fun _ _ _ _ _ _ _ post h => yy_crnS hf ht (fun _ => h) (fun n => absurd c n)⟩
      · exact Or.inl ⟨f, t, hf, ht, rfl, rfl, c⟩
    · exact Or.inr ⟨-4, by decide, fun A B h _ => xx_vert1 hf (br_f (by decide) (xx_vert0 hb (br_t rfl h))), fun n => absurd rfl n, fun _ _ _ _ _ _ _ post h => yy_crnC hf hb h⟩
  · exact Or.inr ⟨-4, by decide, fun A B h _ => xx_vert0 hb (br_t rfl h), fun n => absurd rfl n, fun _ _ _ _ _ _ _ post h => yy_crnB hb h⟩
end
section
/-! rectangle, cut, line: the calls -/
section
variable {kd rr ins rim gd gn mb hd f1 f2 pc qu : Nat → Int32} {M : Nat → Nat → Nat → Bool}
theorem xx_rect {post : Int32 → SX → Prop} {s f t : Nat} (hs : s < 12) (hf : f < 81) (ht : t < 81) (hkk : kd s = 0 ∨ kd s = 3) (hnf : ¬ (f / 9 = t / 9 ∨ f % 9 = t % 9)) (hX : zz_RX rr M)
    (hc : ∀ rr', zz_RX rr' (zz_put s (zz_cells f t true (M s)) M) → post (nI (zz_ct (zz_put s (zz_cells f t true (M s)) M) s)) (upd kd s 3, rr', ins, rim, gd, gn)) : wpX_rectangle post (kd, rr, ins, rim, gd, gn) (nI s) (nI f) (nI t) := by
  unfold wpX_rectangle
  dsimp only
  rw [zz_r9 (by omega : f < 2 ^ 31), zz_r9 (by omega : t < 2 ^ 31), nI_clamp (by omega : s < 2 ^ 31)]
  refine xx_slot1 hs (br_f (by decide) (xx_takes1 hs hkk (br_f (by decide) (xx_vert1 hf (br_f (by decide) (xx_vert1 ht (br_f (by decide) (xx_flat0 hf ht hnf (br_t rfl (And.intro (pk_in s 12 hs) (nm_e (xx_cols hf ht (fun w hw => ?_)))))))))))))
  refine And.intro zz_n9 (And.intro zz_n9 (xx_gre (by omega) (by omega) (nm_r (zz_t2 _) (And.intro zz_n9 (And.intro zz_n9 (xx_les (by omega) (by omega) (nm_r (e' := nI (2 * min (f % 9) (t % 9) + 1)) (by rw [zz_t2, nI_1]) (Exists.intro 18 ?_))))))))
  exact xx_rect_l hs hf ht hw hc 18 _ rr (by omega) (by omega) (by omega) (by omega) (zz_mr_0 hX (fun b hb i hi => zz_cells_out (by omega)))
theorem yy_rect_in {post : Int32 → SY → Prop} {s : Nat} {x y : Int32} (hs : s < 12) (hkk : kd s = 0 ∨ kd s = 3) (h : wY_rectangle_32 post (nI s) x y kd mb hd f1 f2 pc qu) : wpY_rectangle post (kd, mb, hd, f1, f2, pc, qu) (nI s) x y := by
  unfold wpY_rectangle
  dsimp only
  rw [nI_clamp (by omega : s < 2 ^ 31)]
  refine yy_slot1 hs (br_f (by decide) (And.intro (pk_in s 12 hs) (br_c (fun _ => h) (fun g => And.intro (pk_in s 12 hs) (br_t ?_ h)))))
  rcases hkk with e | e
  · exact absurd e g
  · exact e
theorem yy_rect {post : Int32 → SY → Prop} {s f t : Nat} (hs : s < 12) (hf : f < 81) (ht : t < 81) (hkk : kd s = 0 ∨ kd s = 3) (hnf : ¬ (f / 9 = t / 9 ∨ f % 9 = t % 9)) (hY : zz_RY mb M)
    (hc : ∀ mb', zz_RY mb' (zz_put s (zz_cells f t true (M s)) M) → post (nI (zz_ct (zz_put s (zz_cells f t true (M s)) M) s)) (upd kd s 3, mb', hd, f1, f2, pc, qu)) : wpY_rectangle post (kd, mb, hd, f1, f2, pc, qu) (nI s) (nI f) (nI t) := by
  refine yy_rect_in hs hkk ?_
  unfold wY_rectangle_32
  rw [nI_clamp (by omega : s < 2 ^ 31)]
  refine yy_crnS hf ht (fun e => absurd e hnf) (fun _ => br_t (by decide) (And.intro (pk_in s 12 hs) (nm_e ?_)))
  exact yy_set true hs hf ht hY (fun mb' hY' => yy_count hs hY' (hc mb' hY'))
theorem xx_cut {post : Int32 → SX → Prop} {s f t : Nat} (hs : s < 12) (hf : f < 81) (ht : t < 81) (hk : kd s = 3) (hnf : ¬ (f / 9 = t / 9 ∨ f % 9 = t % 9)) (hX : zz_RX rr M)
    (hc0 : ∀ rr', zz_RX rr' (zz_put s (zz_cells f t false (M s)) M) → zz_ct (zz_put s (zz_cells f t false (M s)) M) s = 0 → post 0 (upd kd s 0, rr', ins, rim, gd, gn))
    (hc1 : ∀ rr', zz_RX rr' (zz_put s (zz_cells f t false (M s)) M) → zz_ct (zz_put s (zz_cells f t false (M s)) M) s ≠ 0 → post (nI (zz_ct (zz_put s (zz_cells f t false (M s)) M) s)) (kd, rr', ins, rim, gd, gn)) :
    wpX_cut post (kd, rr, ins, rim, gd, gn) (nI s) (nI f) (nI t) := by
  unfold wpX_cut
  dsimp only
  rw [zz_r9 (by omega : f < 2 ^ 31), zz_r9 (by omega : t < 2 ^ 31)]
  refine xx_area3 hs hk (br_t rfl (xx_vert1 hf (br_f (by decide) (xx_vert1 ht (br_f (by decide) (xx_flat0 hf ht hnf (br_t rfl (xx_cols hf ht (fun w hw => ?_)))))))))
  refine And.intro zz_n9 (And.intro zz_n9 (xx_gre (by omega) (by omega) (nm_r (zz_t2 _) (And.intro zz_n9 (And.intro zz_n9 (xx_les (by omega) (by omega) (nm_r (e' := nI (2 * min (f % 9) (t % 9) + 1)) (by rw [zz_t2, nI_1]) (Exists.intro 18 ?_))))))))
  exact xx_cut_l hs hf ht hw hc0 hc1 18 _ rr (by omega) (by omega) (by omega) (by omega) (zz_mr_0 hX (fun b hb i hi => zz_cells_out (by omega)))
theorem yy_cut {post : Int32 → SY → Prop} {s f t : Nat} (hs : s < 12) (hf : f < 81) (ht : t < 81) (hk : kd s = 3) (hnf : ¬ (f / 9 = t / 9 ∨ f % 9 = t % 9)) (hY : zz_RY mb M)
    (hc0 : ∀ mb', zz_RY mb' (zz_put s (zz_cells f t false (M s)) M) → zz_ct (zz_put s (zz_cells f t false (M s)) M) s = 0 → post 0 (upd kd s 0, mb', hd, f1, f2, pc, qu))
    (hc1 : ∀ mb', zz_RY mb' (zz_put s (zz_cells f t false (M s)) M) → zz_ct (zz_put s (zz_cells f t false (M s)) M) s ≠ 0 → post (nI (zz_ct (zz_put s (zz_cells f t false (M s)) M) s)) (kd, mb', hd, f1, f2, pc, qu)) :
    wpY_cut post (kd, mb, hd, f1, f2, pc, qu) (nI s) (nI f) (nI t) := by
  unfold wpY_cut
  dsimp only
  refine yy_area3 hs hk (br_t (by decide) (yy_crnS hf ht (fun e => absurd e hnf) (fun _ => br_t (by decide) ?_)))
  exact yy_set false hs hf ht hY (fun mb' hY' => yy_settle hs hY' (hc0 mb' hY') (hc1 mb' hY'))
end
theorem i_vc_rectangle {k : Nat} {u : SX} {v : SY} (I : i_Rel k u v) (hk : k + 4 ≤ 2048) (v1 : Int32) (v2 : Int32) (v3 : Int32) : wpX_rectangle (fun r u' => wpY_rectangle (fun r' v' => r' = r ∧ i_Rel (k + 4) u' v') v v1 v2 v3) u v1 v2 v3 := by
  refine zz_el (P := fun u v => wpX_rectangle (fun r u' => wpY_rectangle (fun r' v' => r' = r ∧ i_Rel (k + 4) u' v') v v1 v2 v3) u v1 v2 v3) ?_ I
  intro kd rr ins rim gd gn mb hd f1 f2 pc qu M hT hX hY
  rcases zz_num 12 (by decide) v1 with ⟨s, hs, rfl⟩ | hb
  · by_cases hkk : kd s = 0 ∨ kd s = 3
    · rcases zz_crn v2 v3 with ⟨f, t, hf, ht, rfl, rfl, hnf⟩ | ⟨r, hr0, hrX, hr5, hrY⟩
      · refine xx_rect hs hf ht hkk hnf hX (fun rr' hX' => yy_rect hs hf ht hkk hnf hY (fun mb' hY' => ⟨rfl, zz_in (zz_Ty_put hT (zz_ok3 (fun i j hi hj e => ?_))) hX' hY'⟩))
        by_cases c : zz_rec f t i j = true ∧ i % 2 = 1 ∧ j % 2 = 1
        · exact c.2
        · rw [zz_cells_n c] at e
          have hh := hT s hs
          rcases hkk with h0 | h1
          · rw [h0] at hh
            rw [zz_of0 hh i j hi hj] at e
            exact absurd e (by decide)
          · rw [h1] at hh
            exact zz_of3 hh i j hi hj e
      · have hYr : ∀ k', k' = r → wpY_rectangle (fun r' v' => r' = k' ∧ i_Rel (k + 4) (kd, rr, ins, rim, gd, gn) v') (kd, mb, hd, f1, f2, pc, qu) (nI s) v2 v3 := by
          intro k' ek
          refine yy_rect_in hs hkk ?_
          unfold wY_rectangle_32
          exact hrY kd mb hd f1 f2 pc qu _ (br_f hr0 ⟨ek.symm, zz_in hT hX hY⟩)
        by_cases e4 : r = -4
        · unfold wpX_rectangle
          dsimp only
          refine xx_slot1 hs (br_f (by decide) (xx_takes1 hs hkk (br_f (by decide) ?_)))
          exact hrX (fun k' => wpY_rectangle (fun r' v' => r' = k' ∧ i_Rel (k + 4) (kd, rr, ins, rim, gd, gn) v') (kd, mb, hd, f1, f2, pc, qu) (nI s) v2 v3) _ (hYr r rfl) e4
        · obtain ⟨e5, f, t, hf, ht, rfl, rfl, hfl⟩ := hr5 e4
          unfold wpX_rectangle
          dsimp only
          exact xx_slot1 hs (br_f (by decide) (xx_takes1 hs hkk (br_f (by decide) (xx_vert1 hf (br_f (by decide) (xx_vert1 ht (br_f (by decide) (xx_flat1 hf ht hfl (br_f (by decide) (hYr _ e5.symm))))))))))
    · unfold wpX_rectangle
      dsimp only
      refine xx_slot1 hs (br_f (by decide) (xx_takes0 hs (fun z => hkk (Or.inl z)) (fun z => hkk (Or.inr z)) (br_t rfl ?_)))
      unfold wpY_rectangle
      dsimp only
      rw [nI_clamp (by omega : s < 2 ^ 31)]
      exact yy_slot1 hs (br_f (by decide) (And.intro (pk_in s 12 hs) (br_f (fun z => hkk (Or.inl z)) (And.intro (pk_in s 12 hs) (br_f (fun z => hkk (Or.inr z)) ⟨rfl, zz_in hT hX hY⟩)))))
  · unfold wpX_rectangle wpY_rectangle
    dsimp only
    exact xx_slot0 hb (br_t rfl (yy_slot0 hb (br_t rfl ⟨rfl, zz_in hT hX hY⟩)))
theorem i_vc_cut {k : Nat} {u : SX} {v : SY} (I : i_Rel k u v) (hk : k + 4 ≤ 2048) (v1 : Int32) (v2 : Int32) (v3 : Int32) : wpX_cut (fun r u' => wpY_cut (fun r' v' => r' = r ∧ i_Rel (k + 4) u' v') v v1 v2 v3) u v1 v2 v3 := by
  refine zz_el (P := fun u v => wpX_cut (fun r u' => wpY_cut (fun r' v' => r' = r ∧ i_Rel (k + 4) u' v') v v1 v2 v3) u v1 v2 v3) ?_ I
  intro kd rr ins rim gd gn mb hd f1 f2 pc qu M hT hX hY
  rcases zz_area kd v1 with ⟨s, hs, rfl, hk3⟩ | ⟨r, hr, hr0, hrX, hrY⟩
  · rcases zz_crn v2 v3 with ⟨f, t, hf, ht, rfl, rfl, hnf⟩ | ⟨r, hr0, hrX, hr5, hrY⟩
    · have hok : zz_okk (kd s) (zz_cells f t false (M s)) := by
        have hh := hT s hs
        rw [hk3] at hh ⊢
        refine zz_ok3 (fun i j hi hj e => ?_)
        by_cases c : zz_rec f t i j = true ∧ i % 2 = 1 ∧ j % 2 = 1
        · exact c.2
        · rw [zz_cells_n c] at e
          exact zz_of3 hh i j hi hj e
      refine xx_cut hs hf ht hk3 hnf hX (fun rr' hX' e0 => ?_) (fun rr' hX' e1 => ?_)
      · refine yy_cut hs hf ht hk3 hnf hY (fun mb' hY' _ => ⟨rfl, zz_in (zz_Ty_put hT (zz_ok0 (fun i j hi hj => ?_))) hX' hY'⟩) (fun mb' hY' e => absurd e0 e)
        have := zz_ct_0 e0 i j hi hj
        rw [zz_put_s] at this
        exact this
      · exact yy_cut hs hf ht hk3 hnf hY (fun mb' hY' e => absurd e e1) (fun mb' hY' _ => ⟨rfl, zz_in (zz_Ty_putk hT hok) hX' hY'⟩)
    · have hYr : ∀ k', k' = r → wpY_cut (fun r' v' => r' = k' ∧ i_Rel (k + 4) (kd, rr, ins, rim, gd, gn) v') (kd, mb, hd, f1, f2, pc, qu) (nI s) v2 v3 := by
        intro k' ek
        unfold wpY_cut
        dsimp only
        exact yy_area3 hs hk3 (br_t (by decide) (hrY kd mb hd f1 f2 pc qu _ (br_f hr0 ⟨ek.symm, zz_in hT hX hY⟩)))
      by_cases e4 : r = -4
      · unfold wpX_cut
        dsimp only
        refine xx_area3 hs hk3 (br_t rfl ?_)
        exact hrX (fun k' => wpY_cut (fun r' v' => r' = k' ∧ i_Rel (k + 4) (kd, rr, ins, rim, gd, gn) v') (kd, mb, hd, f1, f2, pc, qu) (nI s) v2 v3) _ (hYr r rfl) e4
      · obtain ⟨e5, f, t, hf, ht, rfl, rfl, hfl⟩ := hr5 e4
        unfold wpX_cut
        dsimp only
        exact xx_area3 hs hk3 (br_t rfl (xx_vert1 hf (br_f (by decide) (xx_vert1 ht (br_f (by decide) (xx_flat1 hf ht hfl (br_f (by decide) (hYr _ e5.symm))))))))
  · unfold wpX_cut wpY_cut
    dsimp only
    exact hrX _ _ _ _ _ _ (br_f hr (hrY _ _ _ _ _ _ _ (br_f hr0 ⟨rfl, zz_in hT hX hY⟩)))
/-! lines -/
def zz_lin (f t : Nat) (N : Nat → Nat → Bool) : Nat → Nat → Bool := fun i j => N i j || (zz_rec f t i j && decide ((i + j) % 2 = 1))
theorem zz_lin_n {f t : Nat} {N : Nat → Nat → Bool} {i j : Nat} (h : ¬ (zz_rec f t i j = true ∧ (i + j) % 2 = 1)) : zz_lin f t N i j = N i j := by
  unfold zz_lin
  cases e : zz_rec f t i j with
  | false => rw [Bool.false_and, Bool.or_false]
  | true => rw [decide_eq_false (fun z => h ⟨e, z⟩), Bool.and_false, Bool.or_false]
theorem zz_lin_y {f t : Nat} {N : Nat → Nat → Bool} {i j : Nat} (h : zz_rec f t i j = true ∧ (i + j) % 2 = 1) : zz_lin f t N i j = true := by
  unfold zz_lin
  rw [h.1, decide_eq_true h.2, Bool.and_true, Bool.or_true]
section
variable {kd rr ins rim gd gn mb hd f1 f2 pc qu : Nat → Int32} {M : Nat → Nat → Nat → Bool}
theorem xx_line_vl {post : Int32 → SX → Prop} {s f t : Nat} (hs : s < 12) (hf : f < 81) (ht : t < 81) (hx : f / 9 = t / 9)
    (hc : ∀ rr', zz_RX rr' (zz_put s (zz_lin f t (M s)) M) → post (nI (zz_ct (zz_put s (zz_lin f t (M s)) M) s)) (kd, rr', ins, rim, gd, gn)) :
    ∀ n j rr, j % 2 = 1 → j ≤ 17 → 2 * min (f % 9) (t % 9) < j → 17 < n + j → zz_RX rr (zz_mr s j (zz_lin f t (M s)) M) →
    wX_line_182 post (nI s) (nI (f / 9)) (nI (2 * max (f % 9) (t % 9))) n (nI j) kd rr ins rim gd gn := by
  intro n
  induction n with
  | zero => intro j rr h1 h2 h3 h4 hR; omega
  | succ n ih =>
    intro j rr h1 h2 h3 h4 hR
    refine pk_le (2 * max (f % 9) (t % 9)) j (fun g => ?_) (fun g => And.intro (pk_in (17 * s + j) 204 (by omega) (zz_ix s j)) (And.intro (pk_in (17 * s + j) 204 (by omega) (zz_ix s j)) ?_))
    · have hX' := zz_mr_e hR (fun b hb1 hb2 i hi => zz_lin_n (fun z => by have := zz_rec_iff.1 z.1; omega))
      unfold wX_line_216
      exact xx_count hs hX' (hc rr hX')
    · rw [zz_cx s j (by omega), zz_t2]
      refine nm_e (nm_r (zz_a2 j) (ih (j + 2) _ (by omega) (by omega) (by omega) (by omega) (zz_mr_2 hR (by omega) (fun i hi => ?_) (fun i hi => zz_lin_n (fun z => by have := zz_rec_iff.1 z.1; omega)))))
      rw [b_or, zz_mr_rd hR hs (by omega) hi, zz_one (2 * (f / 9)) (by omega) i hi]
      by_cases c : i = 2 * (f / 9)
      · rw [zz_lin_y ⟨zz_rec_iff.2 (by omega), by omega⟩, decide_eq_true c, decide_eq_true (by omega : i < 17), Bool.or_true]
        rfl
      · rw [zz_lin_n (fun z => c (by have := zz_rec_iff.1 z.1; omega)), decide_eq_false c, Bool.or_false]
theorem xx_lineI {post : Int32 → SX → Prop} {s f t : Nat} (hs : s < 12) (hf : f < 81) (ht : t < 81) (hkk : kd s = 0 ∨ kd s = 2)
    (h1 : f / 9 = t / 9 → wX_line_74 post (nI s) (nI (f / 9)) (nI (f % 9)) (nI (t / 9)) (nI (t % 9)) 1 kd rr ins rim gd gn) (h2 : ¬ f / 9 = t / 9 → wX_line_74 post (nI s) (nI (f / 9)) (nI (f % 9)) (nI (t / 9)) (nI (t % 9)) 0 kd rr ins rim gd gn) :
    wpX_line post (kd, rr, ins, rim, gd, gn) (nI s) (nI f) (nI t) := by
  unfold wpX_line
  dsimp only
  refine xx_slot1 hs (br_f (by decide) (xx_takes1 hs hkk (br_f (by decide) (xx_vert1 hf (br_f (by decide) (xx_vert1 ht (br_f (by decide) ?_)))))))
  exact And.intro zz_n9 (nm_r (zz_d9 (by omega)) (And.intro zz_n9 (nm_r (zz_r9 (by omega)) (And.intro zz_n9 (nm_r (zz_d9 (by omega)) (And.intro zz_n9 (nm_r (zz_r9 (by omega)) (pk_eq (f / 9) (t / 9) h1 h2))))))))
theorem xx_line5 {post : Int32 → SX → Prop} {s f t : Nat} (hs : s < 12) (hf : f < 81) (ht : t < 81) (hkk : kd s = 0 ∨ kd s = 2) (hc : f / 9 = t / 9 ↔ f % 9 = t % 9) (h : post (-5) (kd, rr, ins, rim, gd, gn)) : wpX_line post (kd, rr, ins, rim, gd, gn) (nI s) (nI f) (nI t) :=
  xx_lineI hs hf ht hkk (fun e => pk_eq (f % 9) (t % 9) (fun _ => br_t rfl h) (fun e2 => absurd (hc.1 e) e2)) (fun e => pk_eq (f % 9) (t % 9) (fun e2 => absurd (hc.2 e2) e) (fun e2 => br_t rfl h))
theorem xx_lineV {post : Int32 → SX → Prop} {s f t : Nat} (hs : s < 12) (hf : f < 81) (ht : t < 81) (hkk : kd s = 0 ∨ kd s = 2) (hx : f / 9 = t / 9) (hy : ¬ f % 9 = t % 9) (hX : zz_RX rr M)
    (hc : ∀ rr', zz_RX rr' (zz_put s (zz_lin f t (M s)) M) → post (nI (zz_ct (zz_put s (zz_lin f t (M s)) M) s)) (upd kd s 2, rr', ins, rim, gd, gn)) : wpX_line post (kd, rr, ins, rim, gd, gn) (nI s) (nI f) (nI t) := by
  refine xx_lineI hs hf ht hkk (fun _ => pk_eq (f % 9) (t % 9) (fun e => absurd e hy) (fun _ => ?_)) (fun e => absurd hx e)
  unfold wX_line_86
  rw [nI_clamp (by omega : s < 2 ^ 31)]
  refine br_f (by decide) (And.intro (pk_in s 12 hs) (nm_e (pk_eq (f % 9) (t % 9) (fun e => absurd e hy) (fun _ => ?_))))
  refine xx_gre (by omega) (by omega) (nm_r (zz_t2 _) (xx_les (by omega) (by omega) (nm_r (e' := nI (2 * min (f % 9) (t % 9) + 1)) (by rw [zz_t2, nI_1]) (Exists.intro 18 ?_))))
  exact xx_line_vl hs hf ht hx hc 18 _ rr (by omega) (by omega) (by omega) (by omega) (zz_mr_0 hX (fun b hb i hi => zz_lin_n (fun z => by have := zz_rec_iff.1 z.1; omega)))
theorem xx_lineH {post : Int32 → SX → Prop} {s f t : Nat} (hs : s < 12) (hf : f < 81) (ht : t < 81) (hkk : kd s = 0 ∨ kd s = 2) (hx : ¬ f / 9 = t / 9) (hy : f % 9 = t % 9) (hX : zz_RX rr M)
    (hc : ∀ rr', zz_RX rr' (zz_put s (zz_lin f t (M s)) M) → post (nI (zz_ct (zz_put s (zz_lin f t (M s)) M) s)) (upd kd s 2, rr', ins, rim, gd, gn)) : wpX_line post (kd, rr, ins, rim, gd, gn) (nI s) (nI f) (nI t) := by
  refine xx_lineI hs hf ht hkk (fun e => absurd e hx) (fun _ => pk_eq (f % 9) (t % 9) (fun _ => ?_) (fun e => absurd hy e))
  unfold wX_line_86
  rw [nI_clamp (by omega : s < 2 ^ 31), zz_t2 (f % 9), zz_cx s (2 * (f % 9)) (by omega)]
  refine br_f (by decide) (And.intro (pk_in s 12 hs) (nm_e (pk_eq (f % 9) (t % 9) (fun _ => ?_) (fun e => absurd hy e))))
  refine xx_les (by omega) (by omega) (xx_gre (by omega) (by omega) (And.intro (pk_in (17 * s + 2 * (f % 9)) 204 (by omega) (zz_ix s (2 * (f % 9)))) (xx_span (by omega) (by omega) (by omega) (fun w hw => And.intro (pk_in (17 * s + 2 * (f % 9)) 204 (by omega) (zz_ix s (2 * (f % 9)))) (nm_e ?_)))))
  unfold wX_line_216
  have hX' : zz_RX (upd rr (17 * s + 2 * (f % 9)) (rr (17 * s + 2 * (f % 9)) ||| (w &&& 43690))) (zz_put s (zz_lin f t (M s)) M) := by
    refine zz_RX_upd hX (by omega) (fun i hi => ?_) (fun t' i b ht' hi hb hne => ?_)
    · rw [b_or, b_and, hw i hi, zz_odd i hi, hX s hs (2 * (f % 9)) (by omega) i hi, zz_put_s]
      by_cases c : 2 * min (f / 9) (t / 9) ≤ i ∧ i ≤ 2 * max (f / 9) (t / 9) ∧ i % 2 = 1
      · rw [zz_lin_y ⟨zz_rec_iff.2 (by omega), by omega⟩, decide_eq_true (by omega : i < 17), decide_eq_true (by omega : i < 17 ∧ i % 2 = 1), decide_eq_true (by omega : 2 * min (f / 9) (t / 9) ≤ i ∧ i ≤ 2 * max (f / 9) (t / 9)), Bool.and_true, Bool.or_true]
      · rw [zz_lin_n (fun z => c (by have := zz_rec_iff.1 z.1; omega)), ← Bool.decide_and, decide_eq_false (by omega : ¬ ((2 * min (f / 9) (t / 9) ≤ i ∧ i ≤ 2 * max (f / 9) (t / 9)) ∧ i < 17 ∧ i % 2 = 1)), Bool.or_false]
    · by_cases ts : t' = s
      · subst ts
        rw [zz_put_s]
        exact zz_lin_n (fun z => by have := zz_rec_iff.1 z.1; omega)
      · rw [zz_put_n ts]
  exact xx_count hs hX' (hc _ hX')
theorem yy_line_l {post : Int32 → SY → Prop} {s f t : Nat} (hs : s < 12) (hf : f < 81) (ht : t < 81) (hc : ∀ mb', zz_RY mb' (zz_put s (zz_lin f t (M s)) M) → post (nI (zz_ct (zz_put s (zz_lin f t (M s)) M) s)) (kd, mb', hd, f1, f2, pc, qu)) :
    ∀ d c mb, c + d = 289 → zz_RY mb (zz_mc s c (zz_lin f t (M s)) M) → wY_line_91 post (nI s) (nI f) (nI t) (d + 1) (nI c) kd mb hd f1 f2 pc qu := by
  intro d
  induction d with
  | zero =>
    intro c mb hc' hR
    obtain rfl : c = 289 := by omega
    exact pk_le 289 289 (fun _ => yy_count hs (zz_mc_e hR) (hc mb (zz_mc_e hR))) (fun g => by omega)
  | succ d ih =>
    intro c mb hc' hR
    refine pk_le 289 c (fun g => by omega) (fun _ => ?_)
    rw [zz_r17 (by omega : c < 2 ^ 31), zz_d17 (by omega : c < 2 ^ 31), nI_add (c / 17) (c % 17), zz_r2 (by omega : c / 17 + c % 17 < 2 ^ 31)]
    refine And.intro zz_n17 (And.intro zz_n17 (And.intro zz_n2 (pk_eq ((c / 17 + c % 17) % 2) 1 (fun e2 => And.intro zz_n17 (And.intro zz_n17 (yy_btw (by omega) (by omega) hf ht (fun e3 => br_t rfl ?_) (fun e3 => br_f (by decide) ?_)))) (fun e2 => ?_))))
    · exact nm_r (nI_1 c) (ih (c + 1) mb (by omega) (zz_mc_k hR (zz_lin_n (fun z => by rw [e3] at z; exact absurd z.1 (by decide)))))
    · rw [zz_cy s c (by omega)]
      refine And.intro (pk_in (289 * s + c) 3468 (by omega) (zz_iy s c)) (nm_e (nm_r (nI_1 c) (ih (c + 1) _ (by omega) (zz_mc_1 hR (by omega) ?_))))
      rw [zz_lin_y ⟨e3, e2⟩]
      rfl
    · exact nm_r (nI_1 c) (ih (c + 1) mb (by omega) (zz_mc_k hR (zz_lin_n (fun z => e2 z.2))))
theorem yy_line_in {post : Int32 → SY → Prop} {s : Nat} {x y : Int32} (hs : s < 12) (hkk : kd s = 0 ∨ kd s = 2) (h : wY_line_32 post (nI s) x y kd mb hd f1 f2 pc qu) : wpY_line post (kd, mb, hd, f1, f2, pc, qu) (nI s) x y := by
  unfold wpY_line
  dsimp only
  rw [nI_clamp (by omega : s < 2 ^ 31)]
  refine yy_slot1 hs (br_f (by decide) (And.intro (pk_in s 12 hs) (br_c (fun _ => h) (fun g => And.intro (pk_in s 12 hs) (br_t ?_ h)))))
  rcases hkk with e | e
  · exact absurd e g
  · exact e
theorem yy_line {post : Int32 → SY → Prop} {s f t : Nat} (hs : s < 12) (hf : f < 81) (ht : t < 81) (hkk : kd s = 0 ∨ kd s = 2) (hn : ¬ f = t) (hx : f / 9 = t / 9 ∨ f % 9 = t % 9) (hY : zz_RY mb M)
    (hc : ∀ mb', zz_RY mb' (zz_put s (zz_lin f t (M s)) M) → post (nI (zz_ct (zz_put s (zz_lin f t (M s)) M) s)) (upd kd s 2, mb', hd, f1, f2, pc, qu)) : wpY_line post (kd, mb, hd, f1, f2, pc, qu) (nI s) (nI f) (nI t) := by
  refine yy_line_in hs hkk ?_
  unfold wY_line_32
  rw [zz_r9 (by omega : f < 2 ^ 31), zz_r9 (by omega : t < 2 ^ 31), zz_d9 (by omega : f < 2 ^ 31), zz_d9 (by omega : t < 2 ^ 31), nI_clamp (by omega : s < 2 ^ 31)]
  have hl : ∃ n, wY_line_91 post (nI s) (nI f) (nI t) n (0 : Int32) (upd kd s 2) mb hd f1 f2 pc qu := ⟨290, yy_line_l hs hf ht hc 289 0 mb rfl (zz_mc_0 hY)⟩
  exact yy_vert1 hf (br_f (by decide) (yy_vert1 ht (br_f (by decide) (pk_eq f t (fun e => absurd e hn) (fun _ => ⟨zz_n9, zz_n9, pk_eq (f / 9) (t / 9) (fun e => ⟨pk_in s 12 hs, nm_e hl⟩) (fun e => ⟨zz_n9, zz_n9, pk_eq (f % 9) (t % 9) (fun e2 => ⟨pk_in s 12 hs, nm_e hl⟩) (fun e2 => by omega)⟩)⟩)))))
theorem yy_line5 {post : Int32 → SY → Prop} {s f t : Nat} (hs : s < 12) (hf : f < 81) (ht : t < 81) (hkk : kd s = 0 ∨ kd s = 2) (hc : f / 9 = t / 9 ↔ f % 9 = t % 9) (h : post (-5) (kd, mb, hd, f1, f2, pc, qu)) : wpY_line post (kd, mb, hd, f1, f2, pc, qu) (nI s) (nI f) (nI t) := by
  refine yy_line_in hs hkk ?_
  unfold wY_line_32
  rw [zz_r9 (by omega : f < 2 ^ 31), zz_r9 (by omega : t < 2 ^ 31), zz_d9 (by omega : f < 2 ^ 31), zz_d9 (by omega : t < 2 ^ 31)]
  exact yy_vert1 hf (br_f (by decide) (yy_vert1 ht (br_f (by decide) (pk_eq f t (fun e => h) (fun n => ⟨zz_n9, zz_n9, pk_eq (f / 9) (t / 9) (fun e => absurd (hc.1 e) (by omega)) (fun e => ⟨zz_n9, zz_n9, pk_eq (f % 9) (t % 9) (fun e2 => absurd (hc.2 e2) e) (fun e2 => h)⟩)⟩)))))
theorem yy_line4 {post : Int32 → SY → Prop} {s : Nat} {x y : Int32} (hs : s < 12) (hkk : kd s = 0 ∨ kd s = 2) (hb : zz_bad 81 x ∨ ((∃ f, f < 81 ∧ x = nI f) ∧ zz_bad 81 y)) (h : post (-4) (kd, mb, hd, f1, f2, pc, qu)) : wpY_line post (kd, mb, hd, f1, f2, pc, qu) (nI s) x y := by
  refine yy_line_in hs hkk ?_
  unfold wY_line_32
  rcases hb with hb | ⟨⟨f, hf, rfl⟩, hb⟩
  · exact yy_vert0 hb (br_t rfl h)
  · exact yy_vert1 hf (br_f (by decide) (yy_vert0 hb (br_t rfl h)))
end
theorem i_vc_line {k : Nat} {u : SX} {v : SY} (I : i_Rel k u v) (hk : k + 4 ≤ 2048) (v1 : Int32) (v2 : Int32) (v3 : Int32) : wpX_line (fun r u' => wpY_line (fun r' v' => r' = r ∧ i_Rel (k + 4) u' v') v v1 v2 v3) u v1 v2 v3 := by
  refine zz_el (P := fun u v => wpX_line (fun r u' => wpY_line (fun r' v' => r' = r ∧ i_Rel (k + 4) u' v') v v1 v2 v3) u v1 v2 v3) ?_ I
  intro kd rr ins rim gd gn mb hd f1 f2 pc qu M hT hX hY
  rcases zz_num 12 (by decide) v1 with ⟨s, hs, rfl⟩ | hb
  · by_cases hkk : kd s = 0 ∨ kd s = 2
    · rcases zz_num 81 (by decide) v2 with ⟨f, hf, rfl⟩ | hb
      · rcases zz_num 81 (by decide) v3 with ⟨t, ht, rfl⟩ | hb
        · have hok : zz_okk 2 (zz_lin f t (M s)) := by
            refine zz_ok2 (fun i j hi hj e => ?_)
            by_cases c : zz_rec f t i j = true ∧ (i + j) % 2 = 1
            · exact c.2
            · rw [zz_lin_n c] at e
              have hh := hT s hs
              rcases hkk with h0 | h1
              · rw [h0] at hh
                rw [zz_of0 hh i j hi hj] at e
                exact absurd e (by decide)
              · rw [h1] at hh
                exact zz_of2 hh i j hi hj e
          by_cases hx : f / 9 = t / 9
          · by_cases hy : f % 9 = t % 9
            · exact xx_line5 hs hf ht hkk ⟨fun _ => hy, fun _ => hx⟩ (yy_line5 hs hf ht hkk ⟨fun _ => hy, fun _ => hx⟩ ⟨rfl, zz_in hT hX hY⟩)
            · exact xx_lineV hs hf ht hkk hx hy hX (fun rr' hX' => yy_line hs hf ht hkk (by omega) (Or.inl hx) hY (fun mb' hY' => ⟨rfl, zz_in (zz_Ty_put hT hok) hX' hY'⟩))
          · by_cases hy : f % 9 = t % 9
            · exact xx_lineH hs hf ht hkk hx hy hX (fun rr' hX' => yy_line hs hf ht hkk (by omega) (Or.inr hy) hY (fun mb' hY' => ⟨rfl, zz_in (zz_Ty_put hT hok) hX' hY'⟩))
            · exact xx_line5 hs hf ht hkk ⟨fun z => absurd z hx, fun z => absurd z hy⟩ (yy_line5 hs hf ht hkk ⟨fun z => absurd z hx, fun z => absurd z hy⟩ ⟨rfl, zz_in hT hX hY⟩)
        · unfold wpX_line
          dsimp only
          exact xx_slot1 hs (br_f (by decide) (xx_takes1 hs hkk (br_f (by decide) (xx_vert1 hf (br_f (by decide) (xx_vert0 hb (br_t rfl (yy_line4 hs hkk (Or.inr ⟨⟨f, hf, rfl⟩, hb⟩) ⟨rfl, zz_in hT hX hY⟩))))))))
      · unfold wpX_line
        dsimp only
        exact xx_slot1 hs (br_f (by decide) (xx_takes1 hs hkk (br_f (by decide) (xx_vert0 hb (br_t rfl (yy_line4 hs hkk (Or.inl hb) ⟨rfl, zz_in hT hX hY⟩))))))
    · unfold wpX_line
      dsimp only
      refine xx_slot1 hs (br_f (by decide) (xx_takes0 hs (fun z => hkk (Or.inl z)) (fun z => hkk (Or.inr z)) (br_t rfl ?_)))
      unfold wpY_line
      dsimp only
      rw [nI_clamp (by omega : s < 2 ^ 31)]
      exact yy_slot1 hs (br_f (by decide) (And.intro (pk_in s 12 hs) (br_f (fun z => hkk (Or.inl z)) (And.intro (pk_in s 12 hs) (br_f (fun z => hkk (Or.inr z)) ⟨rfl, zz_in hT hX hY⟩)))))
  · unfold wpX_line wpY_line
    dsimp only
    exact xx_slot0 hb (br_t rfl (yy_slot0 hb (br_t rfl ⟨rfl, zz_in hT hX hY⟩)))
end
section
/-! combine, grow, kind, size -/
def zz_cb (h : Nat) (a b : Bool) : Bool := if h = 0 then a || b else if h = 1 then a && b else if h = 2 then a && !b else a ^^ b
theorem zz_cb_t {h : Nat} {a b : Bool} (e : zz_cb h a b = true) : a = true ∨ b = true := by
  unfold zz_cb at e
  cases a <;> cases b <;> simp_all
section
variable {kd rr ins rim gd gn mb hd f1 f2 pc qu : Nat → Int32} {M : Nat → Nat → Nat → Bool}
theorem xx_comb_l {post : Int32 → SX → Prop} {s t h : Nat} (hs : s < 12) (ht : t < 12) (hh : h < 4)
    (hc0 : ∀ rr', zz_RX rr' (zz_put s (fun i j => zz_cb h (M s i j) (M t i j)) M) → zz_ct (zz_put s (fun i j => zz_cb h (M s i j) (M t i j)) M) s = 0 → post 0 (upd kd s 0, rr', ins, rim, gd, gn))
    (hc1 : ∀ rr', zz_RX rr' (zz_put s (fun i j => zz_cb h (M s i j) (M t i j)) M) → zz_ct (zz_put s (fun i j => zz_cb h (M s i j) (M t i j)) M) s ≠ 0 → post (nI (zz_ct (zz_put s (fun i j => zz_cb h (M s i j) (M t i j)) M) s)) (kd, rr', ins, rim, gd, gn)) :
    ∀ d j rr, j + d = 17 → zz_RX rr (zz_mr s j (fun i j => zz_cb h (M s i j) (M t i j)) M) → wX_combine_49 post (nI s) (nI t) (nI h) (d + 1) (nI j) kd rr ins rim gd gn := by
  intro d
  induction d with
  | zero =>
    intro j rr hj hR
    obtain rfl : j = 17 := by omega
    have hX' := zz_mr_e hR (fun b h1 h2 => by omega)
    exact pk_le 17 17 (fun _ => xx_settle hs hX' (hc0 rr hX') (hc1 rr hX')) (fun g => by omega)
  | succ d ih =>
    intro j rr hj hR
    have i1 : vp_in (17 * nI s + nI j) 204 := pk_in (17 * s + j) 204 (by omega) (zz_ix s j)
    have i2 : vp_in (17 * nI t + nI j) 204 := pk_in (17 * t + j) 204 (by omega) (zz_ix t j)
    have key : ∀ x : Int32, (∀ i, i < 32 → bt x i = (decide (i < 17) && zz_cb h (M s i j) (M t i j))) → wX_combine_49 post (nI s) (nI t) (nI h) (d + 1) (nI (j + 1)) kd (upd rr (17 * s + j) x) ins rim gd gn :=
      fun x hx => ih (j + 1) _ (by omega) (zz_mr_1 hR (by omega) hx)
    refine pk_le 17 j (fun g => by omega) (fun _ => And.intro i1 ?_)
    rw [zz_cx s j (by omega), zz_cx t j (by omega)]
    refine nm_e (And.intro i2 (nm_e (pk_eq h 0 (fun e => And.intro i1 (nm_e (nm_r (nI_1 j) (key _ (fun i hi => ?_))))) (fun e => pk_eq h 1 (fun e1 => And.intro i1 (nm_e (nm_r (nI_1 j) (key _ (fun i hi => ?_)))))
      (fun e1 => pk_eq h 2 (fun e2 => And.intro i1 (nm_e (nm_r (nI_1 j) (key _ (fun i hi => ?_))))) (fun e2 => And.intro i1 (nm_e (nm_r (nI_1 j) (key _ (fun i hi => ?_))))))))))
    · rw [b_or, zz_mr_rd hR hs (by omega) hi, zz_mr_rd hR ht (by omega) hi]
      unfold zz_cb
      rw [if_pos e]
      cases decide (i < 17) <;> simp
    · rw [b_and, zz_mr_rd hR hs (by omega) hi, zz_mr_rd hR ht (by omega) hi]
      unfold zz_cb
      rw [if_neg e, if_pos e1]
      cases decide (i < 17) <;> simp
    · rw [b_and, zz_not _ hi, zz_mr_rd hR hs (by omega) hi, zz_mr_rd hR ht (by omega) hi]
      unfold zz_cb
      rw [if_neg e, if_neg e1, if_pos e2]
      cases decide (i < 17) <;> simp
    · rw [b_xor, zz_mr_rd hR hs (by omega) hi, zz_mr_rd hR ht (by omega) hi]
      unfold zz_cb
      rw [if_neg e, if_neg e1, if_neg e2]
      cases decide (i < 17) <;> simp
theorem yy_comb {post : Int32 → Prop} {h : Nat} {a b : Bool} (hh : h < 4) (hp : post (zz_o (zz_cb h a b))) : wpY_combined post (kd, mb, hd, f1, f2, pc, qu) (zz_o a) (zz_o b) (nI h) := by
  unfold wpY_combined
  dsimp only
  unfold zz_cb at hp
  refine pk_eq h 0 (fun e => ?_) (fun e => pk_eq h 1 (fun e1 => ?_) (fun e1 => pk_eq h 2 (fun e2 => ?_) (fun e2 => ?_)))
  · rw [if_pos e] at hp
    cases a
    · cases b
      · exact br_t rfl (br_t rfl hp)
      · exact br_t rfl (br_f (by decide) hp)
    · exact br_f (by decide) hp
  · rw [if_neg e, if_pos e1] at hp
    cases a
    · exact br_t rfl hp
    · cases b
      · exact br_f (by decide) (br_t rfl hp)
      · exact br_f (by decide) (br_f (by decide) hp)
  · rw [if_neg e, if_neg e1, if_pos e2] at hp
    cases a
    · exact br_t rfl hp
    · cases b
      · exact br_f (by decide) (br_t rfl hp)
      · exact br_f (by decide) (br_f (by decide) hp)
  · rw [if_neg e, if_neg e1, if_neg e2] at hp
    cases a <;> cases b
    · exact br_t rfl hp
    · exact br_f (by decide) hp
    · exact br_f (by decide) hp
    · exact br_t rfl hp
theorem yy_comb_l {post : Int32 → SY → Prop} {s t h : Nat} (hs : s < 12) (ht : t < 12) (hh : h < 4)
    (hc0 : ∀ mb', zz_RY mb' (zz_put s (fun i j => zz_cb h (M s i j) (M t i j)) M) → zz_ct (zz_put s (fun i j => zz_cb h (M s i j) (M t i j)) M) s = 0 → post 0 (upd kd s 0, mb', hd, f1, f2, pc, qu))
    (hc1 : ∀ mb', zz_RY mb' (zz_put s (fun i j => zz_cb h (M s i j) (M t i j)) M) → zz_ct (zz_put s (fun i j => zz_cb h (M s i j) (M t i j)) M) s ≠ 0 → post (nI (zz_ct (zz_put s (fun i j => zz_cb h (M s i j) (M t i j)) M) s)) (kd, mb', hd, f1, f2, pc, qu)) :
    ∀ d c mb, c + d = 289 → zz_RY mb (zz_mc s c (fun i j => zz_cb h (M s i j) (M t i j)) M) → wY_combine_72 post (nI s) (nI t) (nI h) (d + 1) (nI c) kd mb hd f1 f2 pc qu := by
  intro d
  induction d with
  | zero =>
    intro c mb hc' hR
    obtain rfl : c = 289 := by omega
    exact pk_le 289 289 (fun _ => yy_settle hs (zz_mc_e hR) (hc0 mb (zz_mc_e hR)) (hc1 mb (zz_mc_e hR))) (fun g => by omega)
  | succ d ih =>
    intro c mb hc' hR
    have i1 : vp_in (289 * nI s + nI c) 3468 := pk_in (289 * s + c) 3468 (by omega) (zz_iy s c)
    have i2 : vp_in (289 * nI t + nI c) 3468 := pk_in (289 * t + c) 3468 (by omega) (zz_iy t c)
    refine pk_le 289 c (fun g => by omega) (fun _ => And.intro i1 (And.intro i2 ?_))
    rw [zz_cy s c (by omega), zz_cy t c (by omega), zz_mc_rd hR hs (by omega), zz_mc_rd hR ht (by omega)]
    refine yy_comb hh (And.intro i1 (nm_e (nm_r (nI_1 c) (ih (c + 1) _ (by omega) (zz_mc_1 hR (by omega) ?_)))))
    rw [zz_o_v]
end
theorem i_vc_combine {k : Nat} {u : SX} {v : SY} (I : i_Rel k u v) (hk : k + 4 ≤ 2048) (v1 : Int32) (v2 : Int32) (v3 : Int32) : wpX_combine (fun r u' => wpY_combine (fun r' v' => r' = r ∧ i_Rel (k + 4) u' v') v v1 v2 v3) u v1 v2 v3 := by
  refine zz_el (P := fun u v => wpX_combine (fun r u' => wpY_combine (fun r' v' => r' = r ∧ i_Rel (k + 4) u' v') v v1 v2 v3) u v1 v2 v3) ?_ I
  intro kd rr ins rim gd gn mb hd f1 f2 pc qu M hT hX hY
  unfold wpX_combine wpY_combine
  dsimp only
  rcases zz_num 12 (by decide) v1 with ⟨s, hs, rfl⟩ | hb
  · rcases zz_num 12 (by decide) v2 with ⟨t, ht, rfl⟩ | hb
    · rw [nI_clamp (by omega : s < 2 ^ 31), nI_clamp (by omega : t < 2 ^ 31)]
      have is : vp_in (nI s) 12 := pk_in s 12 hs
      have it : vp_in (nI t) 12 := pk_in t 12 ht
      by_cases k0 : kd s = 0
      · refine xx_pairS hs ht ?_
        unfold zz_pr
        rw [if_pos k0]
        exact br_f (by decide) (yy_slot1 hs (br_f (by decide) (yy_slot1 ht (br_f (by decide) ⟨is, br_t k0 ⟨rfl, zz_in hT hX hY⟩⟩))))
      by_cases l0 : kd t = 0
      · refine xx_pairS hs ht ?_
        unfold zz_pr
        rw [if_neg k0, if_pos l0]
        exact br_f (by decide) (yy_slot1 hs (br_f (by decide) (yy_slot1 ht (br_f (by decide) ⟨is, br_f k0 ⟨it, br_t l0 ⟨rfl, zz_in hT hX hY⟩⟩⟩))))
      refine xx_pair0 hs ht k0 l0 (br_t rfl ⟨is, it, ?_⟩)
      have hY1 : ∀ {A : Prop}, A → wpY_isSlot (fun r_1 => (r_1 = 0 → False) ∧ (¬ r_1 = 0 → wpY_isSlot (fun r_10 => (r_10 = 0 → False) ∧ (¬ r_10 = 0 → A)) (kd, mb, hd, f1, f2, pc, qu) (nI t))) (kd, mb, hd, f1, f2, pc, qu) (nI s) := fun a => yy_slot1 hs (br_f (by decide) (yy_slot1 ht (br_f (by decide) a)))
      by_cases ke : kd s = kd t
      · refine br_t ke ?_
        rcases zz_num 4 (by decide) v3 with ⟨h, hh, rfl⟩ | hb
        · have hok : zz_okk (kd s) (fun i j => zz_cb h (M s i j) (M t i j)) := by
            have a1 := hT s hs
            have a2 := hT t ht
            rw [← ke] at a2
            rcases a1 with a1 | a1 | a1 | a1
            · exact absurd a1.1 k0
            · rw [a1.1] at a2 ⊢
              refine zz_ok1 (fun i j hi hj e => ?_)
              rcases zz_cb_t e with e | e
              · exact a1.2 i j hi hj e
              · exact zz_of1 a2 i j hi hj e
            · rw [a1.1] at a2 ⊢
              refine zz_ok2 (fun i j hi hj e => ?_)
              rcases zz_cb_t e with e | e
              · exact a1.2 i j hi hj e
              · exact zz_of2 a2 i j hi hj e
            · rw [a1.1] at a2 ⊢
              refine zz_ok3 (fun i j hi hj e => ?_)
              rcases zz_cb_t e with e | e
              · exact a1.2 i j hi hj e
              · exact zz_of3 a2 i j hi hj e
          refine br_f (nI_pos (by omega)) (br_t (nI_le (b := 3) (by omega) (by decide)) (Exists.intro 18 ?_))
          refine xx_comb_l hs ht hh (fun rr' hX' e0 => ?_) (fun rr' hX' e1 => ?_) 17 0 rr rfl (zz_mr_0 hX (fun b hb => by omega))
          · refine yy_slot1 hs (br_f (by decide) (yy_slot1 ht (br_f (by decide) ⟨is, br_f k0 ⟨it, br_f l0 ⟨is, it, br_t ke (br_f (nI_pos (by omega)) (br_t (nI_le (b := 3) (by omega) (by decide)) (Exists.intro 290 ?_)))⟩⟩⟩)))
            refine yy_comb_l hs ht hh (fun mb' hY' _ => ⟨rfl, zz_in (zz_Ty_put hT (zz_ok0 (fun i j hi hj => ?_))) hX' hY'⟩) (fun mb' hY' e => absurd e0 e) 289 0 mb rfl (zz_mc_0 hY)
            have := zz_ct_0 e0 i j hi hj
            rw [zz_put_s] at this
            exact this
          · refine yy_slot1 hs (br_f (by decide) (yy_slot1 ht (br_f (by decide) ⟨is, br_f k0 ⟨it, br_f l0 ⟨is, it, br_t ke (br_f (nI_pos (by omega)) (br_t (nI_le (b := 3) (by omega) (by decide)) (Exists.intro 290 ?_)))⟩⟩⟩)))
            exact yy_comb_l hs ht hh (fun mb' hY' e => absurd e e1) (fun mb' hY' _ => ⟨rfl, zz_in (zz_Ty_putk hT hok) hX' hY'⟩) 289 0 mb rfl (zz_mc_0 hY)
        · rcases hb with hb | ⟨hb1, hb2⟩
          · exact br_t hb (yy_slot1 hs (br_f (by decide) (yy_slot1 ht (br_f (by decide) ⟨is, br_f k0 ⟨it, br_f l0 ⟨is, it, br_t ke (br_t hb ⟨rfl, zz_in hT hX hY⟩)⟩⟩⟩))))
          · have hb3 : ¬ v3 ≤ 3 := zz_nle (n := 3) (by decide) hb2
            exact br_f hb1 (br_f hb3 (yy_slot1 hs (br_f (by decide) (yy_slot1 ht (br_f (by decide) ⟨is, br_f k0 ⟨it, br_f l0 ⟨is, it, br_t ke (br_f hb1 (br_f hb3 ⟨rfl, zz_in hT hX hY⟩))⟩⟩⟩)))))
      · exact br_f ke (yy_slot1 hs (br_f (by decide) (yy_slot1 ht (br_f (by decide) ⟨is, br_f k0 ⟨it, br_f l0 ⟨is, it, br_f ke ⟨rfl, zz_in hT hX hY⟩⟩⟩⟩))))
    · exact xx_pairC hs hb (br_f (by decide) (yy_slot1 hs (br_f (by decide) (yy_slot0 hb (br_t rfl ⟨rfl, zz_in hT hX hY⟩)))))
  · exact xx_pairB hb (br_f (by decide) (yy_slot0 hb (br_t rfl ⟨rfl, zz_in hT hX hY⟩)))
/-! grow -/
def zz_any (p : Nat → Bool) : Nat → Bool
  | 0 => false
  | n + 1 => zz_any p n || p n
def zz_nr (N : Nat → Nat → Bool) (i j : Nat) : Bool := zz_any (fun d => zz_G N (i + 2 * (d / 3)) (j + 2 * (d % 3))) 9
def zz_gr (N : Nat → Nat → Bool) (i j : Nat) : Bool := decide (i % 2 = 1 ∧ j % 2 = 1) && zz_nr N i j
theorem zz_shl2 {x : Int32} {N : Nat → Nat → Bool} {b : Nat} (h : ∀ i, i < 32 → bt x i = zz_G N (i + 2) b) {i : Nat} (hi : i < 32) : bt (x <<< ((2 : Int32) &&& 31)) i = zz_G N i b := by
  rw [show (2 : Int32) = nI 2 from rfl, b_shl 2 (by omega) x hi]
  by_cases c : 2 ≤ i
  · rw [decide_eq_true c, h (i - 2) (by omega), Bool.true_and, show i - 2 + 2 = i by omega]
  · rw [decide_eq_false c, Bool.false_and]
    unfold zz_G
    rw [decide_eq_false (by omega), Bool.false_and]
theorem zz_shr2 {x : Int32} {N : Nat → Nat → Bool} {b : Nat} (h : ∀ i, i < 32 → bt x i = zz_G N (i + 2) b) {i : Nat} (hi : i < 32) : bt (x >>> ((2 : Int32) &&& 31)) i = zz_G N (i + 4) b := by
  rw [show (2 : Int32) = nI 2 from rfl, b_sshr 2 (by omega) x hi]
  by_cases c : 2 + i < 32
  · rw [if_pos c, h (2 + i) c, show 2 + i + 2 = i + 4 by omega]
  · rw [if_neg c, h 31 (by omega)]
    unfold zz_G
    rw [decide_eq_false (by omega), decide_eq_false (by omega), Bool.false_and, Bool.false_and]
theorem zz_shl1 {x : Int32} {N : Nat → Nat → Bool} {b : Nat} (h : ∀ i, i < 32 → bt x i = zz_G N (i + 2) b) {i : Nat} (hi : i < 32) : bt (x <<< ((1 : Int32) &&& 31)) i = zz_G N (i + 1) b := by
  rw [show (1 : Int32) = nI 1 from rfl, b_shl 1 (by omega) x hi]
  by_cases c : 1 ≤ i
  · rw [decide_eq_true c, h (i - 1) (by omega), Bool.true_and, show i - 1 + 2 = i + 1 by omega]
  · rw [decide_eq_false c, Bool.false_and]
    unfold zz_G
    rw [decide_eq_false (by omega), Bool.false_and]
theorem zz_shr1 {x : Int32} {N : Nat → Nat → Bool} {b : Nat} (h : ∀ i, i < 32 → bt x i = zz_G N (i + 2) b) {i : Nat} (hi : i < 32) : bt (x >>> ((1 : Int32) &&& 31)) i = zz_G N (i + 3) b := by
  rw [show (1 : Int32) = nI 1 from rfl, b_sshr 1 (by omega) x hi]
  by_cases c : 1 + i < 32
  · rw [if_pos c, h (1 + i) c, show 1 + i + 2 = i + 3 by omega]
  · rw [if_neg c, h 31 (by omega)]
    unfold zz_G
    rw [decide_eq_false (by omega), decide_eq_false (by omega), Bool.false_and, Bool.false_and]
section
variable {kd rr ins rim gd gn mb hd f1 f2 pc qu : Nat → Int32} {M : Nat → Nat → Nat → Bool}
theorem zz_gr_bt (hX : zz_RX rr M) {s j : Nat} (hs : s < 12) (hj2 : j % 2 = 1) {x : Int32} (hx : x = (zz_w rr s j ||| zz_w rr s (j + 2)) ||| zz_w rr s (j + 4)) {i : Nat} (hi : i < 32) :
    bt (((x ||| (x <<< ((2 : Int32) &&& 31))) ||| (x >>> ((2 : Int32) &&& 31))) &&& 43690) i = (decide (i < 17) && zz_gr (M s) i j) := by
  have h0 : ∀ i, i < 32 → bt x i = (zz_G (M s) (i + 2) j || zz_G (M s) (i + 2) (j + 2) || zz_G (M s) (i + 2) (j + 4)) := by
    intro i hi
    rw [hx, b_or, b_or, zz_w_bt hX hs _ hi, zz_w_bt hX hs _ hi, zz_w_bt hX hs _ hi]
  have h1 : bt (x <<< ((2 : Int32) &&& 31)) i = (zz_G (M s) i j || zz_G (M s) i (j + 2) || zz_G (M s) i (j + 4)) := by
    rw [show (2 : Int32) = nI 2 from rfl, b_shl 2 (by omega) x hi]
    by_cases c : 2 ≤ i
    · rw [decide_eq_true c, h0 (i - 2) (by omega), Bool.true_and, show i - 2 + 2 = i by omega]
    · rw [decide_eq_false c, Bool.false_and]
      have z : ∀ b, zz_G (M s) i b = false := fun b => by
        unfold zz_G
        rw [decide_eq_false (by omega), Bool.false_and]
      rw [z, z, z]
      rfl
  have h2 : bt (x >>> ((2 : Int32) &&& 31)) i = (zz_G (M s) (i + 4) j || zz_G (M s) (i + 4) (j + 2) || zz_G (M s) (i + 4) (j + 4)) := by
    rw [show (2 : Int32) = nI 2 from rfl, b_sshr 2 (by omega) x hi]
    by_cases c : 2 + i < 32
    · rw [if_pos c, h0 (2 + i) c, show 2 + i + 2 = i + 4 by omega]
    · rw [if_neg c, h0 31 (by omega)]
      have z : ∀ a b, 19 ≤ a → zz_G (M s) a b = false := fun a b ha => by
        unfold zz_G
        rw [decide_eq_false (by omega), Bool.false_and]
      rw [z _ _ (by omega), z _ _ (by omega), z _ _ (by omega), z _ _ (by omega), z _ _ (by omega), z _ _ (by omega)]
  rw [b_and, b_or, b_or, h0 i hi, h1, h2, zz_odd i hi]
  have e : zz_nr (M s) i j = (((((((((false || zz_G (M s) i j) || zz_G (M s) i (j + 2)) || zz_G (M s) i (j + 4)) || zz_G (M s) (i + 2) j) || zz_G (M s) (i + 2) (j + 2)) || zz_G (M s) (i + 2) (j + 4)) || zz_G (M s) (i + 4) j) || zz_G (M s) (i + 4) (j + 2)) || zz_G (M s) (i + 4) (j + 4)) := rfl
  unfold zz_gr
  rw [e]
  by_cases c : i < 17
  · by_cases c2 : i % 2 = 1
    · rw [decide_eq_true c, decide_eq_true (⟨c, c2⟩ : i < 17 ∧ i % 2 = 1), decide_eq_true (⟨c2, hj2⟩ : i % 2 = 1 ∧ j % 2 = 1)]
      generalize zz_G (M s) i j = a1
      generalize zz_G (M s) i (j + 2) = a2
      generalize zz_G (M s) i (j + 4) = a3
      generalize zz_G (M s) (i + 2) j = a4
      generalize zz_G (M s) (i + 2) (j + 2) = a5
      generalize zz_G (M s) (i + 2) (j + 4) = a6
      generalize zz_G (M s) (i + 4) j = a7
      generalize zz_G (M s) (i + 4) (j + 2) = a8
      generalize zz_G (M s) (i + 4) (j + 4) = a9
      revert a1 a2 a3 a4 a5 a6 a7 a8 a9
      decide
    · rw [decide_eq_false (fun z => c2 z.2 : ¬ (i < 17 ∧ i % 2 = 1)), decide_eq_false (fun z => c2 z.1 : ¬ (i % 2 = 1 ∧ j % 2 = 1)), Bool.and_false, Bool.false_and, Bool.and_false]
  · rw [decide_eq_false c, decide_eq_false (fun z => c z.1 : ¬ (i < 17 ∧ i % 2 = 1)), Bool.and_false, Bool.false_and]
theorem xx_grow_2 {post : Int32 → SX → Prop} {s : Nat} (hs : s < 12) (hg : ∀ b, b < 17 → b % 2 = 1 → ∀ i, i < 32 → bt (gd b) i = (decide (i < 17) && zz_gr (M s) i b)) (he : ∀ b, b < 17 → b % 2 = 0 → ∀ i, i < 17 → zz_gr (M s) i b = M s i b)
    (hc : ∀ rr', zz_RX rr' (zz_put s (zz_gr (M s)) M) → post (nI (zz_ct (zz_put s (zz_gr (M s)) M) s)) (kd, rr', ins, rim, gd, gn)) :
    ∀ n j rr, j % 2 = 1 → j ≤ 17 → 17 < n + j → zz_RX rr (zz_mr s j (zz_gr (M s)) M) → wX_grow_75 post (nI s) n (nI j) kd rr ins rim gd gn := by
  intro n
  induction n with
  | zero => intro j rr h1 h2 h4 hR; omega
  | succ n ih =>
    intro j rr h1 h2 h4 hR
    refine pk_le 17 j (fun g => ?_) (fun g => And.intro (pk_in j 17 (by omega)) (And.intro (pk_in (17 * s + j) 204 (by omega) (zz_ix s j)) ?_))
    · have hX' := zz_mr_e hR (fun b hb1 hb2 i hi => by omega)
      exact xx_count hs hX' (hc rr hX')
    · rw [zz_cx s j (by omega), nI_clamp (by omega : j < 2 ^ 31)]
      by_cases c : j + 1 < 17
      · exact nm_e (nm_r (zz_a2 j) (ih (j + 2) _ (by omega) (by omega) (by omega) (zz_mr_2 hR (by omega) (fun i hi => hg j (by omega) h1 i hi) (fun i hi => he (j + 1) c (by omega) i hi))))
      · omega
theorem xx_grow_1 {post : Int32 → SX → Prop} {s : Nat} (hs : s < 12) (hX : zz_RX rr M)
    (hc : ∀ gd', (∀ b, b < 17 → b % 2 = 1 → ∀ i, i < 32 → bt (gd' b) i = (decide (i < 17) && zz_gr (M s) i b)) → ∃ n, wX_grow_75 post (nI s) n (1 : Int32) kd rr ins rim gd' gn) :
    ∀ n j gd, j % 2 = 1 → j ≤ 17 → 17 < n + j → (∀ b, b < j → b % 2 = 1 → ∀ i, i < 32 → bt (gd b) i = (decide (i < 17) && zz_gr (M s) i b)) → wX_grow_14 post (nI s) n (nI j) kd rr ins rim gd gn := by
  intro n
  induction n with
  | zero => intro j rr h1 h2 h4 hR; omega
  | succ n ih =>
    intro j gd h1 h2 h4 hG
    refine pk_le 17 j (fun g => hc gd (fun b hb => hG b (by omega))) (fun g => ?_)
    refine xx_row hs (by omega) (xx_row0 hs (by omega) (xx_rowp2 hs (by omega) ?_))
    refine nm_e (And.intro (pk_in j 17 (by omega)) ?_)
    rw [nI_clamp (by omega : j < 2 ^ 31)]
    refine nm_e (nm_r (zz_a2 j) (ih (j + 2) _ (by omega) (by omega) (by omega) (fun b hb hb2 i hi => ?_)))
    by_cases c : b = j
    · rw [c, pk_us]
      exact zz_gr_bt hX hs h1 rfl hi
    · rw [pk_un c]
      exact hG b (by omega) hb2 i hi
theorem yy_near_l {post : Int32 → Prop} {s i j : Nat} (hs : s < 12) (hY : zz_RY mb M) (hi : i < 17) (hj : j < 17) (h : post (zz_o (zz_nr (M s) i j))) :
    ∀ n d, d + n = 9 → wY_isNear_6 post (nI s) (nI i) (nI j) kd mb hd f1 f2 pc qu (n + 1) (zz_o (zz_any (fun d => zz_G (M s) (i + 2 * (d / 3)) (j + 2 * (d % 3))) d)) (nI d) := by
  intro n
  induction n with
  | zero =>
    intro d hd
    obtain rfl : d = 9 := by omega
    exact pk_le 9 9 (fun _ => And.intro (zz_o_n _) h) (fun g => by omega)
  | succ n ih =>
    intro d hd'
    have ih' := ih (d + 1) (by omega)
    have es : zz_any (fun d => zz_G (M s) (i + 2 * (d / 3)) (j + 2 * (d % 3))) (d + 1) = (zz_any (fun d => zz_G (M s) (i + 2 * (d / 3)) (j + 2 * (d % 3))) d || zz_G (M s) (i + 2 * (d / 3)) (j + 2 * (d % 3))) := rfl
    rw [es] at ih'
    refine pk_le 9 d (fun g => by omega) (fun _ => ?_)
    cases ea : zz_any (fun d => zz_G (M s) (i + 2 * (d / 3)) (j + 2 * (d % 3))) d with
    | true =>
      rw [ea, Bool.true_or] at ih'
      exact br_f (by decide) (nm_r (nI_1 d) ih')
    | false =>
      rw [ea, Bool.false_or] at ih'
      refine br_t rfl (And.intro zz_n3 (And.intro zz_n3 ?_))
      rw [zz_r3 (by omega : d < 2 ^ 31), zz_d3 (by omega : d < 2 ^ 31), zz_t2, zz_t2, nI_add, nI_add]
      refine yy_hasE (i + 2 * (d / 3)) (j + 2 * (d % 3)) rfl rfl hs hY (by omega) (by omega) (fun e => br_t rfl (nm_r (nI_1 d) ?_)) (fun e => br_f (by decide) (nm_r (nI_1 d) ?_))
      · rw [e] at ih'
        exact ih'
      · rw [e] at ih'
        exact ih'
theorem yy_near {post : Int32 → Prop} {s i j : Nat} (hs : s < 12) (hY : zz_RY mb M) (hi : i < 17) (hj : j < 17) (h : post (zz_o (zz_nr (M s) i j))) : wpY_isNear post (kd, mb, hd, f1, f2, pc, qu) (nI s) (nI i) (nI j) := by
  refine Exists.intro 10 ?_
  exact yy_near_l hs hY hi hj h 9 0 rfl
theorem yy_grow_2 {post : Int32 → SY → Prop} {s : Nat} {N : Nat → Nat → Bool} (hs : s < 12) (hh : ∀ c, c < 289 → hd c = zz_o (N (c / 17) (c % 17)))
    (hc : ∀ mb', zz_RY mb' (zz_put s N M) → post (nI (zz_ct (zz_put s N M) s)) (kd, mb', hd, f1, f2, pc, qu)) :
    ∀ d c mb, c + d = 289 → zz_RY mb (zz_mc s c N M) → wY_grow_76 post (nI s) (d + 1) (nI c) kd mb hd f1 f2 pc qu := by
  intro d
  induction d with
  | zero =>
    intro c mb hc' hR
    obtain rfl : c = 289 := by omega
    exact pk_le 289 289 (fun _ => yy_count hs (zz_mc_e hR) (hc mb (zz_mc_e hR))) (fun g => by omega)
  | succ d ih =>
    intro c mb hc' hR
    refine pk_le 289 c (fun g => by omega) (fun _ => And.intro (pk_in c 289 (by omega)) (And.intro (pk_in (289 * s + c) 3468 (by omega) (zz_iy s c)) ?_))
    rw [zz_cy s c (by omega), nI_clamp (by omega : c < 2 ^ 31), hh c (by omega), zz_o_v]
    exact nm_e (nm_r (nI_1 c) (ih (c + 1) _ (by omega) (zz_mc_1 hR (by omega) rfl)))
theorem yy_grow_1 {post : Int32 → SY → Prop} {s : Nat} (hs : s < 12) (hY : zz_RY mb M)
    (hc : ∀ hd', (∀ c, c < 289 → hd' c = zz_o (zz_gr (M s) (c / 17) (c % 17))) → ∃ n, wY_grow_76 post (nI s) n (0 : Int32) kd mb hd' f1 f2 pc qu) :
    ∀ d c hd, c + d = 289 → (∀ b, b < c → hd b = zz_o (zz_gr (M s) (b / 17) (b % 17))) → wY_grow_14 post (nI s) (d + 1) (nI c) kd mb hd f1 f2 pc qu := by
  intro d
  induction d with
  | zero =>
    intro c hd hc' hR
    obtain rfl : c = 289 := by omega
    exact pk_le 289 289 (fun _ => hc hd hR) (fun g => by omega)
  | succ d ih =>
    intro c hd hc' hR
    have key : ∀ b : Bool, b = zz_gr (M s) (c / 17) (c % 17) → wY_grow_14 post (nI s) (d + 1) (nI (c + 1)) kd mb (upd hd c (zz_o b)) f1 f2 pc qu := by
      intro b eb
      refine ih (c + 1) _ (by omega) (fun e he => ?_)
      by_cases ce : e = c
      · rw [ce, pk_us, eb]
      · rw [pk_un ce]
        exact hR e (by omega)
    refine pk_le 289 c (fun g => by omega) (fun _ => ?_)
    rw [zz_r17 (by omega : c < 2 ^ 31), zz_d17 (by omega : c < 2 ^ 31), zz_r2 (by omega : c / 17 < 2 ^ 31), zz_r2 (by omega : c % 17 < 2 ^ 31), nI_clamp (by omega : c < 2 ^ 31)]
    have i1 : vp_in (nI c) 289 := pk_in c 289 (by omega)
    refine And.intro zz_n17 (And.intro zz_n2 (pk_eq (c / 17 % 2) 1 (fun e1 => And.intro zz_n17 (And.intro zz_n2 (pk_eq (c % 17 % 2) 1 (fun e2 => And.intro zz_n17 (And.intro zz_n17 (yy_near hs hY (by omega) (by omega) ?_))) (fun e2 => And.intro i1 (nm_e (nm_r (nI_1 c) (key false ?_))))))) (fun e1 => And.intro i1 (nm_e (nm_r (nI_1 c) (key false ?_))))))
    · cases en : zz_nr (M s) (c / 17) (c % 17) with
      | false =>
        refine br_t rfl (And.intro i1 (nm_e (nm_r (nI_1 c) (key false ?_))))
        unfold zz_gr
        rw [en, Bool.and_false]
      | true =>
        refine br_f (by decide) (And.intro i1 (nm_e (nm_r (nI_1 c) (key true ?_))))
        unfold zz_gr
        rw [en, decide_eq_true ⟨e1, e2⟩]
        rfl
    · unfold zz_gr
      rw [decide_eq_false (fun z => e2 z.2), Bool.false_and]
    · unfold zz_gr
      rw [decide_eq_false (fun z => e1 z.1), Bool.false_and]
end
theorem i_vc_grow {k : Nat} {u : SX} {v : SY} (I : i_Rel k u v) (hk : k + 4 ≤ 2048) (v1 : Int32) : wpX_grow (fun r u' => wpY_grow (fun r' v' => r' = r ∧ i_Rel (k + 4) u' v') v v1) u v1 := by
  refine zz_el (P := fun u v => wpX_grow (fun r u' => wpY_grow (fun r' v' => r' = r ∧ i_Rel (k + 4) u' v') v v1) u v1) ?_ I
  intro kd rr ins rim gd gn mb hd f1 f2 pc qu M hT hX hY
  unfold wpX_grow wpY_grow
  dsimp only
  rcases zz_area kd v1 with ⟨s, hs, rfl, hk3⟩ | ⟨r, hr, hr0, hrX, hrY⟩
  · have hh := hT s hs
    rw [hk3] at hh
    have he : ∀ b, b < 17 → b % 2 = 0 → ∀ i, i < 17 → zz_gr (M s) i b = M s i b := by
      intro b hb hb2 i hi
      have e1 : zz_gr (M s) i b = false := by
        unfold zz_gr
        rw [decide_eq_false (by omega), Bool.false_and]
      rw [e1]
      cases e : M s i b with
      | false => rfl
      | true => exact absurd (zz_of3 hh i b hi hb e).2 (by omega)
    refine xx_area3 hs hk3 (br_t rfl (Exists.intro 18 ?_))
    refine xx_grow_1 hs hX (fun gd' hg => Exists.intro 18 ?_) 18 1 gd (by omega) (by omega) (by omega) (fun b hb hb2 => by omega)
    refine xx_grow_2 hs hg he (fun rr' hX' => ?_) 18 1 rr (by omega) (by omega) (by omega) (zz_mr_0 hX (fun b hb i hi => he b (by omega) (by omega) i hi))
    refine yy_area3 hs hk3 (br_t (by decide) (Exists.intro 290 ?_))
    refine yy_grow_1 hs hY (fun hd' hh' => Exists.intro 290 ?_) 289 0 hd rfl (fun b hb => by omega)
    refine yy_grow_2 hs hh' (fun mb' hY' => ⟨rfl, zz_in (zz_Ty_putk hT ?_) hX' hY'⟩) 289 0 mb rfl (zz_mc_0 hY)
    rw [hk3]
    refine zz_ok3 (fun i j hi hj e => ?_)
    unfold zz_gr at e
    rw [Bool.and_eq_true, decide_eq_true_iff] at e
    exact e.1
  · exact hrX _ _ _ _ _ _ (br_f hr (hrY _ _ _ _ _ _ _ (br_f hr0 ⟨rfl, zz_in hT hX hY⟩)))
theorem i_vc_kind {k : Nat} {u : SX} {v : SY} (I : i_Rel k u v) (hk : k + 4 ≤ 2048) (v1 : Int32) : wpX_kind (fun r => wpY_kind (fun r' => r' = r ∧ i_Rel (k + 4) u v) v v1) u v1 := by
  refine zz_el (P := fun u v => wpX_kind (fun r => wpY_kind (fun r' => r' = r ∧ i_Rel (k + 4) u v) v v1) u v1) ?_ I
  intro kd rr ins rim gd gn mb hd f1 f2 pc qu M hT hX hY
  unfold wpX_kind wpY_kind
  dsimp only
  rcases zz_num 12 (by decide) v1 with ⟨s, hs, rfl⟩ | hb
  · exact xx_slot1 hs (br_f (by decide) ⟨pk_in s 12 hs, yy_slot1 hs (br_f (by decide) ⟨pk_in s 12 hs, rfl, zz_in hT hX hY⟩)⟩)
  · exact xx_slot0 hb (br_t rfl (yy_slot0 hb (br_t rfl ⟨rfl, zz_in hT hX hY⟩)))
theorem i_vc_size {k : Nat} {u : SX} {v : SY} (I : i_Rel k u v) (hk : k + 4 ≤ 2048) (v1 : Int32) : wpX_size (fun r => wpY_size (fun r' => r' = r ∧ i_Rel (k + 4) u v) v v1) u v1 := by
  refine zz_el (P := fun u v => wpX_size (fun r => wpY_size (fun r' => r' = r ∧ i_Rel (k + 4) u v) v v1) u v1) ?_ I
  intro kd rr ins rim gd gn mb hd f1 f2 pc qu M hT hX hY
  unfold wpX_size wpY_size
  dsimp only
  rcases zz_num 12 (by decide) v1 with ⟨s, hs, rfl⟩ | hb
  · exact xx_slot1 hs (br_f (by decide) (xx_count hs hX (yy_slot1 hs (br_f (by decide) (yy_count hs hY ⟨rfl, zz_in hT hX hY⟩)))))
  · exact xx_slot0 hb (br_t rfl (yy_slot0 hb (br_t rfl ⟨rfl, zz_in hT hX hY⟩)))
end
section
/-! insides and rims: X lays words, Y numbers -/
def zz_rk (P : Nat → Nat → Nat) (b : Nat) (x y : Int32) : Prop := (∀ i, i < 32 → bt x i = decide (i < 17 ∧ P i b = 0)) ∧ (∀ i, i < 32 → bt y i = decide (i < 17 ∧ P i b = 1))
def zz_Ld (P : Nat → Nat → Nat) (w : Nat) (ins rim : Nat → Int32) : Prop := ∀ b, b < 17 → zz_rk P b (ins (17 * w + b)) (rim (17 * w + b))
theorem zz_Ld0 {P : Nat → Nat → Nat} {ins rim : Nat → Int32} (h : zz_Ld P 0 ins rim) : ∀ b, b < 17 → zz_rk P b (ins b) (rim b) := by
  intro b hb
  have := h b hb
  rwa [Nat.mul_zero, Nat.zero_add] at this
theorem zz_pt_le (k : Int32) (N : Nat → Nat → Bool) (i j : Nat) : zz_pt k N i j ≤ 2 := by
  unfold zz_pt
  repeat' split
  all_goals omega
theorem zz_G_t {N : Nat → Nat → Bool} {a b : Nat} : zz_G N a b = true ↔ (2 ≤ a ∧ a ≤ 18 ∧ 2 ≤ b ∧ b ≤ 18) ∧ N (a - 2) (b - 2) = true := by
  unfold zz_G
  rw [Bool.and_eq_true, decide_eq_true_iff]
theorem zz_G_hi {N : Nat → Nat → Bool} {a b : Nat} (h : 19 ≤ a) : zz_G N a b = false := by
  unfold zz_G
  rw [decide_eq_false (by omega), Bool.false_and]
theorem zz_G_f {N : Nat → Nat → Bool} {a b : Nat} (h : zz_G N a b = true → False) : zz_G N a b = false := by
  cases e : zz_G N a b with
  | false => rfl
  | true => exact (h e).elim
theorem zz_G_3 {N : Nat → Nat → Bool} (hk : zz_okk 3 N) {a b : Nat} (h : a % 2 = 0 ∨ b % 2 = 0) : zz_G N a b = false :=
  zz_G_f (fun e => by
    have h1 := zz_G_t.1 e
    have h2 := zz_of3 hk (a - 2) (b - 2) (by omega) (by omega) h1.2
    omega)
theorem zz_G_2 {N : Nat → Nat → Bool} (hk : zz_okk 2 N) {a b : Nat} (h : (a + b) % 2 = 0) : zz_G N a b = false :=
  zz_G_f (fun e => by
    have h1 := zz_G_t.1 e
    have h2 := zz_of2 hk (a - 2) (b - 2) (by omega) (by omega) h1.2
    omega)
theorem zz_pt3_oo {N : Nat → Nat → Bool} {i j : Nat} (hi : i % 2 = 1) (hj : j % 2 = 1) : zz_pt 3 N i j = if zz_G N (i + 2) (j + 2) = true then 0 else 2 := by
  unfold zz_pt
  rw [if_neg (by decide : ¬ (3 : Int32) = 2), if_neg (by decide : ¬ (3 : Int32) = 1), if_pos (⟨hi, hj⟩ : i % 2 = 1 ∧ j % 2 = 1)]
theorem zz_pt3_v {N : Nat → Nat → Bool} {i j : Nat} (hi : i % 2 = 0) (hj : j % 2 = 0) (h : zz_G N (i + 2) (j + 2) = false) : zz_pt 3 N i j = if zz_cor N i j = 4 then 0 else if zz_cor N i j = 0 then 2 else 1 := by
  unfold zz_pt
  rw [if_neg (by decide : ¬ (3 : Int32) = 2), if_neg (by decide : ¬ (3 : Int32) = 1), if_neg (by omega : ¬ (i % 2 = 1 ∧ j % 2 = 1)), if_pos (⟨hi, hj⟩ : i % 2 = 0 ∧ j % 2 = 0), h, if_neg (by decide)]
theorem zz_pt3_e {N : Nat → Nat → Bool} {i j : Nat} (hij : (i + j) % 2 = 1) (h : zz_G N (i + 2) (j + 2) = false) : zz_pt 3 N i j = if zz_bes N i j = 2 then 0 else if zz_bes N i j = 1 then 1 else 2 := by
  unfold zz_pt
  rw [if_neg (by decide : ¬ (3 : Int32) = 2), if_neg (by decide : ¬ (3 : Int32) = 1), if_neg (by omega : ¬ (i % 2 = 1 ∧ j % 2 = 1)), if_neg (by omega : ¬ (i % 2 = 0 ∧ j % 2 = 0)), h, if_neg (by decide)]
theorem zz_pt2_v {N : Nat → Nat → Bool} {i j : Nat} (hi : i % 2 = 0) (hj : j % 2 = 0) (h : zz_G N (i + 2) (j + 2) = false) : zz_pt 2 N i j = if zz_bes N i j = 0 then 2 else zz_bes N i j % 2 := by
  unfold zz_pt
  rw [if_pos (rfl : (2 : Int32) = 2), if_pos (⟨hi, hj⟩ : i % 2 = 0 ∧ j % 2 = 0), h, if_neg (by decide)]
theorem zz_pt2_n {N : Nat → Nat → Bool} {i j : Nat} (hij : ¬ (i % 2 = 0 ∧ j % 2 = 0)) : zz_pt 2 N i j = if zz_G N (i + 2) (j + 2) = true then 0 else 2 := by
  unfold zz_pt
  rw [if_pos (rfl : (2 : Int32) = 2), if_neg hij]
theorem zz_pt1 {N : Nat → Nat → Bool} {i j : Nat} : zz_pt 1 N i j = if zz_G N (i + 2) (j + 2) = true then 0 else 2 := by
  unfold zz_pt
  rw [if_neg (by decide : ¬ (1 : Int32) = 2), if_pos (rfl : (1 : Int32) = 1)]
/-- an element that is a member or outside -/
theorem zz_mo {N : Nat → Nat → Bool} {i b p : Nat} (e : p = if zz_G N (i + 2) b = true then 0 else 2) : zz_G N (i + 2) b = decide (i < 17 ∧ p = 0) ∧ false = decide (i < 17 ∧ p = 1) := by
  subst e
  cases g : zz_G N (i + 2) b with
  | false => simp
  | true =>
    have := (zz_G_t.1 g).1
    simp
    omega
theorem zz_areaO {N : Nat → Nat → Bool} (hk : zz_okk 3 N) {j : Nat} (hj : j % 2 = 1) {r : Int32} (hr : ∀ i, i < 32 → bt r i = zz_G N (i + 2) (j + 2)) :
    zz_rk (zz_pt 3 N) j (r ||| ((r <<< ((1 : Int32) &&& 31)) &&& (r >>> ((1 : Int32) &&& 31)))) ((r <<< ((1 : Int32) &&& 31)) ^^^ (r >>> ((1 : Int32) &&& 31))) := by
  have key : ∀ i, i < 32 → (zz_G N (i + 2) (j + 2) || (zz_G N (i + 1) (j + 2) && zz_G N (i + 3) (j + 2))) = decide (i < 17 ∧ zz_pt 3 N i j = 0) ∧ (zz_G N (i + 1) (j + 2) ^^ zz_G N (i + 3) (j + 2)) = decide (i < 17 ∧ zz_pt 3 N i j = 1) := by
    intro i hi
    by_cases c : i % 2 = 1
    · rw [zz_G_3 hk (a := i + 1) (by omega), zz_G_3 hk (a := i + 3) (by omega), Bool.false_and, Bool.or_false]
      exact zz_mo (zz_pt3_oo c hj)
    · have e0 : zz_G N (i + 2) (j + 2) = false := zz_G_3 hk (by omega)
      have e : zz_bes N i j = (zz_G N (i + 1) (j + 2)).toNat + (zz_G N (i + 3) (j + 2)).toNat := by
        unfold zz_bes
        rw [zz_G_3 hk (a := i + 2) (b := j + 1) (by omega), zz_G_3 hk (a := i + 2) (b := j + 3) (by omega)]
        rfl
      rw [zz_pt3_e (by omega) e0, e, e0]
      by_cases d : i < 17
      · generalize zz_G N (i + 1) (j + 2) = a1
        generalize zz_G N (i + 3) (j + 2) = a2
        cases a1 <;> cases a2 <;> simp [d]
      · rw [zz_G_hi (a := i + 1) (by omega), zz_G_hi (a := i + 3) (by omega)]
        simp [d]
  constructor
  · intro i hi
    rw [b_or, b_and, hr i hi, zz_shl1 hr hi, zz_shr1 hr hi]
    exact (key i hi).1
  · intro i hi
    rw [b_xor, zz_shl1 hr hi, zz_shr1 hr hi]
    exact (key i hi).2
theorem zz_areaE {N : Nat → Nat → Bool} (hk : zz_okk 3 N) {j : Nat} (hj : j % 2 = 0) {p q w v : Int32} (hp : ∀ i, i < 32 → bt p i = zz_G N (i + 2) (j + 3)) (hq : ∀ i, i < 32 → bt q i = zz_G N (i + 2) (j + 1))
    (hw : w = (((p <<< ((1 : Int32) &&& 31)) &&& (p >>> ((1 : Int32) &&& 31))) &&& (q <<< ((1 : Int32) &&& 31))) &&& (q >>> ((1 : Int32) &&& 31)))
    (hv : v = (((p <<< ((1 : Int32) &&& 31)) ||| (p >>> ((1 : Int32) &&& 31))) ||| (q <<< ((1 : Int32) &&& 31))) ||| (q >>> ((1 : Int32) &&& 31))) :
    zz_rk (zz_pt 3 N) j ((p &&& q) ||| w) ((p ^^^ q) ||| (v &&& (w ^^^ (-1)))) := by
  have bw : ∀ i, i < 32 → bt w i = (((zz_G N (i + 1) (j + 3) && zz_G N (i + 3) (j + 3)) && zz_G N (i + 1) (j + 1)) && zz_G N (i + 3) (j + 1)) := by
    intro i hi
    rw [hw, b_and, b_and, b_and, zz_shl1 hp hi, zz_shr1 hp hi, zz_shl1 hq hi, zz_shr1 hq hi]
  have bv : ∀ i, i < 32 → bt v i = (((zz_G N (i + 1) (j + 3) || zz_G N (i + 3) (j + 3)) || zz_G N (i + 1) (j + 1)) || zz_G N (i + 3) (j + 1)) := by
    intro i hi
    rw [hv, b_or, b_or, b_or, zz_shl1 hp hi, zz_shr1 hp hi, zz_shl1 hq hi, zz_shr1 hq hi]
  have key : ∀ i, i < 32 → ((zz_G N (i + 2) (j + 3) && zz_G N (i + 2) (j + 1)) || bt w i) = decide (i < 17 ∧ zz_pt 3 N i j = 0) ∧ ((zz_G N (i + 2) (j + 3) ^^ zz_G N (i + 2) (j + 1)) || (bt v i && !bt w i)) = decide (i < 17 ∧ zz_pt 3 N i j = 1) := by
    intro i hi
    rw [bw i hi, bv i hi]
    have e0 : zz_G N (i + 2) (j + 2) = false := zz_G_3 hk (by omega)
    by_cases c : i % 2 = 1
    · have e : zz_bes N i j = (zz_G N (i + 2) (j + 1)).toNat + (zz_G N (i + 2) (j + 3)).toNat := by
        unfold zz_bes
        rw [zz_G_3 hk (a := i + 1) (b := j + 2) (by omega), zz_G_3 hk (a := i + 3) (b := j + 2) (by omega)]
        simp
      rw [zz_pt3_e (by omega) e0, e, zz_G_3 hk (a := i + 1) (b := j + 3) (by omega), zz_G_3 hk (a := i + 3) (b := j + 3) (by omega), zz_G_3 hk (a := i + 1) (b := j + 1) (by omega), zz_G_3 hk (a := i + 3) (b := j + 1) (by omega)]
      by_cases d : i < 17
      · generalize zz_G N (i + 2) (j + 3) = a1
        generalize zz_G N (i + 2) (j + 1) = a2
        cases a1 <;> cases a2 <;> simp [d]
      · rw [zz_G_hi (a := i + 2) (by omega), zz_G_hi (a := i + 2) (by omega)]
        simp [d]
    · rw [zz_pt3_v (by omega) hj e0, zz_G_3 hk (a := i + 2) (b := j + 3) (by omega), zz_G_3 hk (a := i + 2) (b := j + 1) (by omega)]
      unfold zz_cor
      by_cases d : i < 17
      · generalize zz_G N (i + 1) (j + 1) = a1
        generalize zz_G N (i + 3) (j + 1) = a2
        generalize zz_G N (i + 1) (j + 3) = a3
        generalize zz_G N (i + 3) (j + 3) = a4
        cases a1 <;> cases a2 <;> cases a3 <;> cases a4 <;> simp [d]
      · rw [zz_G_hi (a := i + 1) (b := j + 1) (by omega), zz_G_hi (a := i + 3) (b := j + 1) (by omega), zz_G_hi (a := i + 1) (b := j + 3) (by omega), zz_G_hi (a := i + 3) (b := j + 3) (by omega)]
        simp [d]
  constructor
  · intro i hi
    rw [b_or, b_and, hp i hi, hq i hi]
    exact (key i hi).1
  · intro i hi
    rw [b_or, b_xor, b_and, zz_not _ hi, hp i hi, hq i hi]
    exact (key i hi).2
theorem zz_lineO {N : Nat → Nat → Bool} {j : Nat} (hj : j % 2 = 1) {r : Int32} (hr : ∀ i, i < 32 → bt r i = zz_G N (i + 2) (j + 2)) : zz_rk (zz_pt 2 N) j r 0 := by
  constructor
  · intro i hi
    rw [hr i hi]
    exact (zz_mo (zz_pt2_n (by omega))).1
  · intro i hi
    rw [b_0]
    exact (zz_mo (zz_pt2_n (by omega))).2
theorem zz_point {N : Nat → Nat → Bool} {j : Nat} {r : Int32} (hr : ∀ i, i < 32 → bt r i = zz_G N (i + 2) (j + 2)) : zz_rk (zz_pt 1 N) j r 0 := by
  constructor
  · intro i hi
    rw [hr i hi]
    exact (zz_mo zz_pt1).1
  · intro i hi
    rw [b_0]
    exact (zz_mo zz_pt1).2
theorem zz_lineE {N : Nat → Nat → Bool} (hk : zz_okk 2 N) {j : Nat} (hj : j % 2 = 0) {r p q w v : Int32} (hr : ∀ i, i < 32 → bt r i = zz_G N (i + 2) (j + 2)) (hp : ∀ i, i < 32 → bt p i = zz_G N (i + 2) (j + 3)) (hq : ∀ i, i < 32 → bt q i = zz_G N (i + 2) (j + 1))
    (hw : w = (((r <<< ((1 : Int32) &&& 31)) ^^^ (r >>> ((1 : Int32) &&& 31))) ^^^ p) ^^^ q)
    (hv : v = (((r <<< ((1 : Int32) &&& 31)) ||| (r >>> ((1 : Int32) &&& 31))) ||| p) ||| q) :
    zz_rk (zz_pt 2 N) j (r ||| (v &&& (w ^^^ (-1)))) w := by
  have bw : ∀ i, i < 32 → bt w i = (((zz_G N (i + 1) (j + 2) ^^ zz_G N (i + 3) (j + 2)) ^^ zz_G N (i + 2) (j + 3)) ^^ zz_G N (i + 2) (j + 1)) := by
    intro i hi
    rw [hw, b_xor, b_xor, b_xor, zz_shl1 hr hi, zz_shr1 hr hi, hp i hi, hq i hi]
  have bv : ∀ i, i < 32 → bt v i = (((zz_G N (i + 1) (j + 2) || zz_G N (i + 3) (j + 2)) || zz_G N (i + 2) (j + 3)) || zz_G N (i + 2) (j + 1)) := by
    intro i hi
    rw [hv, b_or, b_or, b_or, zz_shl1 hr hi, zz_shr1 hr hi, hp i hi, hq i hi]
  have key : ∀ i, i < 32 → (zz_G N (i + 2) (j + 2) || (bt v i && !bt w i)) = decide (i < 17 ∧ zz_pt 2 N i j = 0) ∧ bt w i = decide (i < 17 ∧ zz_pt 2 N i j = 1) := by
    intro i hi
    rw [bw i hi, bv i hi]
    by_cases c : i % 2 = 1
    · rw [zz_G_2 hk (a := i + 1) (b := j + 2) (by omega), zz_G_2 hk (a := i + 3) (b := j + 2) (by omega), zz_G_2 hk (a := i + 2) (b := j + 3) (by omega), zz_G_2 hk (a := i + 2) (b := j + 1) (by omega)]
      have := zz_mo (zz_pt2_n (N := N) (i := i) (j := j) (by omega))
      refine ⟨?_, this.2⟩
      rw [← this.1]
      simp
    · have e0 : zz_G N (i + 2) (j + 2) = false := zz_G_2 hk (by omega)
      rw [zz_pt2_v (by omega) hj e0, e0]
      unfold zz_bes
      by_cases d : i < 17
      · generalize zz_G N (i + 1) (j + 2) = a1
        generalize zz_G N (i + 3) (j + 2) = a2
        generalize zz_G N (i + 2) (j + 1) = a3
        generalize zz_G N (i + 2) (j + 3) = a4
        cases a1 <;> cases a2 <;> cases a3 <;> cases a4 <;> simp [d]
      · rw [zz_G_hi (a := i + 1) (b := j + 2) (by omega), zz_G_hi (a := i + 3) (b := j + 2) (by omega), zz_G_hi (a := i + 2) (b := j + 1) (by omega), zz_G_hi (a := i + 2) (b := j + 3) (by omega)]
        simp [d]
  constructor
  · intro i hi
    rw [b_or, b_and, zz_not _ hi, hr i hi]
    exact (key i hi).1
  · intro i hi
    exact (key i hi).2
section
variable {kd rr ins rim gd gn mb hd f1 f2 pc qu : Nat → Int32} {M : Nat → Nat → Nat → Bool}
theorem xx_layA {post : SX → Prop} {s j a : Nat} (hs : s < 12) (hj : j < 17) (ha : a < 34) (hX : zz_RX rr M) (hok : zz_okk 3 (M s)) (h : ∀ x y, zz_rk (zz_pt 3 (M s)) j x y → post (kd, rr, upd ins a x, upd rim a y, gd, gn)) :
    wpX_layArea post (kd, rr, ins, rim, gd, gn) (nI s) (nI j) (nI a) := by
  unfold wpX_layArea
  dsimp only
  rw [zz_r2 (by omega : j < 2 ^ 31), nI_clamp (by omega : a < 2 ^ 31)]
  have ia : vp_in (nI a) 34 := pk_in a 34 ha
  refine And.intro zz_n2 (pk_eq (j % 2) 1 (fun e => xx_row0 hs hj (nm_e (nm_e (And.intro ia (nm_e (And.intro ia (nm_e (h _ _ ?_)))))))) (fun e => xx_rowp hs hj (xx_rowm hs hj (nm_e (nm_e (And.intro ia (nm_e (And.intro ia (nm_e (h _ _ ?_))))))))))
  · exact zz_areaO hok e (fun i hi => zz_w_bt hX hs _ hi)
  · exact zz_areaE hok (by omega) (fun i hi => zz_w_bt hX hs _ hi) (fun i hi => zz_w_bt hX hs _ hi) rfl rfl
theorem xx_layL {post : SX → Prop} {s j a : Nat} (hs : s < 12) (hj : j < 17) (ha : a < 34) (hX : zz_RX rr M) (hok : zz_okk 2 (M s)) (h : ∀ x y, zz_rk (zz_pt 2 (M s)) j x y → post (kd, rr, upd ins a x, upd rim a y, gd, gn)) :
    wpX_layLine post (kd, rr, ins, rim, gd, gn) (nI s) (nI j) (nI a) := by
  unfold wpX_layLine
  dsimp only
  rw [zz_r2 (by omega : j < 2 ^ 31), nI_clamp (by omega : a < 2 ^ 31)]
  have ia : vp_in (nI a) 34 := pk_in a 34 ha
  refine xx_row0 hs hj (And.intro ia (nm_e (And.intro ia (nm_e (And.intro zz_n2 (pk_eq (j % 2) 0 (fun e => xx_rowp hs hj (xx_rowm hs hj (nm_e (nm_e (And.intro ia (nm_e (And.intro ia (nm_e ?_)))))))) (fun e => h _ _ ?_)))))))
  · rw [zz_uu, zz_uu]
    exact h _ _ (zz_lineE hok e (fun i hi => zz_w_bt hX hs _ hi) (fun i hi => zz_w_bt hX hs _ hi) (fun i hi => zz_w_bt hX hs _ hi) rfl rfl)
  · exact zz_lineO (by omega) (fun i hi => zz_w_bt hX hs _ hi)
theorem xx_lay_l {post : SX → Prop} {s w : Nat} {ins0 rim0 : Nat → Int32} (hs : s < 12) (hw : w < 2) (hX : zz_RX rr M) (hok : zz_okk (kd s) (M s)) (hk0 : ¬ kd s = 0)
    (hc : ∀ ins' rim', zz_Ld (zz_pt (kd s) (M s)) w ins' rim' → (∀ q, (q < 17 * w ∨ 17 * w + 17 ≤ q) → ins' q = ins0 q ∧ rim' q = rim0 q) → post (kd, rr, ins', rim', gd, gn)) :
    ∀ d j ins rim, j + d = 17 → (∀ b, b < j → zz_rk (zz_pt (kd s) (M s)) b (ins (17 * w + b)) (rim (17 * w + b))) → (∀ q, (q < 17 * w ∨ 17 * w + 17 ≤ q) → ins q = ins0 q ∧ rim q = rim0 q) →
    wX_lay_2 post (nI s) (nI w) (d + 1) (nI j) kd rr ins rim gd gn := by
  intro d
  induction d with
  | zero =>
    intro j ins rim hj h1 h2
    obtain rfl : j = 17 := by omega
    exact pk_le 17 17 (fun _ => hc ins rim h1 h2) (fun g => by omega)
  | succ d ih =>
    intro j ins rim hj h1 h2
    have key : ∀ x y, zz_rk (zz_pt (kd s) (M s)) j x y → wX_lay_2 post (nI s) (nI w) (d + 1) (nI (j + 1)) kd rr (upd ins (17 * w + j) x) (upd rim (17 * w + j) y) gd gn := by
      intro x y hr
      refine ih (j + 1) _ _ (by omega) (fun b hb => ?_) (fun q hq => ?_)
      · by_cases e : b = j
        · rw [e, pk_us, pk_us]
          exact hr
        · rw [pk_un (by omega), pk_un (by omega)]
          exact h1 b (by omega)
      · rw [pk_un (by omega), pk_un (by omega)]
        exact h2 q hq
    refine pk_le 17 j (fun g => by omega) (fun _ => nm_r (zz_ix w j) (And.intro (pk_in s 12 hs) ?_))
    rw [nI_clamp (by omega : s < 2 ^ 31), nI_clamp (by omega : 17 * w + j < 2 ^ 31), zz_cx s j (by omega)]
    have ia : vp_in (nI (17 * w + j)) 34 := pk_in (17 * w + j) 34 (by omega)
    refine br_c (fun k3 => xx_layA hs (by omega) (by omega) hX (k3 ▸ hok) (fun x y hr => nm_r (nI_1 j) (key x y (k3.symm ▸ hr)))) (fun n3 => And.intro (pk_in s 12 hs) (br_c (fun k2 => xx_layL hs (by omega) (by omega) hX (k2 ▸ hok) (fun x y hr => nm_r (nI_1 j) (key x y (k2.symm ▸ hr)))) (fun n2 => ?_)))
    refine And.intro (pk_in (17 * s + j) 204 (by omega) (zz_ix s j)) (And.intro ia (nm_e (And.intro ia (nm_e (nm_r (nI_1 j) (key _ _ ?_))))))
    have k1 : kd s = 1 := by
      rcases zz_kk hok with e | e | e | e
      · exact absurd e hk0
      · exact e
      · exact absurd e n2
      · exact absurd e n3
    rw [k1]
    refine zz_point (fun i hi => ?_)
    rw [← zz_w_in rr s j (by omega)]
    exact zz_w_bt hX hs _ hi
theorem xx_lay {post : SX → Prop} {s : Nat} (w : Nat) (hs : s < 12) (hw : w < 2) (hX : zz_RX rr M) (hok : zz_okk (kd s) (M s)) (hk0 : ¬ kd s = 0)
    (hc : ∀ ins' rim', zz_Ld (zz_pt (kd s) (M s)) w ins' rim' → (∀ q, (q < 17 * w ∨ 17 * w + 17 ≤ q) → ins' q = ins q ∧ rim' q = rim q) → post (kd, rr, ins', rim', gd, gn)) :
    wpX_lay post (kd, rr, ins, rim, gd, gn) (nI s) (nI w) := by
  refine Exists.intro 18 ?_
  exact xx_lay_l hs hw hX hok hk0 hc 17 0 ins rim rfl (fun b hb => by omega) (fun q _ => ⟨rfl, rfl⟩)
theorem yy_find1_l {post : SY → Prop} {s : Nat} (hs : s < 12) (hY : zz_RY mb M) (hc : ∀ f', (∀ c, c < 289 → f' c = nI (zz_pt (kd s) (M s) (c / 17) (c % 17))) → post (kd, mb, hd, f', f2, pc, qu)) :
    ∀ d c f1, c + d = 289 → (∀ b, b < c → f1 b = nI (zz_pt (kd s) (M s) (b / 17) (b % 17))) → wY_findParts_2 post (nI s) 1 (d + 1) (nI c) kd mb hd f1 f2 pc qu := by
  intro d
  induction d with
  | zero =>
    intro c f1 hc' h1
    obtain rfl : c = 289 := by omega
    exact pk_le 289 289 (fun _ => hc f1 h1) (fun g => by omega)
  | succ d ih =>
    intro c f1 hc' h1
    refine pk_le 289 c (fun g => by omega) (fun _ => ?_)
    rw [zz_r17 (by omega : c < 2 ^ 31), zz_d17 (by omega : c < 2 ^ 31), nI_clamp (by omega : c < 2 ^ 31)]
    refine And.intro zz_n17 (And.intro zz_n17 (yy_part hs hY (by omega) (by omega) (br_f (by decide) (And.intro (pk_in c 289 (by omega)) (nm_e (nm_r (nI_1 c) (ih (c + 1) _ (by omega) (fun b hb => ?_))))))))
    by_cases e : b = c
    · rw [e, pk_us]
    · rw [pk_un e]
      exact h1 b (by omega)
theorem yy_find1 {post : SY → Prop} {s : Nat} (hs : s < 12) (hY : zz_RY mb M) (hc : ∀ f', (∀ c, c < 289 → f' c = nI (zz_pt (kd s) (M s) (c / 17) (c % 17))) → post (kd, mb, hd, f', f2, pc, qu)) :
    wpY_findParts post (kd, mb, hd, f1, f2, pc, qu) (nI s) 1 := by
  refine Exists.intro 290 ?_
  exact yy_find1_l hs hY hc 289 0 f1 rfl (fun b hb => by omega)
theorem yy_find2_l {post : SY → Prop} {s : Nat} (hs : s < 12) (hY : zz_RY mb M) (hc : ∀ f', (∀ c, c < 289 → f' c = nI (zz_pt (kd s) (M s) (c / 17) (c % 17))) → post (kd, mb, hd, f1, f', pc, qu)) :
    ∀ d c f2, c + d = 289 → (∀ b, b < c → f2 b = nI (zz_pt (kd s) (M s) (b / 17) (b % 17))) → wY_findParts_2 post (nI s) 0 (d + 1) (nI c) kd mb hd f1 f2 pc qu := by
  intro d
  induction d with
  | zero =>
    intro c f2 hc' h1
    obtain rfl : c = 289 := by omega
    exact pk_le 289 289 (fun _ => hc f2 h1) (fun g => by omega)
  | succ d ih =>
    intro c f2 hc' h1
    refine pk_le 289 c (fun g => by omega) (fun _ => ?_)
    rw [zz_r17 (by omega : c < 2 ^ 31), zz_d17 (by omega : c < 2 ^ 31), nI_clamp (by omega : c < 2 ^ 31)]
    refine And.intro zz_n17 (And.intro zz_n17 (yy_part hs hY (by omega) (by omega) (br_t rfl (And.intro (pk_in c 289 (by omega)) (nm_e (nm_r (nI_1 c) (ih (c + 1) _ (by omega) (fun b hb => ?_))))))))
    by_cases e : b = c
    · rw [e, pk_us]
    · rw [pk_un e]
      exact h1 b (by omega)
theorem yy_find2 {post : SY → Prop} {s : Nat} (hs : s < 12) (hY : zz_RY mb M) (hc : ∀ f', (∀ c, c < 289 → f' c = nI (zz_pt (kd s) (M s) (c / 17) (c % 17))) → post (kd, mb, hd, f1, f', pc, qu)) :
    wpY_findParts post (kd, mb, hd, f1, f2, pc, qu) (nI s) 0 := by
  refine Exists.intro 290 ?_
  exact yy_find2_l hs hY hc 289 0 f2 rfl (fun b hb => by omega)
end
end
section
/-! part, outline, rim -/
theorem zz_and1 (y : Int32) : (y &&& 1) = 1 ↔ bt y 0 = true := by
  constructor
  · intro h
    have h2 : bt (y &&& 1) 0 = bt 1 0 := by rw [h]
    rw [b_and, show bt 1 0 = true from by decide, Bool.and_true] at h2
    exact h2
  · intro h
    apply b_ext
    intro k hk
    rw [b_and]
    by_cases c : k = 0
    · rw [c, h, Bool.true_and]
    · rw [(by decide +kernel : ∀ k, k < 32 → k ≠ 0 → bt 1 k = false) k hk c, Bool.and_false]
theorem zz_tst (x : Int32) {i : Nat} (hi : i < 32) : ((x >>> (nI i &&& 31)) &&& 1) = 1 ↔ bt x i = true := by
  rw [zz_and1, b_sshr i hi x (by decide : 0 < 32), Nat.add_zero, if_pos hi]
theorem zz_grid (N : Nat → Nat → Bool) : zz_sm (fun j => zz_cn (fun i => N i j) 17) 17 = zz_cn (fun c => N (c / 17) (c % 17)) 289 := by
  have e1 : zz_sm (fun j => zz_cn (fun i => N i j) 17) 17 = zz_sm (fun j => zz_sm (fun i => (N i j).toNat) 17) 17 := rfl
  rw [e1, ← zz_sm_swap (fun i j => (N i j).toNat) 17 17]
  exact (zz_sm_split (fun i j => (N i j).toNat) 17 (by decide) 17).symm
theorem zz_P3 {n : Nat} (h : n ≤ 2) : n = 0 ∨ n = 1 ∨ n = 2 := by omega
theorem yy_partC {kd mb hd f1 f2 pc qu : Nat → Int32} {M : Nat → Nat → Nat → Bool} {post : Int32 → Prop} {s i j : Nat} (hs : s < 12) (hY : zz_RY mb M) (hi : i < 17) (hj : j < 17) (k0 : ¬ kd s = 0) (h : post (nI (zz_pt (kd s) (M s) i j))) : wpY_part post (kd, mb, hd, f1, f2, pc, qu) (nI s) (nI i) (nI j) := by
  unfold wpY_part
  dsimp only
  rw [nI_clamp (by omega : s < 2 ^ 31)]
  exact yy_slot1 hs (br_f (by decide) ⟨pk_in s 12 hs, br_f k0 (br_f (nI_pos (by omega)) (br_f (nI_nlt (a := 16) (by omega) (by decide)) (br_f (nI_pos (by omega)) (br_t (nI_le (b := 16) (by omega) (by decide)) (yy_part hs hY hi hj h)))))⟩)
theorem i_vc_part {k : Nat} {u : SX} {v : SY} (I : i_Rel k u v) (hk : k + 4 ≤ 2048) (v1 : Int32) (v2 : Int32) (v3 : Int32) : wpX_part (fun r u' => wpY_part (fun r' => r' = r ∧ i_Rel (k + 4) u' v) v v1 v2 v3) u v1 v2 v3 := by
  refine zz_el (P := fun u v => wpX_part (fun r u' => wpY_part (fun r' => r' = r ∧ i_Rel (k + 4) u' v) v v1 v2 v3) u v1 v2 v3) ?_ I
  intro kd rr ins rim gd gn mb hd f1 f2 pc qu M hT hX hY
  unfold wpX_part
  dsimp only
  rcases zz_num 12 (by decide) v1 with ⟨s, hs, rfl⟩ | hb
  · rw [nI_clamp (by omega : s < 2 ^ 31)]
    have is : vp_in (nI s) 12 := pk_in s 12 hs
    refine xx_slot1 hs (br_f (by decide) ⟨is, ?_⟩)
    by_cases k0 : kd s = 0
    · unfold wpY_part
      dsimp only
      rw [nI_clamp (by omega : s < 2 ^ 31)]
      exact br_t k0 (yy_slot1 hs (br_f (by decide) ⟨is, br_t k0 ⟨rfl, zz_in hT hX hY⟩⟩))
    refine br_f k0 ?_
    rcases zz_num 17 (by decide) v2 with ⟨i, hi, rfl⟩ | hb
    · rcases zz_num 17 (by decide) v3 with ⟨j, hj, rfl⟩ | hb
      · rw [nI_clamp (by omega : j < 2 ^ 31)]
        have ij : vp_in (nI j) 34 := pk_in j 34 (by omega)
        refine br_f (nI_pos (by omega)) (br_f (nI_ge (b := 17) hi (by decide)) (br_f (nI_pos (by omega)) (br_t (nI_lt (b := 17) hj (by decide)) ?_)))
        refine xx_lay 0 hs (by decide) hX (hT s hs) k0 (fun ins' rim' hL _ => And.intro ij ?_)
        have hR := zz_Ld0 hL j hj
        dsimp only
        rw [zz_tst _ (by omega : i < 32), zz_tst _ (by omega : i < 32), hR.1 i (by omega), hR.2 i (by omega)]
        rcases zz_P3 (zz_pt_le (kd s) (M s) i j) with e | e | e
        · exact br_t (by rw [e]; simp [hi]) (yy_partC hs hY hi hj k0 ⟨by rw [e]; rfl, zz_in hT hX hY⟩)
        · exact br_f (by rw [e]; simp) (And.intro ij (br_t (by rw [e]; simp [hi]) (yy_partC hs hY hi hj k0 ⟨by rw [e]; rfl, zz_in hT hX hY⟩)))
        · exact br_f (by rw [e]; simp) (And.intro ij (br_f (by rw [e]; simp) (yy_partC hs hY hi hj k0 ⟨by rw [e]; rfl, zz_in hT hX hY⟩)))
      · unfold wpY_part
        dsimp only
        rw [nI_clamp (by omega : s < 2 ^ 31)]
        rcases hb with hb | ⟨hb1, hb2⟩
        · exact br_f (nI_pos (by omega)) (br_f (nI_ge (b := 17) hi (by decide)) (br_t hb (yy_slot1 hs (br_f (by decide) ⟨is, br_f k0 (br_f (nI_pos (by omega)) (br_f (nI_nlt (a := 16) (by omega) (by decide)) (br_t hb ⟨rfl, zz_in hT hX hY⟩)))⟩))))
        · exact br_f (nI_pos (by omega)) (br_f (nI_ge (b := 17) hi (by decide)) (br_f hb1 (br_f (Int32.not_lt.mpr hb2) (yy_slot1 hs (br_f (by decide) ⟨is, br_f k0 (br_f (nI_pos (by omega)) (br_f (nI_nlt (a := 16) (by omega) (by decide)) (br_f hb1 (br_f (zz_nle (n := 16) (by decide) hb2) ⟨rfl, zz_in hT hX hY⟩))))⟩)))))
    · unfold wpY_part
      dsimp only
      rw [nI_clamp (by omega : s < 2 ^ 31)]
      rcases hb with hb | ⟨hb1, hb2⟩
      · exact br_t hb (yy_slot1 hs (br_f (by decide) ⟨is, br_f k0 (br_t hb ⟨rfl, zz_in hT hX hY⟩)⟩))
      · exact br_f hb1 (br_t hb2 (yy_slot1 hs (br_f (by decide) ⟨is, br_f k0 (br_f hb1 (br_t (zz_pred_lt (n := 16) (by decide) hb2) ⟨rfl, zz_in hT hX hY⟩))⟩)))
  · unfold wpY_part
    dsimp only
    exact xx_slot0 hb (br_t rfl (yy_slot0 hb (br_t rfl ⟨rfl, zz_in hT hX hY⟩)))
/-! outline and rim -/
def zz_ol (P : Nat → Nat → Nat) (i j : Nat) : Bool := decide ((i + j) % 2 = 1 ∧ P i j = 1)
theorem zz_ol_e {P : Nat → Nat → Nat} {j : Nat} {x y : Int32} (h : zz_rk P j x y) (hj : j % 2 = 0) {i : Nat} (hi : i < 32) : bt (y &&& 43690) i = (decide (i < 17) && zz_ol P i j) := by
  unfold zz_ol
  rw [b_and, h.2 i hi, zz_odd i hi, ← Bool.decide_and, ← Bool.decide_and]
  exact decide_eq_decide.mpr (by omega)
theorem zz_ol_o {P : Nat → Nat → Nat} {j : Nat} {x y : Int32} (h : zz_rk P j x y) (hj : j % 2 = 1) {i : Nat} (hi : i < 32) : bt (y &&& 87381) i = (decide (i < 17) && zz_ol P i j) := by
  unfold zz_ol
  rw [b_and, h.2 i hi, zz_even i hi, ← Bool.decide_and, ← Bool.decide_and]
  exact decide_eq_decide.mpr (by omega)
section
variable {kd rr ins rim gd gn mb hd f1 f2 pc qu : Nat → Int32} {M : Nat → Nat → Nat → Bool}
theorem xx_outl_l {post : Int32 → SX → Prop} {t : Nat} (ht : t < 12) {P : Nat → Nat → Nat} (hL : ∀ b, b < 17 → zz_rk P b (ins b) (rim b))
    (hc : ∀ rr', zz_RX rr' (zz_put t (zz_ol P) M) → post (nI (zz_ct (zz_put t (zz_ol P) M) t)) (kd, rr', ins, rim, gd, gn)) :
    ∀ d j rr, j + d = 17 → zz_RX rr (zz_mr t j (zz_ol P) M) → wX_outline_37 post (nI t) (d + 1) (nI j) kd rr ins rim gd gn := by
  intro d
  induction d with
  | zero =>
    intro j rr hj hR
    obtain rfl : j = 17 := by omega
    have hX' := zz_mr_e hR (fun b h1 h2 => by omega)
    exact pk_le 17 17 (fun _ => xx_count ht hX' (hc rr hX')) (fun g => by omega)
  | succ d ih =>
    intro j rr hj hR
    refine pk_le 17 j (fun g => by omega) (fun _ => And.intro (pk_in j 34 (by omega)) ?_)
    rw [zz_cx t j (by omega), zz_r2 (by omega : j < 2 ^ 31), nI_clamp (by omega : j < 2 ^ 31)]
    have i1 : vp_in (17 * nI t + nI j) 204 := pk_in (17 * t + j) 204 (by omega) (zz_ix t j)
    refine And.intro zz_n2 (pk_eq (j % 2) 0 (fun e => And.intro i1 (nm_e (nm_r (nI_1 j) (ih (j + 1) _ (by omega) (zz_mr_1 hR (by omega) (fun i hi => ?_)))))) (fun e => And.intro i1 (nm_e (nm_r (nI_1 j) (ih (j + 1) _ (by omega) (zz_mr_1 hR (by omega) (fun i hi => ?_)))))))
    · exact zz_ol_e (hL j (by omega)) e hi
    · exact zz_ol_o (hL j (by omega)) (by omega) hi
theorem yy_dim {post : Int32 → Prop} {c : Nat} (hc : c < 289) (h : post (nI (c / 17 % 2 + c % 17 % 2))) : wpY_dimension post (kd, mb, hd, f1, f2, pc, qu) (nI c) := by
  unfold wpY_dimension
  dsimp only
  rw [zz_r17 (by omega : c < 2 ^ 31), zz_d17 (by omega : c < 2 ^ 31), zz_r2 (by omega : c / 17 < 2 ^ 31), zz_r2 (by omega : c % 17 < 2 ^ 31), nI_add]
  exact ⟨zz_n17, zz_n2, zz_n17, zz_n2, h⟩
theorem yy_edge {post : Int32 → Prop} {c : Nat} (hc : c < 289) (h1 : (c / 17 + c % 17) % 2 = 1 → post 1) (h0 : ¬ (c / 17 + c % 17) % 2 = 1 → post 0) : wpY_isEdge post (kd, mb, hd, f1, f2, pc, qu) (nI c) := by
  unfold wpY_isEdge
  dsimp only
  exact yy_dim hc (pk_eq (c / 17 % 2 + c % 17 % 2) 1 (fun e => h1 (by omega)) (fun e => h0 (by omega)))
theorem yy_outl_l {post : Int32 → SY → Prop} {t : Nat} (ht : t < 12) {P : Nat → Nat → Nat} (hP : ∀ i j, P i j ≤ 2) (hF : ∀ c, c < 289 → f1 c = nI (P (c / 17) (c % 17)))
    (hc : ∀ mb', zz_RY mb' (zz_put t (zz_ol P) M) → post (nI (zz_ct (zz_put t (zz_ol P) M) t)) (kd, mb', hd, f1, f2, pc, qu)) :
    ∀ d c mb, c + d = 289 → zz_RY mb (zz_mc t c (zz_ol P) M) → wY_outline_38 post (nI t) (d + 1) (nI c) kd mb hd f1 f2 pc qu := by
  intro d
  induction d with
  | zero =>
    intro c mb hc' hR
    obtain rfl : c = 289 := by omega
    exact pk_le 289 289 (fun _ => yy_count ht (zz_mc_e hR) (hc mb (zz_mc_e hR))) (fun g => by omega)
  | succ d ih =>
    intro c mb hc' hR
    have i1 : vp_in (289 * nI t + nI c) 3468 := pk_in (289 * t + c) 3468 (by omega) (zz_iy t c)
    have key : ∀ b : Bool, b = zz_ol P (c / 17) (c % 17) → wY_outline_38 post (nI t) (d + 1) (nI (c + 1)) kd (upd mb (289 * t + c) (zz_o b)) hd f1 f2 pc qu :=
      fun b eb => ih (c + 1) _ (by omega) (zz_mc_1 hR (by omega) (by rw [eb]))
    have hp := hP (c / 17) (c % 17)
    refine pk_le 289 c (fun g => by omega) (fun _ => ?_)
    rw [zz_cy t c (by omega), nI_clamp (by omega : c < 2 ^ 31), hF c (by omega)]
    refine yy_edge (by omega) (fun e => br_f (by decide) (And.intro (pk_in c 289 (by omega)) (pk_eq (P (c / 17) (c % 17)) 1 (fun e2 => And.intro i1 (nm_e (nm_r (nI_1 c) (key true ?_)))) (fun e2 => And.intro i1 (nm_e (nm_r (nI_1 c) (key false ?_))))))) (fun e => br_t rfl (And.intro i1 (nm_e (nm_r (nI_1 c) (key false ?_)))))
    · exact (decide_eq_true ⟨e, e2⟩).symm
    · exact (decide_eq_false (fun z => e2 z.2)).symm
    · exact (decide_eq_false (fun z => e z.1)).symm
theorem xx_rim_l {post : Int32 → SX → Prop} {P : Nat → Nat → Nat} (hL : ∀ b, b < 17 → zz_rk P b (ins b) (rim b)) (hc : post (nI (zz_sm (fun j => zz_cn (fun i => zz_ol P i j) 17) 17)) (kd, rr, ins, rim, gd, gn)) :
    ∀ d j, j + d = 17 → wX_rim_23 post kd rr ins rim gd gn (d + 1) (nI (zz_sm (fun j => zz_cn (fun i => zz_ol P i j) 17) j)) (nI j) := by
  intro d
  induction d with
  | zero =>
    intro j hj
    obtain rfl : j = 17 := by omega
    exact pk_le 17 17 (fun _ => hc) (fun g => by omega)
  | succ d ih =>
    intro j hj
    refine pk_le 17 j (fun g => by omega) (fun _ => And.intro (pk_in j 34 (by omega)) ?_)
    rw [zz_r2 (by omega : j < 2 ^ 31), nI_clamp (by omega : j < 2 ^ 31)]
    have key : ∀ x : Int32, (∀ i, i < 32 → bt x i = (decide (i < 17) && zz_ol P i j)) → wpX_ones (fun r_20 => ∀ x3_21 : Int32, x3_21 = nI (zz_sm (fun j => zz_cn (fun i => zz_ol P i j) 17) j) + r_20 → ∀ x4_22 : Int32, x4_22 = nI j + 1 → wX_rim_23 post kd rr ins rim gd gn (d + 1) x3_21 x4_22) x := by
      intro x hx
      refine xx_ones (fun i h1 h2 => by rw [hx i h2, decide_eq_false (by omega), Bool.false_and]) ?_
      rw [zz_cn_congr (p := bt x) (q := fun i => zz_ol P i j) (fun i hi => by rw [hx i (by omega), decide_eq_true hi, Bool.true_and])]
      exact nm_r (nI_add _ _) (nm_r (nI_1 j) (ih (j + 1) (by omega)))
    refine And.intro zz_n2 (pk_eq (j % 2) 0 (fun e => ?_) (fun e => ?_))
    · exact key _ (fun i hi => zz_ol_e (hL j (by omega)) e hi)
    · exact key _ (fun i hi => zz_ol_o (hL j (by omega)) (by omega) hi)
theorem yy_rim_l {post : Int32 → Prop} {P : Nat → Nat → Nat} (hP : ∀ i j, P i j ≤ 2) (hF : ∀ c, c < 289 → f1 c = nI (P (c / 17) (c % 17))) (hc : post (nI (zz_cn (fun c => zz_ol P (c / 17) (c % 17)) 289))) :
    ∀ d c, c + d = 289 → wY_rimEdges_4 post kd mb hd f1 f2 pc qu (d + 1) (nI (zz_cn (fun c => zz_ol P (c / 17) (c % 17)) c)) (nI c) := by
  intro d
  induction d with
  | zero =>
    intro c hc'
    obtain rfl : c = 289 := by omega
    exact pk_le 289 289 (fun _ => hc) (fun g => by omega)
  | succ d ih =>
    intro c hc'
    have ih' := ih (c + 1) (by omega)
    rw [zz_cn_s] at ih'
    have hp := hP (c / 17) (c % 17)
    have key0 : zz_ol P (c / 17) (c % 17) = false → wY_rimEdges_4 post kd mb hd f1 f2 pc qu (d + 1) (nI (zz_cn (fun c => zz_ol P (c / 17) (c % 17)) c)) (nI (c + 1)) := by
      intro e
      simp only [e, Bool.toNat_false, Nat.add_zero] at ih'
      exact ih'
    have key1 : zz_ol P (c / 17) (c % 17) = true → wY_rimEdges_4 post kd mb hd f1 f2 pc qu (d + 1) (nI (zz_cn (fun c => zz_ol P (c / 17) (c % 17)) c + 1)) (nI (c + 1)) := by
      intro e
      simp only [e, Bool.toNat_true] at ih'
      exact ih'
    refine pk_le 289 c (fun g => by omega) (fun _ => ?_)
    rw [nI_clamp (by omega : c < 2 ^ 31), hF c (by omega)]
    exact yy_edge (by omega) (fun e => br_f (by decide) (And.intro (pk_in c 289 (by omega)) (pk_eq (P (c / 17) (c % 17)) 1 (fun e2 => nm_r (nI_1 _) (nm_r (nI_1 c) (key1 (decide_eq_true ⟨e, e2⟩)))) (fun e2 => nm_r (nI_1 c) (key0 (decide_eq_false (fun z => e2 z.2))))))) (fun e => br_t rfl (nm_r (nI_1 c) (key0 (decide_eq_false (fun z => e z.1)))))
end
theorem i_vc_outline {k : Nat} {u : SX} {v : SY} (I : i_Rel k u v) (hk : k + 4 ≤ 2048) (v1 : Int32) (v2 : Int32) : wpX_outline (fun r u' => wpY_outline (fun r' v' => r' = r ∧ i_Rel (k + 4) u' v') v v1 v2) u v1 v2 := by
  refine zz_el (P := fun u v => wpX_outline (fun r u' => wpY_outline (fun r' v' => r' = r ∧ i_Rel (k + 4) u' v') v v1 v2) u v1 v2) ?_ I
  intro kd rr ins rim gd gn mb hd f1 f2 pc qu M hT hX hY
  unfold wpX_outline wpY_outline
  dsimp only
  rcases zz_num 12 (by decide) v2 with ⟨t, ht, rfl⟩ | hb
  · rcases zz_area kd v1 with ⟨s, hs, rfl, hk3⟩ | ⟨r, hr, hr0, hrX, hrY⟩
    · have k0 : ¬ kd s = 0 := by rw [hk3]; decide
      rw [nI_clamp (by omega : t < 2 ^ 31)]
      refine xx_slot1 ht (br_f (by decide) (xx_area3 hs hk3 (br_t rfl ?_)))
      refine xx_lay 0 hs (by decide) hX (hT s hs) k0 (fun ins' rim' hL _ => And.intro (pk_in t 12 ht) (nm_e (Exists.intro 18 ?_)))
      refine xx_outl_l ht (zz_Ld0 hL) (fun rr' hX' => ?_) 17 0 rr rfl (zz_mr_0 hX (fun b hb => by omega))
      refine yy_slot1 ht (br_f (by decide) (yy_area3 hs hk3 (br_t (by decide) ?_)))
      refine yy_find1 hs hY (fun f' hF => And.intro (pk_in t 12 ht) (nm_e (Exists.intro 290 ?_)))
      refine yy_outl_l ht (zz_pt_le (kd s) (M s)) hF (fun mb' hY' => ⟨rfl, zz_in (zz_Ty_put hT (zz_ok2 (fun i j hi hj e => ?_))) hX' hY'⟩) 289 0 mb rfl (zz_mc_0 hY)
      unfold zz_ol at e
      exact (of_decide_eq_true e).1
    · exact xx_slot1 ht (br_f (by decide) (hrX _ _ _ _ _ _ (br_f hr (yy_slot1 ht (br_f (by decide) (hrY _ _ _ _ _ _ _ (br_f hr0 ⟨rfl, zz_in hT hX hY⟩)))))))
  · exact xx_slot0 hb (br_t rfl (yy_slot0 hb (br_t rfl ⟨rfl, zz_in hT hX hY⟩)))
theorem i_vc_rim {k : Nat} {u : SX} {v : SY} (I : i_Rel k u v) (hk : k + 4 ≤ 2048) (v1 : Int32) : wpX_rim (fun r u' => wpY_rim (fun r' v' => r' = r ∧ i_Rel (k + 4) u' v') v v1) u v1 := by
  refine zz_el (P := fun u v => wpX_rim (fun r u' => wpY_rim (fun r' v' => r' = r ∧ i_Rel (k + 4) u' v') v v1) u v1) ?_ I
  intro kd rr ins rim gd gn mb hd f1 f2 pc qu M hT hX hY
  unfold wpX_rim wpY_rim
  dsimp only
  rcases zz_area kd v1 with ⟨s, hs, rfl, hk3⟩ | ⟨r, hr, hr0, hrX, hrY⟩
  · have k0 : ¬ kd s = 0 := by rw [hk3]; decide
    refine xx_area3 hs hk3 (br_t rfl ?_)
    refine xx_lay 0 hs (by decide) hX (hT s hs) k0 (fun ins' rim' hL _ => Exists.intro 18 ?_)
    refine xx_rim_l (P := zz_pt (kd s) (M s)) (zz_Ld0 hL) ?_ 17 0 rfl
    refine yy_area3 hs hk3 (br_t (by decide) ?_)
    refine yy_find1 hs hY (fun f' hF => Exists.intro 290 ?_)
    refine yy_rim_l (zz_pt_le (kd s) (M s)) hF ?_ 289 0 rfl
    exact ⟨congrArg nI (zz_grid (zz_ol (zz_pt (kd s) (M s)))).symm, zz_in hT hX hY⟩
  · exact hrX _ _ _ _ _ _ (br_f hr (hrY _ _ _ _ _ _ _ (br_f hr0 ⟨rfl, zz_in hT hX hY⟩)))
end
section
/-! meetings of two laid shapes -/
def zz_sp (a b : Nat) (P Q : Nat → Nat → Nat) (i j : Nat) : Nat := if P i j = a ∧ Q i j = b then i % 2 + j % 2 + 1 else 0
def zz_mt (a b : Nat) (P Q : Nat → Nat → Nat) : Nat := if a = 2 ∧ b = 2 then 3 else zz_mx (fun c => zz_sp a b P Q (c / 17) (c % 17)) 289
theorem zz_sp_le (a b : Nat) (P Q : Nat → Nat → Nat) (i j : Nat) : zz_sp a b P Q i j ≤ 3 := by
  unfold zz_sp
  split <;> omega
theorem zz_mt_le (a b : Nat) (P Q : Nat → Nat → Nat) : zz_mt a b P Q ≤ 3 := by
  unfold zz_mt
  split
  · exact Nat.le_refl 3
  · exact (zz_mx_le _).2 (fun k _ => zz_sp_le a b P Q _ _)
theorem zz_mt_0 {a b : Nat} {P Q : Nat → Nat → Nat} (h : ¬ (a = 2 ∧ b = 2)) : zz_mt a b P Q = 0 ↔ ∀ i j, i < 17 → j < 17 → ¬ (P i j = a ∧ Q i j = b) := by
  unfold zz_mt
  rw [if_neg h]
  constructor
  · intro e i j hi hj z
    have h1 := (zz_mx_le (B := 0) 289).1 (Nat.le_of_eq e) (17 * i + j) (by omega)
    have e1 : (17 * i + j) / 17 = i := by omega
    have e2 : (17 * i + j) % 17 = j := by omega
    rw [e1, e2] at h1
    unfold zz_sp at h1
    rw [if_pos z] at h1
    omega
  · intro g
    refine Nat.le_zero.1 ((zz_mx_le 289).2 (fun c hc => ?_))
    unfold zz_sp
    rw [if_neg (g _ _ (by omega) (by omega))]
    exact Nat.le_refl 0
theorem zz_mx_grid (F : Nat → Nat → Nat) : zz_mx (fun j => zz_mx (fun i => F i j) 17) 17 = zz_mx (fun c => F (c / 17) (c % 17)) 289 := by
  refine zz_mx_eq (fun B => ⟨fun h c hc => ?_, fun h j hj => ?_⟩)
  · exact (zz_mx_le 17).1 (h (c % 17) (by omega)) (c / 17) (by omega)
  · refine (zz_mx_le 17).2 (fun i hi => ?_)
    have := h (17 * i + j) (by omega)
    have e1 : (17 * i + j) / 17 = i := by omega
    have e2 : (17 * i + j) % 17 = j := by omega
    rw [e1, e2] at this
    exact this
theorem zz_mx_is {f : Nat → Nat} {n v : Nat} (h1 : ∀ k, k < n → f k ≤ v) (h2 : v = 0 ∨ ∃ k, k < n ∧ f k = v) : zz_mx f n = v := by
  refine Nat.le_antisymm ((zz_mx_le n).2 h1) ?_
  rcases h2 with h2 | ⟨k, hk, e⟩
  · omega
  · have := (zz_mx_le (f := f) (B := zz_mx f n) n).1 (Nat.le_refl _) k hk
    omega
theorem zz_mx_s (f : Nat → Nat) (n : Nat) : zz_mx f (n + 1) = if f n ≤ zz_mx f n then zz_mx f n else f n := rfl
theorem zz_or0 {x y : Int32} : x ||| y = 0 ↔ x = 0 ∧ y = 0 := by
  constructor
  · intro h
    have e : ∀ i, (bt x i || bt y i) = false := fun i => by rw [← b_or, h, b_0]
    refine ⟨zz_eq0 (fun i _ => ?_), zz_eq0 (fun i _ => ?_)⟩
    · exact (Bool.or_eq_false_iff.1 (e i)).1
    · exact (Bool.or_eq_false_iff.1 (e i)).2
  · rintro ⟨rfl, rfl⟩
    rfl
theorem zz_rk_body {P : Nat → Nat → Nat} {b : Nat} {x y : Int32} (h : zz_rk P b x y) {i : Nat} (hi : i < 32) : bt (x ||| y) i = decide (i < 17 ∧ P i b < 2) := by
  rw [b_or, h.1 i hi, h.2 i hi, ← Bool.decide_or]
  exact decide_eq_decide.mpr (by omega)
section
variable {kd rr ins rim gd gn mb hd f1 f2 pc qu : Nat → Int32} {M : Nat → Nat → Nat → Bool}
theorem xx_body {post : Int32 → Prop} {q : Nat} (hq : q < 34) (h : post (ins q ||| rim q)) : wpX_body post (kd, rr, ins, rim, gd, gn) (nI q) := by
  unfold wpX_body
  dsimp only
  rw [nI_clamp (by omega : q < 2 ^ 31)]
  exact ⟨pk_in q 34 hq, pk_in q 34 hq, h⟩
theorem xx_out {post : Int32 → Prop} {q : Nat} (hq : q < 34) (h : post (131071 &&& ((ins q ||| rim q) ^^^ (-1)))) : wpX_outside post (kd, rr, ins, rim, gd, gn) (nI q) := by
  unfold wpX_outside
  dsimp only
  exact xx_body hq h
theorem zz_rk_out {P : Nat → Nat → Nat} (hP : ∀ i j, P i j ≤ 2) {b : Nat} {x y : Int32} (h : zz_rk P b x y) {i : Nat} (hi : i < 32) : bt (131071 &&& ((x ||| y) ^^^ (-1))) i = decide (i < 17 ∧ P i b = 2) := by
  rw [b_and, zz_not _ hi, zz_all i hi, zz_rk_body h hi, ← decide_not, ← Bool.decide_and]
  have := hP i b
  exact decide_eq_decide.mpr (by omega)
theorem xx_partOf {post : Int32 → Prop} {P : Nat → Nat → Nat} {w a j : Nat} (hP : ∀ i j, P i j ≤ 2) (hw : w < 2) (ha : a ≤ 2) (hj : j < 17) (hL : zz_Ld P w ins rim) (h : ∀ x, (∀ i, i < 32 → bt x i = decide (i < 17 ∧ P i j = a)) → post x) :
    wpX_partOf post (kd, rr, ins, rim, gd, gn) (nI w) (nI a) (nI j) := by
  unfold wpX_partOf
  dsimp only
  have hr := hL j hj
  refine nm_r (zz_ix w j) ?_
  rw [nI_clamp (by omega : 17 * w + j < 2 ^ 31)]
  have i1 : vp_in (nI (17 * w + j)) 34 := pk_in (17 * w + j) 34 (by omega)
  refine pk_eq a 0 (fun e => And.intro i1 (h _ ?_)) (fun e => pk_eq a 1 (fun e1 => And.intro i1 (h _ ?_)) (fun e1 => xx_out (by omega) (h _ ?_)))
  · rw [e]
    exact hr.1
  · rw [e1]
    exact hr.2
  · have e2 : a = 2 := by omega
    rw [e2]
    exact fun i hi => zz_rk_out hP hr hi
theorem xx_dimIn {post : Int32 → Prop} {a b j : Nat} {P Q : Nat → Nat → Nat} (hj : j < 17) {x : Int32} (hx : ∀ i, i < 32 → bt x i = decide (i < 17 ∧ P i j = a ∧ Q i j = b)) (h : post (nI (zz_mx (fun i => zz_sp a b P Q i j) 17))) : wpX_dimensionIn post x (nI j) := by
  unfold wpX_dimensionIn
  rw [zz_r2 (by omega : j < 2 ^ 31)]
  have sp1 : ∀ i, (P i j = a ∧ Q i j = b) → zz_sp a b P Q i j = i % 2 + j % 2 + 1 := fun i z => if_pos z
  have sp0 : ∀ i, ¬ (P i j = a ∧ Q i j = b) → zz_sp a b P Q i j = 0 := fun i z => if_neg z
  have any : ¬ x = 0 → ∃ i, i < 17 ∧ P i j = a ∧ Q i j = b := by
    intro e
    obtain ⟨i, hi, hb⟩ := zz_ne0 e
    rw [hx i hi, decide_eq_true_iff] at hb
    exact ⟨i, hb⟩
  have odd0 : (x &&& 43690) = 0 → ∀ i, i < 17 → (P i j = a ∧ Q i j = b) → i % 2 = 0 := by
    intro e i hi z
    have h2 : bt (x &&& 43690) i = false := by rw [e, b_0]
    rw [b_and, hx i (by omega), zz_odd i (by omega), decide_eq_true ⟨hi, z⟩, Bool.true_and, decide_eq_false_iff_not] at h2
    omega
  have odd1 : ¬ (x &&& 43690) = 0 → ∃ i, i < 17 ∧ (P i j = a ∧ Q i j = b) ∧ i % 2 = 1 := by
    intro e
    obtain ⟨i, hi, hb⟩ := zz_ne0 e
    rw [b_and, hx i hi, zz_odd i hi, Bool.and_eq_true, decide_eq_true_iff, decide_eq_true_iff] at hb
    exact ⟨i, hb.1.1, hb.1.2, hb.2.2⟩
  have val : ∀ v : Nat, (∀ i, i < 17 → (P i j = a ∧ Q i j = b) → i % 2 + j % 2 + 1 ≤ v) → (∃ i, i < 17 ∧ (P i j = a ∧ Q i j = b) ∧ i % 2 + j % 2 + 1 = v) → post (nI v) := by
    intro v h1 h2
    have e : zz_mx (fun i => zz_sp a b P Q i j) 17 = v := by
      refine zz_mx_is (fun i hi => ?_) ?_
      · by_cases z : P i j = a ∧ Q i j = b
        · rw [sp1 i z]
          exact h1 i hi z
        · rw [sp0 i z]
          omega
      · obtain ⟨i, hi, z, e⟩ := h2
        exact Or.inr ⟨i, hi, by rw [sp1 i z, e]⟩
    rw [e] at h
    exact h
  refine br_c (fun e => ?_) (fun e => And.intro zz_n2 (pk_eq (j % 2) 1 (fun e1 => br_c (fun o => ?_) (fun o => ?_)) (fun e1 => br_c (fun o => ?_) (fun o => ?_))))
  · have e0 : zz_mx (fun i => zz_sp a b P Q i j) 17 = 0 := by
      refine zz_mx_is (fun i hi => ?_) (Or.inl rfl)
      rw [sp0 i (fun z => ?_)]
      · exact Nat.le_refl 0
      · have := hx i (by omega)
        rw [e, b_0, decide_eq_true ⟨hi, z⟩] at this
        exact absurd this (by decide)
    rw [e0] at h
    exact h
  · obtain ⟨i, hi, z⟩ := any e
    exact val 2 (fun i hi z => by have := odd0 o i hi z; omega) ⟨i, hi, z, by have := odd0 o i hi z; omega⟩
  · obtain ⟨i, hi, z, p⟩ := odd1 o
    exact val 3 (fun i hi z => by omega) ⟨i, hi, z, by omega⟩
  · obtain ⟨i, hi, z⟩ := any e
    exact val 1 (fun i hi z => by have := odd0 o i hi z; omega) ⟨i, hi, z, by have := odd0 o i hi z; omega⟩
  · obtain ⟨i, hi, z, p⟩ := odd1 o
    exact val 2 (fun i hi z => by omega) ⟨i, hi, z, by omega⟩
theorem xx_meet_l {post : Int32 → Prop} {a b : Nat} {P Q : Nat → Nat → Nat} (hP : ∀ i j, P i j ≤ 2) (hQ : ∀ i j, Q i j ≤ 2) (ha : a ≤ 2) (hb : b ≤ 2) (hL : zz_Ld P 0 ins rim) (hM : zz_Ld Q 1 ins rim)
    (h : post (nI (zz_mx (fun j => zz_mx (fun i => zz_sp a b P Q i j) 17) 17))) :
    ∀ d j, j + d = 17 → wX_meeting_17 post (nI a) (nI b) kd rr ins rim gd gn (d + 1) (nI (zz_mx (fun j => zz_mx (fun i => zz_sp a b P Q i j) 17) j)) (nI j) := by
  intro d
  induction d with
  | zero =>
    intro j hj
    obtain rfl : j = 17 := by omega
    exact pk_le 17 17 (fun _ => h) (fun g => by omega)
  | succ d ih =>
    intro j hj
    have ih' := ih (j + 1) (by omega)
    rw [zz_mx_s] at ih'
    have b1 : zz_mx (fun i => zz_sp a b P Q i j) 17 ≤ 3 := (zz_mx_le _).2 (fun k _ => zz_sp_le a b P Q _ _)
    have b2 : zz_mx (fun j => zz_mx (fun i => zz_sp a b P Q i j) 17) j ≤ 3 := (zz_mx_le _).2 (fun k _ => (zz_mx_le _).2 (fun k _ => zz_sp_le a b P Q _ _))
    refine pk_le 17 j (fun g => by omega) (fun _ => ?_)
    refine xx_partOf (w := 0) hP (by decide) ha (by omega) hL (fun x hx => xx_partOf (w := 1) hQ (by decide) hb (by omega) hM (fun y hy => nm_e ?_))
    refine xx_dimIn (a := a) (b := b) (P := P) (Q := Q) (by omega) (fun i hi => ?_) ?_
    · rw [b_and, hx i hi, hy i hi, ← Bool.decide_and]
      exact decide_eq_decide.mpr (by omega)
    · refine pk_le _ _ (fun g => ?_) (fun g => ?_)
      · rw [if_pos g] at ih'
        exact nm_r (nI_1 j) ih'
      · rw [if_neg (Nat.not_le.mpr g)] at ih'
        exact nm_r (nI_1 j) ih'
theorem xx_meet {post : Int32 → Prop} {P Q : Nat → Nat → Nat} (a b : Nat) (hP : ∀ i j, P i j ≤ 2) (hQ : ∀ i j, Q i j ≤ 2) (ha : a ≤ 2) (hb : b ≤ 2) (hL : zz_Ld P 0 ins rim) (hM : zz_Ld Q 1 ins rim) (h : post (nI (zz_mt a b P Q))) :
    wpX_meeting post (kd, rr, ins, rim, gd, gn) (nI a) (nI b) := by
  unfold wpX_meeting
  dsimp only
  have hl : ¬ (a = 2 ∧ b = 2) → ∃ n, wX_meeting_17 post (nI a) (nI b) kd rr ins rim gd gn n (0 : Int32) (0 : Int32) := by
    intro g
    unfold zz_mt at h
    rw [if_neg g, ← zz_mx_grid] at h
    exact ⟨18, xx_meet_l hP hQ ha hb hL hM h 17 0 rfl⟩
  refine pk_eq a 2 (fun e => pk_eq b 2 (fun e2 => ?_) (fun e2 => hl (fun z => e2 z.2))) (fun e => hl (fun z => e z.1))
  unfold zz_mt at h
  rw [if_pos ⟨e, e2⟩] at h
  exact h
theorem yy_meet_l {post : Int32 → Prop} {a b : Nat} {P Q : Nat → Nat → Nat} (hP : ∀ i j, P i j ≤ 2) (hQ : ∀ i j, Q i j ≤ 2) (ha : a ≤ 2) (hb : b ≤ 2) (hF : ∀ c, c < 289 → f1 c = nI (P (c / 17) (c % 17))) (hG : ∀ c, c < 289 → f2 c = nI (Q (c / 17) (c % 17)))
    {V : Nat → Nat} (hV : ∀ c, V (c + 1) = if zz_sp a b P Q (c / 17) (c % 17) ≤ V c then V c else zz_sp a b P Q (c / 17) (c % 17)) (hV3 : ∀ c, V c ≤ 3) (h : post (nI (V 289))) :
    ∀ d c, c + d = 289 → wY_meeting_19 post (nI a) (nI b) kd mb hd f1 f2 pc qu (d + 1) (nI (V c)) (nI c) := by
  intro d
  induction d with
  | zero =>
    intro c hc
    obtain rfl : c = 289 := by omega
    exact pk_le 289 289 (fun _ => h) (fun g => by omega)
  | succ d ih =>
    intro c hc
    have ih' := ih (c + 1) (by omega)
    rw [hV c] at ih'
    have hv := hV3 c
    have hp := hP (c / 17) (c % 17)
    have hq := hQ (c / 17) (c % 17)
    have key : ∀ p, zz_sp a b P Q (c / 17) (c % 17) = p → p ≤ V c → wY_meeting_19 post (nI a) (nI b) kd mb hd f1 f2 pc qu (d + 1) (nI (V c)) (nI (c + 1)) := by
      intro p e g
      rw [e, if_pos g] at ih'
      exact ih'
    have key2 : ∀ p, zz_sp a b P Q (c / 17) (c % 17) = p → V c < p → wY_meeting_19 post (nI a) (nI b) kd mb hd f1 f2 pc qu (d + 1) (nI p) (nI (c + 1)) := by
      intro p e g
      rw [e, if_neg (Nat.not_le.mpr g)] at ih'
      exact ih'
    refine pk_le 289 c (fun g => by omega) (fun _ => ?_)
    rw [nI_clamp (by omega : c < 2 ^ 31), hF c (by omega), hG c (by omega)]
    have i1 : vp_in (nI c) 289 := pk_in c 289 (by omega)
    exact yy_dim (by omega) (nm_r (nI_1 _) (And.intro i1 (pk_eq (P (c / 17) (c % 17)) a (fun e => And.intro i1 (pk_eq (Q (c / 17) (c % 17)) b (fun e2 => pk_le (c / 17 % 2 + c % 17 % 2 + 1) (V c) (fun g => nm_r (nI_1 c) (key _ (if_pos ⟨e, e2⟩) g)) (fun g => nm_r (nI_1 c) (key2 _ (if_pos ⟨e, e2⟩) g))) (fun e2 => nm_r (nI_1 c) (key 0 (if_neg (fun z => e2 z.2)) (Nat.zero_le _))))) (fun e => nm_r (nI_1 c) (key 0 (if_neg (fun z => e z.1)) (Nat.zero_le _))))))
theorem yy_meet {post : Int32 → Prop} {P Q : Nat → Nat → Nat} (a b : Nat) (hP : ∀ i j, P i j ≤ 2) (hQ : ∀ i j, Q i j ≤ 2) (ha : a ≤ 2) (hb : b ≤ 2) (hF : ∀ c, c < 289 → f1 c = nI (P (c / 17) (c % 17))) (hG : ∀ c, c < 289 → f2 c = nI (Q (c / 17) (c % 17))) (h : post (nI (zz_mt a b P Q))) :
    wpY_meeting post (kd, mb, hd, f1, f2, pc, qu) (nI a) (nI b) := by
  unfold wpY_meeting
  dsimp only
  have hl : ¬ (a = 2 ∧ b = 2) → ∃ n, wY_meeting_19 post (nI a) (nI b) kd mb hd f1 f2 pc qu n (0 : Int32) (0 : Int32) := by
    intro g
    unfold zz_mt at h
    rw [if_neg g] at h
    exact ⟨290, yy_meet_l hP hQ ha hb hF hG (V := zz_mx (fun c => zz_sp a b P Q (c / 17) (c % 17))) (fun c => rfl) (fun c => (zz_mx_le _).2 (fun k _ => zz_sp_le a b P Q _ _)) h 289 0 rfl⟩
  refine pk_eq a 2 (fun e => pk_eq b 2 (fun e2 => ?_) (fun e2 => hl (fun z => e2 z.2))) (fun e => hl (fun z => e z.1))
  unfold zz_mt at h
  rw [if_pos ⟨e, e2⟩] at h
  refine Exists.intro 290 ?_
  exact yy_meet_l hP hQ ha hb hF hG (V := fun _ => 3) (fun c => (if_pos (zz_sp_le a b P Q _ _)).symm) (fun c => Nat.le_refl 3) h 289 0 rfl
end
end
section
/-! relate, is, pairs -/
theorem zz_any_iff {p : Nat → Bool} : ∀ n, zz_any p n = true ↔ ∃ k, k < n ∧ p k = true
  | 0 => ⟨fun h => Bool.noConfusion h, fun ⟨k, hk, _⟩ => by omega⟩
  | n + 1 => by
    have ih := zz_any_iff (p := p) n
    have e : zz_any p (n + 1) = (zz_any p n || p n) := rfl
    rw [e, Bool.or_eq_true, ih]
    constructor
    · rintro (⟨k, hk, h⟩ | h)
      · exact ⟨k, by omega, h⟩
      · exact ⟨n, by omega, h⟩
    · rintro ⟨k, hk, h⟩
      by_cases c : k = n
      · exact Or.inr (c ▸ h)
      · exact Or.inl ⟨k, by omega, h⟩
theorem zz_any_g {F : Nat → Nat → Bool} : zz_any (fun c => F (c / 17) (c % 17)) 289 = true ↔ ∃ i j, i < 17 ∧ j < 17 ∧ F i j = true := by
  rw [zz_any_iff]
  constructor
  · rintro ⟨c, hc, h⟩
    exact ⟨c / 17, c % 17, by omega, by omega, h⟩
  · rintro ⟨i, j, hi, hj, h⟩
    refine ⟨17 * i + j, by omega, ?_⟩
    rw [show (17 * i + j) / 17 = i by omega, show (17 * i + j) % 17 = j by omega]
    exact h
/-- the first's body meets the second's outside -/
def zz_wo (P Q : Nat → Nat → Nat) : Bool := zz_any (fun c => decide (P (c / 17) (c % 17) < 2 ∧ Q (c / 17) (c % 17) = 2)) 289
def zz_bm (P Q : Nat → Nat → Nat) : Bool := zz_any (fun c => decide (P (c / 17) (c % 17) < 2 ∧ Q (c / 17) (c % 17) < 2)) 289
theorem zz_wo_iff {P Q : Nat → Nat → Nat} : zz_wo P Q = true ↔ ∃ i j, i < 17 ∧ j < 17 ∧ P i j < 2 ∧ Q i j = 2 := by
  unfold zz_wo
  rw [zz_any_g (F := fun i j => decide (P i j < 2 ∧ Q i j = 2))]
  simp only [decide_eq_true_iff]
theorem zz_bm_iff {P Q : Nat → Nat → Nat} : zz_bm P Q = true ↔ ∃ i j, i < 17 ∧ j < 17 ∧ P i j < 2 ∧ Q i j < 2 := by
  unfold zz_bm
  rw [zz_any_g (F := fun i j => decide (P i j < 2 ∧ Q i j < 2))]
  simp only [decide_eq_true_iff]
/-- a name holds -/
def zz_ho (nm n k l : Nat) (out out2 wo co bm : Bool) : Bool :=
  if nm = 0 then !wo && !co else if nm = 1 then !bm else if nm = 2 then bm && decide (n = 0) else if nm = 3 then decide (n ≠ 0) && !wo
  else if nm = 4 then !co else if nm = 5 then decide (n ≠ 0) && (decide (n < max k l) && out) else decide (k = l) && (decide (n = k) && (out && out2))
def zz_hold (nm k l : Nat) (P Q : Nat → Nat → Nat) : Bool := zz_ho nm (zz_mt 0 0 P Q) k l (decide (zz_mt 0 2 P Q ≠ 0)) (decide (zz_mt 2 0 P Q ≠ 0)) (zz_wo P Q) (zz_wo Q P) (zz_bm P Q)
theorem zz_nz {n : Nat} (hn : n ≤ 3) : nI n = 0 ↔ n = 0 := by
  constructor
  · intro h
    apply Classical.byContradiction
    intro g
    exact nI_ne0 (by omega) (by omega) h
  · intro h
    rw [h]
    rfl
section
variable {kd rr ins rim gd gn mb hd f1 f2 pc qu : Nat → Int32} {M : Nat → Nat → Nat → Bool} {P Q : Nat → Nat → Nat}
theorem xx_same_l {post : Int32 → Prop} (hL : zz_Ld P 0 ins rim) (hM : zz_Ld Q 1 ins rim) (h1 : (∀ j, j < 17 → ∀ i, i < 17 → (P i j < 2 ↔ Q i j < 2)) → post 1) (h0 : (∃ i j, i < 17 ∧ j < 17 ∧ ¬ (P i j < 2 ↔ Q i j < 2)) → post 0) :
    ∀ d j, j + d = 17 → (∀ b, b < j → ∀ i, i < 17 → (P i b < 2 ↔ Q i b < 2)) → wX_sameBodies_2 post kd rr ins rim gd gn (d + 1) (nI j) := by
  intro d
  induction d with
  | zero =>
    intro j hj hb
    obtain rfl : j = 17 := by omega
    exact pk_le 17 17 (fun _ => h1 hb) (fun g => by omega)
  | succ d ih =>
    intro j hj hb
    refine pk_le 17 j (fun g => by omega) (fun _ => xx_body (by omega) ?_)
    rw [show (17 : Int32) + nI j = nI (17 + j) from nI_add 17 j]
    refine xx_body (by omega) ?_
    have ra := zz_Ld0 hL j (by omega)
    have rb : zz_rk Q j (ins (17 + j)) (rim (17 + j)) := hM j (by omega)
    refine br_c (fun e => nm_r (nI_1 j) (ih (j + 1) (by omega) (fun b hb' i hi => ?_))) (fun e => h0 ?_)
    · by_cases c : b = j
      · subst c
        have e2 : bt (ins b ||| rim b) i = bt (ins (17 + b) ||| rim (17 + b)) i := by rw [e]
        rw [zz_rk_body ra (by omega), zz_rk_body rb (by omega), decide_eq_decide] at e2
        omega
      · exact hb b (by omega) i hi
    · apply Classical.byContradiction
      intro n
      apply e
      apply b_ext
      intro i hi
      rw [zz_rk_body ra hi, zz_rk_body rb hi]
      refine decide_eq_decide.mpr ⟨fun z => ⟨z.1, ?_⟩, fun z => ⟨z.1, ?_⟩⟩
      · apply Classical.byContradiction
        intro g
        exact n ⟨i, j, z.1, by omega, fun q => g (q.1 z.2)⟩
      · apply Classical.byContradiction
        intro g
        exact n ⟨i, j, z.1, by omega, fun q => g (q.2 z.2)⟩
theorem xx_same {post : Int32 → Prop} (hP : ∀ i j, P i j ≤ 2) (hQ : ∀ i j, Q i j ≤ 2) (hL : zz_Ld P 0 ins rim) (hM : zz_Ld Q 1 ins rim) (h : post (zz_o (!zz_wo P Q && !zz_wo Q P))) : wpX_sameBodies post (kd, rr, ins, rim, gd, gn) := by
  refine Exists.intro 18 ?_
  refine xx_same_l hL hM (fun g => ?_) (fun g => ?_) 17 0 rfl (fun b hb => by omega)
  · have e1 : zz_wo P Q = false := by
      cases e : zz_wo P Q with
      | false => rfl
      | true =>
        obtain ⟨i, j, hi, hj, a, b⟩ := zz_wo_iff.1 e
        have := g j hj i hi
        omega
    have e2 : zz_wo Q P = false := by
      cases e : zz_wo Q P with
      | false => rfl
      | true =>
        obtain ⟨i, j, hi, hj, a, b⟩ := zz_wo_iff.1 e
        have := g j hj i hi
        omega
    rw [e1, e2] at h
    exact h
  · obtain ⟨i, j, hi, hj, n⟩ := g
    have hp := hP i j
    have hq := hQ i j
    have e : (!zz_wo P Q && !zz_wo Q P) = false := by
      by_cases c : P i j < 2
      · rw [zz_wo_iff.2 ⟨i, j, hi, hj, c, by omega⟩]
        rfl
      · rw [zz_wo_iff.2 ⟨i, j, hi, hj, (by omega : Q i j < 2), by omega⟩]
        simp
    rw [e] at h
    exact h
theorem xx_bodies {post : Int32 → Prop} (hP : ∀ i j, P i j ≤ 2) (hQ : ∀ i j, Q i j ≤ 2) (hL : zz_Ld P 0 ins rim) (hM : zz_Ld Q 1 ins rim) (h : post (zz_o (zz_bm P Q))) : wpX_bodiesMeet post (kd, rr, ins, rim, gd, gn) := by
  unfold wpX_bodiesMeet
  dsimp only
  refine xx_meet 0 0 hP hQ (by decide) (by decide) hL hM (xx_meet 0 1 hP hQ (by decide) (by decide) hL hM (xx_meet 1 0 hP hQ (by decide) (by decide) hL hM (xx_meet 1 1 hP hQ (by decide) (by decide) hL hM (nm_e ?_))))
  rw [zz_or0, zz_or0, zz_or0, zz_nz (zz_mt_le _ _ _ _), zz_nz (zz_mt_le _ _ _ _), zz_nz (zz_mt_le _ _ _ _), zz_nz (zz_mt_le _ _ _ _), zz_mt_0 (by decide), zz_mt_0 (by decide), zz_mt_0 (by decide), zz_mt_0 (by decide)]
  refine br_c (fun g => ?_) (fun g => ?_)
  · have e : zz_bm P Q = false := by
      cases e : zz_bm P Q with
      | false => rfl
      | true =>
        obtain ⟨i, j, hi, hj, a, b⟩ := zz_bm_iff.1 e
        have g1 := g.1.1.1 i j hi hj
        have g2 := g.1.1.2 i j hi hj
        have g3 := g.1.2 i j hi hj
        have g4 := g.2 i j hi hj
        omega
    rw [e] at h
    exact h
  · have e : zz_bm P Q = true := by
      apply Classical.byContradiction
      intro n
      apply g
      have m : ∀ i j, i < 17 → j < 17 → ¬ (P i j < 2 ∧ Q i j < 2) := fun i j hi hj z => n (zz_bm_iff.2 ⟨i, j, hi, hj, z.1, z.2⟩)
      refine ⟨⟨⟨fun i j hi hj z => m i j hi hj (by omega), fun i j hi hj z => m i j hi hj (by omega)⟩, fun i j hi hj z => m i j hi hj (by omega)⟩, fun i j hi hj z => m i j hi hj (by omega)⟩
    rw [e] at h
    exact h
theorem zz_wo_not {P Q : Nat → Nat → Nat} (h : ∀ i j, i < 17 → j < 17 → ¬ (P i j < 2 ∧ Q i j = 2)) : zz_wo P Q = false := by
  cases e : zz_wo P Q with
  | false => rfl
  | true =>
    obtain ⟨i, j, hi, hj, a, b⟩ := zz_wo_iff.1 e
    exact absurd ⟨a, b⟩ (h i j hi hj)
theorem xx_first {post : Int32 → Prop} (hP : ∀ i j, P i j ≤ 2) (hQ : ∀ i j, Q i j ≤ 2) (hL : zz_Ld P 0 ins rim) (hM : zz_Ld Q 1 ins rim) (h : post (zz_o (!zz_wo P Q))) : wpX_firstInSecond post (kd, rr, ins, rim, gd, gn) := by
  unfold wpX_firstInSecond
  dsimp only
  refine xx_meet 0 2 hP hQ (by decide) (by decide) hL hM (xx_meet 1 2 hP hQ (by decide) (by decide) hL hM (nm_e ?_))
  rw [zz_or0, zz_nz (zz_mt_le _ _ _ _), zz_nz (zz_mt_le _ _ _ _), zz_mt_0 (by decide), zz_mt_0 (by decide)]
  refine br_c (fun g => ?_) (fun g => ?_)
  · rw [zz_wo_not (fun i j hi hj z => by have g1 := g.1 i j hi hj; have g2 := g.2 i j hi hj; omega)] at h
    exact h
  · have e : zz_wo P Q = true := by
      apply Classical.byContradiction
      intro n
      apply g
      have m : ∀ i j, i < 17 → j < 17 → ¬ (P i j < 2 ∧ Q i j = 2) := fun i j hi hj z => n (zz_wo_iff.2 ⟨i, j, hi, hj, z.1, z.2⟩)
      exact ⟨fun i j hi hj z => m i j hi hj (by omega), fun i j hi hj z => m i j hi hj (by omega)⟩
    rw [e] at h
    exact h
theorem xx_second {post : Int32 → Prop} (hP : ∀ i j, P i j ≤ 2) (hQ : ∀ i j, Q i j ≤ 2) (hL : zz_Ld P 0 ins rim) (hM : zz_Ld Q 1 ins rim) (h : post (zz_o (!zz_wo Q P))) : wpX_secondInFirst post (kd, rr, ins, rim, gd, gn) := by
  unfold wpX_secondInFirst
  dsimp only
  refine xx_meet 2 0 hP hQ (by decide) (by decide) hL hM (xx_meet 2 1 hP hQ (by decide) (by decide) hL hM (nm_e ?_))
  rw [zz_or0, zz_nz (zz_mt_le _ _ _ _), zz_nz (zz_mt_le _ _ _ _), zz_mt_0 (by decide), zz_mt_0 (by decide)]
  refine br_c (fun g => ?_) (fun g => ?_)
  · rw [zz_wo_not (fun i j hi hj z => by have g1 := g.1 i j hi hj; have g2 := g.2 i j hi hj; omega)] at h
    exact h
  · have e : zz_wo Q P = true := by
      apply Classical.byContradiction
      intro n
      apply g
      have m : ∀ i j, i < 17 → j < 17 → ¬ (Q i j < 2 ∧ P i j = 2) := fun i j hi hj z => n (zz_wo_iff.2 ⟨i, j, hi, hj, z.1, z.2⟩)
      exact ⟨fun i j hi hj z => m i j hi hj (by omega), fun i j hi hj z => m i j hi hj (by omega)⟩
    rw [e] at h
    exact h
theorem xx_holds {post : Int32 → Prop} {nm k l : Nat} (hn : nm < 7) (hk : k ≤ 3) (hl : l ≤ 3) (hP : ∀ i j, P i j ≤ 2) (hQ : ∀ i j, Q i j ≤ 2) (hL : zz_Ld P 0 ins rim) (hM : zz_Ld Q 1 ins rim) (h : post (zz_o (zz_hold nm k l P Q))) :
    wpX_holds post (kd, rr, ins, rim, gd, gn) (nI nm) (nI k) (nI l) := by
  unfold wpX_holds
  dsimp only
  have m0 := zz_mt_le 0 0 P Q
  have m1 := zz_mt_le 0 2 P Q
  have m2 := zz_mt_le 2 0 P Q
  unfold zz_hold zz_ho at h
  refine xx_meet 0 0 hP hQ (by decide) (by decide) hL hM (br_f (nI_pos (by omega)) (pk_lt 5 nm (fun g => ?_) (fun g => ?_)))
  · rw [if_neg (by omega), if_neg (by omega), if_neg (by omega), if_neg (by omega), if_neg (by omega), if_neg (by omega)] at h
    refine xx_meet 0 2 hP hQ (by decide) (by decide) hL hM (xx_meet 2 0 hP hQ (by decide) (by decide) hL hM (pk_eq k l (fun e => pk_eq (zz_mt 0 0 P Q) k (fun e1 => pk_eq (zz_mt 0 2 P Q) 0 (fun e2 => ?_) (fun e2 => pk_eq (zz_mt 2 0 P Q) 0 (fun e3 => ?_) (fun e3 => ?_))) (fun e1 => ?_)) (fun e => ?_)))
    · (simp [e2] at h; exact h)
    · (simp [e3] at h; exact h)
    · (simp [e, e1, e2, e3] at h; exact h)
    · (simp [e1] at h; exact h)
    · (simp [e] at h; exact h)
  · refine pk_eq nm 0 (fun e => ?_) (fun n0 => pk_eq nm 1 (fun e => ?_) (fun n1 => pk_eq nm 2 (fun e => ?_) (fun n2 => pk_eq nm 3 (fun e => ?_) (fun n3 => pk_eq nm 4 (fun e => ?_) (fun n4 => pk_eq nm 5 (fun e => ?_) (fun n5 => by omega))))))
    · rw [if_pos e] at h
      exact xx_same hP hQ hL hM (And.intro (zz_o_n _) h)
    · rw [if_neg n0, if_pos e] at h
      refine xx_bodies hP hQ hL hM ?_
      cases eb : zz_bm P Q with
      | false => rw [eb] at h; exact br_t rfl h
      | true => rw [eb] at h; exact br_f (by decide) h
    · rw [if_neg n0, if_neg n1, if_pos e] at h
      refine pk_eq (zz_mt 0 0 P Q) 0 (fun e1 => xx_bodies hP hQ hL hM ?_) (fun e1 => ?_)
      · cases eb : zz_bm P Q with
        | false => rw [eb] at h; exact br_t rfl h
        | true => rw [eb] at h; exact br_f (by decide) (by simp [e1] at h; exact h)
      · (simp [e1] at h; exact h)
    · rw [if_neg n0, if_neg n1, if_neg n2, if_pos e] at h
      refine pk_eq (zz_mt 0 0 P Q) 0 (fun e1 => ?_) (fun e1 => xx_first hP hQ hL hM ?_)
      · (simp [e1] at h; exact h)
      · cases eb : zz_wo P Q with
        | false => rw [eb] at h; exact br_f (by decide) (by simp [e1] at h; exact h)
        | true => rw [eb] at h; exact br_t rfl (by simp [e1] at h; exact h)
    · rw [if_neg n0, if_neg n1, if_neg n2, if_neg n3, if_pos e] at h
      exact xx_second hP hQ hL hM (And.intro (zz_o_n _) h)
    · rw [if_neg n0, if_neg n1, if_neg n2, if_neg n3, if_neg n4, if_pos e] at h
      refine xx_gre (by omega) (by omega) (xx_meet 0 2 hP hQ (by decide) (by decide) hL hM (pk_eq (zz_mt 0 0 P Q) 0 (fun e1 => ?_) (fun e1 => pk_le (max k l) (zz_mt 0 0 P Q) (fun e2 => ?_) (fun e2 => pk_eq (zz_mt 0 2 P Q) 0 (fun e3 => ?_) (fun e3 => ?_)))))
      · (simp [e1] at h; exact h)
      · rw [decide_eq_false (by omega : ¬ zz_mt 0 0 P Q < max k l)] at h
        (simp at h; exact h)
      · (simp [e3] at h; exact h)
      · rw [decide_eq_true (by omega : zz_mt 0 0 P Q < max k l)] at h
        (simp [e1, e3] at h; exact h)
end
end
section
/-! Y's names; the calls relate, is, pairs -/
section
variable {kd rr ins rim gd gn mb hd f1 f2 pc qu : Nat → Int32} {M : Nat → Nat → Nat → Bool} {P Q : Nat → Nat → Nat}
theorem yy_wo1_l {post : Int32 → Prop} (hP : ∀ i j, P i j ≤ 2) (hQ : ∀ i j, Q i j ≤ 2) (hF : ∀ c, c < 289 → f1 c = nI (P (c / 17) (c % 17))) (hG : ∀ c, c < 289 → f2 c = nI (Q (c / 17) (c % 17))) (h : post (zz_o (zz_wo P Q))) :
    ∀ d c, c + d = 289 → wY_bodyMeetsOutside_4 post 1 kd mb hd f1 f2 pc qu (d + 1) (zz_o (zz_any (fun c => decide (P (c / 17) (c % 17) < 2 ∧ Q (c / 17) (c % 17) = 2)) c)) (nI c) := by
  intro d
  induction d with
  | zero =>
    intro c hc
    obtain rfl : c = 289 := by omega
    exact pk_le 289 289 (fun _ => And.intro (zz_o_n _) h) (fun g => by omega)
  | succ d ih =>
    intro c hc
    have ih' := ih (c + 1) (by omega)
    have es : zz_any (fun c => decide (P (c / 17) (c % 17) < 2 ∧ Q (c / 17) (c % 17) = 2)) (c + 1) = (zz_any (fun c => decide (P (c / 17) (c % 17) < 2 ∧ Q (c / 17) (c % 17) = 2)) c || decide (P (c / 17) (c % 17) < 2 ∧ Q (c / 17) (c % 17) = 2)) := rfl
    rw [es] at ih'
    have hp := hP (c / 17) (c % 17)
    have hq := hQ (c / 17) (c % 17)
    have i1 : vp_in (nI c) 289 := pk_in c 289 (by omega)
    refine pk_le 289 c (fun g => by omega) (fun _ => ?_)
    rw [nI_clamp (by omega : c < 2 ^ 31), hF c (by omega), hG c (by omega)]
    cases ea : zz_any (fun c => decide (P (c / 17) (c % 17) < 2 ∧ Q (c / 17) (c % 17) = 2)) c with
    | true =>
      rw [ea, Bool.true_or] at ih'
      exact br_f (by decide) (nm_r (nI_1 c) ih')
    | false =>
      rw [ea, Bool.false_or] at ih'
      refine br_t rfl (br_f (by decide) (And.intro i1 (pk_le 2 (P (c / 17) (c % 17)) (fun g => nm_r (nI_1 c) ?_) (fun g => And.intro i1 (pk_eq (Q (c / 17) (c % 17)) 2 (fun g2 => nm_r (nI_1 c) ?_) (fun g2 => nm_r (nI_1 c) ?_))))))
      · rw [decide_eq_false (by omega)] at ih'
        exact ih'
      · rw [decide_eq_true (by omega)] at ih'
        exact ih'
      · rw [decide_eq_false (by omega)] at ih'
        exact ih'
theorem yy_wo0_l {post : Int32 → Prop} (hP : ∀ i j, P i j ≤ 2) (hQ : ∀ i j, Q i j ≤ 2) (hF : ∀ c, c < 289 → f1 c = nI (P (c / 17) (c % 17))) (hG : ∀ c, c < 289 → f2 c = nI (Q (c / 17) (c % 17))) (h : post (zz_o (zz_wo Q P))) :
    ∀ d c, c + d = 289 → wY_bodyMeetsOutside_4 post 0 kd mb hd f1 f2 pc qu (d + 1) (zz_o (zz_any (fun c => decide (Q (c / 17) (c % 17) < 2 ∧ P (c / 17) (c % 17) = 2)) c)) (nI c) := by
  intro d
  induction d with
  | zero =>
    intro c hc
    obtain rfl : c = 289 := by omega
    exact pk_le 289 289 (fun _ => And.intro (zz_o_n _) h) (fun g => by omega)
  | succ d ih =>
    intro c hc
    have ih' := ih (c + 1) (by omega)
    have es : zz_any (fun c => decide (Q (c / 17) (c % 17) < 2 ∧ P (c / 17) (c % 17) = 2)) (c + 1) = (zz_any (fun c => decide (Q (c / 17) (c % 17) < 2 ∧ P (c / 17) (c % 17) = 2)) c || decide (Q (c / 17) (c % 17) < 2 ∧ P (c / 17) (c % 17) = 2)) := rfl
    rw [es] at ih'
    have hp := hP (c / 17) (c % 17)
    have hq := hQ (c / 17) (c % 17)
    have i1 : vp_in (nI c) 289 := pk_in c 289 (by omega)
    refine pk_le 289 c (fun g => by omega) (fun _ => ?_)
    rw [nI_clamp (by omega : c < 2 ^ 31), hF c (by omega), hG c (by omega)]
    cases ea : zz_any (fun c => decide (Q (c / 17) (c % 17) < 2 ∧ P (c / 17) (c % 17) = 2)) c with
    | true =>
      rw [ea, Bool.true_or] at ih'
      exact br_f (by decide) (nm_r (nI_1 c) ih')
    | false =>
      rw [ea, Bool.false_or] at ih'
      refine br_t rfl (br_t rfl (And.intro i1 (pk_le 2 (Q (c / 17) (c % 17)) (fun g => nm_r (nI_1 c) ?_) (fun g => And.intro i1 (pk_eq (P (c / 17) (c % 17)) 2 (fun g2 => nm_r (nI_1 c) ?_) (fun g2 => nm_r (nI_1 c) ?_))))))
      · rw [decide_eq_false (by omega)] at ih'
        exact ih'
      · rw [decide_eq_true (by omega)] at ih'
        exact ih'
      · rw [decide_eq_false (by omega)] at ih'
        exact ih'
theorem yy_bm_l {post : Int32 → Prop} (hP : ∀ i j, P i j ≤ 2) (hQ : ∀ i j, Q i j ≤ 2) (hF : ∀ c, c < 289 → f1 c = nI (P (c / 17) (c % 17))) (hG : ∀ c, c < 289 → f2 c = nI (Q (c / 17) (c % 17))) (h : post (zz_o (zz_bm P Q))) :
    ∀ d c, c + d = 289 → wY_bodiesMeet_4 post kd mb hd f1 f2 pc qu (d + 1) (zz_o (zz_any (fun c => decide (P (c / 17) (c % 17) < 2 ∧ Q (c / 17) (c % 17) < 2)) c)) (nI c) := by
  intro d
  induction d with
  | zero =>
    intro c hc
    obtain rfl : c = 289 := by omega
    exact pk_le 289 289 (fun _ => And.intro (zz_o_n _) h) (fun g => by omega)
  | succ d ih =>
    intro c hc
    have ih' := ih (c + 1) (by omega)
    have es : zz_any (fun c => decide (P (c / 17) (c % 17) < 2 ∧ Q (c / 17) (c % 17) < 2)) (c + 1) = (zz_any (fun c => decide (P (c / 17) (c % 17) < 2 ∧ Q (c / 17) (c % 17) < 2)) c || decide (P (c / 17) (c % 17) < 2 ∧ Q (c / 17) (c % 17) < 2)) := rfl
    rw [es] at ih'
    have hp := hP (c / 17) (c % 17)
    have hq := hQ (c / 17) (c % 17)
    have i1 : vp_in (nI c) 289 := pk_in c 289 (by omega)
    refine pk_le 289 c (fun g => by omega) (fun _ => ?_)
    rw [nI_clamp (by omega : c < 2 ^ 31), hF c (by omega), hG c (by omega)]
    cases ea : zz_any (fun c => decide (P (c / 17) (c % 17) < 2 ∧ Q (c / 17) (c % 17) < 2)) c with
    | true =>
      rw [ea, Bool.true_or] at ih'
      exact br_f (by decide) (nm_r (nI_1 c) ih')
    | false =>
      rw [ea, Bool.false_or] at ih'
      refine br_t rfl (And.intro i1 (pk_le 2 (P (c / 17) (c % 17)) (fun g => nm_r (nI_1 c) ?_) (fun g => And.intro i1 (pk_le 2 (Q (c / 17) (c % 17)) (fun g2 => nm_r (nI_1 c) ?_) (fun g2 => nm_r (nI_1 c) ?_)))))
      · rw [decide_eq_false (by omega)] at ih'
        exact ih'
      · rw [decide_eq_false (by omega)] at ih'
        exact ih'
      · rw [decide_eq_true (by omega)] at ih'
        exact ih'
theorem yy_bodies {post : Int32 → Prop} (hP : ∀ i j, P i j ≤ 2) (hQ : ∀ i j, Q i j ≤ 2) (hF : ∀ c, c < 289 → f1 c = nI (P (c / 17) (c % 17))) (hG : ∀ c, c < 289 → f2 c = nI (Q (c / 17) (c % 17))) (h : post (zz_o (zz_bm P Q))) : wpY_bodiesMeet post (kd, mb, hd, f1, f2, pc, qu) := by
  refine Exists.intro 290 ?_
  exact yy_bm_l hP hQ hF hG h 289 0 rfl
theorem yy_wo1 {post : Int32 → Prop} (hP : ∀ i j, P i j ≤ 2) (hQ : ∀ i j, Q i j ≤ 2) (hF : ∀ c, c < 289 → f1 c = nI (P (c / 17) (c % 17))) (hG : ∀ c, c < 289 → f2 c = nI (Q (c / 17) (c % 17))) (h0 : zz_wo P Q = false → post 0) (h1 : zz_wo P Q = true → post 1) : wpY_bodyMeetsOutside post (kd, mb, hd, f1, f2, pc, qu) 1 := by
  refine Exists.intro 290 ?_
  refine yy_wo1_l hP hQ hF hG ?_ 289 0 rfl
  cases e : zz_wo P Q with
  | false => exact h0 e
  | true => exact h1 e
theorem yy_wo0 {post : Int32 → Prop} (hP : ∀ i j, P i j ≤ 2) (hQ : ∀ i j, Q i j ≤ 2) (hF : ∀ c, c < 289 → f1 c = nI (P (c / 17) (c % 17))) (hG : ∀ c, c < 289 → f2 c = nI (Q (c / 17) (c % 17))) (h0 : zz_wo Q P = false → post 0) (h1 : zz_wo Q P = true → post 1) : wpY_bodyMeetsOutside post (kd, mb, hd, f1, f2, pc, qu) 0 := by
  refine Exists.intro 290 ?_
  refine yy_wo0_l hP hQ hF hG ?_ 289 0 rfl
  cases e : zz_wo Q P with
  | false => exact h0 e
  | true => exact h1 e
theorem yy_so82 {post : Int32 → SY → Prop} {s t nm n k l : Nat} {out wo co : Bool} (hs : s < 12) (ht : t < 12) (hn : nm < 7) (hk : k ≤ 3) (hl : l ≤ 3) (hn3 : n ≤ 3) (ek : kd s = nI k) (el : kd t = nI l) (hP : ∀ i j, P i j ≤ 2) (hQ : ∀ i j, Q i j ≤ 2) (hF : ∀ c, c < 289 → f1 c = nI (P (c / 17) (c % 17))) (hG : ∀ c, c < 289 → f2 c = nI (Q (c / 17) (c % 17)))
    (h : post (zz_o (zz_ho nm n k l out (decide (zz_mt 2 0 P Q ≠ 0)) wo co (zz_bm P Q))) (kd, mb, hd, f1, f2, pc, qu)) :
    wY_isSo_82 post (nI s) (nI t) (nI nm) (nI n) (nI (max k l)) (zz_o out) (zz_o (!wo)) (zz_o (!co)) kd mb hd f1 f2 pc qu := by
  unfold wY_isSo_82
  have m2 := zz_mt_le 2 0 P Q
  have is : vp_in (nI s) 12 := pk_in s 12 hs
  have it : vp_in (nI t) 12 := pk_in t 12 ht
  unfold zz_ho at h
  rw [nI_clamp (by omega : s < 2 ^ 31), nI_clamp (by omega : t < 2 ^ 31), ek, el]
  refine br_f (nI_pos (by omega)) (pk_lt 5 nm (fun g => And.intro is (And.intro it ?_)) (fun g => ?_))
  · rw [if_neg (by omega), if_neg (by omega), if_neg (by omega), if_neg (by omega), if_neg (by omega), if_neg (by omega)] at h
    refine pk_eq k l (fun e => pk_eq n (max k l) (fun e1 => ?_) (fun e1 => ?_)) (fun e => ?_)
    · rw [decide_eq_true e, decide_eq_true (by omega : n = k), Bool.true_and, Bool.true_and] at h
      cases out with
      | false => exact br_t rfl h
      | true =>
        rw [Bool.true_and] at h
        refine br_f (by decide) (yy_meet 2 0 hP hQ (by decide) (by decide) hF hG (pk_le (zz_mt 2 0 P Q) 0 (fun e2 => ?_) (fun e2 => ?_)))
        · rw [decide_eq_false (by omega)] at h
          exact h
        · rw [decide_eq_true (by omega)] at h
          exact h
    · rw [decide_eq_false (by omega : ¬ n = k), Bool.false_and, Bool.and_false] at h
      exact h
    · rw [decide_eq_false e, Bool.false_and] at h
      exact h
  · refine pk_eq nm 0 (fun e => ?_) (fun n0 => pk_eq nm 1 (fun e => ?_) (fun n1 => pk_eq nm 2 (fun e => ?_) (fun n2 => pk_eq nm 3 (fun e => ?_) (fun n3 => pk_eq nm 4 (fun e => ?_) (fun n4 => pk_eq nm 5 (fun e => ?_) (fun n5 => by omega))))))
    · rw [if_pos e] at h
      cases wo with
      | true => exact br_t rfl h
      | false =>
        refine br_f (by decide) ?_
        cases co with
        | true => exact br_t rfl h
        | false => exact br_f (by decide) h
    · rw [if_neg n0, if_pos e] at h
      refine yy_bodies hP hQ hF hG ?_
      cases eb : zz_bm P Q with
      | false => rw [eb] at h; exact br_t rfl h
      | true => rw [eb] at h; exact br_f (by decide) h
    · rw [if_neg n0, if_neg n1, if_pos e] at h
      refine yy_bodies hP hQ hF hG ?_
      cases eb : zz_bm P Q with
      | false => rw [eb] at h; exact br_t rfl h
      | true =>
        rw [eb, Bool.true_and] at h
        refine br_f (by decide) (pk_eq n 0 (fun e1 => ?_) (fun e1 => ?_))
        · rw [decide_eq_true e1] at h
          exact h
        · rw [decide_eq_false e1] at h
          exact h
    · rw [if_neg n0, if_neg n1, if_neg n2, if_pos e] at h
      refine pk_le n 0 (fun e1 => ?_) (fun e1 => ?_)
      · rw [decide_eq_false (by omega), Bool.false_and] at h
        exact h
      · rw [decide_eq_true (by omega), Bool.true_and] at h
        cases wo with
        | true => exact br_t rfl h
        | false => exact br_f (by decide) h
    · rw [if_neg n0, if_neg n1, if_neg n2, if_neg n3, if_pos e] at h
      exact And.intro (zz_o_n _) h
    · rw [if_neg n0, if_neg n1, if_neg n2, if_neg n3, if_neg n4, if_pos e] at h
      refine pk_le n 0 (fun e1 => ?_) (fun e1 => pk_le (max k l) n (fun e2 => ?_) (fun e2 => ?_))
      · rw [decide_eq_false (by omega), Bool.false_and] at h
        exact h
      · rw [decide_eq_false (by omega : ¬ n < max k l), Bool.false_and, Bool.and_false] at h
        exact h
      · rw [decide_eq_true (by omega : n < max k l), decide_eq_true (by omega : n ≠ 0), Bool.true_and, Bool.true_and] at h
        cases out with
        | false => exact br_t rfl h
        | true => exact br_f (by decide) h
theorem yy_isSo {post : Int32 → SY → Prop} {s t nm k l : Nat} (hs : s < 12) (ht : t < 12) (hn : nm < 7) (hk : k ≤ 3) (hl : l ≤ 3) (ek : kd s = nI k) (el : kd t = nI l) (hY : zz_RY mb M)
    (h : ∀ f1' f2', post (zz_o (zz_hold nm k l (zz_pt (kd s) (M s)) (zz_pt (kd t) (M t)))) (kd, mb, hd, f1', f2', pc, qu)) : wpY_isSo post (kd, mb, hd, f1, f2, pc, qu) (nI s) (nI t) (nI nm) := by
  unfold wpY_isSo
  dsimp only
  refine yy_find1 hs hY (fun g1 hF => yy_find2 ht hY (fun g2 hG => ?_))
  have hP := zz_pt_le (kd s) (M s)
  have hQ := zz_pt_le (kd t) (M t)
  have hh := h g1 g2
  unfold zz_hold at hh
  have m0 := zz_mt_le 0 0 (zz_pt (kd s) (M s)) (zz_pt (kd t) (M t))
  have m1 := zz_mt_le 0 2 (zz_pt (kd s) (M s)) (zz_pt (kd t) (M t))
  refine yy_meet 0 0 hP hQ (by decide) (by decide) hF hG (And.intro (pk_in s 12 hs) (And.intro (pk_in t 12 ht) ?_))
  rw [nI_clamp (by omega : s < 2 ^ 31), nI_clamp (by omega : t < 2 ^ 31)]
  have most : ∀ {pp : Int32 → Prop}, pp (nI (max k l)) → wpY_most pp (kd, mb, hd, g1, g2, pc, qu) (kd s) (kd t) := by
    intro pp hp
    rw [ek, el]
    exact yy_most (by omega) (by omega) hp
  refine most (yy_meet 0 2 hP hQ (by decide) (by decide) hF hG ?_)
  have key : ∀ out : Bool, out = decide (zz_mt 0 2 (zz_pt (kd s) (M s)) (zz_pt (kd t) (M t)) ≠ 0) → wY_isSo_52 post (nI s) (nI t) (nI nm) (nI (zz_mt 0 0 (zz_pt (kd s) (M s)) (zz_pt (kd t) (M t)))) (nI (max k l)) (zz_o out) kd mb hd g1 g2 pc qu := by
    intro out eo
    rw [← eo] at hh
    unfold wY_isSo_52
    have key2 : wY_isSo_67 post (nI s) (nI t) (nI nm) (nI (zz_mt 0 0 (zz_pt (kd s) (M s)) (zz_pt (kd t) (M t)))) (nI (max k l)) (zz_o out) (zz_o (!zz_wo (zz_pt (kd s) (M s)) (zz_pt (kd t) (M t)))) kd mb hd g1 g2 pc qu := by
      unfold wY_isSo_67
      have key3 := yy_so82 (out := out) (wo := zz_wo (zz_pt (kd s) (M s)) (zz_pt (kd t) (M t))) (co := zz_wo (zz_pt (kd t) (M t)) (zz_pt (kd s) (M s))) hs ht hn hk hl m0 ek el hP hQ hF hG hh
      refine yy_wo0 hP hQ hF hG (fun e => br_t rfl ?_) (fun e => br_f (by decide) ?_)
      · rw [e] at key3
        exact key3
      · rw [e] at key3
        exact key3
    refine yy_wo1 hP hQ hF hG (fun e => br_t rfl ?_) (fun e => br_f (by decide) ?_)
    · rw [e] at key2
      exact key2
    · rw [e] at key2
      exact key2
  refine pk_le (zz_mt 0 2 (zz_pt (kd s) (M s)) (zz_pt (kd t) (M t))) 0 (fun e => ?_) (fun e => ?_)
  · exact key false (decide_eq_false (by omega)).symm
  · exact key true (decide_eq_true (by omega)).symm
theorem zz_Ld_fr {P : Nat → Nat → Nat} {ins ins' rim rim' : Nat → Int32} (h : zz_Ld P 0 ins rim) (hf : ∀ q, (q < 17 * 1 ∨ 17 * 1 + 17 ≤ q) → ins' q = ins q ∧ rim' q = rim q) : zz_Ld P 0 ins' rim' := by
  intro b hb
  have h1 := h b hb
  have h2 := hf (17 * 0 + b) (by omega)
  rw [h2.1, h2.2]
  exact h1
theorem xx_isM {post : Int32 → SX → Prop} {s t nm k l : Nat} (hs : s < 12) (ht : t < 12) (hn : nm < 7) (hk : k ≤ 3) (hl : l ≤ 3) (ek : kd s = nI k) (el : kd t = nI l) (k0 : ¬ kd s = 0) (l0 : ¬ kd t = 0) (hT : zz_Ty kd M) (hX : zz_RX rr M)
    (h : ∀ ins' rim', post (zz_o (zz_hold nm k l (zz_pt (kd s) (M s)) (zz_pt (kd t) (M t)))) (kd, rr, ins', rim', gd, gn)) : wpX_is post (kd, rr, ins, rim, gd, gn) (nI s) (nI t) (nI nm) := by
  unfold wpX_is
  dsimp only
  refine xx_pair0 hs ht k0 l0 (br_t rfl (br_f (nI_pos (by omega)) (br_t (nI_le (b := 6) (by omega) (by decide)) ?_)))
  refine xx_lay 0 hs (by decide) hX (hT s hs) k0 (fun ins1 rim1 hL _ => xx_lay 1 ht (by decide) hX (hT t ht) l0 (fun ins2 rim2 hM hfr => And.intro (pk_in s 12 hs) (And.intro (pk_in t 12 ht) ?_)))
  dsimp only
  rw [nI_clamp (by omega : s < 2 ^ 31), nI_clamp (by omega : t < 2 ^ 31)]
  have hh := h ins2 rim2
  have hol : ∀ {pp : Int32 → Prop}, pp (zz_o (zz_hold nm k l (zz_pt (kd s) (M s)) (zz_pt (kd t) (M t)))) → wpX_holds pp (kd, rr, ins2, rim2, gd, gn) (nI nm) (kd s) (kd t) := by
    intro pp hp
    rw [ek, el]
    rw [ek, el] at hp
    dsimp only at hL hM hfr
    rw [ek] at hL
    rw [el] at hM
    exact xx_holds hn hk hl (zz_pt_le _ _) (zz_pt_le _ _) (zz_Ld_fr hL hfr) hM hp
  refine hol ?_
  cases e : zz_hold nm k l (zz_pt (kd s) (M s)) (zz_pt (kd t) (M t)) with
  | false => rw [e] at hh; exact br_t rfl hh
  | true => rw [e] at hh; exact br_f (by decide) hh
end
theorem zz_kn {k : Int32} {N : Nat → Nat → Bool} (h : zz_okk k N) : ∃ n, n ≤ 3 ∧ k = nI n := by
  rcases zz_kk h with e | e | e | e
  · exact ⟨0, by decide, e⟩
  · exact ⟨1, by decide, e⟩
  · exact ⟨2, by decide, e⟩
  · exact ⟨3, by decide, e⟩
theorem i_vc_is {k : Nat} {u : SX} {v : SY} (I : i_Rel k u v) (hk : k + 4 ≤ 2048) (v1 : Int32) (v2 : Int32) (v3 : Int32) : wpX_is (fun r u' => wpY_is (fun r' v' => r' = r ∧ i_Rel (k + 4) u' v') v v1 v2 v3) u v1 v2 v3 := by
  refine zz_el (P := fun u v => wpX_is (fun r u' => wpY_is (fun r' v' => r' = r ∧ i_Rel (k + 4) u' v') v v1 v2 v3) u v1 v2 v3) ?_ I
  intro kd rr ins rim gd gn mb hd f1 f2 pc qu M hT hX hY
  rcases zz_pair kd v1 v2 with ⟨s, t, hs, ht, rfl, rfl, k0, l0⟩ | ⟨r, hr, hr0, hrX, hrY⟩
  · rcases zz_num 7 (by decide) v3 with ⟨nm, hn, rfl⟩ | hb
    · obtain ⟨kk, hkk, ek⟩ := zz_kn (hT s hs)
      obtain ⟨ll, hll, el⟩ := zz_kn (hT t ht)
      refine xx_isM hs ht hn hkk hll ek el k0 l0 hT hX (fun ins' rim' => ?_)
      unfold wpY_is
      dsimp only
      refine yy_pair0 hs ht k0 l0 (br_t (by decide) (br_f (nI_pos (by omega)) (br_t (nI_le (b := 6) (by omega) (by decide)) ?_)))
      refine yy_isSo hs ht hn hkk hll ek el hY (fun g1 g2 => ?_)
      cases e : zz_hold nm kk ll (zz_pt (kd s) (M s)) (zz_pt (kd t) (M t)) with
      | false => exact br_t rfl ⟨rfl, zz_in hT hX hY⟩
      | true => exact br_f (by decide) ⟨rfl, zz_in hT hX hY⟩
    · unfold wpX_is wpY_is
      dsimp only
      rcases hb with hb | ⟨hb1, hb2⟩
      · exact xx_pair0 hs ht k0 l0 (br_t rfl (br_t hb (yy_pair0 hs ht k0 l0 (br_t (by decide) (br_t hb ⟨rfl, zz_in hT hX hY⟩)))))
      · have hb3 : ¬ v3 ≤ 6 := zz_nle (n := 6) (by decide) hb2
        exact xx_pair0 hs ht k0 l0 (br_t rfl (br_f hb1 (br_f hb3 (yy_pair0 hs ht k0 l0 (br_t (by decide) (br_f hb1 (br_f hb3 ⟨rfl, zz_in hT hX hY⟩)))))))
  · unfold wpX_is wpY_is
    dsimp only
    exact hrX _ _ _ _ _ _ (br_f hr (hrY _ _ _ _ _ _ _ (br_f hr0 ⟨rfl, zz_in hT hX hY⟩)))
/-! relate -/
def zz_rl (P Q : Nat → Nat → Nat) : Nat → Nat
  | 0 => 0
  | n + 1 => 4 * zz_rl P Q n + zz_mt (n / 3) (n % 3) P Q
section
variable {kd rr ins rim gd gn mb hd f1 f2 pc qu : Nat → Int32} {M : Nat → Nat → Nat → Bool} {P Q : Nat → Nat → Nat}
theorem xx_rel_l {post : Int32 → SX → Prop} (hP : ∀ i j, P i j ≤ 2) (hQ : ∀ i j, Q i j ≤ 2) (hL : zz_Ld P 0 ins rim) (hM : zz_Ld Q 1 ins rim) (h : post (nI (zz_rl P Q 9)) (kd, rr, ins, rim, gd, gn)) :
    ∀ d c, c + d = 9 → wX_relate_31 post kd rr ins rim gd gn (d + 1) (nI (zz_rl P Q c)) (nI c) := by
  intro d
  induction d with
  | zero =>
    intro c hc
    obtain rfl : c = 9 := by omega
    exact pk_le 9 9 (fun _ => h) (fun g => by omega)
  | succ d ih =>
    intro c hc
    refine pk_le 9 c (fun g => by omega) (fun _ => ?_)
    rw [zz_r3 (by omega : c < 2 ^ 31), zz_d3 (by omega : c < 2 ^ 31)]
    exact And.intro zz_n3 (And.intro zz_n3 (xx_meet (c / 3) (c % 3) hP hQ (by omega) (by omega) hL hM (nm_r (e' := nI (zz_rl P Q (c + 1))) (by rw [zz_t4, nI_add]; rfl) (nm_r (nI_1 c) (ih (c + 1) (by omega))))))
theorem yy_rel_l {post : Int32 → SY → Prop} (hP : ∀ i j, P i j ≤ 2) (hQ : ∀ i j, Q i j ≤ 2) (hF : ∀ c, c < 289 → f1 c = nI (P (c / 17) (c % 17))) (hG : ∀ c, c < 289 → f2 c = nI (Q (c / 17) (c % 17))) (h : post (nI (zz_rl P Q 9)) (kd, mb, hd, f1, f2, pc, qu)) :
    ∀ d c, c + d = 9 → wY_relate_31 post kd mb hd f1 f2 pc qu (d + 1) (nI (zz_rl P Q c)) (nI c) := by
  intro d
  induction d with
  | zero =>
    intro c hc
    obtain rfl : c = 9 := by omega
    exact pk_le 9 9 (fun _ => h) (fun g => by omega)
  | succ d ih =>
    intro c hc
    refine pk_le 9 c (fun g => by omega) (fun _ => ?_)
    rw [zz_r3 (by omega : c < 2 ^ 31), zz_d3 (by omega : c < 2 ^ 31)]
    exact And.intro zz_n3 (And.intro zz_n3 (yy_meet (c / 3) (c % 3) hP hQ (by omega) (by omega) hF hG (nm_r (e' := nI (zz_rl P Q (c + 1))) (by rw [zz_t4, nI_add]; rfl) (nm_r (nI_1 c) (ih (c + 1) (by omega))))))
end
theorem i_vc_relate {k : Nat} {u : SX} {v : SY} (I : i_Rel k u v) (hk : k + 4 ≤ 2048) (v1 : Int32) (v2 : Int32) : wpX_relate (fun r u' => wpY_relate (fun r' v' => r' = r ∧ i_Rel (k + 4) u' v') v v1 v2) u v1 v2 := by
  refine zz_el (P := fun u v => wpX_relate (fun r u' => wpY_relate (fun r' v' => r' = r ∧ i_Rel (k + 4) u' v') v v1 v2) u v1 v2) ?_ I
  intro kd rr ins rim gd gn mb hd f1 f2 pc qu M hT hX hY
  unfold wpX_relate wpY_relate
  dsimp only
  rcases zz_pair kd v1 v2 with ⟨s, t, hs, ht, rfl, rfl, k0, l0⟩ | ⟨r, hr, hr0, hrX, hrY⟩
  · refine xx_pair0 hs ht k0 l0 (br_t rfl ?_)
    refine xx_lay 0 hs (by decide) hX (hT s hs) k0 (fun ins1 rim1 hL _ => xx_lay 1 ht (by decide) hX (hT t ht) l0 (fun ins2 rim2 hM hfr => Exists.intro 10 ?_))
    refine xx_rel_l (zz_pt_le _ _) (zz_pt_le _ _) (zz_Ld_fr hL hfr) hM ?_ 9 0 rfl
    refine yy_pair0 hs ht k0 l0 (br_t (by decide) ?_)
    refine yy_find1 hs hY (fun g1 hF => yy_find2 ht hY (fun g2 hG => Exists.intro 10 ?_))
    exact yy_rel_l (zz_pt_le _ _) (zz_pt_le _ _) hF hG ⟨rfl, zz_in hT hX hY⟩ 9 0 rfl
  · exact hrX _ _ _ _ _ _ (br_f hr (hrY _ _ _ _ _ _ _ (br_f hr0 ⟨rfl, zz_in hT hX hY⟩)))
/-! pairs -/
def zz_pn (kd : Nat → Int32) (M : Nat → Nat → Nat → Bool) (nm c : Nat) : Bool :=
  decide (¬ c / 12 = c % 12 ∧ ¬ kd (c / 12) = 0 ∧ ¬ kd (c % 12) = 0) && zz_hold nm (kd (c / 12)).toNatClampNeg (kd (c % 12)).toNatClampNeg (zz_pt (kd (c / 12)) (M (c / 12))) (zz_pt (kd (c % 12)) (M (c % 12)))
theorem zz_kle {k : Int32} {N : Nat → Nat → Bool} (h : zz_okk k N) : k ≤ 0 ↔ k = 0 := by
  rcases zz_kk h with e | e | e | e <;> rw [e] <;> decide
theorem zz_kc {k : Int32} {N : Nat → Nat → Bool} (h : zz_okk k N) : k.toNatClampNeg ≤ 3 ∧ k = nI k.toNatClampNeg := by
  obtain ⟨n, hn, e⟩ := zz_kn h
  rw [e, nI_clamp (by omega)]
  exact ⟨hn, rfl⟩
section
variable {kd rr gd gn mb hd pc qu : Nat → Int32} {M : Nat → Nat → Nat → Bool}
theorem xx_pairs_l {post : Int32 → SX → Prop} {nm : Nat} (hn : nm < 7) (hT : zz_Ty kd M) (hX : zz_RX rr M) (h : ∀ ins rim, post (nI (zz_cn (zz_pn kd M nm) 144)) (kd, rr, ins, rim, gd, gn)) :
    ∀ d c ins rim, c + d = 144 → wX_pairs_17 post (nI nm) (d + 1) (nI (zz_cn (zz_pn kd M nm) c)) (nI c) kd rr ins rim gd gn := by
  intro d
  induction d with
  | zero =>
    intro c ins rim hc
    obtain rfl : c = 144 := by omega
    exact pk_le 144 144 (fun _ => h ins rim) (fun g => by omega)
  | succ d ih =>
    intro c ins rim hc
    have ih' := fun ins rim => ih (c + 1) ins rim (by omega)
    rw [zz_cn_s] at ih'
    have hs : c / 12 < 12 := by omega
    have ht : c % 12 < 12 := by omega
    refine pk_le 144 c (fun g => by omega) (fun _ => And.intro zz_n12 (nm_r (zz_d12 (by omega)) (And.intro zz_n12 (nm_r (zz_r12 (by omega)) (pk_eq (c / 12) (c % 12) (fun e => nm_r (nI_1 c) ?_) (fun e => ?_))))))
    · have e0 : zz_pn kd M nm c = false := by
        unfold zz_pn
        rw [decide_eq_false (fun z => z.1 e), Bool.false_and]
      rw [e0] at ih'
      exact ih' ins rim
    · by_cases k0 : kd (c / 12) = 0 ∨ kd (c % 12) = 0
      · have e0 : zz_pn kd M nm c = false := by
          unfold zz_pn
          rw [decide_eq_false (fun z => k0.elim z.2.1 z.2.2), Bool.false_and]
        rw [e0] at ih'
        unfold wpX_is
        dsimp only
        refine xx_pairS hs ht ?_
        have e1 : zz_pr (kd (c / 12)) (kd (c % 12)) = -2 := by
          unfold zz_pr
          rcases k0 with k0 | k0
          · rw [if_pos k0]
          · rw [if_pos k0]
            split <;> rfl
        rw [e1]
        exact br_f (by decide) (br_f (by decide) (nm_r (Int32.add_zero _) (nm_r (nI_1 c) (ih' ins rim))))
      · have k1 : ¬ kd (c / 12) = 0 := fun z => k0 (Or.inl z)
        have l1 : ¬ kd (c % 12) = 0 := fun z => k0 (Or.inr z)
        have a1 := zz_kc (hT _ hs)
        have a2 := zz_kc (hT _ ht)
        have e0 : zz_pn kd M nm c = zz_hold nm (kd (c / 12)).toNatClampNeg (kd (c % 12)).toNatClampNeg (zz_pt (kd (c / 12)) (M (c / 12))) (zz_pt (kd (c % 12)) (M (c % 12))) := by
          unfold zz_pn
          rw [decide_eq_true ⟨e, k1, l1⟩, Bool.true_and]
        refine xx_isM hs ht hn a1.1 a2.1 a1.2 a2.2 k1 l1 hT hX (fun ins' rim' => ?_)
        rw [← e0]
        cases eh : zz_pn kd M nm c with
        | false =>
          rw [eh] at ih'
          exact br_f (by decide) (nm_r (Int32.add_zero _) (nm_r (nI_1 c) (ih' ins' rim')))
        | true =>
          rw [eh] at ih'
          exact br_t rfl (nm_r (nI_1 _) (nm_r (nI_1 c) (ih' ins' rim')))
theorem yy_pairs_l {post : Int32 → SY → Prop} {nm : Nat} (hn : nm < 7) (hT : zz_Ty kd M) (hY : zz_RY mb M) (h : ∀ f1 f2, post (nI (zz_cn (zz_pn kd M nm) 144)) (kd, mb, hd, f1, f2, pc, qu)) :
    ∀ d c f1 f2, c + d = 144 → wY_pairs_17 post (nI nm) (d + 1) (nI (zz_cn (zz_pn kd M nm) c)) (nI c) kd mb hd f1 f2 pc qu := by
  intro d
  induction d with
  | zero =>
    intro c f1 f2 hc
    obtain rfl : c = 144 := by omega
    exact pk_le 144 144 (fun _ => h f1 f2) (fun g => by omega)
  | succ d ih =>
    intro c f1 f2 hc
    have ih' := fun f1 f2 => ih (c + 1) f1 f2 (by omega)
    rw [zz_cn_s] at ih'
    have hs : c / 12 < 12 := by omega
    have ht : c % 12 < 12 := by omega
    have key0 : zz_pn kd M nm c = false → ∀ f1 f2, wY_pairs_17 post (nI nm) (d + 1) (nI (zz_cn (zz_pn kd M nm) c)) (nI (c + 1)) kd mb hd f1 f2 pc qu := by
      intro e0 f1 f2
      rw [e0] at ih'
      exact ih' f1 f2
    refine pk_le 144 c (fun g => by omega) (fun _ => And.intro zz_n12 (nm_r (zz_d12 (by omega)) (And.intro zz_n12 (nm_r (zz_r12 (by omega)) (pk_eq (c / 12) (c % 12) (fun e => nm_r (nI_1 c) (key0 ?_ f1 f2)) (fun e => ?_))))))
    · unfold zz_pn
      rw [decide_eq_false (fun z => z.1 e), Bool.false_and]
    · rw [nI_clamp (by omega : c / 12 < 2 ^ 31), nI_clamp (by omega : c % 12 < 2 ^ 31), zz_kle (hT _ hs), zz_kle (hT _ ht)]
      refine And.intro (pk_in (c / 12) 12 hs) (br_c (fun g => nm_r (nI_1 c) (key0 ?_ f1 f2)) (fun k1 => And.intro (pk_in (c % 12) 12 ht) (br_c (fun g => nm_r (nI_1 c) (key0 ?_ f1 f2)) (fun l1 => ?_))))
      · unfold zz_pn
        rw [decide_eq_false (fun z => z.2.1 g), Bool.false_and]
      · unfold zz_pn
        rw [decide_eq_false (fun z => z.2.2 g), Bool.false_and]
      · have a1 := zz_kc (hT _ hs)
        have a2 := zz_kc (hT _ ht)
        have e0 : zz_pn kd M nm c = zz_hold nm (kd (c / 12)).toNatClampNeg (kd (c % 12)).toNatClampNeg (zz_pt (kd (c / 12)) (M (c / 12))) (zz_pt (kd (c % 12)) (M (c % 12))) := by
          unfold zz_pn
          rw [decide_eq_true ⟨e, k1, l1⟩, Bool.true_and]
        refine yy_isSo hs ht hn a1.1 a2.1 a1.2 a2.2 hY (fun g1 g2 => ?_)
        rw [← e0]
        cases eh : zz_pn kd M nm c with
        | false => exact br_t rfl (nm_r (nI_1 c) (key0 eh g1 g2))
        | true =>
          rw [eh] at ih'
          exact br_f (by decide) (nm_r (nI_1 _) (nm_r (nI_1 c) (ih' g1 g2)))
end
theorem i_vc_pairs {k : Nat} {u : SX} {v : SY} (I : i_Rel k u v) (hk : k + 4 ≤ 2048) (v1 : Int32) : wpX_pairs (fun r u' => wpY_pairs (fun r' v' => r' = r ∧ i_Rel (k + 4) u' v') v v1) u v1 := by
  refine zz_el (P := fun u v => wpX_pairs (fun r u' => wpY_pairs (fun r' v' => r' = r ∧ i_Rel (k + 4) u' v') v v1) u v1) ?_ I
  intro kd rr ins rim gd gn mb hd f1 f2 pc qu M hT hX hY
  unfold wpX_pairs wpY_pairs
  dsimp only
  rcases zz_num 7 (by decide) v1 with ⟨nm, hn, rfl⟩ | hb
  · refine br_f (nI_pos (by omega)) (br_t (nI_le (b := 6) (by omega) (by decide)) (Exists.intro 145 ?_))
    refine xx_pairs_l hn hT hX (fun ins' rim' => ?_) 144 0 ins rim rfl
    refine br_f (nI_pos (by omega)) (br_t (nI_le (b := 6) (by omega) (by decide)) (Exists.intro 145 ?_))
    exact yy_pairs_l hn hT hY (fun g1 g2 => ⟨rfl, zz_in hT hX hY⟩) 144 0 f1 f2 rfl
  · rcases hb with hb | ⟨hb1, hb2⟩
    · exact br_t hb (br_t hb ⟨rfl, zz_in hT hX hY⟩)
    · have hb3 : ¬ v1 ≤ 6 := zz_nle (n := 6) (by decide) hb2
      exact br_f hb1 (br_f hb3 (br_f hb1 (br_f hb3 ⟨rfl, zz_in hT hX hY⟩)))
end
section
/-! distances -/
def zz_Mi (r : Nat) (Q : Nat → Prop) : Prop := r ≤ 1000 ∧ (∀ d, Q d → r ≤ d) ∧ (r = 1000 ∨ Q r)
theorem zz_Mi_u {r r' : Nat} {Q : Nat → Prop} (h : zz_Mi r Q) (h' : zz_Mi r' Q) : r = r' := by
  obtain ⟨a1, a2, a3⟩ := h
  obtain ⟨b1, b2, b3⟩ := h'
  rcases a3 with a3 | a3
  · rcases b3 with b3 | b3
    · omega
    · have := a2 _ b3
      omega
  · have := b2 _ a3
    rcases b3 with b3 | b3
    · omega
    · have := a2 _ b3
      omega
theorem zz_Mi_ex (Q : Nat → Prop) : ∃ r, zz_Mi r Q := by
  by_cases h : ∃ d, d ≤ 1000 ∧ Q d
  · obtain ⟨r, hr, hm⟩ := pk_least (fun d => d ≤ 1000 ∧ Q d) h
    refine ⟨r, hr.1, fun d hd => ?_, Or.inr hr.2⟩
    apply Classical.byContradiction
    intro g
    exact hm d (by omega) ⟨by omega, hd⟩
  · refine ⟨1000, Nat.le_refl _, fun d hd => ?_, Or.inl rfl⟩
    apply Classical.byContradiction
    intro g
    exact h ⟨d, by omega, hd⟩
theorem zz_Mi_skip {r : Nat} {Q Q' : Nat → Prop} (h : zz_Mi r Q) (h1 : ∀ d, Q' d → Q d ∨ r ≤ d) (h2 : ∀ d, Q d → Q' d) : zz_Mi r Q' := by
  refine ⟨h.1, fun d hd => ?_, h.2.2.elim Or.inl (fun q => Or.inr (h2 r q))⟩
  rcases h1 d hd with e | e
  · exact h.2.1 d e
  · exact e
theorem zz_Mi_set {r d : Nat} {Q Q' : Nat → Prop} (h : zz_Mi r Q) (hd : d < r) (hq : Q' d) (h1 : ∀ e, Q' e → Q e ∨ e = d) : zz_Mi d Q' := by
  refine ⟨by have := h.1; omega, fun e he => ?_, Or.inr hq⟩
  rcases h1 e he with g | g
  · have := h.2.1 e g
    omega
  · omega
def zz_df (a b : Nat) : Nat := if a ≤ b then b - a else a - b
theorem zz_df_le {a b n : Nat} (ha : a < n) (hb : b < n) : zz_df a b < n := by
  unfold zz_df
  split <;> omega
theorem zz_df_sq (a b : Nat) : (nI a - nI b) * (nI a - nI b) = nI (zz_df a b * zz_df a b) := by
  unfold zz_df
  split
  · rename_i h
    have e : nI a - nI b = -(nI b - nI a) := Int32.neg_sub.symm
    have e2 : nI b - nI a = nI (b - a) := pk_sub h
    rw [e, e2, ← pk_mul]
    generalize nI (b - a) = x
    grind
  · rename_i h
    rw [pk_sub (by omega), pk_mul]
/-- squares of the distances of the vertices of two bodies -/
def zz_Qd (P Q : Nat → Nat → Nat) (d : Nat) : Prop := ∃ i j a b, i < 9 ∧ j < 9 ∧ a < 9 ∧ b < 9 ∧ P (2 * i) (2 * j) < 2 ∧ Q (2 * a) (2 * b) < 2 ∧ d = zz_df i a * zz_df i a + zz_df j b * zz_df j b
def zz_Qp (P Q : Nat → Nat → Nat) (v w d : Nat) : Prop := ∃ x y, x < 81 ∧ y < 81 ∧ (x < v ∨ (x = v ∧ y < w)) ∧ P (2 * (x / 9)) (2 * (x % 9)) < 2 ∧ Q (2 * (y / 9)) (2 * (y % 9)) < 2 ∧ d = zz_df (x / 9) (y / 9) * zz_df (x / 9) (y / 9) + zz_df (x % 9) (y % 9) * zz_df (x % 9) (y % 9)
theorem zz_Qp_Qd {P Q : Nat → Nat → Nat} {d : Nat} : zz_Qp P Q 81 0 d ↔ zz_Qd P Q d := by
  constructor
  · rintro ⟨x, y, hx, hy, _, p, q, e⟩
    exact ⟨x / 9, x % 9, y / 9, y % 9, by omega, by omega, by omega, by omega, p, q, e⟩
  · rintro ⟨i, j, a, b, hi, hj, ha, hb, p, q, e⟩
    refine ⟨9 * i + j, 9 * a + b, by omega, by omega, Or.inl (by omega), ?_⟩
    rw [show (9 * i + j) / 9 = i by omega, show (9 * i + j) % 9 = j by omega, show (9 * a + b) / 9 = a by omega, show (9 * a + b) % 9 = b by omega]
    exact ⟨p, q, e⟩
section
variable {kd rr ins rim gd gn mb hd f1 f2 pc qu : Nat → Int32} {M : Nat → Nat → Nat → Bool} {P Q : Nat → Nat → Nat}
theorem yy_isBody {post : Int32 → Prop} {s v : Nat} (hs : s < 12) (hv : v < 81) (hY : zz_RY mb M) (h0 : ¬ zz_pt (kd s) (M s) (2 * (v / 9)) (2 * (v % 9)) < 2 → post 0) (h1 : zz_pt (kd s) (M s) (2 * (v / 9)) (2 * (v % 9)) < 2 → post 1) :
    wpY_isBody post (kd, mb, hd, f1, f2, pc, qu) (nI s) (nI v) := by
  unfold wpY_isBody
  dsimp only
  rw [zz_r9 (by omega : v < 2 ^ 31), zz_d9 (by omega : v < 2 ^ 31), zz_t2, zz_t2]
  have := zz_pt_le (kd s) (M s) (2 * (v / 9)) (2 * (v % 9))
  exact ⟨zz_n9, zz_n9, yy_part hs hY (by omega) (by omega) (pk_le 2 (zz_pt (kd s) (M s) (2 * (v / 9)) (2 * (v % 9))) (fun g => h0 (by omega)) (fun g => h1 (by omega)))⟩
theorem yy_square {post : Int32 → Prop} {v w : Nat} (hv : v < 81) (hw : w < 81) (h : post (nI (zz_df (v / 9) (w / 9) * zz_df (v / 9) (w / 9) + zz_df (v % 9) (w % 9) * zz_df (v % 9) (w % 9)))) : wpY_square post (kd, mb, hd, f1, f2, pc, qu) (nI v) (nI w) := by
  unfold wpY_square
  dsimp only
  rw [zz_r9 (by omega : v < 2 ^ 31), zz_r9 (by omega : w < 2 ^ 31), zz_d9 (by omega : v < 2 ^ 31), zz_d9 (by omega : w < 2 ^ 31)]
  refine ⟨zz_n9, zz_n9, nm_e ⟨zz_n9, zz_n9, nm_e ?_⟩⟩
  rw [zz_df_sq, zz_df_sq, nI_add]
  exact h
theorem zz_sq_le {a b c d : Nat} (ha : a < 9) (hb : b < 9) (hc : c < 9) (hd : d < 9) : zz_df a b * zz_df a b + zz_df c d * zz_df c d ≤ 128 := by
  have h1 : zz_df a b ≤ 8 := by have := zz_df_le ha hb; omega
  have h2 : zz_df c d ≤ 8 := by have := zz_df_le hc hd; omega
  have := Nat.mul_le_mul h1 h1
  have := Nat.mul_le_mul h2 h2
  omega
theorem yy_dist_i {post : Int32 → Prop} {J : Int32 → Int32 → Prop} {s t v : Nat} (hs : s < 12) (ht : t < 12) (hv : v < 81) (hY : zz_RY mb M) (hB : zz_pt (kd s) (M s) (2 * (v / 9)) (2 * (v % 9)) < 2)
    (hJ : ∀ r, zz_Mi r (zz_Qp (zz_pt (kd s) (M s)) (zz_pt (kd t) (M t)) v 81) → J (nI r) (nI (v + 1))) :
    ∀ n w r, w + n = 81 → zz_Mi r (zz_Qp (zz_pt (kd s) (M s)) (zz_pt (kd t) (M t)) v w) → wY_distance_26 post J (nI s) (nI t) (nI v) 1 kd mb hd f1 f2 pc qu (n + 1) (nI r) (nI w) := by
  intro n
  induction n with
  | zero =>
    intro w r hw hr
    obtain rfl : w = 81 := by omega
    exact pk_le 81 81 (fun _ => nm_r (nI_1 v) (hJ r hr)) (fun g => by omega)
  | succ n ih =>
    intro w r hw hr
    have hr1 := hr.1
    have hsq := zz_sq_le (a := v / 9) (b := w / 9) (c := v % 9) (d := w % 9) (by omega) (by omega) (by omega) (by omega)
    have step : ∀ e, zz_Qp (zz_pt (kd s) (M s)) (zz_pt (kd t) (M t)) v (w + 1) e → zz_Qp (zz_pt (kd s) (M s)) (zz_pt (kd t) (M t)) v w e ∨ (zz_pt (kd t) (M t) (2 * (w / 9)) (2 * (w % 9)) < 2 ∧ e = zz_df (v / 9) (w / 9) * zz_df (v / 9) (w / 9) + zz_df (v % 9) (w % 9) * zz_df (v % 9) (w % 9)) := by
      rintro e ⟨x, y, hx, hy, hxy, p, q, ee⟩
      by_cases c : x = v ∧ y = w
      · obtain ⟨rfl, rfl⟩ := c
        exact Or.inr ⟨q, ee⟩
      · exact Or.inl ⟨x, y, hx, hy, by omega, p, q, ee⟩
    have up : ∀ e, zz_Qp (zz_pt (kd s) (M s)) (zz_pt (kd t) (M t)) v w e → zz_Qp (zz_pt (kd s) (M s)) (zz_pt (kd t) (M t)) v (w + 1) e := by
      rintro e ⟨x, y, hx, hy, hxy, p, q, ee⟩
      exact ⟨x, y, hx, hy, by omega, p, q, ee⟩
    refine pk_le 81 w (fun g => by omega) (fun _ => br_f (by decide) (yy_square hv (by omega) (pk_le r _ (fun g => nm_r (nI_1 w) (ih (w + 1) r (by omega) ?_)) (fun g => yy_isBody ht (by omega) hY (fun nb => br_t rfl (nm_r (nI_1 w) (ih (w + 1) r (by omega) ?_))) (fun b => br_f (by decide) (nm_r (nI_1 w) (ih (w + 1) _ (by omega) ?_)))))))
    · exact zz_Mi_skip hr (fun e he => (step e he).imp id (fun z => by omega)) up
    · exact zz_Mi_skip hr (fun e he => (step e he).imp id (fun z => absurd z.1 nb)) up
    · exact zz_Mi_set hr g ⟨v, w, hv, by omega, Or.inr ⟨rfl, by omega⟩, hB, b, rfl⟩ (fun e he => (step e he).imp id (fun z => z.2))
theorem yy_dist_o {post : Int32 → Prop} {s t : Nat} (hs : s < 12) (ht : t < 12) (hY : zz_RY mb M) (hc : ∀ r, zz_Mi r (zz_Qp (zz_pt (kd s) (M s)) (zz_pt (kd t) (M t)) 81 0) → post (nI r)) :
    ∀ n v r, v + n = 81 → zz_Mi r (zz_Qp (zz_pt (kd s) (M s)) (zz_pt (kd t) (M t)) v 0) → wY_distance_7 post (nI s) (nI t) kd mb hd f1 f2 pc qu (n + 1) (nI r) (nI v) := by
  intro n
  induction n with
  | zero =>
    intro v r hv hr
    obtain rfl : v = 81 := by omega
    exact pk_le 81 81 (fun _ => hc r hr) (fun g => by omega)
  | succ n ih =>
    intro v r hv hr
    refine pk_le 81 v (fun g => by omega) (fun _ => yy_isBody hs (by omega) hY (fun nb => Exists.intro 1 (pk_le 81 0 (fun g => by omega) (fun _ => br_t rfl (nm_r (nI_1 v) (ih (v + 1) r (by omega) ?_))))) (fun b => Exists.intro 82 (yy_dist_i hs ht (by omega) hY b (fun r' hr' => ih (v + 1) r' (by omega) ?_) 81 0 r rfl hr)))
    · refine zz_Mi_skip hr (fun e he => Or.inl ?_) (fun e he => ?_)
      · obtain ⟨x, y, hx, hy, hxy, p, q, ee⟩ := he
        refine ⟨x, y, hx, hy, ?_, p, q, ee⟩
        by_cases c : x = v
        · subst c
          exact absurd p nb
        · omega
      · obtain ⟨x, y, hx, hy, hxy, p, q, ee⟩ := he
        exact ⟨x, y, hx, hy, by omega, p, q, ee⟩
    · refine zz_Mi_skip hr' (fun e he => Or.inl ?_) (fun e he => ?_)
      · obtain ⟨x, y, hx, hy, hxy, p, q, ee⟩ := he
        exact ⟨x, y, hx, hy, by omega, p, q, ee⟩
      · obtain ⟨x, y, hx, hy, hxy, p, q, ee⟩ := he
        exact ⟨x, y, hx, hy, by omega, p, q, ee⟩
theorem yy_dist {post : Int32 → Prop} {s t r : Nat} (hs : s < 12) (ht : t < 12) (hY : zz_RY mb M) (hr : zz_Mi r (zz_Qd (zz_pt (kd s) (M s)) (zz_pt (kd t) (M t)))) (h : post (nI r)) : wpY_distance post (kd, mb, hd, f1, f2, pc, qu) (nI s) (nI t) := by
  refine Exists.intro 82 ?_
  refine yy_dist_o hs ht hY (fun r' hr' => ?_) 81 0 1000 rfl ⟨Nat.le_refl _, ?_, Or.inl rfl⟩
  · have : r' = r := zz_Mi_u (zz_Mi_skip hr' (fun d hd => Or.inl (zz_Qp_Qd.2 hd)) (fun d hd => zz_Qp_Qd.1 hd)) hr
    rw [this]
    exact h
  · rintro d ⟨x, y, hx, hy, hxy, p, q, ee⟩
    omega
/-! X: shifted words -/
def zz_SR (P Q : Nat → Nat → Nat) (a u j : Nat) : Prop := ∃ i x y, i < 9 ∧ x < 9 ∧ y < 9 ∧ P (2 * i) (2 * j) < 2 ∧ Q (2 * x) (2 * y) < 2 ∧ zz_df i x = a ∧ zz_df j y = u
theorem zz_smrow {a u j : Nat} (ha : a < 9) (hu : u < 9) (hj : j < 9) {x y z : Int32} (hx : ∀ i, i < 32 → bt x i = decide (i < 17 ∧ P i (2 * j) < 2)) (hy : ∀ i, i < 32 → bt y i = decide (i < 17 ∧ j + u ≤ 8 ∧ Q i (2 * (j + u)) < 2))
    (hz : ∀ i, i < 32 → bt z i = decide (i < 17 ∧ u ≤ j ∧ Q i (2 * (j - u)) < 2)) :
    ¬ (((((x &&& 87381) <<< (nI (2 * a) &&& 31)) ||| ((x &&& 87381) >>> (nI (2 * a) &&& 31))) &&& 87381) &&& (y ||| z)) = 0 ↔ zz_SR P Q a u j := by
  have hA : ∀ i, i < 32 → bt (x &&& 87381) i = decide (i < 17 ∧ i % 2 = 0 ∧ P i (2 * j) < 2) := by
    intro i hi
    rw [b_and, hx i hi, zz_even i hi, ← Bool.decide_and]
    exact decide_eq_decide.mpr (by omega)
  have hW : ∀ i, i < 32 → (bt (((((x &&& 87381) <<< (nI (2 * a) &&& 31)) ||| ((x &&& 87381) >>> (nI (2 * a) &&& 31))) &&& 87381) &&& (y ||| z)) i = true ↔ ((2 * a ≤ i ∧ P (i - 2 * a) (2 * j) < 2) ∨ (2 * a + i < 17 ∧ P (2 * a + i) (2 * j) < 2)) ∧ (i < 17 ∧ i % 2 = 0) ∧ ((j + u ≤ 8 ∧ Q i (2 * (j + u)) < 2) ∨ (u ≤ j ∧ Q i (2 * (j - u)) < 2))) := by
    intro i hi
    have e31 : bt (x &&& 87381) 31 = false := by
      rw [hA 31 (by omega)]
      exact decide_eq_false (by omega)
    rw [b_and, b_and, b_or, b_or, b_shl (2 * a) (by omega) _ hi, b_sshr (2 * a) (by omega) _ hi, zz_even i hi, hy i hi, hz i hi, e31]
    by_cases c : i < 17 ∧ i % 2 = 0
    · by_cases c1 : 2 * a + i < 32
      · rw [if_pos c1, hA (2 * a + i) c1, hA (i - 2 * a) (by omega)]
        simp only [Bool.and_eq_true, Bool.or_eq_true, decide_eq_true_iff]
        omega
      · rw [if_neg c1, hA (i - 2 * a) (by omega)]
        simp only [Bool.and_eq_true, Bool.or_eq_true, decide_eq_true_iff, Bool.false_eq_true, or_false]
        omega
    · rw [decide_eq_false c]
      simp only [Bool.and_false, Bool.false_and, Bool.false_eq_true, false_iff]
      intro g
      exact c g.2.1
  constructor
  · intro h
    obtain ⟨i, hi, hb⟩ := zz_ne0 h
    obtain ⟨g1, g2, g3⟩ := (hW i hi).1 hb
    obtain ⟨w, rfl⟩ : ∃ w, i = 2 * w := ⟨i / 2, by omega⟩
    have dfj : (j + u ≤ 8 ∧ Q (2 * w) (2 * (j + u)) < 2) ∨ (u ≤ j ∧ Q (2 * w) (2 * (j - u)) < 2) → ∃ y, y < 9 ∧ Q (2 * w) (2 * y) < 2 ∧ zz_df j y = u := by
      rintro (⟨a1, a2⟩ | ⟨a1, a2⟩)
      · refine ⟨j + u, by omega, a2, ?_⟩
        unfold zz_df
        rw [if_pos (by omega)]
        omega
      · refine ⟨j - u, by omega, a2, ?_⟩
        unfold zz_df
        split <;> omega
    obtain ⟨yy, h1, h2, h3⟩ := dfj g3
    rcases g1 with ⟨a1, a2⟩ | ⟨a1, a2⟩
    · refine ⟨w - a, w, yy, by omega, by omega, h1, ?_, h2, ?_, h3⟩
      · rw [show 2 * (w - a) = 2 * w - 2 * a by omega]
        exact a2
      · unfold zz_df
        rw [if_pos (by omega)]
        omega
    · refine ⟨a + w, w, yy, by omega, by omega, h1, ?_, h2, ?_, h3⟩
      · rw [show 2 * (a + w) = 2 * a + 2 * w by omega]
        exact a2
      · unfold zz_df
        split <;> omega
  · rintro ⟨i, w, yy, hi, hw, hyy, p, q, e1, e2⟩
    refine zz_bne ((hW (2 * w) (by omega)).2 ⟨?_, by omega, ?_⟩)
    · unfold zz_df at e1
      by_cases c : i ≤ w
      · rw [if_pos c] at e1
        left
        refine ⟨by omega, ?_⟩
        rw [show 2 * w - 2 * a = 2 * i by omega]
        exact p
      · rw [if_neg c] at e1
        right
        refine ⟨by omega, ?_⟩
        rw [show 2 * a + 2 * w = 2 * i by omega]
        exact p
    · unfold zz_df at e2
      by_cases c : j ≤ yy
      · rw [if_pos c] at e2
        left
        refine ⟨by omega, ?_⟩
        rw [show j + u = yy by omega]
        exact q
      · rw [if_neg c] at e2
        right
        refine ⟨by omega, ?_⟩
        rw [show j - u = yy by omega]
        exact q
theorem xx_shift_l {post : Int32 → Prop} {a u : Nat} (ha : a < 9) (hu : u < 9) (hL : zz_Ld P 0 ins rim) (hM : zz_Ld Q 1 ins rim) (h1 : (∃ j, j < 9 ∧ zz_SR P Q a u j) → post 1) (h0 : (¬ ∃ j, j < 9 ∧ zz_SR P Q a u j) → post 0) :
    ∀ d j, j + d = 9 → (∀ b, b < j → ¬ zz_SR P Q a u b) → wX_shiftedMeet_2 post (nI a) (nI u) kd rr ins rim gd gn (d + 1) (nI (2 * j)) := by
  intro d
  induction d with
  | zero =>
    intro j hj hb
    obtain rfl : j = 9 := by omega
    exact pk_le 17 18 (fun _ => h0 (fun ⟨b, hb1, hb2⟩ => hb b hb1 hb2)) (fun g => by omega)
  | succ d ih =>
    intro j hj hb
    have ra := zz_Ld0 hL (2 * j) (by omega)
    refine pk_le 17 (2 * j) (fun g => by omega) (fun _ => xx_body (by omega) (nm_e (nm_e ?_)))
    rw [zz_t2 a, zz_t2 u, nI_add (2 * j) (2 * u), show (17 : Int32) + nI (2 * j) = nI (17 + 2 * j) from nI_add 17 (2 * j), nI_add (17 + 2 * j) (2 * u)]
    -- the last join
    have fin : ∀ y z : Int32, (∀ i, i < 32 → bt y i = decide (i < 17 ∧ j + u ≤ 8 ∧ Q i (2 * (j + u)) < 2)) → (∀ i, i < 32 → bt z i = decide (i < 17 ∧ u ≤ j ∧ Q i (2 * (j - u)) < 2)) →
        wX_shiftedMeet_85 post (wX_shiftedMeet_2 post (nI a) (nI u) kd rr ins rim gd gn (d + 1)) (nI a) (nI u) (nI (2 * j)) ((((ins (2 * j) ||| rim (2 * j)) &&& 87381) <<< (nI (2 * a) &&& 31)) ||| (((ins (2 * j) ||| rim (2 * j)) &&& 87381) >>> (nI (2 * a) &&& 31))) y z kd rr ins rim gd gn := by
      intro y z hy hz
      have key := zz_smrow (P := P) (Q := Q) ha hu (by omega : j < 9) (fun i hi => zz_rk_body ra hi) hy hz
      unfold wX_shiftedMeet_85
      refine br_c (fun e => nm_r (e' := nI (2 * (j + 1))) (by rw [zz_a2]; exact congrArg nI (by omega)) (ih (j + 1) (by omega) (fun b hb' => ?_))) (fun e => h1 ⟨j, by omega, key.1 e⟩)
      by_cases c : b = j
      · rw [c]
        exact fun sr => key.2 sr e
      · exact hb b (by omega)
    have mid : ∀ y : Int32, (∀ i, i < 32 → bt y i = decide (i < 17 ∧ j + u ≤ 8 ∧ Q i (2 * (j + u)) < 2)) →
        wX_shiftedMeet_59 post (wX_shiftedMeet_2 post (nI a) (nI u) kd rr ins rim gd gn (d + 1)) (nI a) (nI u) (nI (2 * j)) ((((ins (2 * j) ||| rim (2 * j)) &&& 87381) <<< (nI (2 * a) &&& 31)) ||| (((ins (2 * j) ||| rim (2 * j)) &&& 87381) >>> (nI (2 * a) &&& 31))) y kd rr ins rim gd gn := by
      intro y hy
      unfold wX_shiftedMeet_59
      rw [zz_t2 u, show (17 : Int32) + nI (2 * j) = nI (17 + 2 * j) from nI_add 17 (2 * j)]
      by_cases c : 2 * j < 2 * u
      · refine br_t (pk_sneg (by omega) c) (fin y 0 hy (fun i hi => ?_))
        rw [b_0]
        exact (decide_eq_false (by omega)).symm
      · rw [pk_sub (by omega : 2 * u ≤ 2 * j), pk_sub (by omega : 2 * u ≤ 17 + 2 * j)]
        refine br_f (nI_pos (by omega)) (xx_body (by omega) (fin y _ hy (fun i hi => ?_)))
        have rb : zz_rk Q (2 * (j - u)) (ins (17 + 2 * (j - u))) (rim (17 + 2 * (j - u))) := hM (2 * (j - u)) (by omega)
        rw [show 17 + 2 * j - 2 * u = 17 + 2 * (j - u) by omega, zz_rk_body rb hi]
        exact decide_eq_decide.mpr (by omega)
    refine pk_le 17 (2 * j + 2 * u) (fun g => mid 0 (fun i hi => ?_)) (fun g => xx_body (by omega) (mid _ (fun i hi => ?_)))
    · rw [b_0]
      exact (decide_eq_false (by omega)).symm
    · have rb : zz_rk Q (2 * (j + u)) (ins (17 + 2 * (j + u))) (rim (17 + 2 * (j + u))) := hM (2 * (j + u)) (by omega)
      rw [show 17 + 2 * j + 2 * u = 17 + 2 * (j + u) by omega, zz_rk_body rb hi]
      exact decide_eq_decide.mpr (by omega)
theorem xx_shift {post : Int32 → Prop} {a u : Nat} (ha : a < 9) (hu : u < 9) (hL : zz_Ld P 0 ins rim) (hM : zz_Ld Q 1 ins rim) (h1 : (∃ j, j < 9 ∧ zz_SR P Q a u j) → post 1) (h0 : (¬ ∃ j, j < 9 ∧ zz_SR P Q a u j) → post 0) : wpX_shiftedMeet post (kd, rr, ins, rim, gd, gn) (nI a) (nI u) := by
  refine Exists.intro 10 ?_
  exact xx_shift_l ha hu hL hM h1 h0 9 0 rfl (fun b hb => by omega)
def zz_Qx (P Q : Nat → Nat → Nat) (a u d : Nat) : Prop := ∃ x y, x < 9 ∧ y < 9 ∧ (x < a ∨ (x = a ∧ y < u)) ∧ (∃ j, j < 9 ∧ zz_SR P Q x y j) ∧ d = x * x + y * y
theorem zz_Qx_Qd {P Q : Nat → Nat → Nat} {d : Nat} : zz_Qx P Q 9 0 d ↔ zz_Qd P Q d := by
  constructor
  · rintro ⟨x, y, hx, hy, _, ⟨j, hj, i, a, b, hi, ha, hb, p, q, e1, e2⟩, e⟩
    exact ⟨i, j, a, b, hi, hj, ha, hb, p, q, by rw [e1, e2]; exact e⟩
  · rintro ⟨i, j, a, b, hi, hj, ha, hb, p, q, e⟩
    exact ⟨zz_df i a, zz_df j b, zz_df_le hi ha, zz_df_le hj hb, Or.inl (zz_df_le hi ha), ⟨j, hj, i, a, b, hi, ha, hb, p, q, rfl, rfl⟩, e⟩
theorem xx_least_i {post : Int32 → Prop} {J : Int32 → Int32 → Prop} {a : Nat} (ha : a < 9) (hL : zz_Ld P 0 ins rim) (hM : zz_Ld Q 1 ins rim) (hJ : ∀ r, zz_Mi r (zz_Qx P Q a 9) → J (nI r) (nI (a + 1))) :
    ∀ n u r, u + n = 9 → zz_Mi r (zz_Qx P Q a u) → wX_leastSquare_14 post J (nI a) kd rr ins rim gd gn (n + 1) (nI r) (nI u) := by
  intro n
  induction n with
  | zero =>
    intro u r hu hr
    obtain rfl : u = 9 := by omega
    exact pk_lt 8 9 (fun _ => nm_r (nI_1 a) (hJ r hr)) (fun g => by omega)
  | succ n ih =>
    intro u r hu hr
    have hr1 := hr.1
    have b1 := Nat.mul_le_mul (by omega : a ≤ 8) (by omega : a ≤ 8)
    have b2 := Nat.mul_le_mul (by omega : u ≤ 8) (by omega : u ≤ 8)
    have step : ∀ e, zz_Qx P Q a (u + 1) e → zz_Qx P Q a u e ∨ ((∃ j, j < 9 ∧ zz_SR P Q a u j) ∧ e = a * a + u * u) := by
      rintro e ⟨x, y, hx, hy, hxy, p, ee⟩
      by_cases c : x = a ∧ y = u
      · obtain ⟨rfl, rfl⟩ := c
        exact Or.inr ⟨p, ee⟩
      · exact Or.inl ⟨x, y, hx, hy, by omega, p, ee⟩
    have up : ∀ e, zz_Qx P Q a u e → zz_Qx P Q a (u + 1) e := by
      rintro e ⟨x, y, hx, hy, hxy, p, ee⟩
      exact ⟨x, y, hx, hy, by omega, p, ee⟩
    refine pk_lt 8 u (fun g => by omega) (fun _ => nm_r (e' := nI (a * a + u * u)) (by rw [pk_mul, pk_mul, nI_add]) (pk_le r (a * a + u * u) (fun g => nm_r (nI_1 u) (ih (u + 1) r (by omega) ?_)) (fun g => xx_shift ha (by omega) hL hM (fun b => br_f (by decide) (nm_r (nI_1 u) (ih (u + 1) _ (by omega) ?_))) (fun nb => br_t rfl (nm_r (nI_1 u) (ih (u + 1) r (by omega) ?_))))))
    · exact zz_Mi_skip hr (fun e he => (step e he).imp id (fun z => by omega)) up
    · exact zz_Mi_set hr g ⟨a, u, ha, by omega, Or.inr ⟨rfl, by omega⟩, b, rfl⟩ (fun e he => (step e he).imp id (fun z => z.2))
    · exact zz_Mi_skip hr (fun e he => (step e he).imp id (fun z => absurd z.1 nb)) up
theorem xx_least_o {post : Int32 → Prop} (hL : zz_Ld P 0 ins rim) (hM : zz_Ld Q 1 ins rim) (hc : ∀ r, zz_Mi r (zz_Qx P Q 9 0) → post (nI r)) :
    ∀ n a r, a + n = 9 → zz_Mi r (zz_Qx P Q a 0) → wX_leastSquare_6 post kd rr ins rim gd gn (n + 1) (nI r) (nI a) := by
  intro n
  induction n with
  | zero =>
    intro a r ha hr
    obtain rfl : a = 9 := by omega
    exact pk_lt 8 9 (fun _ => hc r hr) (fun g => by omega)
  | succ n ih =>
    intro a r ha hr
    refine pk_lt 8 a (fun g => by omega) (fun _ => Exists.intro 10 (xx_least_i (by omega) hL hM (fun r' hr' => ih (a + 1) r' (by omega) ?_) 9 0 r rfl hr))
    refine zz_Mi_skip hr' (fun e he => Or.inl ?_) (fun e he => ?_)
    · obtain ⟨x, y, hx, hy, hxy, p, ee⟩ := he
      exact ⟨x, y, hx, hy, by omega, p, ee⟩
    · obtain ⟨x, y, hx, hy, hxy, p, ee⟩ := he
      exact ⟨x, y, hx, hy, by omega, p, ee⟩
theorem xx_least {post : Int32 → Prop} {r : Nat} (hL : zz_Ld P 0 ins rim) (hM : zz_Ld Q 1 ins rim) (hr : zz_Mi r (zz_Qd P Q)) (h : post (nI r)) : wpX_leastSquare post (kd, rr, ins, rim, gd, gn) := by
  refine Exists.intro 10 ?_
  refine xx_least_o hL hM (fun r' hr' => ?_) 9 0 1000 rfl ⟨Nat.le_refl _, ?_, Or.inl rfl⟩
  · have : r' = r := zz_Mi_u (zz_Mi_skip hr' (fun d hd => Or.inl (zz_Qx_Qd.2 hd)) (fun d hd => zz_Qx_Qd.1 hd)) hr
    rw [this]
    exact h
  · rintro d ⟨x, y, hx, hy, hxy, p, ee⟩
    omega
theorem xx_apartM {post : Int32 → SX → Prop} {s t r : Nat} (hs : s < 12) (ht : t < 12) (k0 : ¬ kd s = 0) (l0 : ¬ kd t = 0) (hT : zz_Ty kd M) (hX : zz_RX rr M) (hr : zz_Mi r (zz_Qd (zz_pt (kd s) (M s)) (zz_pt (kd t) (M t))))
    (h : ∀ ins' rim', post (nI r) (kd, rr, ins', rim', gd, gn)) : wpX_apart post (kd, rr, ins, rim, gd, gn) (nI s) (nI t) := by
  unfold wpX_apart
  dsimp only
  refine xx_pair0 hs ht k0 l0 (br_t rfl ?_)
  refine xx_lay 0 hs (by decide) hX (hT s hs) k0 (fun ins1 rim1 hL _ => xx_lay 1 ht (by decide) hX (hT t ht) l0 (fun ins2 rim2 hM hfr => ?_))
  exact xx_least (zz_Ld_fr hL hfr) hM hr (h ins2 rim2)
end
theorem i_vc_apart {k : Nat} {u : SX} {v : SY} (I : i_Rel k u v) (hk : k + 4 ≤ 2048) (v1 : Int32) (v2 : Int32) : wpX_apart (fun r u' => wpY_apart (fun r' => r' = r ∧ i_Rel (k + 4) u' v) v v1 v2) u v1 v2 := by
  refine zz_el (P := fun u v => wpX_apart (fun r u' => wpY_apart (fun r' => r' = r ∧ i_Rel (k + 4) u' v) v v1 v2) u v1 v2) ?_ I
  intro kd rr ins rim gd gn mb hd f1 f2 pc qu M hT hX hY
  rcases zz_pair kd v1 v2 with ⟨s, t, hs, ht, rfl, rfl, k0, l0⟩ | ⟨r, hr, hr0, hrX, hrY⟩
  · obtain ⟨r, hr⟩ := zz_Mi_ex (zz_Qd (zz_pt (kd s) (M s)) (zz_pt (kd t) (M t)))
    refine xx_apartM hs ht k0 l0 hT hX hr (fun ins' rim' => ?_)
    unfold wpY_apart
    dsimp only
    exact yy_pair0 hs ht k0 l0 (br_t (by decide) (yy_dist hs ht hY hr ⟨rfl, zz_in hT hX hY⟩))
  · unfold wpX_apart wpY_apart
    dsimp only
    exact hrX _ _ _ _ _ _ (br_f hr (hrY _ _ _ _ _ _ _ (br_f hr0 ⟨rfl, zz_in hT hX hY⟩)))
end
section
/-! nearest -/
def zz_ne (kd : Nat → Int32) (D : Nat → Nat) (s : Nat) : Nat → Int32 × Nat
  | 0 => (-7, 1000)
  | c + 1 => if ¬ c = s ∧ ¬ kd c = 0 ∧ D c < (zz_ne kd D s c).2 then (nI c, D c) else zz_ne kd D s c
theorem zz_ne_s (kd : Nat → Int32) (D : Nat → Nat) (s c : Nat) : zz_ne kd D s (c + 1) = if ¬ c = s ∧ ¬ kd c = 0 ∧ D c < (zz_ne kd D s c).2 then (nI c, D c) else zz_ne kd D s c := rfl
theorem zz_ne_le (kd : Nat → Int32) (D : Nat → Nat) (s : Nat) : ∀ c, (zz_ne kd D s c).2 ≤ 1000
  | 0 => Nat.le_refl 1000
  | c + 1 => by
    have := zz_ne_le kd D s c
    rw [zz_ne_s]
    split
    · rename_i h
      show D c ≤ 1000
      omega
    · exact this
section
variable {kd rr gd gn mb hd f1 f2 pc qu : Nat → Int32} {M : Nat → Nat → Nat → Bool} {P Q : Nat → Nat → Nat}
theorem xx_near_l {post : Int32 → SX → Prop} {s : Nat} (hs : s < 12) (k0 : ¬ kd s = 0) (hT : zz_Ty kd M) (hX : zz_RX rr M) {D : Nat → Nat} (hD : ∀ t, zz_Mi (D t) (zz_Qd (zz_pt (kd s) (M s)) (zz_pt (kd t) (M t))))
    (h : ∀ ins rim, post (zz_ne kd D s 12).1 (kd, rr, ins, rim, gd, gn)) : ∀ d c ins rim, c + d = 12 → wX_nearest_31 post (nI s) (d + 1) (zz_ne kd D s c).1 (nI (zz_ne kd D s c).2) (nI c) kd rr ins rim gd gn := by
  intro d
  induction d with
  | zero =>
    intro c ins rim hc
    obtain rfl : c = 12 := by omega
    exact pk_le 12 12 (fun _ => h ins rim) (fun g => by omega)
  | succ d ih =>
    intro c ins rim hc
    have ih' := fun ins rim => ih (c + 1) ins rim (by omega)
    rw [zz_ne_s] at ih'
    have hle := zz_ne_le kd D s c
    have hd1 := (hD c).1
    have key0 : ¬ (¬ c = s ∧ ¬ kd c = 0 ∧ D c < (zz_ne kd D s c).2) → ∀ ins rim, wX_nearest_31 post (nI s) (d + 1) (zz_ne kd D s c).1 (nI (zz_ne kd D s c).2) (nI (c + 1)) kd rr ins rim gd gn := by
      intro e ins rim
      rw [if_neg e] at ih'
      exact ih' ins rim
    refine pk_le 12 c (fun g => by omega) (fun _ => pk_eq c s (fun e => nm_r (nI_1 c) (key0 (fun z => z.1 e) ins rim)) (fun e => And.intro (pk_in c 12 (by omega)) ?_))
    rw [nI_clamp (by omega : c < 2 ^ 31)]
    refine br_c (fun g => nm_r (nI_1 c) (key0 (fun z => z.2.1 g) ins rim)) (fun l0 => xx_apartM hs (by omega) k0 l0 hT hX (hD c) (fun ins' rim' => ?_))
    refine pk_le (zz_ne kd D s c).2 (D c) (fun g => nm_r (nI_1 c) (key0 (fun z => by omega) ins' rim')) (fun g => nm_r (nI_1 c) ?_)
    rw [if_pos ⟨e, l0, g⟩] at ih'
    exact ih' ins' rim'
theorem yy_near_l2 {post : Int32 → Prop} {s : Nat} (hs : s < 12) (hT : zz_Ty kd M) (hY : zz_RY mb M) {D : Nat → Nat} (hD : ∀ t, zz_Mi (D t) (zz_Qd (zz_pt (kd s) (M s)) (zz_pt (kd t) (M t))))
    (h : post (zz_ne kd D s 12).1) : ∀ d c, c + d = 12 → wY_nearest_32 post (nI s) kd mb hd f1 f2 pc qu (d + 1) (zz_ne kd D s c).1 (nI (zz_ne kd D s c).2) (nI c) := by
  intro d
  induction d with
  | zero =>
    intro c hc
    obtain rfl : c = 12 := by omega
    exact pk_le 12 12 (fun _ => h) (fun g => by omega)
  | succ d ih =>
    intro c hc
    have ih' := ih (c + 1) (by omega)
    rw [zz_ne_s] at ih'
    have hle := zz_ne_le kd D s c
    have hd1 := (hD c).1
    have key0 : ¬ (¬ c = s ∧ ¬ kd c = 0 ∧ D c < (zz_ne kd D s c).2) → wY_nearest_32 post (nI s) kd mb hd f1 f2 pc qu (d + 1) (zz_ne kd D s c).1 (nI (zz_ne kd D s c).2) (nI (c + 1)) := by
      intro e
      rw [if_neg e] at ih'
      exact ih'
    refine pk_le 12 c (fun g => by omega) (fun _ => pk_eq c s (fun e => nm_r (nI_1 c) (key0 (fun z => z.1 e))) (fun e => And.intro (pk_in c 12 (by omega)) ?_))
    rw [nI_clamp (by omega : c < 2 ^ 31), zz_kle (hT c (by omega))]
    refine br_c (fun g => nm_r (nI_1 c) (key0 (fun z => z.2.1 g))) (fun l0 => yy_dist hs (by omega) hY (hD c) ?_)
    refine pk_le (zz_ne kd D s c).2 (D c) (fun g => ?_) (fun g => ?_)
    · exact pk_le (zz_ne kd D s c).2 (D c) (fun _ => nm_r (nI_1 c) (key0 (fun z => by omega))) (fun g2 => by omega)
    · rw [if_pos ⟨e, l0, g⟩] at ih'
      exact pk_le (zz_ne kd D s c).2 (D c) (fun g2 => by omega) (fun g2 => nm_r (nI_1 c) ih')
end
theorem i_vc_nearest {k : Nat} {u : SX} {v : SY} (I : i_Rel k u v) (hk : k + 4 ≤ 2048) (v1 : Int32) : wpX_nearest (fun r u' => wpY_nearest (fun r' => r' = r ∧ i_Rel (k + 4) u' v) v v1) u v1 := by
  refine zz_el (P := fun u v => wpX_nearest (fun r u' => wpY_nearest (fun r' => r' = r ∧ i_Rel (k + 4) u' v) v v1) u v1) ?_ I
  intro kd rr ins rim gd gn mb hd f1 f2 pc qu M hT hX hY
  unfold wpX_nearest wpY_nearest
  dsimp only
  rcases zz_num 12 (by decide) v1 with ⟨s, hs, rfl⟩ | hb
  · rw [nI_clamp (by omega : s < 2 ^ 31)]
    have is : vp_in (nI s) 12 := pk_in s 12 hs
    refine xx_slot1 hs (br_f (by decide) (And.intro is ?_))
    by_cases k0 : kd s = 0
    · exact br_t k0 (yy_slot1 hs (br_f (by decide) ⟨is, br_t k0 ⟨rfl, zz_in hT hX hY⟩⟩))
    have hD : ∀ t, zz_Mi (Classical.choose (zz_Mi_ex (zz_Qd (zz_pt (kd s) (M s)) (zz_pt (kd t) (M t))))) (zz_Qd (zz_pt (kd s) (M s)) (zz_pt (kd t) (M t))) := fun t => Classical.choose_spec (zz_Mi_ex (zz_Qd (zz_pt (kd s) (M s)) (zz_pt (kd t) (M t))))
    refine br_f k0 (Exists.intro 13 ?_)
    refine xx_near_l hs k0 hT hX hD (fun ins' rim' => ?_) 12 0 ins rim rfl
    refine yy_slot1 hs (br_f (by decide) (And.intro is (br_f k0 (Exists.intro 13 ?_))))
    exact yy_near_l2 hs hT hY hD ⟨rfl, zz_in hT hX hY⟩ 12 0 rfl
  · exact xx_slot0 hb (br_t rfl (yy_slot0 hb (br_t rfl ⟨rfl, zz_in hT hX hY⟩)))
/-! bodies are closed; windows -/
theorem zz_tn {b : Bool} (h : b = true) : b.toNat = 1 := by rw [h]; rfl
theorem zz_tn0 {b : Bool} (h : b = false) : b.toNat = 0 := by rw [h]; rfl
theorem zz_gi {N : Nat → Nat → Bool} {a b c d : Nat} (h1 : a = c) (h2 : b = d) : zz_G N a b = zz_G N c d := by rw [h1, h2]
theorem zz_v3 {N : Nat → Nat → Bool} {i j : Nat} (hk : zz_okk 3 N) (hi : i % 2 = 0) (hj : j % 2 = 0) (h : zz_cor N i j ≠ 0) : zz_pt 3 N i j < 2 := by
  rw [zz_pt3_v hi hj (zz_G_3 hk (by omega)), if_neg h]
  split <;> omega
theorem zz_e3 {N : Nat → Nat → Bool} {i j : Nat} (hk : zz_okk 3 N) (hij : (i + j) % 2 = 1) (h : zz_bes N i j = 1 ∨ zz_bes N i j = 2) : zz_pt 3 N i j < 2 := by
  rw [zz_pt3_e hij (zz_G_3 hk (by omega))]
  rcases h with h | h
  · rw [h]
    decide
  · rw [h]
    decide
theorem zz_e3' {N : Nat → Nat → Bool} {i j : Nat} (hk : zz_okk 3 N) (hij : (i + j) % 2 = 1) (h : zz_pt 3 N i j < 2) : zz_bes N i j = 1 ∨ zz_bes N i j = 2 := by
  rw [zz_pt3_e hij (zz_G_3 hk (by omega))] at h
  by_cases c : zz_bes N i j = 2
  · exact Or.inr c
  · rw [if_neg c] at h
    by_cases d : zz_bes N i j = 1
    · exact Or.inl d
    · rw [if_neg d] at h
      omega
theorem zz_v2 {N : Nat → Nat → Bool} {i j : Nat} (hk : zz_okk 2 N) (hi : i % 2 = 0) (hj : j % 2 = 0) (h : zz_bes N i j ≠ 0) : zz_pt 2 N i j < 2 := by
  rw [zz_pt2_v hi hj (zz_G_2 hk (by omega)), if_neg h]
  omega
theorem zz_if02 {c : Prop} [Decidable c] (h : (if c then 0 else 2) < 2) : c := by
  by_cases e : c
  · exact e
  · rw [if_neg e] at h
    omega
theorem zz_close_i {k : Int32} {N : Nat → Nat → Bool} (hk : zz_okk k N) (h0 : ¬ k = 0) {i j : Nat} (hi : i % 2 = 1) (h : zz_pt k N i j < 2) : zz_pt k N (i - 1) j < 2 := by
  rcases zz_kk hk with e | e | e | e
  · exact absurd e h0
  · subst e
    rw [zz_pt1] at h
    have g := zz_G_t.1 (zz_if02 h)
    have := zz_of1 hk _ _ (by omega) (by omega) g.2
    omega
  · subst e
    rw [zz_pt2_n (by omega)] at h
    have gg := zz_if02 h
    have g := zz_G_t.1 gg
    have := zz_of2 hk _ _ (by omega) (by omega) g.2
    refine zz_v2 hk (by omega) (by omega) ?_
    unfold zz_bes
    have e1 := zz_tn ((zz_gi (N := N) (by omega : i - 1 + 3 = i + 2) (rfl : j + 2 = j + 2)).trans gg)
    omega
  · subst e
    by_cases c : j % 2 = 1
    · rw [zz_pt3_oo hi c] at h
      have gg := zz_if02 h
      refine zz_e3 hk (by omega) ?_
      unfold zz_bes
      have e1 := zz_tn ((zz_gi (N := N) (by omega : i - 1 + 3 = i + 2) (rfl : j + 2 = j + 2)).trans gg)
      have e2 := zz_tn0 (zz_G_3 hk (a := i - 1 + 2) (b := j + 1) (by omega))
      have e3 := zz_tn0 (zz_G_3 hk (a := i - 1 + 2) (b := j + 3) (by omega))
      have e4 := Bool.toNat_le (zz_G N (i - 1 + 1) (j + 2))
      omega
    · have hb := zz_e3' hk (by omega) h
      refine zz_v3 hk (by omega) (by omega) ?_
      unfold zz_bes at hb
      unfold zz_cor
      have e1 := zz_tn0 (zz_G_3 hk (a := i + 1) (b := j + 2) (by omega))
      have e2 := zz_tn0 (zz_G_3 hk (a := i + 3) (b := j + 2) (by omega))
      have e3 := zz_gi (N := N) (by omega : i - 1 + 3 = i + 2) (rfl : j + 1 = j + 1)
      have e4 := zz_gi (N := N) (by omega : i - 1 + 3 = i + 2) (rfl : j + 3 = j + 3)
      rw [e3, e4]
      omega
theorem zz_close_j {k : Int32} {N : Nat → Nat → Bool} (hk : zz_okk k N) (h0 : ¬ k = 0) {i j : Nat} (hj : j % 2 = 1) (h : zz_pt k N i j < 2) : zz_pt k N i (j - 1) < 2 := by
  rcases zz_kk hk with e | e | e | e
  · exact absurd e h0
  · subst e
    rw [zz_pt1] at h
    have g := zz_G_t.1 (zz_if02 h)
    have := zz_of1 hk _ _ (by omega) (by omega) g.2
    omega
  · subst e
    rw [zz_pt2_n (by omega)] at h
    have gg := zz_if02 h
    have g := zz_G_t.1 gg
    have := zz_of2 hk _ _ (by omega) (by omega) g.2
    refine zz_v2 hk (by omega) (by omega) ?_
    unfold zz_bes
    have e1 := zz_tn ((zz_gi (N := N) (rfl : i + 2 = i + 2) (by omega : j - 1 + 3 = j + 2)).trans gg)
    omega
  · subst e
    by_cases c : i % 2 = 1
    · rw [zz_pt3_oo c hj] at h
      have gg := zz_if02 h
      refine zz_e3 hk (by omega) ?_
      unfold zz_bes
      have e1 := zz_tn ((zz_gi (N := N) (rfl : i + 2 = i + 2) (by omega : j - 1 + 3 = j + 2)).trans gg)
      have e2 := zz_tn0 (zz_G_3 hk (a := i + 1) (b := j - 1 + 2) (by omega))
      have e3 := zz_tn0 (zz_G_3 hk (a := i + 3) (b := j - 1 + 2) (by omega))
      have e4 := Bool.toNat_le (zz_G N (i + 2) (j - 1 + 1))
      omega
    · have hb := zz_e3' hk (by omega) h
      refine zz_v3 hk (by omega) (by omega) ?_
      unfold zz_bes at hb
      unfold zz_cor
      have e1 := zz_tn0 (zz_G_3 hk (a := i + 2) (b := j + 1) (by omega))
      have e2 := zz_tn0 (zz_G_3 hk (a := i + 2) (b := j + 3) (by omega))
      have e3 := zz_gi (N := N) (rfl : i + 1 = i + 1) (by omega : j - 1 + 3 = j + 2)
      have e4 := zz_gi (N := N) (rfl : i + 3 = i + 3) (by omega : j - 1 + 3 = j + 2)
      rw [e3, e4]
      omega
def zz_win (P : Nat → Nat → Nat) (f t : Nat) : Bool := zz_any (fun v => zz_rec f t (2 * (v / 9)) (2 * (v % 9)) && decide (P (2 * (v / 9)) (2 * (v % 9)) < 2)) 81
theorem zz_win_iff {k : Int32} {N : Nat → Nat → Bool} (hk : zz_okk k N) (h0 : ¬ k = 0) {f t : Nat} : zz_win (zz_pt k N) f t = true ↔ ∃ i j, i < 17 ∧ j < 17 ∧ zz_rec f t i j = true ∧ zz_pt k N i j < 2 := by
  unfold zz_win
  rw [zz_any_iff]
  constructor
  · rintro ⟨v, hv, h⟩
    rw [Bool.and_eq_true, decide_eq_true_iff] at h
    exact ⟨2 * (v / 9), 2 * (v % 9), by omega, by omega, h.1, h.2⟩
  · rintro ⟨i, j, hi, hj, hr, hp⟩
    have hr' := zz_rec_iff.1 hr
    have h1 : zz_pt k N (2 * (i / 2)) j < 2 := by
      by_cases c : i % 2 = 1
      · rw [show 2 * (i / 2) = i - 1 by omega]
        exact zz_close_i hk h0 c hp
      · rw [show 2 * (i / 2) = i by omega]
        exact hp
    have h2 : zz_pt k N (2 * (i / 2)) (2 * (j / 2)) < 2 := by
      by_cases c : j % 2 = 1
      · rw [show 2 * (j / 2) = j - 1 by omega]
        exact zz_close_j hk h0 c h1
      · rw [show 2 * (j / 2) = j by omega]
        exact h1
    refine ⟨9 * (i / 2) + j / 2, by omega, ?_⟩
    rw [show (9 * (i / 2) + j / 2) / 9 = i / 2 by omega, show (9 * (i / 2) + j / 2) % 9 = j / 2 by omega, Bool.and_eq_true, decide_eq_true_iff]
    exact ⟨zz_rec_iff.2 (by omega), h2⟩
def zz_iw (W : Nat → Bool) (k : Int32) : Nat → Nat → Nat → Int32
  | 0, _, _ => -7
  | n + 1, c, m => if W c = true then (if nI m = k then nI c else zz_iw W k n (c + 1) (m + 1)) else zz_iw W k n (c + 1) m
theorem zz_iw_s (W : Nat → Bool) (k : Int32) (n c m : Nat) : zz_iw W k (n + 1) c m = if W c = true then (if nI m = k then nI c else zz_iw W k n (c + 1) (m + 1)) else zz_iw W k n (c + 1) m := rfl
section
variable {kd rr ins rim gd gn mb hd f1 f2 pc qu : Nat → Int32} {M : Nat → Nat → Nat → Bool} {P Q : Nat → Nat → Nat}
theorem xx_reach_l {post : Int32 → SX → Prop} {l r lo hi : Nat} {w : Int32} (hhi : hi ≤ 16) (hl : r ≤ 8) (hw : ∀ i, i < 32 → bt w i = decide (2 * l ≤ i ∧ i ≤ 2 * r)) (hL : zz_Ld P 0 ins rim)
    (h1 : (∃ i j, i < 17 ∧ lo ≤ j ∧ j ≤ hi ∧ 2 * l ≤ i ∧ i ≤ 2 * r ∧ P i j < 2) → post 1 (kd, rr, ins, rim, gd, gn)) (h0 : (¬ ∃ i j, i < 17 ∧ lo ≤ j ∧ j ≤ hi ∧ 2 * l ≤ i ∧ i ≤ 2 * r ∧ P i j < 2) → post 0 (kd, rr, ins, rim, gd, gn)) :
    ∀ n j, hi + 1 < n + j → lo ≤ j → (∀ b i, lo ≤ b → b < j → i < 17 → 2 * l ≤ i → i ≤ 2 * r → ¬ P i b < 2) → j ≤ hi + 1 → wX_reaches_9 post w (nI hi) kd rr ins rim gd gn n (nI j) := by
  intro n
  induction n with
  | zero => intro j h _ _ h2; omega
  | succ n ih =>
    intro j hn hlo hb hj
    refine pk_lt hi j (fun g => h0 ?_) (fun g => xx_body (by omega) ?_)
    · rintro ⟨i, b, hi', b1, b2, c1, c2, p⟩
      exact hb b i b1 (by omega) hi' c1 c2 p
    · have ra := zz_Ld0 hL j (by omega)
      refine br_c (fun e => nm_r (nI_1 j) (ih (j + 1) (by omega) (by omega) (fun b i b1 b2 hi' c1 c2 p => ?_) (by omega))) (fun e => h1 ?_)
      · by_cases c : b = j
        · subst c
          have z : bt ((ins b ||| rim b) &&& w) i = false := by rw [e, b_0]
          rw [b_and, zz_rk_body ra (by omega), hw i (by omega), decide_eq_true ⟨hi', p⟩, decide_eq_true ⟨c1, c2⟩] at z
          exact absurd z (by decide)
        · exact hb b i b1 (by omega) hi' c1 c2 p
      · obtain ⟨i, hi', z⟩ := zz_ne0 e
        rw [b_and, zz_rk_body ra hi', hw i hi', Bool.and_eq_true, decide_eq_true_iff, decide_eq_true_iff] at z
        exact ⟨i, j, z.1.1, hlo, g, z.2.1, z.2.2, z.1.2⟩
theorem xx_reach {post : Int32 → SX → Prop} {s f t : Nat} {w : Int32} (hs : s < 12) (hf : f < 81) (ht : t < 81) (k0 : ¬ kd s = 0) (hT : zz_Ty kd M) (hX : zz_RX rr M) (hw : ∀ i, i < 32 → bt w i = decide (2 * min (f / 9) (t / 9) ≤ i ∧ i ≤ 2 * max (f / 9) (t / 9)))
    (h1 : zz_win (zz_pt (kd s) (M s)) f t = true → ∀ ins rim, post 1 (kd, rr, ins, rim, gd, gn)) (h0 : zz_win (zz_pt (kd s) (M s)) f t = false → ∀ ins rim, post 0 (kd, rr, ins, rim, gd, gn)) :
    wpX_reaches post (kd, rr, ins, rim, gd, gn) (nI s) w (nI (2 * min (f % 9) (t % 9))) (nI (2 * max (f % 9) (t % 9))) := by
  unfold wpX_reaches
  dsimp only
  refine xx_lay 0 hs (by decide) hX (hT s hs) k0 (fun ins' rim' hL _ => Exists.intro 19 ?_)
  refine xx_reach_l (l := min (f / 9) (t / 9)) (r := max (f / 9) (t / 9)) (lo := 2 * min (f % 9) (t % 9)) (by omega) (by omega) hw hL (fun g => h1 ?_ ins' rim') (fun g => h0 ?_ ins' rim') 19 _ (by omega) (Nat.le_refl _) (fun b i b1 b2 => by omega) (by omega)
  · obtain ⟨i, j, hi, a1, a2, a3, a4, p⟩ := g
    exact (zz_win_iff (hT s hs) k0).2 ⟨i, j, hi, by omega, zz_rec_iff.2 ⟨a3, a4, a1, a2⟩, p⟩
  · cases e : zz_win (zz_pt (kd s) (M s)) f t with
    | false => rfl
    | true =>
      obtain ⟨i, j, hi, hj, hr, p⟩ := (zz_win_iff (hT s hs) k0).1 e
      have hr' := zz_rec_iff.1 hr
      exact absurd ⟨i, j, hi, hr'.2.2.1, hr'.2.2.2, hr'.1, hr'.2.1, p⟩ g
theorem xx_win_l {post : Int32 → SX → Prop} {f t : Nat} {w k : Int32} (hf : f < 81) (ht : t < 81) (hT : zz_Ty kd M) (hX : zz_RX rr M) (hw : ∀ i, i < 32 → bt w i = decide (2 * min (f / 9) (t / 9) ≤ i ∧ i ≤ 2 * max (f / 9) (t / 9))) :
    ∀ n c m ins rim, c + n = 12 → (∀ ins rim, post (zz_iw (fun c => decide (¬ kd c = 0) && zz_win (zz_pt (kd c) (M c)) f t) k n c m) (kd, rr, ins, rim, gd, gn)) →
    wX_inWindow_92 post k w (nI (2 * min (f % 9) (t % 9))) (nI (2 * max (f % 9) (t % 9))) (n + 1) (nI m) (nI c) kd rr ins rim gd gn := by
  intro n
  induction n with
  | zero =>
    intro c m ins rim hc h
    obtain rfl : c = 12 := by omega
    exact pk_le 12 12 (fun _ => h ins rim) (fun g => by omega)
  | succ n ih =>
    intro c m ins rim hc h
    rw [zz_iw_s] at h
    refine pk_le 12 c (fun g => by omega) (fun _ => And.intro (pk_in c 12 (by omega)) ?_)
    rw [nI_clamp (by omega : c < 2 ^ 31)]
    refine br_c (fun g => nm_r (nI_1 c) (ih (c + 1) m ins rim (by omega) ?_)) (fun k0 => xx_reach (by omega) hf ht k0 hT hX hw (fun e ins' rim' => br_f (by decide) (br_c (fun g => ?_) (fun g => nm_r (nI_1 m) (nm_r (nI_1 c) (ih (c + 1) (m + 1) ins' rim' (by omega) ?_))))) (fun e ins' rim' => br_t rfl (nm_r (nI_1 c) (ih (c + 1) m ins' rim' (by omega) ?_))))
    · rw [decide_eq_false (fun z => z g), Bool.false_and, if_neg (by decide)] at h
      exact h
    · rw [decide_eq_true k0, e, Bool.true_and, if_pos rfl, if_pos g] at h
      exact h ins' rim'
    · rw [decide_eq_true k0, e, Bool.true_and, if_pos rfl, if_neg g] at h
      exact h
    · rw [e, Bool.and_false, if_neg (by decide)] at h
      exact h
theorem yy_win_i {post : Int32 → Prop} {s f t : Nat} (hs : s < 12) (hf : f < 81) (ht : t < 81) (hY : zz_RY mb M) (h : post (zz_o (zz_win (zz_pt (kd s) (M s)) f t))) :
    ∀ d v, v + d = 81 → wY_isInWindow_6 post (nI s) (nI f) (nI t) kd mb hd f1 f2 pc qu (d + 1) (zz_o (zz_any (fun v => zz_rec f t (2 * (v / 9)) (2 * (v % 9)) && decide (zz_pt (kd s) (M s) (2 * (v / 9)) (2 * (v % 9)) < 2)) v)) (nI v) := by
  intro d
  induction d with
  | zero =>
    intro v hv
    obtain rfl : v = 81 := by omega
    exact pk_le 81 81 (fun _ => And.intro (zz_o_n _) h) (fun g => by omega)
  | succ d ih =>
    intro v hv
    have ih' := ih (v + 1) (by omega)
    have es : zz_any (fun v => zz_rec f t (2 * (v / 9)) (2 * (v % 9)) && decide (zz_pt (kd s) (M s) (2 * (v / 9)) (2 * (v % 9)) < 2)) (v + 1) = (zz_any (fun v => zz_rec f t (2 * (v / 9)) (2 * (v % 9)) && decide (zz_pt (kd s) (M s) (2 * (v / 9)) (2 * (v % 9)) < 2)) v || (zz_rec f t (2 * (v / 9)) (2 * (v % 9)) && decide (zz_pt (kd s) (M s) (2 * (v / 9)) (2 * (v % 9)) < 2))) := rfl
    rw [es] at ih'
    refine pk_le 81 v (fun g => by omega) (fun _ => ?_)
    cases ea : zz_any (fun v => zz_rec f t (2 * (v / 9)) (2 * (v % 9)) && decide (zz_pt (kd s) (M s) (2 * (v / 9)) (2 * (v % 9)) < 2)) v with
    | true =>
      rw [ea, Bool.true_or] at ih'
      exact br_f (by decide) (nm_r (nI_1 v) ih')
    | false =>
      rw [ea, Bool.false_or] at ih'
      refine br_t rfl (And.intro zz_n9 (And.intro zz_n9 ?_))
      rw [zz_r9 (by omega : v < 2 ^ 31), zz_d9 (by omega : v < 2 ^ 31), zz_t2, zz_t2]
      refine yy_btw (by omega) (by omega) hf ht (fun e => br_t rfl (nm_r (nI_1 v) ?_)) (fun e => br_f (by decide) (yy_isBody hs (by omega) hY (fun nb => br_t rfl (nm_r (nI_1 v) ?_)) (fun b => br_f (by decide) (nm_r (nI_1 v) ?_))))
      · rw [e, Bool.false_and] at ih'
        exact ih'
      · rw [decide_eq_false nb, Bool.and_false] at ih'
        exact ih'
      · rw [e, decide_eq_true b, Bool.and_true] at ih'
        exact ih'
theorem yy_win {post : Int32 → Prop} {s f t : Nat} (hs : s < 12) (hf : f < 81) (ht : t < 81) (hY : zz_RY mb M) (h : post (zz_o (zz_win (zz_pt (kd s) (M s)) f t))) : wpY_isInWindow post (kd, mb, hd, f1, f2, pc, qu) (nI s) (nI f) (nI t) := by
  refine Exists.intro 82 ?_
  exact yy_win_i hs hf ht hY h 81 0 rfl
theorem yy_win_l {post : Int32 → Prop} {f t : Nat} {k : Int32} (hf : f < 81) (ht : t < 81) (hT : zz_Ty kd M) (hY : zz_RY mb M) :
    ∀ n c m, c + n = 12 → post (zz_iw (fun c => decide (¬ kd c = 0) && zz_win (zz_pt (kd c) (M c)) f t) k n c m) → wY_inWindow_25 post (nI f) (nI t) kd mb hd f1 f2 pc qu (n + 1) (k - nI m) (nI c) := by
  intro n
  induction n with
  | zero =>
    intro c m hc h
    obtain rfl : c = 12 := by omega
    exact pk_le 12 12 (fun _ => h) (fun g => by omega)
  | succ n ih =>
    intro c m hc h
    rw [zz_iw_s] at h
    have ez : k - nI m = 0 ↔ nI m = k := by
      rw [Int32.sub_eq_iff_eq_add, Int32.zero_add]
      exact eq_comm
    have em : k - nI m + (-1) = k - nI (m + 1) := by
      rw [← nI_1, ← Int32.sub_sub, ← Int32.sub_eq_add_neg]
    refine pk_le 12 c (fun g => by omega) (fun _ => And.intro (pk_in c 12 (by omega)) ?_)
    rw [nI_clamp (by omega : c < 2 ^ 31), zz_kle (hT c (by omega))]
    refine br_c (fun g => nm_r (nI_1 c) (ih (c + 1) m (by omega) ?_)) (fun k0 => yy_win (by omega) hf ht hY ?_)
    · rw [decide_eq_false (fun z => z g), Bool.false_and, if_neg (by decide)] at h
      exact h
    · rw [decide_eq_true k0, Bool.true_and] at h
      cases e : zz_win (zz_pt (kd c) (M c)) f t with
      | false =>
        rw [e, if_neg (by decide)] at h
        exact br_t rfl (nm_r (nI_1 c) (ih (c + 1) m (by omega) h))
      | true =>
        rw [e, if_pos rfl] at h
        refine br_f (by decide) (br_c (fun g => ?_) (fun g => nm_r em (nm_r (nI_1 c) (ih (c + 1) (m + 1) (by omega) ?_))))
        · rw [if_pos (ez.1 g)] at h
          exact h
        · rw [if_neg (fun z => g (ez.2 z))] at h
          exact h
end
theorem i_vc_inWindow {k : Nat} {u : SX} {v : SY} (I : i_Rel k u v) (hk : k + 4 ≤ 2048) (v1 : Int32) (v2 : Int32) (v3 : Int32) : wpX_inWindow (fun r u' => wpY_inWindow (fun r' => r' = r ∧ i_Rel (k + 4) u' v) v v1 v2 v3) u v1 v2 v3 := by
  refine zz_el (P := fun u v => wpX_inWindow (fun r u' => wpY_inWindow (fun r' => r' = r ∧ i_Rel (k + 4) u' v) v v1 v2 v3) u v1 v2 v3) ?_ I
  intro kd rr ins rim gd gn mb hd f1 f2 pc qu M hT hX hY
  unfold wpX_inWindow wpY_inWindow
  dsimp only
  rcases zz_num 81 (by decide) v1 with ⟨f, hf, rfl⟩ | hb
  · rcases zz_num 81 (by decide) v2 with ⟨t, ht, rfl⟩ | hb
    · rw [zz_r9 (by omega : f < 2 ^ 31), zz_r9 (by omega : t < 2 ^ 31), zz_d9 (by omega : f < 2 ^ 31), zz_d9 (by omega : t < 2 ^ 31)]
      refine xx_vert1 hf (br_f (by decide) (xx_vert1 ht (br_f (by decide) ⟨zz_n9, zz_n9, xx_les (by omega) (by omega) ⟨zz_n9, zz_n9, xx_gre (by omega) (by omega) (xx_span (by omega) (by omega) (by omega) (fun w hw => ?_))⟩⟩)))
      refine ⟨zz_n9, zz_n9, xx_les (by omega) (by omega) (nm_r (zz_t2 _) ⟨zz_n9, zz_n9, xx_gre (by omega) (by omega) (nm_r (zz_t2 _) (Exists.intro 13 ?_))⟩)⟩
      refine xx_win_l hf ht hT hX hw 12 0 0 ins rim rfl (fun ins' rim' => ?_)
      refine yy_vert1 hf (br_f (by decide) (yy_vert1 ht (br_f (by decide) (Exists.intro 13 ?_))))
      have e0 : v3 = v3 - nI 0 := (Int32.sub_zero v3).symm
      have key := yy_win_l (kd := kd) (mb := mb) (hd := hd) (f1 := f1) (f2 := f2) (pc := pc) (qu := qu) (M := M) (f := f) (t := t) (k := v3) (post := fun r' => r' = zz_iw (fun c => decide (¬ kd c = 0) && zz_win (zz_pt (kd c) (M c)) f t) v3 12 0 0 ∧ i_Rel (k + 4) (kd, rr, ins', rim', gd, gn) (kd, mb, hd, f1, f2, pc, qu)) hf ht hT hY 12 0 0 rfl ⟨rfl, zz_in hT hX hY⟩
      rw [← e0] at key
      exact key
    · exact xx_vert1 hf (br_f (by decide) (xx_vert0 hb (br_t rfl (yy_vert1 hf (br_f (by decide) (yy_vert0 hb (br_t rfl ⟨rfl, zz_in hT hX hY⟩)))))))
  · exact xx_vert0 hb (br_t rfl (yy_vert0 hb (br_t rfl ⟨rfl, zz_in hT hX hY⟩)))
end
section
/-! reach over the grid: closed sets, labels -/
def zz_ad (i j a b : Nat) : Prop := (i = a ∧ (j + 1 = b ∨ b + 1 = j)) ∨ (j = b ∧ (i + 1 = a ∨ a + 1 = i))
theorem zz_ad_s {i j a b : Nat} (h : zz_ad i j a b) : zz_ad a b i j := by
  unfold zz_ad at h ⊢
  omega
def zz_cl (A : Nat → Nat → Bool) (T : Nat → Nat → Prop) : Prop := ∀ i j a b, i < 17 → j < 17 → a < 17 → b < 17 → T i j → zz_ad i j a b → A a b = true → T a b
/-- B' is what can be come to from B over A -/
def zz_SP (A B B' : Nat → Nat → Bool) : Prop := (∀ i j, i < 17 → j < 17 → B i j = true → B' i j = true) ∧ (∀ i j, i < 17 → j < 17 → B' i j = true → A i j = true) ∧ zz_cl A (fun i j => B' i j = true) ∧
  (∀ T, zz_cl A T → (∀ i j, i < 17 → j < 17 → B i j = true → T i j) → ∀ i j, i < 17 → j < 17 → B' i j = true → T i j)
/-- pieces have numbers from 1 to n -/
def zz_Lab (A : Nat → Nat → Bool) (L : Nat → Nat → Nat) (n : Nat) : Prop := (∀ i j, i < 17 → j < 17 → L i j ≤ n) ∧ (∀ i j, i < 17 → j < 17 → (L i j ≠ 0 ↔ A i j = true)) ∧
  (∀ i j a b, i < 17 → j < 17 → a < 17 → b < 17 → zz_ad i j a b → A i j = true → A a b = true → L i j = L a b) ∧
  (∀ T, zz_cl A T → ∀ i j a b, i < 17 → j < 17 → a < 17 → b < 17 → T i j → L i j = L a b → L i j ≠ 0 → T a b) ∧ (∀ k, 1 ≤ k → k ≤ n → ∃ i j, i < 17 ∧ j < 17 ∧ L i j = k)
/-- G is made of whole pieces -/
def zz_Sat (L : Nat → Nat → Nat) (G : Nat → Nat → Bool) : Prop := (∀ i j, i < 17 → j < 17 → G i j = true → L i j ≠ 0) ∧ (∀ i j a b, i < 17 → j < 17 → a < 17 → b < 17 → G i j = true → L a b = L i j → G a b = true)
/-- how many pieces lie on G -/
def zz_at (L : Nat → Nat → Nat) (G : Nat → Nat → Bool) (k : Nat) : Bool := zz_any (fun c => G (c / 17) (c % 17) && decide (L (c / 17) (c % 17) = k + 1)) 289
def zz_lc (L : Nat → Nat → Nat) (G : Nat → Nat → Bool) (n : Nat) : Nat := zz_cn (zz_at L G) n
theorem zz_at_iff {L : Nat → Nat → Nat} {G : Nat → Nat → Bool} {k : Nat} : zz_at L G k = true ↔ ∃ i j, i < 17 ∧ j < 17 ∧ G i j = true ∧ L i j = k + 1 := by
  unfold zz_at
  rw [zz_any_g (F := fun i j => G i j && decide (L i j = k + 1))]
  simp only [Bool.and_eq_true, decide_eq_true_iff]
theorem zz_beq {a b : Bool} (h : a = true ↔ b = true) : a = b := by
  cases a <;> cases b <;> simp_all
/-- one piece is taken away from the ground -/
theorem zz_take {A G B B' : Nat → Nat → Bool} {L : Nat → Nat → Nat} {n x y : Nat} (hL : zz_Lab A L n) (hS : zz_Sat L G) (hx : x < 17) (hy : y < 17) (hG : G x y = true) (hB : ∀ i j, i < 17 → j < 17 → (B i j = true ↔ i = x ∧ j = y)) (hSP : zz_SP G B B') :
    (∀ i j, i < 17 → j < 17 → (B' i j = true ↔ L i j = L x y)) ∧ zz_Sat L (fun i j => G i j && !B' i j) ∧ zz_lc L G n = zz_lc L (fun i j => G i j && !B' i j) n + 1 := by
  obtain ⟨l1, l2, l3, l4, l5⟩ := hL
  obtain ⟨s1, s2⟩ := hS
  obtain ⟨p1, p2, p3, p4⟩ := hSP
  have hx0 : L x y ≠ 0 := s1 x y hx hy hG
  have hA : ∀ i j, i < 17 → j < 17 → G i j = true → A i j = true := fun i j hi hj g => (l2 i j hi hj).1 (s1 i j hi hj g)
  have key : ∀ i j, i < 17 → j < 17 → (B' i j = true ↔ L i j = L x y) := by
    intro i j hi hj
    constructor
    · intro hb
      refine p4 (fun i j => L i j = L x y) ?_ ?_ i j hi hj hb
      · intro i j a b hi hj ha hb t ad g
        have e := l3 i j a b hi hj ha hb ad ((l2 i j hi hj).1 (by rw [t]; exact hx0)) (hA a b ha hb g)
        rw [← e]
        exact t
      · intro i j hi hj hb
        obtain ⟨rfl, rfl⟩ := (hB i j hi hj).1 hb
        rfl
    · intro e
      have c : zz_cl A (fun i j => B' i j = true) := by
        intro i j a b hi hj ha hb t ad g
        have gi := p2 i j hi hj t
        have e := l3 i j a b hi hj ha hb ad (hA i j hi hj gi) g
        exact p3 i j a b hi hj ha hb t ad (s2 i j a b hi hj ha hb gi e.symm)
      exact l4 _ c x y i j hx hy hi hj (p1 x y hx hy ((hB x y hx hy).2 ⟨rfl, rfl⟩)) e.symm hx0
  have hG' : ∀ i j, i < 17 → j < 17 → ((G i j && !B' i j) = true ↔ G i j = true ∧ L i j ≠ L x y) := by
    intro i j hi hj
    rw [Bool.and_eq_true]
    constructor
    · rintro ⟨g, b⟩
      refine ⟨g, fun e => ?_⟩
      rw [(key i j hi hj).2 e] at b
      exact absurd b (by decide)
    · rintro ⟨g, b⟩
      refine ⟨g, ?_⟩
      cases e : B' i j with
      | false => rfl
      | true => exact absurd ((key i j hi hj).1 e) b
  refine ⟨key, ⟨fun i j hi hj g => s1 i j hi hj ((hG' i j hi hj).1 g).1, fun i j a b hi hj ha hb g e => ?_⟩, ?_⟩
  · have g' := (hG' i j hi hj).1 g
    exact (hG' a b ha hb).2 ⟨s2 i j a b hi hj ha hb g'.1 e, by rw [e]; exact g'.2⟩
  · have hn : L x y - 1 < n := by
      have := l1 x y hx hy
      omega
    refine zz_cn_del (L x y - 1) (zz_at_iff.2 ⟨x, y, hx, hy, hG, by omega⟩) n hn (fun k hk => zz_beq ?_)
    rw [zz_at_iff, Bool.and_eq_true, zz_at_iff, decide_eq_true_iff]
    constructor
    · rintro ⟨i, j, hi, hj, g, e⟩
      have g' := (hG' i j hi hj).1 g
      exact ⟨⟨i, j, hi, hj, g'.1, e⟩, by have := g'.2; omega⟩
    · rintro ⟨⟨i, j, hi, hj, g, e⟩, ne⟩
      exact ⟨i, j, hi, hj, (hG' i j hi hj).2 ⟨g, by omega⟩, e⟩
theorem zz_lc_0 {L : Nat → Nat → Nat} {G : Nat → Nat → Bool} {n : Nat} (h : ∀ i j, i < 17 → j < 17 → G i j = false) : zz_lc L G n = 0 := by
  refine zz_cn_zero n (fun k _ => ?_)
  cases e : zz_at L G k with
  | false => rfl
  | true =>
    obtain ⟨i, j, hi, hj, g, _⟩ := zz_at_iff.1 e
    rw [h i j hi hj] at g
    exact absurd g (by decide)
theorem zz_lc_all {A : Nat → Nat → Bool} {L : Nat → Nat → Nat} {n : Nat} (hL : zz_Lab A L n) : zz_lc L A n = n := by
  unfold zz_lc
  rw [zz_cn_congr (q := fun _ => true) (fun k hk => ?_), zz_cn_all]
  obtain ⟨i, j, hi, hj, e⟩ := hL.2.2.2.2 (k + 1) (by omega) (by omega)
  exact zz_at_iff.2 ⟨i, j, hi, hj, (hL.2.1 i j hi hj).1 (by omega), e⟩
theorem zz_Sat_all {A : Nat → Nat → Bool} {L : Nat → Nat → Nat} {n : Nat} (hL : zz_Lab A L n) : zz_Sat L A := by
  refine ⟨fun i j hi hj g => (hL.2.1 i j hi hj).2 g, fun i j a b hi hj ha hb g e => ?_⟩
  refine (hL.2.1 a b ha hb).1 ?_
  rw [e]
  exact (hL.2.1 i j hi hj).2 g
/-! holes -/
def zz_bd (i j : Nat) : Bool := decide (i = 0 ∨ i = 16 ∨ j = 0 ∨ j = 16)
def zz_hole (L : Nat → Nat → Nat) (k : Nat) : Bool := !zz_any (fun c => decide (L (c / 17) (c % 17) = k) && zz_bd (c / 17) (c % 17)) 289
theorem zz_hole_f {L : Nat → Nat → Nat} {k : Nat} : zz_hole L k = false ↔ ∃ i j, i < 17 ∧ j < 17 ∧ L i j = k ∧ zz_bd i j = true := by
  unfold zz_hole
  rw [Bool.not_eq_false', zz_any_g (F := fun i j => decide (L i j = k) && zz_bd i j)]
  simp only [Bool.and_eq_true, decide_eq_true_iff]
theorem zz_outer {A B' : Nat → Nat → Bool} {L : Nat → Nat → Nat} {n : Nat} (hL : zz_Lab A L n) (hSP : zz_SP A (fun i j => A i j && zz_bd i j) B') :
    ∀ i j, i < 17 → j < 17 → ((A i j && !B' i j) = true ↔ A i j = true ∧ zz_hole L (L i j) = true) := by
  obtain ⟨l1, l2, l3, l4, l5⟩ := hL
  obtain ⟨p1, p2, p3, p4⟩ := hSP
  intro i j hi hj
  rw [Bool.and_eq_true]
  constructor
  · rintro ⟨a, b⟩
    refine ⟨a, ?_⟩
    cases e : zz_hole L (L i j) with
    | true => rfl
    | false =>
      obtain ⟨x, y, hx, hy, e1, e2⟩ := zz_hole_f.1 e
      have ax : A x y = true := (l2 x y hx hy).1 (by rw [e1]; exact (l2 i j hi hj).2 a)
      have bx : B' x y = true := p1 x y hx hy (by show (A x y && zz_bd x y) = true; rw [ax, e2]; rfl)
      have bi : B' i j = true := l4 _ p3 x y i j hx hy hi hj bx e1 (by rw [e1]; exact (l2 i j hi hj).2 a)
      rw [bi] at b
      exact absurd b (by decide)
  · rintro ⟨a, h⟩
    refine ⟨a, ?_⟩
    cases e : B' i j with
    | false => rfl
    | true =>
      have t := p4 (fun i j => A i j = true ∧ ∃ x y, x < 17 ∧ y < 17 ∧ L x y = L i j ∧ zz_bd x y = true) ?_ ?_ i j hi hj e
      · obtain ⟨_, x, y, hx, hy, e1, e2⟩ := t
        rw [zz_hole_f.2 ⟨x, y, hx, hy, e1, e2⟩] at h
        exact absurd h (by decide)
      · rintro i j a b hi hj ha hb ⟨t1, x, y, hx, hy, e1, e2⟩ ad g
        exact ⟨g, x, y, hx, hy, by rw [e1]; exact l3 i j a b hi hj ha hb ad t1 g, e2⟩
      · intro i j hi hj g
        rw [Bool.and_eq_true] at g
        exact ⟨g.1, i, j, hi, hj, rfl, g.2⟩
theorem zz_Sat_hole {A G : Nat → Nat → Bool} {L : Nat → Nat → Nat} {n : Nat} (hL : zz_Lab A L n) (h : ∀ i j, i < 17 → j < 17 → (G i j = true ↔ A i j = true ∧ zz_hole L (L i j) = true)) : zz_Sat L G := by
  refine ⟨fun i j hi hj g => (hL.2.1 i j hi hj).2 ((h i j hi hj).1 g).1, fun i j a b hi hj ha hb g e => ?_⟩
  have g' := (h i j hi hj).1 g
  refine (h a b ha hb).2 ⟨(hL.2.1 a b ha hb).1 ?_, by rw [e]; exact g'.2⟩
  rw [e]
  exact (hL.2.1 i j hi hj).2 g'.1
theorem zz_lc_hole {A G : Nat → Nat → Bool} {L : Nat → Nat → Nat} {n : Nat} (hL : zz_Lab A L n) (h : ∀ i j, i < 17 → j < 17 → (G i j = true ↔ A i j = true ∧ zz_hole L (L i j) = true)) : zz_lc L G n = zz_cn (fun k => zz_hole L (k + 1)) n := by
  refine zz_cn_congr (fun k hk => zz_beq ?_)
  rw [zz_at_iff]
  constructor
  · rintro ⟨i, j, hi, hj, g, e⟩
    rw [← e]
    exact ((h i j hi hj).1 g).2
  · intro g
    obtain ⟨i, j, hi, hj, e⟩ := hL.2.2.2.2 (k + 1) (by omega) (by omega)
    exact ⟨i, j, hi, hj, (h i j hi hj).2 ⟨(hL.2.1 i j hi hj).1 (by omega), by rw [e]; exact g⟩, e⟩
/-! one row of a round -/
def zz_nb (B : Nat → Nat → Bool) (i j : Nat) : Bool := (((zz_G B (i + 2) (j + 2) || zz_G B (i + 1) (j + 2)) || zz_G B (i + 3) (j + 2)) || zz_G B (i + 2) (j + 1)) || zz_G B (i + 2) (j + 3)
def zz_up (A B : Nat → Nat → Bool) (j : Nat) : Nat → Nat → Bool := fun i b => if b = j then A i j && zz_nb B i j else B i b
theorem zz_G_in {B : Nat → Nat → Bool} {i j : Nat} (hi : i < 17) (hj : j < 17) : zz_G B (i + 2) (j + 2) = B i j := by
  unfold zz_G
  rw [decide_eq_true (by omega), Bool.true_and]
  rfl
theorem zz_G_congr {B C : Nat → Nat → Bool} (h : ∀ i j, i < 17 → j < 17 → B i j = C i j) (a b : Nat) : zz_G B a b = zz_G C a b := by
  unfold zz_G
  by_cases c : 2 ≤ a ∧ a ≤ 18 ∧ 2 ≤ b ∧ b ≤ 18
  · rw [h (a - 2) (b - 2) (by omega) (by omega)]
  · rw [decide_eq_false c, Bool.false_and, Bool.false_and]
theorem zz_nb_congr {B C : Nat → Nat → Bool} (h : ∀ i j, i < 17 → j < 17 → B i j = C i j) (i j : Nat) : zz_nb B i j = zz_nb C i j := by
  unfold zz_nb
  rw [zz_G_congr h, zz_G_congr h, zz_G_congr h, zz_G_congr h, zz_G_congr h]
theorem zz_nb_iff {B : Nat → Nat → Bool} {i j : Nat} (hi : i < 17) (hj : j < 17) : zz_nb B i j = true ↔ B i j = true ∨ ∃ a b, a < 17 ∧ b < 17 ∧ zz_ad a b i j ∧ B a b = true := by
  unfold zz_nb
  rw [Bool.or_eq_true, Bool.or_eq_true, Bool.or_eq_true, Bool.or_eq_true, zz_G_in hi hj, zz_G_t, zz_G_t, zz_G_t, zz_G_t]
  constructor
  · rintro ((((h | h) | h) | h) | h)
    · exact Or.inl h
    · refine Or.inr ⟨i - 1, j, by omega, hj, by unfold zz_ad; omega, ?_⟩
      have e : i + 1 - 2 = i - 1 := by omega
      have := h.2
      rw [e] at this
      exact this
    · refine Or.inr ⟨i + 1, j, by omega, hj, by unfold zz_ad; omega, h.2⟩
    · refine Or.inr ⟨i, j - 1, hi, by omega, by unfold zz_ad; omega, ?_⟩
      have e : j + 1 - 2 = j - 1 := by omega
      have := h.2
      rw [e] at this
      exact this
    · refine Or.inr ⟨i, j + 1, hi, by omega, by unfold zz_ad; omega, h.2⟩
  · rintro (h | ⟨a, b, ha, hb, ad, h⟩)
    · exact Or.inl (Or.inl (Or.inl (Or.inl h)))
    · unfold zz_ad at ad
      rcases ad with ⟨rfl, rfl | rfl⟩ | ⟨rfl, rfl | rfl⟩
      · exact Or.inl (Or.inr ⟨by omega, h⟩)
      · exact Or.inr ⟨by omega, h⟩
      · exact Or.inl (Or.inl (Or.inl (Or.inr ⟨by omega, h⟩)))
      · exact Or.inl (Or.inl (Or.inr ⟨by omega, h⟩))
def zz_cg (B : Nat → Nat → Bool) : Nat := zz_cn (fun c => B (c / 17) (c % 17)) 289
theorem zz_cg_mono {B C : Nat → Nat → Bool} (h : ∀ i j, i < 17 → j < 17 → B i j = true → C i j = true) : zz_cg B ≤ zz_cg C := zz_cn_mono 289 (fun c hc e => h _ _ (by omega) (by omega) e)
theorem zz_cg_lt {B C : Nat → Nat → Bool} (h : ∀ i j, i < 17 → j < 17 → B i j = true → C i j = true) {i j : Nat} (hi : i < 17) (hj : j < 17) (h1 : C i j = true) (h2 : B i j = false) : zz_cg B < zz_cg C := by
  have e1 : (17 * i + j) / 17 = i := by omega
  have e2 : (17 * i + j) % 17 = j := by omega
  refine zz_cn_lt (17 * i + j) ?_ ?_ 289 (by omega) (fun c hc e => h _ _ (by omega) (by omega) e)
  · rw [e1, e2]
    exact h1
  · rw [e1, e2]
    exact h2
/-- during a round: B0 at its start, Bi at the very start; m: something has changed -/
def zz_Inv (A Bi B0 : Nat → Nat → Bool) (j : Nat) (m : Bool) (B : Nat → Nat → Bool) : Prop := (∀ i b, i < 17 → b < 17 → B0 i b = true → B i b = true) ∧ (∀ i b, i < 17 → b < 17 → B i b = true → A i b = true) ∧
  (∀ T, zz_cl A T → (∀ i b, i < 17 → b < 17 → Bi i b = true → T i b) → ∀ i b, i < 17 → b < 17 → B i b = true → T i b) ∧
  (m = false → (∀ i b, i < 17 → b < 17 → B i b = B0 i b) ∧ (∀ i b, i < 17 → b < j → A i b = true → zz_nb B0 i b = true → B0 i b = true)) ∧ (m = true → zz_cg B0 < zz_cg B)
theorem zz_up_j {A B : Nat → Nat → Bool} {i j : Nat} : zz_up A B j i j = (A i j && zz_nb B i j) := if_pos rfl
theorem zz_up_n {A B : Nat → Nat → Bool} {i j b : Nat} (h : b ≠ j) : zz_up A B j i b = B i b := if_neg h
theorem zz_Inv_s {A Bi B0 B : Nat → Nat → Bool} {j : Nat} {m m' : Bool} (hj : j < 17) (h : zz_Inv A Bi B0 j m B)
    (h0 : m' = false → m = false ∧ ∀ i, i < 17 → zz_up A B j i j = B i j) (h1 : m' = true → m = true ∨ ∃ i, i < 17 ∧ zz_up A B j i j ≠ B i j) : zz_Inv A Bi B0 (j + 1) m' (zz_up A B j) := by
  obtain ⟨a1, a2, a3, a4, a5⟩ := h
  have sub : ∀ i b, i < 17 → b < 17 → B i b = true → zz_up A B j i b = true := by
    intro i b hi hb e
    by_cases c : b = j
    · subst c
      rw [zz_up_j, a2 i b hi hb e, (zz_nb_iff hi hb).2 (Or.inl e)]
      rfl
    · rw [zz_up_n c]
      exact e
  refine ⟨fun i b hi hb e => sub i b hi hb (a1 i b hi hb e), fun i b hi hb e => ?_, fun T hT hB i b hi hb e => ?_, fun e => ?_, fun e => ?_⟩
  · by_cases c : b = j
    · subst c
      rw [zz_up_j, Bool.and_eq_true] at e
      exact e.1
    · rw [zz_up_n c] at e
      exact a2 i b hi hb e
  · by_cases c : b = j
    · subst c
      rw [zz_up_j, Bool.and_eq_true, zz_nb_iff hi hb] at e
      rcases e.2 with g | ⟨x, y, hx, hy, ad, g⟩
      · exact a3 T hT hB i b hi hb g
      · exact hT x y i b hx hy hi hb (a3 T hT hB x y hx hy g) ad e.1
    · rw [zz_up_n c] at e
      exact a3 T hT hB i b hi hb e
  · obtain ⟨e1, e2⟩ := h0 e
    obtain ⟨b1, b2⟩ := a4 e1
    refine ⟨fun i b hi hb => ?_, fun i b hi hb ha hn => ?_⟩
    · by_cases c : b = j
      · subst c
        rw [e2 i hi]
        exact b1 i b hi hb
      · rw [zz_up_n c]
        exact b1 i b hi hb
    · by_cases c : b = j
      · subst c
        rw [← zz_nb_congr b1] at hn
        have := e2 i hi
        rw [zz_up_j, ha, hn] at this
        rw [← b1 i b hi hj]
        exact this.symm
      · exact b2 i b hi (by omega) ha hn
  · rcases h1 e with e1 | ⟨i, hi, ne⟩
    · exact Nat.lt_of_lt_of_le (a5 e1) (zz_cg_mono sub)
    · have lt : zz_cg B < zz_cg (zz_up A B j) := by
        cases eb : B i j with
        | false =>
          refine zz_cg_lt sub hi hj ?_ eb
          cases eu : zz_up A B j i j with
          | true => rfl
          | false => exact absurd (eu.trans eb.symm) ne
        | true => exact absurd ((sub i j hi hj eb).trans eb.symm) ne
      exact Nat.lt_of_le_of_lt (zz_cg_mono a1) lt
end
section
/-! X: growing over the ground, pieces -/
def zz_W (w : Nat → Int32) (A : Nat → Nat → Bool) : Prop := ∀ j, j < 17 → ∀ i, i < 32 → bt (w j) i = (decide (i < 17) && A i j)
theorem zz_W_G {w : Nat → Int32} {A : Nat → Nat → Bool} (h : zz_W w A) {j : Nat} (hj : j < 17) {i : Nat} (hi : i < 32) : bt (w j) i = zz_G A (i + 2) (j + 2) := by
  rw [h j hj i hi]
  by_cases c : i < 17
  · rw [decide_eq_true c, Bool.true_and, zz_G_in c hj]
  · rw [decide_eq_false c, Bool.false_and, zz_G_hi (by omega)]
theorem zz_W_upd {w : Nat → Int32} {A C : Nat → Nat → Bool} {j : Nat} {x : Int32} (h : zz_W w A) (hx : ∀ i, i < 32 → bt x i = (decide (i < 17) && C i j)) (hf : ∀ i b, i < 17 → b < 17 → b ≠ j → C i b = A i b) : zz_W (upd w j x) C := by
  intro b hb i hi
  by_cases e : b = j
  · rw [e, pk_us]
    exact hx i hi
  · rw [pk_un e, h b hb i hi]
    by_cases c : i < 17
    · rw [hf i b c hb e]
    · simp [c]
section
variable {kd rr ins rim gd gn : Nat → Int32} {M : Nat → Nat → Nat → Bool} {A B : Nat → Nat → Bool}
theorem xx_sp80 {post : SX → Prop} {J4 J19 : Int32 → Int32 → (Nat → Int32) → (Nat → Int32) → (Nat → Int32) → (Nat → Int32) → (Nat → Int32) → (Nat → Int32) → Prop} {x1 x2 z0 z1 : Int32} {j : Nat} (hj : j < 17)
    (hc : ∀ x, x = (z1 ||| z0) &&& gd j → ((x1 = 0 → ((x = gn j → J19 0 (nI (j + 1)) kd rr ins rim gd (upd gn j x)) ∧ (¬ x = gn j → J19 1 (nI (j + 1)) kd rr ins rim gd (upd gn j x)))) ∧ (¬ x1 = 0 → J19 1 (nI (j + 1)) kd rr ins rim gd (upd gn j x)))) :
    wX_spread_80 post J4 J19 x1 x2 (nI j) (gn j) z0 z1 kd rr ins rim gd gn := by
  unfold wX_spread_80
  rw [nI_clamp (by omega : j < 2 ^ 31)]
  have ij : vp_in (nI j) 17 := pk_in j 17 hj
  have h := hc _ rfl
  refine nm_e (And.intro ij (And.intro ij (nm_e ⟨fun e => And.intro ij ?_, fun e => nm_r (nI_1 j) (h.2 e)⟩)))
  rw [pk_us]
  exact ⟨fun g => nm_r (nI_1 j) ((h.1 e).1 g), fun g => nm_r (nI_1 j) ((h.1 e).2 g)⟩
theorem xx_sp61 {post : SX → Prop} {J4 J19 : Int32 → Int32 → (Nat → Int32) → (Nat → Int32) → (Nat → Int32) → (Nat → Int32) → (Nat → Int32) → (Nat → Int32) → Prop} {x1 x2 z0 z1 : Int32} {j : Nat} (hj : j < 17) (hA : zz_W gd A) (hB : zz_W gn B)
    (h1 : ∀ i, i < 32 → bt z1 i = ((zz_G B (i + 2) (j + 2) || zz_G B (i + 1) (j + 2)) || zz_G B (i + 3) (j + 2))) (h0 : ∀ i, i < 32 → bt z0 i = zz_G B (i + 2) (j + 1))
    (hc : ∀ x, (∀ i, i < 32 → bt x i = (decide (i < 17) && (A i j && zz_nb B i j))) → ((x1 = 0 → ((x = gn j → J19 0 (nI (j + 1)) kd rr ins rim gd (upd gn j x)) ∧ (¬ x = gn j → J19 1 (nI (j + 1)) kd rr ins rim gd (upd gn j x)))) ∧ (¬ x1 = 0 → J19 1 (nI (j + 1)) kd rr ins rim gd (upd gn j x)))) :
    wX_spread_61 post J4 J19 x1 x2 (nI j) (gn j) z0 z1 kd rr ins rim gd gn := by
  have fin : ∀ z2 : Int32, (∀ i, i < 32 → bt z2 i = zz_G B (i + 2) (j + 3)) → wX_spread_80 post J4 J19 x1 x2 (nI j) (gn j) z2 (z1 ||| z0) kd rr ins rim gd gn := by
    intro z2 h2
    refine xx_sp80 hj (fun x hx => hc x (fun i hi => ?_))
    rw [hx, b_and, b_or, b_or, h1 i hi, h0 i hi, h2 i hi, hA j hj i hi]
    unfold zz_nb
    generalize zz_G B (i + 2) (j + 2) = a1
    generalize zz_G B (i + 1) (j + 2) = a2
    generalize zz_G B (i + 3) (j + 2) = a3
    generalize zz_G B (i + 2) (j + 1) = a4
    generalize zz_G B (i + 2) (j + 3) = a5
    generalize decide (i < 17) = a6
    generalize A i j = a7
    revert a1 a2 a3 a4 a5 a6 a7
    decide
  unfold wX_spread_61
  refine pk_le 16 j (fun g => fin 0 (fun i hi => ?_)) (fun g => And.intro ?_ ?_)
  · rw [b_0]
    unfold zz_G
    rw [decide_eq_false (by omega), Bool.false_and]
  · rw [nI_1]
    exact pk_in (j + 1) 17 (by omega)
  · rw [nI_1, nI_clamp (by omega : j + 1 < 2 ^ 31)]
    exact fin _ (fun i hi => zz_W_G hB (by omega) hi)
theorem xx_sp_row {post : SX → Prop} {J4 : Int32 → Int32 → (Nat → Int32) → (Nat → Int32) → (Nat → Int32) → (Nat → Int32) → (Nat → Int32) → (Nat → Int32) → Prop} {x1 x2 : Int32} {n j : Nat} (hj : j < 17) (hA : zz_W gd A) (hB : zz_W gn B)
    (hc : ∀ x, (∀ i, i < 32 → bt x i = (decide (i < 17) && (A i j && zz_nb B i j))) → ((x1 = 0 → ((x = gn j → wX_spread_19 post J4 x2 n 0 (nI (j + 1)) kd rr ins rim gd (upd gn j x)) ∧ (¬ x = gn j → wX_spread_19 post J4 x2 n 1 (nI (j + 1)) kd rr ins rim gd (upd gn j x)))) ∧ (¬ x1 = 0 → wX_spread_19 post J4 x2 n 1 (nI (j + 1)) kd rr ins rim gd (upd gn j x)))) :
    wX_spread_19 post J4 x2 (n + 1) x1 (nI j) kd rr ins rim gd gn := by
  have bs : ∀ i, i < 32 → bt (gn j) i = zz_G B (i + 2) (j + 2) := fun i hi => zz_W_G hB hj hi
  have b1 : ∀ i, i < 32 → bt ((gn j ||| (gn j <<< ((1 : Int32) &&& 31))) ||| (gn j >>> ((1 : Int32) &&& 31))) i = ((zz_G B (i + 2) (j + 2) || zz_G B (i + 1) (j + 2)) || zz_G B (i + 3) (j + 2)) := by
    intro i hi
    rw [b_or, b_or, bs i hi, zz_shl1 bs hi, zz_shr1 bs hi]
  refine pk_le 17 j (fun g => by omega) (fun _ => And.intro (pk_in j 17 hj) ?_)
  rw [nI_clamp (by omega : j < 2 ^ 31)]
  refine nm_e (pk_le j 0 (fun g => xx_sp61 hj hA hB b1 (fun i hi => ?_) hc) (fun g => And.intro ?_ ?_))
  · rw [b_0]
    unfold zz_G
    rw [decide_eq_false (by omega), Bool.false_and]
  · rw [show nI j - 1 = nI (j - 1) from pk_sub (b := 1) (by omega)]
    exact pk_in (j - 1) 17 (by omega)
  · rw [show nI j - 1 = nI (j - 1) from pk_sub (b := 1) (by omega), nI_clamp (by omega : j - 1 < 2 ^ 31)]
    refine xx_sp61 hj hA hB b1 (fun i hi => ?_) hc
    rw [zz_W_G hB (by omega : j - 1 < 17) hi, show j - 1 + 2 = j + 1 by omega]
theorem xx_sp_round {post : SX → Prop} {J4 : Int32 → Int32 → (Nat → Int32) → (Nat → Int32) → (Nat → Int32) → (Nat → Int32) → (Nat → Int32) → (Nat → Int32) → Prop} {r : Nat} {Bi B0 : Nat → Nat → Bool} (hA : zz_W gd A)
    (hJ : ∀ m gn' B', zz_W gn' B' → zz_Inv A Bi B0 17 m B' → J4 (zz_o m) (nI (r + 1)) kd rr ins rim gd gn') :
    ∀ d j m gn B, j + d = 17 → zz_W gn B → zz_Inv A Bi B0 j m B → wX_spread_19 post J4 (nI r) (d + 1) (zz_o m) (nI j) kd rr ins rim gd gn := by
  intro d
  induction d with
  | zero =>
    intro j m gn B hj hB hI
    obtain rfl : j = 17 := by omega
    exact pk_le 17 17 (fun _ => nm_r (nI_1 r) (hJ m gn B hB hI)) (fun g => by omega)
  | succ d ih =>
    intro j m gn B hj hB hI
    refine xx_sp_row (by omega) hA hB (fun x hx => ?_)
    have hW : zz_W (upd gn j x) (zz_up A B j) := by
      refine zz_W_upd hB (fun i hi => ?_) (fun i b hi hb hne => zz_up_n hne)
      rw [zz_up_j]
      exact hx i hi
    have same : x = gn j → ∀ i, i < 17 → zz_up A B j i j = B i j := by
      intro e i hi
      have h1 := hx i (by omega)
      rw [e, hB j (by omega) i (by omega), decide_eq_true hi, Bool.true_and, Bool.true_and] at h1
      rw [zz_up_j]
      exact h1.symm
    have diff : ¬ x = gn j → ∃ i, i < 17 ∧ zz_up A B j i j ≠ B i j := by
      intro e
      apply Classical.byContradiction
      intro n
      apply e
      apply b_ext
      intro i hi
      rw [hx i hi, hB j (by omega) i hi]
      by_cases c : i < 17
      · have : zz_up A B j i j = B i j := Classical.byContradiction (fun z => n ⟨i, c, z⟩)
        rw [zz_up_j] at this
        rw [this]
      · rw [decide_eq_false c, Bool.false_and, Bool.false_and]
    refine ⟨fun e => ⟨fun g => ?_, fun g => ?_⟩, fun e => ?_⟩
    · have em : m = false := zz_o_0.1 e
      exact ih (j + 1) false _ _ (by omega) hW (zz_Inv_s (by omega) hI (fun _ => ⟨em, same g⟩) (fun z => absurd z (by decide)))
    · exact ih (j + 1) true _ _ (by omega) hW (zz_Inv_s (by omega) hI (fun z => absurd z (by decide)) (fun _ => Or.inr (diff g)))
    · have em : m = true := by
        cases m with
        | false => exact absurd rfl e
        | true => rfl
      exact ih (j + 1) true _ _ (by omega) hW (zz_Inv_s (by omega) hI (fun z => absurd z (by decide)) (fun _ => Or.inl em))
theorem xx_sp_l {post : SX → Prop} {Bi : Nat → Nat → Bool} (hA : zz_W gd A) (hc : ∀ gn' B', zz_W gn' B' → zz_SP A Bi B' → post (kd, rr, ins, rim, gd, gn')) :
    ∀ n r m gn B, 291 < n + r → zz_W gn B → (∀ i j, i < 17 → j < 17 → Bi i j = true → B i j = true) → (∀ i j, i < 17 → j < 17 → B i j = true → A i j = true) →
    (∀ T, zz_cl A T → (∀ i b, i < 17 → b < 17 → Bi i b = true → T i b) → ∀ i b, i < 17 → b < 17 → B i b = true → T i b) → (m = false → r ≤ 290 ∧ zz_cl A (fun i j => B i j = true)) → (m = true → r ≤ zz_cg B) →
    wX_spread_4 post n (zz_o m) (nI r) kd rr ins rim gd gn := by
  intro n
  induction n with
  | zero =>
    intro r m gn B hn hW h1 h2 h3 h4 h5
    have hb : zz_cg B ≤ 289 := zz_cn_le _ _
    cases m with
    | false => have := (h4 rfl).1; omega
    | true => have := h5 rfl; omega
  | succ n ih =>
    intro r m gn B hn hW h1 h2 h3 h4 h5
    have hb : zz_cg B ≤ 289 := zz_cn_le _ _
    have hr : r ≤ 290 := by
      cases m with
      | false => exact (h4 rfl).1
      | true => have := h5 rfl; omega
    refine pk_le 300 r (fun g => by omega) (fun _ => ?_)
    cases m with
    | false => exact br_t rfl (hc gn B hW ⟨h1, h2, (h4 rfl).2, h3⟩)
    | true =>
      refine br_f (by decide) (Exists.intro 18 ?_)
      refine xx_sp_round (Bi := Bi) (B0 := B) hA (fun m' gn' B' hW' hI => ?_) 17 0 false gn B rfl hW ⟨fun _ _ _ _ e => e, h2, h3, fun _ => ⟨fun _ _ _ _ => rfl, fun _ b _ hb => by omega⟩, fun z => absurd z (by decide)⟩
      obtain ⟨a1, a2, a3, a4, a5⟩ := hI
      refine ih (r + 1) m' gn' B' (by omega) hW' (fun i j hi hj e => a1 i j hi hj (h1 i j hi hj e)) a2 a3 (fun e => ⟨by have := h5 rfl; omega, ?_⟩) (fun e => by have := a5 e; have := h5 rfl; omega)
      obtain ⟨b1, b2⟩ := a4 e
      intro i j a b hi hj ha hb t ad g
      rw [b1 i j hi hj] at t
      show B' a b = true
      rw [b1 a b ha hb]
      exact b2 a b ha hb g ((zz_nb_iff ha hb).2 (Or.inr ⟨i, j, hi, hj, ad, t⟩))
theorem xx_spread {post : SX → Prop} (hA : zz_W gd A) (hB : zz_W gn B) (hsub : ∀ i j, i < 17 → j < 17 → B i j = true → A i j = true) (hc : ∀ gn' B', zz_W gn' B' → zz_SP A B B' → post (kd, rr, ins, rim, gd, gn')) :
    wpX_spread post (kd, rr, ins, rim, gd, gn) := by
  refine Exists.intro 292 ?_
  exact xx_sp_l hA hc 292 0 true gn B (by omega) hB (fun _ _ _ _ e => e) hsub (fun T _ hT => hT) (fun z => absurd z (by decide)) (fun _ => Nat.zero_le _)
theorem xx_take_l {post : SX → Prop} (hc : ∀ gd' gn', zz_W gd' (fun i j => A i j && !B i j) → zz_W gn' (fun _ _ => false) → post (kd, rr, ins, rim, gd', gn')) :
    ∀ d j gd gn, j + d = 17 → zz_W gd (fun i b => if b < j then A i b && !B i b else A i b) → zz_W gn (fun i b => if b < j then false else B i b) → wX_takeAway_2 post (d + 1) (nI j) kd rr ins rim gd gn := by
  intro d
  induction d with
  | zero =>
    intro j gd gn hj h1 h2
    obtain rfl : j = 17 := by omega
    refine pk_le 17 17 (fun _ => hc gd gn (fun b hb i hi => ?_) (fun b hb i hi => ?_)) (fun g => by omega)
    · rw [h1 b hb i hi]
      dsimp only
      rw [if_pos hb]
    · rw [h2 b hb i hi]
      dsimp only
      rw [if_pos hb]
  | succ d ih =>
    intro j gd gn hj h1 h2
    have ij : vp_in (nI j) 17 := pk_in j 17 (by omega)
    refine pk_le 17 j (fun g => by omega) (fun _ => And.intro ij (And.intro ij (And.intro ij ?_)))
    rw [nI_clamp (by omega : j < 2 ^ 31)]
    refine nm_e (And.intro ij (nm_e (nm_r (nI_1 j) (ih (j + 1) _ _ (by omega) (zz_W_upd h1 (fun i hi => ?_) (fun i b hi hb hne => ?_)) (zz_W_upd h2 (fun i hi => ?_) (fun i b hi hb hne => ?_))))))
    · rw [b_and, zz_not _ hi, h1 j (by omega) i hi, h2 j (by omega) i hi]
      simp only [Nat.lt_irrefl, if_false, Nat.lt_succ_self, if_true]
      cases decide (i < 17) <;> cases A i j <;> cases B i j <;> rfl
    · by_cases c : b < j
      · rw [if_pos c, if_pos (by omega)]
      · rw [if_neg c, if_neg (by omega)]
    · rw [b_0, if_pos (by omega), Bool.and_false]
    · by_cases c : b < j
      · rw [if_pos c, if_pos (by omega)]
      · rw [if_neg c, if_neg (by omega)]
theorem xx_take {post : SX → Prop} (hA : zz_W gd A) (hB : zz_W gn B) (hc : ∀ gd' gn', zz_W gd' (fun i j => A i j && !B i j) → zz_W gn' (fun _ _ => false) → post (kd, rr, ins, rim, gd', gn')) : wpX_takeAway post (kd, rr, ins, rim, gd, gn) := by
  refine Exists.intro 18 ?_
  refine xx_take_l hc 17 0 gd gn rfl (fun b hb i hi => ?_) (fun b hb i hi => ?_)
  · rw [hA b hb i hi]
    dsimp only
    rw [if_neg (by omega : ¬ b < 0)]
  · rw [hB b hb i hi]
    dsimp only
    rw [if_neg (by omega : ¬ b < 0)]
theorem xx_cp_i {post : Int32 → SX → Prop} {J25 : Int32 → Int32 → (Nat → Int32) → (Nat → Int32) → (Nat → Int32) → (Nat → Int32) → (Nat → Int32) → (Nat → Int32) → Prop} {G0 : Nat → Nat → Bool} {j : Nat} (hj : j < 17)
    (hJ : ∀ q gd' gn' G, zz_W gd' G → zz_W gn' (fun _ _ => false) → (∀ L n, zz_Lab A L n → zz_Sat L G0 → zz_Sat L G ∧ zz_lc L G n + q = zz_lc L G0 n) → (∀ i b, i < 17 → b < j + 1 → G i b = false) → J25 (nI q) (nI (j + 1)) kd rr ins rim gd' gn') :
    ∀ d i q gd gn G, i + d = 17 → zz_W gd G → zz_W gn (fun _ _ => false) → (∀ L n, zz_Lab A L n → zz_Sat L G0 → zz_Sat L G ∧ zz_lc L G n + q = zz_lc L G0 n) → (∀ i b, i < 17 → b < j → G i b = false) → i + zz_cn (fun i => G i j) 17 ≤ 17 →
    wX_countPieces_33 post J25 (nI j) (d + 1) (nI q) (nI i) kd rr ins rim gd gn := by
  intro d
  induction d with
  | zero =>
    intro i q gd gn G hi hG hN hS hr hn
    obtain rfl : i = 17 := by omega
    refine pk_le 17 17 (fun _ => nm_r (nI_1 j) (hJ q gd gn G hG hN hS (fun i b hi hb => ?_))) (fun g => by omega)
    by_cases c : b = j
    · subst c
      exact zz_cn_zero' (p := fun i => G i b) 17 (by omega) i hi
    · exact hr i b hi (by omega)
  | succ d ih =>
    intro i q gd gn G hi hG hN hS hr hn
    have ij : vp_in (nI j) 17 := pk_in j 17 hj
    refine pk_le 17 i (fun g => by omega) (fun _ => And.intro ij ?_)
    rw [nI_clamp (by omega : j < 2 ^ 31)]
    refine br_c (fun e => nm_r (nI_1 j) (hJ q gd gn G hG hN hS (fun i b hi hb => ?_))) (fun e => And.intro ij (And.intro ij (And.intro ij (nm_e ?_))))
    · by_cases c : b = j
      · subst c
        have := hG b hj i (by omega)
        rw [e, b_0, decide_eq_true hi, Bool.true_and] at this
        exact this.symm
      · exact hr i b hi (by omega)
    · obtain ⟨l, hl, hmin⟩ := pk_least (fun i => i < 32 ∧ bt (gd j) i = true) (zz_ne0 e)
      have hl2 := hl.2
      rw [hG j hj l hl.1, Bool.and_eq_true, decide_eq_true_iff] at hl2
      have hW : zz_W (upd gn j (gd j &&& (-(gd j)))) (fun i b => decide (i = l ∧ b = j)) := by
        refine zz_W_upd hN (fun i hi => zz_beq ?_) (fun i b hi hb hne => decide_eq_false (fun z => hne z.2))
        rw [zz_low _ hi, Bool.and_eq_true, decide_eq_true_iff, decide_eq_true_iff]
        constructor
        · rintro ⟨g1, g2⟩
          have : i = l := by
            rcases Nat.lt_trichotomy i l with h | h | h
            · exact absurd ⟨hi, g1⟩ (hmin i h)
            · exact h
            · exact absurd ⟨l, h, hl.2⟩ g2
          exact ⟨by omega, this, rfl⟩
        · rintro ⟨_, e1, _⟩
          subst e1
          exact ⟨hl.2, fun ⟨b, hb, h⟩ => hmin b hb ⟨by omega, h⟩⟩
      refine xx_spread hG hW (fun i b hi hb z => ?_) (fun gn' B' hW' hSP => xx_take hG hW' (fun gd2 gn2 hG2 hN2 => nm_r (nI_1 q) (nm_r (nI_1 i) ?_)))
      · rw [decide_eq_true_iff] at z
        rw [z.1, z.2]
        exact hl2.2
      · refine ih (i + 1) (q + 1) gd2 gn2 _ (by omega) hG2 hN2 (fun L n hL hS0 => ?_) (fun i b hi hb => by rw [hr i b hi hb, Bool.false_and]) ?_
        · obtain ⟨s1, s2⟩ := hS L n hL hS0
          obtain ⟨k1, k2, k3⟩ := zz_take hL s1 hl2.1 hj hl2.2 (fun i b hi hb => by rw [decide_eq_true_iff]) hSP
          exact ⟨k2, by omega⟩
        · have lt : zz_cn (fun i => G i j && !B' i j) 17 < zz_cn (fun i => G i j) 17 := by
            refine zz_cn_lt l hl2.2 ?_ 17 hl2.1 (fun k hk z => ?_)
            · rw [hSP.1 l j hl2.1 hj (decide_eq_true ⟨rfl, rfl⟩)]
              simp
            · rw [Bool.and_eq_true] at z
              exact z.1
          omega
theorem xx_cp_o {post : Int32 → SX → Prop} {G0 : Nat → Nat → Bool} (h : ∀ q gd' gn', (∀ L n, zz_Lab A L n → zz_Sat L G0 → zz_lc L G0 n = q) → post (nI q) (kd, rr, ins, rim, gd', gn')) :
    ∀ d j q gd gn G, j + d = 17 → zz_W gd G → zz_W gn (fun _ _ => false) → (∀ L n, zz_Lab A L n → zz_Sat L G0 → zz_Sat L G ∧ zz_lc L G n + q = zz_lc L G0 n) → (∀ i b, i < 17 → b < j → G i b = false) → wX_countPieces_25 post (d + 1) (nI q) (nI j) kd rr ins rim gd gn := by
  intro d
  induction d with
  | zero =>
    intro j q gd gn G hj hG hN hS hr
    obtain rfl : j = 17 := by omega
    refine pk_le 17 17 (fun _ => h q gd gn (fun L n hL hS0 => ?_)) (fun g => by omega)
    have := (hS L n hL hS0).2
    rw [zz_lc_0 (fun i j hi hj => hr i j hi hj), Nat.zero_add] at this
    exact this.symm
  | succ d ih =>
    intro j q gd gn G hj hG hN hS hr
    refine pk_le 17 j (fun g => by omega) (fun _ => Exists.intro 18 ?_)
    exact xx_cp_i (by omega) (fun q' gd' gn' G' a1 a2 a3 a4 => ih (j + 1) q' gd' gn' G' (by omega) a1 a2 a3 a4) 17 0 q gd gn G rfl hG hN hS hr (by have := zz_cn_le (fun i => G i j) 17; omega)
theorem xx_cp_z {post : Int32 → SX → Prop} {G : Nat → Nat → Bool} (hG : zz_W gd G) (h : ∀ q gd' gn', (∀ L n, zz_Lab A L n → zz_Sat L G → zz_lc L G n = q) → post (nI q) (kd, rr, ins, rim, gd', gn')) :
    ∀ d j gn, j + d = 17 → (∀ b, b < j → ∀ i, i < 32 → bt (gn b) i = false) → wX_countPieces_4 post 0 (d + 1) (nI j) kd rr ins rim gd gn := by
  intro d
  induction d with
  | zero =>
    intro j gn hj hz
    obtain rfl : j = 17 := by omega
    refine pk_le 17 17 (fun _ => Exists.intro 18 ?_) (fun g => by omega)
    exact xx_cp_o h 17 0 0 gd gn G rfl hG (fun b hb i hi => by rw [hz b hb i hi, Bool.and_false]) (fun L n hL hS => ⟨hS, Nat.add_zero _⟩) (fun i b hi hb => by omega)
  | succ d ih =>
    intro j gn hj hz
    refine pk_le 17 j (fun g => by omega) (fun _ => And.intro (pk_in j 17 (by omega)) ?_)
    rw [nI_clamp (by omega : j < 2 ^ 31)]
    refine nm_e (nm_r (nI_1 j) (ih (j + 1) _ (by omega) (fun b hb i hi => ?_)))
    by_cases c : b = j
    · rw [c, pk_us, b_0]
    · rw [pk_un c]
      exact hz b (by omega) i hi
/-- X counts the pieces of any numbering of A that lie on the ground G -/
theorem xx_cp {post : Int32 → SX → Prop} {G : Nat → Nat → Bool} (A : Nat → Nat → Bool) (hG : zz_W gd G) (h : ∀ q gd' gn', (∀ L n, zz_Lab A L n → zz_Sat L G → zz_lc L G n = q) → post (nI q) (kd, rr, ins, rim, gd', gn')) : wpX_countPieces post (kd, rr, ins, rim, gd, gn) := by
  refine Exists.intro 18 ?_
  exact xx_cp_z hG h 17 0 gn rfl (fun b hb => by omega)
/-! holes on the ground -/
theorem xx_lh_l {post : SX → Prop} {P : Nat → Nat → Nat} (hP : ∀ i j, P i j ≤ 2) (hLd : ∀ b, b < 17 → zz_rk P b (ins b) (rim b))
    (hc : ∀ gd' gn' B', zz_SP (fun i j => decide (P i j = 2)) (fun i j => decide (P i j = 2) && zz_bd i j) B' → zz_W gd' (fun i j => decide (P i j = 2) && !B' i j) → post (kd, rr, ins, rim, gd', gn')) :
    ∀ d j gd gn, j + d = 17 → (∀ b, b < j → ∀ i, i < 32 → bt (gd b) i = (decide (i < 17) && decide (P i b = 2)) ∧ bt (gn b) i = (decide (i < 17) && (decide (P i b = 2) && zz_bd i b))) → wX_layHoles_8 post (d + 1) (nI j) kd rr ins rim gd gn := by
  intro d
  induction d with
  | zero =>
    intro j gd gn hj hz
    obtain rfl : j = 17 := by omega
    refine pk_le 17 17 (fun _ => ?_) (fun g => by omega)
    have hG : zz_W gd (fun i j => decide (P i j = 2)) := fun b hb i hi => (hz b hb i hi).1
    have hN : zz_W gn (fun i j => decide (P i j = 2) && zz_bd i j) := fun b hb i hi => (hz b hb i hi).2
    exact xx_spread hG hN (fun i b hi hb z => by rw [Bool.and_eq_true] at z; exact z.1) (fun gn' B' hW' hSP => xx_take hG hW' (fun gd2 gn2 hG2 hN2 => hc gd2 gn2 B' hSP hG2))
  | succ d ih =>
    intro j gd gn hj hz
    have ij : vp_in (nI j) 17 := pk_in j 17 (by omega)
    have key : ∀ x y : Int32, (∀ i, i < 32 → bt x i = (decide (i < 17) && decide (P i j = 2))) → (∀ i, i < 32 → bt y i = (decide (i < 17) && (decide (P i j = 2) && zz_bd i j))) → wX_layHoles_8 post (d + 1) (nI (j + 1)) kd rr ins rim (upd gd j x) (upd gn j y) := by
      intro x y hx hy
      refine ih (j + 1) _ _ (by omega) (fun b hb i hi => ?_)
      by_cases c : b = j
      · rw [c, pk_us, pk_us]
        exact ⟨hx i hi, hy i hi⟩
      · rw [pk_un c, pk_un c]
        exact hz b (by omega) i hi
    have hx : ∀ i, i < 32 → bt (131071 &&& ((ins j ||| rim j) ^^^ (-1))) i = (decide (i < 17) && decide (P i j = 2)) := by
      intro i hi
      rw [zz_rk_out hP (hLd j (by omega)) hi, Bool.decide_and]
    refine pk_le 17 j (fun g => by omega) (fun _ => xx_out (by omega) (And.intro ij ?_))
    rw [nI_clamp (by omega : j < 2 ^ 31)]
    refine nm_e (And.intro ij ?_)
    rw [pk_us]
    refine pk_eq j 0 (fun e => And.intro ij (nm_e (nm_r (nI_1 j) (key _ _ hx (fun i hi => ?_))))) (fun e => pk_eq j 16 (fun e2 => And.intro ij (nm_e (nm_r (nI_1 j) (key _ _ hx (fun i hi => ?_))))) (fun e2 => And.intro ij (nm_e (nm_r (nI_1 j) (key _ _ hx (fun i hi => ?_))))))
    · have eb : zz_bd i j = true := decide_eq_true (by omega)
      rw [b_and, hx i hi, zz_all i hi, eb, Bool.and_true]
      cases decide (i < 17) <;> simp
    · have eb : zz_bd i j = true := decide_eq_true (by omega)
      rw [b_and, hx i hi, zz_all i hi, eb, Bool.and_true]
      cases decide (i < 17) <;> simp
    · have eb : zz_bd i j = decide (i = 0 ∨ i = 16) := decide_eq_decide.mpr (by omega)
      rw [b_and, hx i hi, zz_edg i hi, eb, Bool.and_assoc]
theorem xx_lh {post : SX → Prop} {s : Nat} (hs : s < 12) (hX : zz_RX rr M) (hok : zz_okk (kd s) (M s)) (hk0 : ¬ kd s = 0)
    (hc : ∀ ins' rim' gd' gn' B', zz_SP (fun i j => decide (zz_pt (kd s) (M s) i j = 2)) (fun i j => decide (zz_pt (kd s) (M s) i j = 2) && zz_bd i j) B' → zz_W gd' (fun i j => decide (zz_pt (kd s) (M s) i j = 2) && !B' i j) → post (kd, rr, ins', rim', gd', gn')) :
    wpX_layHoles post (kd, rr, ins, rim, gd, gn) (nI s) := by
  unfold wpX_layHoles
  dsimp only
  refine xx_lay 0 hs (by decide) hX hok hk0 (fun ins' rim' hL _ => Exists.intro 18 ?_)
  exact xx_lh_l (zz_pt_le (kd s) (M s)) (zz_Ld0 hL) (fun gd' gn' B' a b => hc ins' rim' gd' gn' B' a b) 17 0 gd gn rfl (fun b hb => by omega)
end
end
section
/-! Y: pieces by a queue -/
def zz_stp (d c e : Nat) : Prop := (d = 0 ∧ e = c + 17) ∨ (d = 1 ∧ c = e + 17) ∨ (d = 2 ∧ e = c + 1 ∧ c % 17 < 16) ∨ (d = 3 ∧ c = e + 1 ∧ e % 17 < 16)
def zz_adc (c e : Nat) : Prop := zz_ad (c / 17) (c % 17) (e / 17) (e % 17)
theorem zz_stp_ad {d c e : Nat} (h : zz_stp d c e) : zz_adc c e := by
  unfold zz_adc zz_ad
  unfold zz_stp at h
  omega
theorem zz_ad_stp {c e : Nat} (h : zz_adc c e) : ∃ d, d < 4 ∧ zz_stp d c e := by
  unfold zz_adc zz_ad at h
  unfold zz_stp
  rcases h with ⟨h1, h2 | h2⟩ | ⟨h1, h2 | h2⟩
  · exact ⟨2, by omega, by omega⟩
  · exact ⟨3, by omega, by omega⟩
  · exact ⟨0, by omega, by omega⟩
  · exact ⟨1, by omega, by omega⟩
section
variable {kd mb hd f1 f2 pc qu : Nat → Int32} {M : Nat → Nat → Nat → Bool} {A : Nat → Nat → Bool}
theorem yy_s47 {post : Int32 → Prop} {a b : Nat} {x z0 z1 : Int32} (hx : x = nI a) (hy : z1 + z0 = nI b) (ha : a ≤ 17) (hb : b ≤ 17) (h1 : a ≤ 16 → b ≤ 16 → post (nI (17 * a + b))) (h0 : ¬ (a ≤ 16 ∧ b ≤ 16) → post (-1)) : wY_step_47 post x z0 z1 kd mb hd f1 f2 pc qu := by
  subst hx
  unfold wY_step_47
  refine nm_r hy (br_f (nI_pos (by omega)) (pk_lt 16 a (fun g => h0 (by omega)) (fun g => br_f (nI_pos (by omega)) (pk_le b 16 (fun g2 => ?_) (fun g2 => h0 (by omega))))))
  rw [zz_ix]
  exact h1 g g2
theorem yy_s47x {post : Int32 → Prop} {x z0 z1 : Int32} (hx : x < 0) (h : post (-1)) : wY_step_47 post x z0 z1 kd mb hd f1 f2 pc qu := by
  unfold wY_step_47
  exact nm_e (br_t hx h)
theorem yy_s47y {post : Int32 → Prop} {a : Nat} {x z0 z1 : Int32} (hx : x = nI a) (ha : a ≤ 16) (hy : z1 + z0 < 0) (h : post (-1)) : wY_step_47 post x z0 z1 kd mb hd f1 f2 pc qu := by
  subst hx
  unfold wY_step_47
  exact nm_e (br_f (nI_pos (by omega)) (br_f (nI_nlt (a := 16) (by omega) (by decide)) (br_t hy h)))
theorem zz_m1n {a : Nat} (h : a = 0) : nI a + (-1) < 0 := by rw [h]; decide
theorem zz_m1p {a : Nat} (h : 0 < a) : nI a + (-1) = nI (a - 1) := by
  obtain ⟨b, rfl⟩ : ∃ b, a = b + 1 := ⟨a - 1, by omega⟩
  exact pk_m1 b
theorem yy_step {post : Int32 → Prop} {c d : Nat} (hc : c < 289) (hd4 : d < 4) (h0 : (¬ ∃ e, e < 289 ∧ zz_stp d c e) → post (-1)) (h1 : ∀ e, e < 289 → zz_stp d c e → post (nI e)) : wpY_step post (kd, mb, hd, f1, f2, pc, qu) (nI c) (nI d) := by
  unfold wpY_step
  dsimp only
  rw [zz_d17 (by omega : c < 2 ^ 31)]
  have n0 : (¬ ∃ e, e < 289 ∧ zz_stp d c e) → post (-1) := h0
  refine And.intro zz_n17 (pk_eq d 0 (fun e0 => ?_) (fun e0 => pk_eq d 1 (fun e1 => ?_) (fun e1 => ?_)))
  · subst e0
    unfold wY_step_22
    rw [zz_r17 (by omega : c < 2 ^ 31)]
    refine nm_r (nI_1 _) (And.intro zz_n17 (br_f (by decide) (br_f (by decide) ?_)))
    refine yy_s47 rfl (Int32.add_zero _) (by omega) (by omega) (fun a1 a2 => ?_) (fun g => n0 ?_)
    · exact h1 _ (by omega) (Or.inl ⟨rfl, by omega⟩)
    · rintro ⟨e, he, hs⟩
      unfold zz_stp at hs
      omega
  · subst e1
    unfold wY_step_22
    rw [zz_r17 (by omega : c < 2 ^ 31)]
    refine nm_e (And.intro zz_n17 (br_f (by decide) (br_f (by decide) ?_)))
    by_cases z : c / 17 = 0
    · refine yy_s47x (zz_m1n z) (n0 ?_)
      rintro ⟨e, he, hs⟩
      unfold zz_stp at hs
      omega
    · refine yy_s47 (zz_m1p (by omega)) (Int32.add_zero _) (by omega) (by omega) (fun a1 a2 => ?_) (fun g => by omega)
      exact h1 _ (by omega) (Or.inr (Or.inl ⟨rfl, by omega⟩))
  · unfold wY_step_22
    rw [zz_r17 (by omega : c < 2 ^ 31)]
    refine nm_r (Int32.add_zero _) (And.intro zz_n17 (pk_eq d 2 (fun e2 => ?_) (fun e2 => pk_eq d 3 (fun e3 => ?_) (fun e3 => by omega))))
    · subst e2
      refine yy_s47 rfl (nI_1 _) (by omega) (by omega) (fun a1 a2 => ?_) (fun g => n0 ?_)
      · exact h1 _ (by omega) (Or.inr (Or.inr (Or.inl ⟨rfl, by omega, by omega⟩)))
      · rintro ⟨e, he, hs⟩
        unfold zz_stp at hs
        omega
    · subst e3
      by_cases z : c % 17 = 0
      · refine yy_s47y rfl (by omega) (zz_m1n z) (n0 ?_)
        rintro ⟨e, he, hs⟩
        unfold zz_stp at hs
        omega
      · refine yy_s47 rfl (zz_m1p (by omega)) (by omega) (by omega) (fun a1 a2 => ?_) (fun g => by omega)
        exact h1 _ (by omega) (Or.inr (Or.inr (Or.inr ⟨rfl, by omega, by omega⟩)))
end
/-- the queue holds what has label m; l0: the labels before -/
def zz_BI (A : Nat → Nat → Bool) (l0 : Nat → Nat) (st m len : Nat) (l : Nat → Nat) (qu : Nat → Int32) : Prop :=
  (∀ c, c < 289 → l0 c ≠ 0 → l c = l0 c) ∧ (∀ c, c < 289 → l0 c = 0 → l c = 0 ∨ l c = m) ∧ (∀ c, c < 289 → l c = m → A (c / 17) (c % 17) = true ∧ ∀ T, zz_cl A T → T (st / 17) (st % 17) → T (c / 17) (c % 17)) ∧
  zz_cn (fun c => decide (l c = m)) 289 = len ∧ (∀ q, q < len → ∃ c, c < 289 ∧ qu q = nI c ∧ l c = m) ∧ (∀ c, c < 289 → l c = m → ∃ q, q < len ∧ qu q = nI c) ∧ (∀ c, c < 289 → l c ≤ 289) ∧ l st = m
def zz_PR (A : Nat → Nat → Bool) (l : Nat → Nat) (qu : Nat → Int32) (k : Nat) : Prop := ∀ q, q < k → ∀ c, c < 289 → qu q = nI c → ∀ e, e < 289 → zz_adc c e → A (e / 17) (e % 17) = true → l e ≠ 0
def zz_lu (l : Nat → Nat) (e m : Nat) : Nat → Nat := fun c => if c = e then m else l c
theorem zz_lu_s {l : Nat → Nat} {e m : Nat} : zz_lu l e m e = m := if_pos rfl
theorem zz_lu_n {l : Nat → Nat} {e m c : Nat} (h : c ≠ e) : zz_lu l e m c = l c := if_neg h
theorem zz_lu_pc {l : Nat → Nat} {pc : Nat → Int32} {e m : Nat} (h : ∀ x, x < 289 → pc x = nI (l x)) : ∀ x, x < 289 → upd pc e (nI m) x = nI (zz_lu l e m x) := by
  intro x hx
  by_cases c : x = e
  · rw [c, pk_us, zz_lu_s]
  · rw [pk_un c, zz_lu_n c]
    exact h x hx
theorem zz_cl_c {A : Nat → Nat → Bool} {T : Nat → Nat → Prop} (hT : zz_cl A T) {c e : Nat} (hc : c < 289) (he : e < 289) (t : T (c / 17) (c % 17)) (ad : zz_adc c e) (g : A (e / 17) (e % 17) = true) : T (e / 17) (e % 17) :=
  hT _ _ _ _ (by omega) (by omega) (by omega) (by omega) t ad g
theorem zz_BI_lt {A : Nat → Nat → Bool} {l0 l : Nat → Nat} {st m len e : Nat} {qu : Nat → Int32} (h : zz_BI A l0 st m len l qu) (he : e < 289) (hm : 1 ≤ m) (e0 : l e = 0) : len < 289 := by
  obtain ⟨i0, i1, i2, i3, i4, i5, i6, i7⟩ := h
  rw [← i3]
  exact zz_cn_ltn e he (decide_eq_false (by omega))
theorem zz_BI_add {A : Nat → Nat → Bool} {l0 l : Nat → Nat} {st m len c e : Nat} {qu : Nat → Int32} (h : zz_BI A l0 st m len l qu) (hc : c < 289) (he : e < 289) (hm : 1 ≤ m) (hm2 : m ≤ 289) (ec : l c = m) (e0 : l e = 0) (ad : zz_adc c e) (g : A (e / 17) (e % 17) = true) :
    zz_BI A l0 st m (len + 1) (zz_lu l e m) (upd qu len (nI e)) := by
  obtain ⟨i0, i1, i2, i3, i4, i5, i6, i7⟩ := h
  have ne : ∀ x, l x = m → x ≠ e := fun x hx z => by rw [z] at hx; omega
  refine ⟨fun x hx hn => ?_, fun x hx hn => ?_, fun x hx hn => ?_, ?_, fun q hq => ?_, fun x hx hn => ?_, fun x hx => ?_, ?_⟩
  · have h1 := i0 x hx hn
    rw [zz_lu_n (fun z => by rw [z] at h1 hn; omega)]
    exact h1
  · by_cases z : x = e
    · rw [z, zz_lu_s]
      exact Or.inr rfl
    · rw [zz_lu_n z]
      exact i1 x hx hn
  · by_cases z : x = e
    · rw [z]
      exact ⟨g, fun T hT t => zz_cl_c hT hc he ((i2 c hc ec).2 T hT t) ad g⟩
    · rw [zz_lu_n z] at hn
      exact i2 x hx hn
  · rw [← i3]
    refine zz_cn_del e (decide_eq_true zz_lu_s) 289 he (fun x hx => zz_beq ?_)
    rw [Bool.and_eq_true, decide_eq_true_iff, decide_eq_true_iff, decide_eq_true_iff]
    constructor
    · intro z
      exact ⟨by rw [zz_lu_n (ne x z)]; exact z, ne x z⟩
    · rintro ⟨z1, z2⟩
      rw [zz_lu_n z2] at z1
      exact z1
  · by_cases z : q = len
    · rw [z, pk_us]
      exact ⟨e, he, rfl, zz_lu_s⟩
    · obtain ⟨x, hx, h1, h2⟩ := i4 q (by omega)
      rw [pk_un z]
      exact ⟨x, hx, h1, by rw [zz_lu_n (ne x h2)]; exact h2⟩
  · by_cases z : x = e
    · rw [z]
      exact ⟨len, by omega, pk_us⟩
    · rw [zz_lu_n z] at hn
      obtain ⟨q, hq, h1⟩ := i5 x hx hn
      exact ⟨q, by omega, by rw [pk_un (by omega)]; exact h1⟩
  · by_cases z : x = e
    · rw [z, zz_lu_s]
      exact hm2
    · rw [zz_lu_n z]
      exact i6 x hx
  · rw [zz_lu_n (ne st i7)]
    exact i7
section
variable {kd mb hd f1 f2 : Nat → Int32} {M : Nat → Nat → Nat → Bool} {A : Nat → Nat → Bool}
theorem yy_bfs_i {post : SY → Prop} {J : Int32 → Int32 → (Nat → Int32) → (Nat → Int32) → (Nat → Int32) → (Nat → Int32) → (Nat → Int32) → (Nat → Int32) → (Nat → Int32) → Prop} {l0 : Nat → Nat} {st m k c : Nat} (hh : ∀ x, x < 289 → hd x = zz_o (A (x / 17) (x % 17))) (hm : 1 ≤ m) (hm2 : m ≤ 289) (hk : k < 289) (hc : c < 289)
    (hJ : ∀ len l pc qu, (∀ x, x < 289 → pc x = nI (l x)) → zz_BI A l0 st m len l qu → k < len → zz_PR A l qu (k + 1) → J (nI len) (nI (k + 1)) kd mb hd f1 f2 pc qu) :
    ∀ d' d len l pc qu, d + d' = 4 → (∀ x, x < 289 → pc x = nI (l x)) → zz_BI A l0 st m len l qu → k < len → qu k = nI c → l c = m → zz_PR A l qu k → (∀ e, e < 289 → ∀ f, f < d → zz_stp f c e → A (e / 17) (e % 17) = true → l e ≠ 0) →
    wY_spread_28 post J (nI m) (nI k) (d' + 1) (nI len) (nI d) kd mb hd f1 f2 pc qu := by
  intro d'
  induction d' with
  | zero =>
    intro d len l pc qu hd' hp hB hkl hq ec hP hD
    obtain rfl : d = 4 := by omega
    refine pk_le 4 4 (fun _ => nm_r (nI_1 k) (hJ len l pc qu hp hB hkl (fun q hq' x hx ex e he ad g => ?_))) (fun g => by omega)
    by_cases z : q = k
    · rw [z, hq, nI_eq (by omega) (by omega)] at ex
      subst ex
      obtain ⟨f, hf, hs⟩ := zz_ad_stp ad
      exact hD e he f hf hs g
    · exact hP q (by omega) x hx ex e he ad g
  | succ d' ih =>
    intro d len l pc qu hd' hp hB hkl hq ec hP hD
    have hlen : len ≤ 289 := by rw [← hB.2.2.2.1]; exact zz_cn_le _ _
    have skip : (∀ e, e < 289 → zz_stp d c e → A (e / 17) (e % 17) = true → l e ≠ 0) → wY_spread_28 post J (nI m) (nI k) (d' + 1) (nI len) (nI (d + 1)) kd mb hd f1 f2 pc qu := by
      intro hs
      refine ih (d + 1) len l pc qu (by omega) hp hB hkl hq ec hP (fun e he f hf hst g => ?_)
      by_cases z : f = d
      · rw [z] at hst
        exact hs e he hst g
      · exact hD e he f (by omega) hst g
    refine pk_le 4 d (fun g => by omega) (fun _ => And.intro (pk_in k 289 hk) ?_)
    rw [nI_clamp (by omega : k < 2 ^ 31), hq]
    refine yy_step hc (by omega) (fun n => ?_) (fun e he hst => ?_)
    · exact br_t (by decide) (nm_r (nI_1 d) (skip (fun e he hs => absurd ⟨e, he, hs⟩ n)))
    · have ie : vp_in (nI e) 289 := pk_in e 289 he
      have uniq : ∀ e', zz_stp d c e' → e' = e := by
        intro e' h'
        unfold zz_stp at h' hst
        omega
      refine br_f (nI_pos (by omega)) (And.intro ie ?_)
      rw [nI_clamp (by omega : e < 2 ^ 31), hh e he, hp e he]
      cases ea : A (e / 17) (e % 17) with
      | false =>
        refine br_t rfl (nm_r (nI_1 d) (skip (fun e' he' hs g => ?_)))
        rw [uniq e' hs, ea] at g
        exact absurd g (by decide)
      | true =>
        have hle := hB.2.2.2.2.2.2.1 e he
        refine br_f (by decide) (And.intro ie (pk_eq (l e) 0 (fun e0 => And.intro ie (nm_e (And.intro (pk_in len 289 (zz_BI_lt hB he hm e0)) ?_))) (fun e0 => nm_r (nI_1 d) (skip (fun e' he' hs g => by rw [uniq e' hs]; exact e0)))))
        rw [nI_clamp (by omega : len < 2 ^ 31)]
        refine nm_e (nm_r (nI_1 len) (nm_r (nI_1 d) ?_))
        have ne : ∀ x, l x ≠ 0 → zz_lu l e m x ≠ 0 := by
          intro x hx
          by_cases z : x = e
          · rw [z, zz_lu_s]
            omega
          · rw [zz_lu_n z]
            exact hx
        refine ih (d + 1) (len + 1) (zz_lu l e m) _ _ (by omega) (zz_lu_pc hp) (zz_BI_add hB hc he hm hm2 ec e0 (zz_stp_ad hst) ea) (by omega) (by rw [pk_un (by omega)]; exact hq) ?_ ?_ ?_
        · rw [zz_lu_n (fun z => by rw [z] at ec; omega)]
          exact ec
        · intro q hq' x hx ex f hf ad g
          rw [pk_un (by omega)] at ex
          exact ne f (hP q hq' x hx ex f hf ad g)
        · intro f hf g hg hs ga
          by_cases z : g = d
          · rw [z] at hs
            rw [uniq f hs, zz_lu_s]
            omega
          · exact ne f (hD f hf g (by omega) hs ga)
theorem yy_bfs_o {post : SY → Prop} {l0 : Nat → Nat} {st m : Nat} (hh : ∀ x, x < 289 → hd x = zz_o (A (x / 17) (x % 17))) (hm : 1 ≤ m) (hm2 : m ≤ 289)
    (hc : ∀ len l pc qu, (∀ x, x < 289 → pc x = nI (l x)) → zz_BI A l0 st m len l qu → zz_PR A l qu len → post (kd, mb, hd, f1, f2, pc, qu)) :
    ∀ n k len l pc qu, 289 < n + k → k ≤ len → (∀ x, x < 289 → pc x = nI (l x)) → zz_BI A l0 st m len l qu → zz_PR A l qu k → wY_spread_19 post (nI m) n (nI len) (nI k) kd mb hd f1 f2 pc qu := by
  intro n
  induction n with
  | zero =>
    intro k len l pc qu hn hk hp hB hP
    have hlen : len ≤ 289 := by rw [← hB.2.2.2.1]; exact zz_cn_le _ _
    omega
  | succ n ih =>
    intro k len l pc qu hn hk hp hB hP
    have hlen : len ≤ 289 := by rw [← hB.2.2.2.1]; exact zz_cn_le _ _
    refine pk_le len k (fun g => ?_) (fun g => ?_)
    · have e : k = len := by omega
      rw [e] at hP
      exact hc len l pc qu hp hB hP
    · obtain ⟨c, hc', e1, e2⟩ := hB.2.2.2.2.1 k g
      exact Exists.intro 5 (yy_bfs_i hh hm hm2 (by omega) hc' (fun len' l' pc' qu' a1 a2 a3 a4 => ih (k + 1) len' l' pc' qu' (by omega) (by omega) a1 a2 a4) 4 0 len l pc qu rfl hp hB g e1 e2 hP (fun e he f hf => by omega))
theorem yy_spread {pc qu : Nat → Int32} {post : SY → Prop} {l0 : Nat → Nat} {st n : Nat} (hh : ∀ x, x < 289 → hd x = zz_o (A (x / 17) (x % 17))) (hp : ∀ x, x < 289 → pc x = nI (l0 x)) (hst : st < 289) (hA : A (st / 17) (st % 17) = true) (h0 : l0 st = 0) (hn : n < 289) (hl : ∀ x, x < 289 → l0 x ≤ n)
    (hc : ∀ len l pc qu, (∀ x, x < 289 → pc x = nI (l x)) → zz_BI A l0 st (n + 1) len l qu → zz_PR A l qu len → post (kd, mb, hd, f1, f2, pc, qu)) : wpY_spread post (kd, mb, hd, f1, f2, pc, qu) (nI st) (nI (n + 1)) := by
  unfold wpY_spread
  dsimp only
  rw [nI_clamp (by omega : st < 2 ^ 31)]
  refine nm_e (And.intro (pk_in st 289 hst) (nm_e (Exists.intro 290 ?_)))
  have lt : ∀ x, x < 289 → l0 x ≠ n + 1 := fun x hx z => by have := hl x hx; omega
  refine yy_bfs_o hh (by omega) (by omega) hc 290 0 1 (zz_lu l0 st (n + 1)) _ _ (by omega) (by omega) (zz_lu_pc hp) ⟨fun x hx hne => ?_, fun x hx e => ?_, fun x hx e => ?_, ?_, fun q hq => ?_, fun x hx e => ?_, fun x hx => ?_, zz_lu_s⟩ (fun q hq => by omega)
  · rw [zz_lu_n (fun z => by rw [z] at hne; omega)]
  · by_cases z : x = st
    · rw [z, zz_lu_s]
      exact Or.inr rfl
    · rw [zz_lu_n z]
      exact Or.inl e
  · by_cases z : x = st
    · rw [z]
      exact ⟨hA, fun T _ t => t⟩
    · rw [zz_lu_n z] at e
      exact absurd e (lt x hx)
  · have e1 := zz_cn_del (p := fun c => decide (zz_lu l0 st (n + 1) c = n + 1)) (q := fun _ => false) st (decide_eq_true zz_lu_s) 289 hst (fun x hx => by
      by_cases z : x = st
      · rw [z]
        simp
      · rw [decide_eq_false (by rw [zz_lu_n z]; exact lt x hx), Bool.false_and])
    rw [e1, zz_cn_zero 289 (fun _ _ => rfl)]
  · have e : q = 0 := by omega
    rw [e, pk_us]
    exact ⟨st, hst, rfl, zz_lu_s⟩
  · by_cases z : x = st
    · rw [z]
      exact ⟨0, by omega, pk_us⟩
    · rw [zz_lu_n z] at e
      exact absurd e (lt x hx)
  · by_cases z : x = st
    · rw [z, zz_lu_s]
      omega
    · rw [zz_lu_n z]
      have := hl x hx
      omega
end
/-- labels so far: all cells below c are done -/
def zz_FI (A : Nat → Nat → Bool) (l : Nat → Nat) (n c : Nat) : Prop :=
  (∀ x, x < 289 → l x ≤ n) ∧ (∀ x, x < 289 → l x ≠ 0 → A (x / 17) (x % 17) = true) ∧ (∀ x e, x < 289 → e < 289 → l x ≠ 0 → zz_adc x e → A (e / 17) (e % 17) = true → l e = l x) ∧
  (∀ T, zz_cl A T → ∀ x e, x < 289 → e < 289 → T (x / 17) (x % 17) → l x = l e → l x ≠ 0 → T (e / 17) (e % 17)) ∧ (∀ k, 1 ≤ k → k ≤ n → ∃ x, x < 289 ∧ l x = k) ∧ (∀ x, x < c → A (x / 17) (x % 17) = true → l x ≠ 0) ∧ n ≤ c
theorem zz_FI_add {A : Nat → Nat → Bool} {l0 l : Nat → Nat} {n c len : Nat} {qu : Nat → Int32} (h : zz_FI A l0 n c) (hc : c < 289) (hA : A (c / 17) (c % 17) = true) (h0 : l0 c = 0) (hB : zz_BI A l0 c (n + 1) len l qu) (hP : zz_PR A l qu len) : zz_FI A l (n + 1) (c + 1) := by
  obtain ⟨g1, g2, g3, g4, g5, g6, g7⟩ := h
  obtain ⟨i0, i1, i2, i3, i4, i5, i6, i7⟩ := hB
  -- a cell has its old label, or none, or the new one
  have cs : ∀ x, x < 289 → (l0 x ≠ 0 ∧ l x = l0 x) ∨ (l0 x = 0 ∧ l x = 0) ∨ (l0 x = 0 ∧ l x = n + 1) := by
    intro x hx
    by_cases z : l0 x = 0
    · rcases i1 x hx z with e | e
      · exact Or.inr (Or.inl ⟨z, e⟩)
      · exact Or.inr (Or.inr ⟨z, e⟩)
    · exact Or.inl ⟨z, i0 x hx z⟩
  refine ⟨fun x hx => ?_, fun x hx hn => ?_, fun x e hx he hn ad g => ?_, fun T hT x e hx he t eq hn => ?_, fun k k1 k2 => ?_, fun x hx g => ?_, by omega⟩
  · have := g1 x hx
    rcases cs x hx with z | z | z <;> omega
  · rcases cs x hx with z | z | z
    · exact g2 x hx z.1
    · omega
    · exact (i2 x hx z.2).1
  · rcases cs x hx with z | z | z
    · have e1 := g3 x e hx he z.1 ad g
      rw [i0 e he (by rw [e1]; exact z.1), e1, z.2]
    · omega
    · obtain ⟨q, hq, eq⟩ := i5 x hx z.2
      have ne := hP q hq x hx eq e he ad g
      rcases cs e he with y | y | y
      · have e1 := g3 e x he hx y.1 (zz_ad_s ad) (i2 x hx z.2).1
        exact absurd z.1 (by rw [e1]; exact y.1)
      · exact absurd y.2 ne
      · rw [y.2, z.2]
  · have le := g1 x hx
    have le2 := g1 e he
    rcases cs x hx with z | z | z
    · rcases cs e he with y | y | y
      · exact g4 T hT x e hx he t (by omega) z.1
      · omega
      · omega
    · omega
    · have ex : l e = n + 1 := by omega
      -- T reaches the start: else the cells outside T would be closed
      have ts : T (c / 17) (c % 17) := by
        apply Classical.byContradiction
        intro nt
        have c2 : zz_cl A (fun i j => A i j = true ∧ ¬ T i j) := by
          rintro i j a b hi hj ha hb ⟨t1, t2⟩ ad g
          exact ⟨g, fun z => t2 (hT a b i j ha hb hi hj z (zz_ad_s ad) t1)⟩
        exact ((i2 x hx z.2).2 _ c2 ⟨hA, nt⟩).2 t
      exact (i2 e he ex).2 T hT ts
  · by_cases z : k = n + 1
    · exact ⟨c, hc, by rw [i7, z]⟩
    · obtain ⟨x, hx, e⟩ := g5 k k1 (by omega)
      exact ⟨x, hx, by rw [i0 x hx (by omega), e]⟩
  · by_cases z : x = c
    · rw [z, i7]
      omega
    · have h1 := g6 x (by omega) g
      rw [i0 x (by omega) h1]
      exact h1
theorem zz_FI_skip {A : Nat → Nat → Bool} {l : Nat → Nat} {n c : Nat} (h : zz_FI A l n c) (hs : A (c / 17) (c % 17) = true → l c ≠ 0) : zz_FI A l n (c + 1) := by
  obtain ⟨g1, g2, g3, g4, g5, g6, g7⟩ := h
  refine ⟨g1, g2, g3, g4, g5, fun x hx g => ?_, by omega⟩
  by_cases z : x = c
  · rw [z] at g ⊢
    exact hs g
  · exact g6 x (by omega) g
theorem zz_FI_Lab {A : Nat → Nat → Bool} {l : Nat → Nat} {n : Nat} (h : zz_FI A l n 289) : zz_Lab A (fun i j => l (17 * i + j)) n := by
  obtain ⟨g1, g2, g3, g4, g5, g6, g7⟩ := h
  have dv : ∀ i j, i < 17 → j < 17 → (17 * i + j) / 17 = i ∧ (17 * i + j) % 17 = j := fun i j hi hj => by omega
  refine ⟨fun i j hi hj => g1 _ (by omega), fun i j hi hj => ⟨fun z => ?_, fun z => ?_⟩, fun i j a b hi hj ha hb ad z1 z2 => ?_, fun T hT i j a b hi hj ha hb t e hn => ?_, fun k k1 k2 => ?_⟩
  · have := g2 _ (by omega) z
    rw [(dv i j hi hj).1, (dv i j hi hj).2] at this
    exact this
  · exact g6 (17 * i + j) (by omega) (by rw [(dv i j hi hj).1, (dv i j hi hj).2]; exact z)
  · have h1 : l (17 * i + j) ≠ 0 := g6 (17 * i + j) (by omega) (by rw [(dv i j hi hj).1, (dv i j hi hj).2]; exact z1)
    refine (g3 (17 * i + j) (17 * a + b) (by omega) (by omega) h1 ?_ (by rw [(dv a b ha hb).1, (dv a b ha hb).2]; exact z2)).symm
    unfold zz_adc
    rw [(dv i j hi hj).1, (dv i j hi hj).2, (dv a b ha hb).1, (dv a b ha hb).2]
    exact ad
  · have := g4 T hT (17 * i + j) (17 * a + b) (by omega) (by omega) (by rw [(dv i j hi hj).1, (dv i j hi hj).2]; exact t) e hn
    rw [(dv a b ha hb).1, (dv a b ha hb).2] at this
    exact this
  · obtain ⟨x, hx, e⟩ := g5 k k1 k2
    exact ⟨x / 17, x % 17, by omega, by omega, by rw [← e]; exact congrArg l (by omega)⟩
section
variable {kd mb hd f1 f2 pc qu : Nat → Int32} {M : Nat → Nat → Nat → Bool} {A : Nat → Nat → Bool}
theorem yy_fp_l {post : Int32 → SY → Prop} (hh : ∀ x, x < 289 → hd x = zz_o (A (x / 17) (x % 17)))
    (h : ∀ L n pc' qu', zz_Lab A L n → n ≤ 289 → (∀ c, c < 289 → pc' c = nI (L (c / 17) (c % 17))) → post (nI n) (kd, mb, hd, f1, f2, pc', qu')) :
    ∀ d c n l pc qu, c + d = 289 → (∀ x, x < 289 → pc x = nI (l x)) → zz_FI A l n c → wY_findPieces_26 post (d + 1) (nI n) (nI c) kd mb hd f1 f2 pc qu := by
  intro d
  induction d with
  | zero =>
    intro c n l pc qu hc hp hF
    obtain rfl : c = 289 := by omega
    refine pk_le 289 289 (fun _ => h _ n pc qu (zz_FI_Lab hF) hF.2.2.2.2.2.2 (fun x hx => ?_)) (fun g => by omega)
    rw [hp x hx]
    exact congrArg nI (congrArg l (by omega))
  | succ d ih =>
    intro c n l pc qu hc hp hF
    have ic : vp_in (nI c) 289 := pk_in c 289 (by omega)
    have hn := hF.2.2.2.2.2.2
    have hl := hF.1 c (by omega)
    refine pk_le 289 c (fun g => by omega) (fun _ => And.intro ic ?_)
    rw [nI_clamp (by omega : c < 2 ^ 31), hh c (by omega), hp c (by omega)]
    cases ea : A (c / 17) (c % 17) with
    | false => exact br_t rfl (nm_r (nI_1 c) (ih (c + 1) n l pc qu (by omega) hp (zz_FI_skip hF (fun z => by rw [ea] at z; exact absurd z (by decide)))))
    | true =>
      refine br_f (by decide) (And.intro ic (pk_eq (l c) 0 (fun e0 => nm_r (nI_1 n) ?_) (fun e0 => nm_r (nI_1 c) (ih (c + 1) n l pc qu (by omega) hp (zz_FI_skip hF (fun _ => e0))))))
      exact yy_spread hh hp (by omega) ea e0 (by omega) hF.1 (fun len l' pc' qu' a1 a2 a3 => nm_r (nI_1 c) (ih (c + 1) (n + 1) l' pc' qu' (by omega) a1 (zz_FI_add hF (by omega) ea e0 a2 a3)))
theorem yy_fp_z {post : Int32 → SY → Prop} (hh : ∀ x, x < 289 → hd x = zz_o (A (x / 17) (x % 17)))
    (h : ∀ L n pc' qu', zz_Lab A L n → n ≤ 289 → (∀ c, c < 289 → pc' c = nI (L (c / 17) (c % 17))) → post (nI n) (kd, mb, hd, f1, f2, pc', qu')) :
    ∀ d c pc, c + d = 289 → (∀ x, x < c → pc x = 0) → wY_findPieces_4 post 0 (d + 1) (nI c) kd mb hd f1 f2 pc qu := by
  intro d
  induction d with
  | zero =>
    intro c pc hc hz
    obtain rfl : c = 289 := by omega
    refine pk_le 289 289 (fun _ => Exists.intro 290 ?_) (fun g => by omega)
    refine yy_fp_l hh h 289 0 0 (fun _ => 0) pc qu rfl (fun x hx => hz x hx) ⟨fun x hx => Nat.le_refl 0, fun x hx z => absurd rfl z, fun x e hx he z => absurd rfl z, fun T hT x e hx he t z1 z2 => absurd rfl z2, fun k k1 k2 => by omega, fun x hx => by omega, Nat.le_refl 0⟩
  | succ d ih =>
    intro c pc hc hz
    refine pk_le 289 c (fun g => by omega) (fun _ => And.intro (pk_in c 289 (by omega)) ?_)
    rw [nI_clamp (by omega : c < 2 ^ 31)]
    refine nm_e (nm_r (nI_1 c) (ih (c + 1) _ (by omega) (fun x hx => ?_)))
    by_cases z : x = c
    · rw [z, pk_us]
    · rw [pk_un z]
      exact hz x (by omega)
theorem yy_fp {post : Int32 → SY → Prop} (hh : ∀ x, x < 289 → hd x = zz_o (A (x / 17) (x % 17)))
    (h : ∀ L n pc' qu', zz_Lab A L n → n ≤ 289 → (∀ c, c < 289 → pc' c = nI (L (c / 17) (c % 17))) → post (nI n) (kd, mb, hd, f1, f2, pc', qu')) : wpY_findPieces post (kd, mb, hd, f1, f2, pc, qu) := by
  refine Exists.intro 290 ?_
  exact yy_fp_z hh h 289 0 pc rfl (fun x hx => by omega)
end
end
section
/-! pieces, holes, fill: the calls -/
section
variable {kd rr ins rim gd gn mb hd f1 f2 pc qu : Nat → Int32} {M : Nat → Nat → Nat → Bool}
/-- what falls into pieces -/
def zz_A (k : Int32) (P : Nat → Nat → Nat) : Nat → Nat → Bool := fun i j => if k = 3 then decide (P i j = 0) else decide (P i j < 2)
theorem xx_pcs_l {post : Int32 → SX → Prop} {s : Nat} {P : Nat → Nat → Nat} (hs : s < 12) (hLd : ∀ b, b < 17 → zz_rk P b (ins b) (rim b))
    (hc : ∀ q gd' gn', (∀ L n, zz_Lab (zz_A (kd s) P) L n → zz_Sat L (zz_A (kd s) P) → zz_lc L (zz_A (kd s) P) n = q) → post (nI q) (kd, rr, ins, rim, gd', gn')) :
    ∀ d j gd, j + d = 17 → (∀ b, b < j → ∀ i, i < 32 → bt (gd b) i = (decide (i < 17) && zz_A (kd s) P i b)) → wX_pieces_29 post (nI s) (d + 1) (nI j) kd rr ins rim gd gn := by
  intro d
  induction d with
  | zero =>
    intro j gd hj hz
    obtain rfl : j = 17 := by omega
    exact pk_le 17 17 (fun _ => xx_cp (zz_A (kd s) P) (G := zz_A (kd s) P) (fun b hb i hi => hz b hb i hi) hc) (fun g => by omega)
  | succ d ih =>
    intro j gd hj hz
    have key : ∀ x : Int32, (∀ i, i < 32 → bt x i = (decide (i < 17) && zz_A (kd s) P i j)) → wX_pieces_29 post (nI s) (d + 1) (nI (j + 1)) kd rr ins rim (upd gd j x) gn := by
      intro x hx
      refine ih (j + 1) _ (by omega) (fun b hb i hi => ?_)
      by_cases c : b = j
      · rw [c, pk_us]
        exact hx i hi
      · rw [pk_un c]
        exact hz b (by omega) i hi
    have hr := hLd j (by omega)
    refine pk_le 17 j (fun g => by omega) (fun _ => And.intro (pk_in s 12 hs) ?_)
    rw [nI_clamp (by omega : s < 2 ^ 31), nI_clamp (by omega : j < 2 ^ 31)]
    refine br_c (fun k3 => And.intro (pk_in j 34 (by omega)) (And.intro (pk_in j 17 (by omega)) (nm_e (nm_r (nI_1 j) (key _ (fun i hi => ?_)))))) (fun k3 => xx_body (by omega) (And.intro (pk_in j 17 (by omega)) (nm_e (nm_r (nI_1 j) (key _ (fun i hi => ?_))))))
    · unfold zz_A
      rw [if_pos k3, hr.1 i hi, Bool.decide_and]
    · unfold zz_A
      rw [if_neg k3, zz_rk_body hr hi, Bool.decide_and]
theorem yy_pcs_l {post : Int32 → SY → Prop} {s : Nat} {P : Nat → Nat → Nat} (hs : s < 12) (hP : ∀ i j, P i j ≤ 2) (hF : ∀ c, c < 289 → f1 c = nI (P (c / 17) (c % 17)))
    (hc : ∀ L n hd' pc' qu', zz_Lab (zz_A (kd s) P) L n → post (nI n) (kd, mb, hd', f1, f2, pc', qu')) :
    ∀ d c hd, c + d = 289 → (∀ x, x < c → hd x = zz_o (zz_A (kd s) P (x / 17) (x % 17))) → wY_pieces_30 post (nI s) (d + 1) (nI c) kd mb hd f1 f2 pc qu := by
  intro d
  induction d with
  | zero =>
    intro c hd hc' hz
    obtain rfl : c = 289 := by omega
    exact pk_le 289 289 (fun _ => yy_fp (A := zz_A (kd s) P) hz (fun L n pc' qu' a1 _ _ => hc L n hd pc' qu' a1)) (fun g => by omega)
  | succ d ih =>
    intro c hd hc' hz
    have key : ∀ b : Bool, b = zz_A (kd s) P (c / 17) (c % 17) → wY_pieces_30 post (nI s) (d + 1) (nI (c + 1)) kd mb (upd hd c (zz_o b)) f1 f2 pc qu := by
      intro b eb
      refine ih (c + 1) _ (by omega) (fun x hx => ?_)
      by_cases z : x = c
      · rw [z, pk_us, eb]
      · rw [pk_un z]
        exact hz x (by omega)
    have hp := hP (c / 17) (c % 17)
    have ic : vp_in (nI c) 289 := pk_in c 289 (by omega)
    refine pk_le 289 c (fun g => by omega) (fun _ => And.intro (pk_in s 12 hs) ?_)
    rw [nI_clamp (by omega : s < 2 ^ 31), nI_clamp (by omega : c < 2 ^ 31), hF c (by omega)]
    refine br_c (fun k3 => And.intro ic (pk_eq (P (c / 17) (c % 17)) 0 (fun e => And.intro ic (nm_e (nm_r (nI_1 c) (key true ?_)))) (fun e => And.intro ic (nm_e (nm_r (nI_1 c) (key false ?_)))))) (fun k3 => And.intro ic (pk_le 2 (P (c / 17) (c % 17)) (fun e => And.intro ic (nm_e (nm_r (nI_1 c) (key false ?_)))) (fun e => And.intro ic (nm_e (nm_r (nI_1 c) (key true ?_))))))
    · unfold zz_A
      rw [if_pos k3, decide_eq_true e]
    · unfold zz_A
      rw [if_pos k3, decide_eq_false e]
    · unfold zz_A
      rw [if_neg k3, decide_eq_false (by omega)]
    · unfold zz_A
      rw [if_neg k3, decide_eq_true (by omega)]
end
theorem i_vc_pieces {k : Nat} {u : SX} {v : SY} (I : i_Rel k u v) (hk : k + 4 ≤ 2048) (v1 : Int32) : wpX_pieces (fun r u' => wpY_pieces (fun r' v' => r' = r ∧ i_Rel (k + 4) u' v') v v1) u v1 := by
  refine zz_el (P := fun u v => wpX_pieces (fun r u' => wpY_pieces (fun r' v' => r' = r ∧ i_Rel (k + 4) u' v') v v1) u v1) ?_ I
  intro kd rr ins rim gd gn mb hd f1 f2 pc qu M hT hX hY
  unfold wpX_pieces wpY_pieces
  dsimp only
  rcases zz_num 12 (by decide) v1 with ⟨s, hs, rfl⟩ | hb
  · rw [nI_clamp (by omega : s < 2 ^ 31)]
    have is : vp_in (nI s) 12 := pk_in s 12 hs
    refine xx_slot1 hs (br_f (by decide) (And.intro is ?_))
    by_cases k0 : kd s = 0
    · exact br_t k0 (yy_slot1 hs (br_f (by decide) (And.intro is (br_t k0 ⟨rfl, zz_in hT hX hY⟩))))
    refine br_f k0 (xx_lay 0 hs (by decide) hX (hT s hs) k0 (fun ins' rim' hL _ => Exists.intro 18 ?_))
    refine xx_pcs_l hs (zz_Ld0 hL) (fun q gd' gn' hq => ?_) 17 0 gd rfl (fun b hb => by omega)
    refine yy_slot1 hs (br_f (by decide) (And.intro is (br_f k0 ?_)))
    refine yy_find1 hs hY (fun f' hF => Exists.intro 290 ?_)
    refine yy_pcs_l hs (zz_pt_le (kd s) (M s)) hF (fun L n hd' pc' qu' hL' => ⟨?_, zz_in hT hX hY⟩) 289 0 hd rfl (fun x hx => by omega)
    rw [← hq L n hL' (zz_Sat_all hL'), zz_lc_all hL']
  · exact xx_slot0 hb (br_t rfl (yy_slot0 hb (br_t rfl ⟨rfl, zz_in hT hX hY⟩)))
/-! Y: holes -/
section
variable {kd rr ins rim gd gn mb hd f1 f2 pc qu : Nat → Int32} {M : Nat → Nat → Nat → Bool}
theorem yy_hole_48 {post : Int32 → Prop} {J : Int32 → Int32 → Prop} {L : Nat → Nat → Nat} {n k c : Nat} (hk : k ≤ n) (hn : n ≤ 289) (hL : ∀ i j, i < 17 → j < 17 → L i j ≤ n) (hp : ∀ x, x < 289 → pc x = nI (L (x / 17) (x % 17))) (hc : c < 289) (b e : Bool)
    (h : J (zz_o (b && !(decide (L (c / 17) (c % 17) = k) && e))) (nI (c + 1))) : wY_isHole_48 post J (nI k) (zz_o b) (nI c) (zz_o e) kd mb hd f1 f2 pc qu := by
  unfold wY_isHole_48
  have hl := hL (c / 17) (c % 17) (by omega) (by omega)
  rw [nI_clamp (by omega : c < 2 ^ 31), hp c hc]
  cases b with
  | false => exact br_t rfl (nm_r (nI_1 c) h)
  | true =>
    refine br_f (by decide) (And.intro (pk_in c 289 hc) (pk_eq (L (c / 17) (c % 17)) k (fun g => ?_) (fun g => nm_r (nI_1 c) ?_)))
    · rw [decide_eq_true g] at h
      cases e with
      | false => exact br_t rfl (nm_r (nI_1 c) h)
      | true => exact br_f (by decide) (nm_r (nI_1 c) h)
    · rw [decide_eq_false g] at h
      exact h
theorem yy_hole_l {post : Int32 → Prop} {L : Nat → Nat → Nat} {n k : Nat} (hk : k ≤ n) (hn : n ≤ 289) (hL : ∀ i j, i < 17 → j < 17 → L i j ≤ n) (hp : ∀ x, x < 289 → pc x = nI (L (x / 17) (x % 17))) (h : post (zz_o (zz_hole L k))) :
    ∀ d c, c + d = 289 → wY_isHole_4 post (nI k) kd mb hd f1 f2 pc qu (d + 1) (zz_o (!zz_any (fun c => decide (L (c / 17) (c % 17) = k) && zz_bd (c / 17) (c % 17)) c)) (nI c) := by
  intro d
  induction d with
  | zero =>
    intro c hc
    obtain rfl : c = 289 := by omega
    exact pk_le 289 289 (fun _ => And.intro (zz_o_n _) h) (fun g => by omega)
  | succ d ih =>
    intro c hc
    have ih' := ih (c + 1) (by omega)
    have es : zz_any (fun c => decide (L (c / 17) (c % 17) = k) && zz_bd (c / 17) (c % 17)) (c + 1) = (zz_any (fun c => decide (L (c / 17) (c % 17) = k) && zz_bd (c / 17) (c % 17)) c || (decide (L (c / 17) (c % 17) = k) && zz_bd (c / 17) (c % 17))) := rfl
    rw [es, Bool.not_or] at ih'
    have key : ∀ e : Bool, e = zz_bd (c / 17) (c % 17) → wY_isHole_48 post (wY_isHole_4 post (nI k) kd mb hd f1 f2 pc qu (d + 1)) (nI k) (zz_o (!zz_any (fun c => decide (L (c / 17) (c % 17) = k) && zz_bd (c / 17) (c % 17)) c)) (nI c) (zz_o e) kd mb hd f1 f2 pc qu := by
      intro e ee
      rw [← ee] at ih'
      exact yy_hole_48 hk hn hL hp (by omega) _ e ih'
    refine pk_le 289 c (fun g => by omega) (fun _ => ?_)
    rw [zz_r17 (by omega : c < 2 ^ 31), zz_d17 (by omega : c < 2 ^ 31)]
    refine And.intro zz_n17 (pk_eq (c / 17) 0 (fun e => key true (decide_eq_true (by omega)).symm) (fun e => And.intro zz_n17 (pk_eq (c / 17) 16 (fun e1 => key true (decide_eq_true (by omega)).symm) (fun e1 => And.intro zz_n17 (pk_eq (c % 17) 0 (fun e2 => key true (decide_eq_true (by omega)).symm) (fun e2 => And.intro zz_n17 (pk_eq (c % 17) 16 (fun e3 => key true (decide_eq_true (by omega)).symm) (fun e3 => key false (decide_eq_false (by omega)).symm))))))))
theorem yy_hole {post : Int32 → Prop} {L : Nat → Nat → Nat} {n k : Nat} (hk : k ≤ n) (hn : n ≤ 289) (hL : ∀ i j, i < 17 → j < 17 → L i j ≤ n) (hp : ∀ x, x < 289 → pc x = nI (L (x / 17) (x % 17))) (h : post (zz_o (zz_hole L k))) : wpY_isHole post (kd, mb, hd, f1, f2, pc, qu) (nI k) := by
  refine Exists.intro 290 ?_
  exact yy_hole_l hk hn hL hp h 289 0 rfl
theorem yy_outer_l {post : Int32 → SY → Prop} {P : Nat → Nat → Nat} (hP : ∀ i j, P i j ≤ 2) (hF : ∀ c, c < 289 → f1 c = nI (P (c / 17) (c % 17)))
    (hc : ∀ L n hd' pc' qu', zz_Lab (fun i j => decide (P i j = 2)) L n → n ≤ 289 → (∀ c, c < 289 → pc' c = nI (L (c / 17) (c % 17))) → post (nI n) (kd, mb, hd', f1, f2, pc', qu')) :
    ∀ d c hd, c + d = 289 → (∀ x, x < c → hd x = zz_o (decide (P (x / 17) (x % 17) = 2))) → wY_outerPieces_8 post (d + 1) (nI c) kd mb hd f1 f2 pc qu := by
  intro d
  induction d with
  | zero =>
    intro c hd hc' hz
    obtain rfl : c = 289 := by omega
    exact pk_le 289 289 (fun _ => yy_fp (A := fun i j => decide (P i j = 2)) hz (fun L n pc' qu' a1 a2 a3 => hc L n hd pc' qu' a1 a2 a3)) (fun g => by omega)
  | succ d ih =>
    intro c hd hc' hz
    have key : ∀ b : Bool, b = decide (P (c / 17) (c % 17) = 2) → wY_outerPieces_8 post (d + 1) (nI (c + 1)) kd mb (upd hd c (zz_o b)) f1 f2 pc qu := by
      intro b eb
      refine ih (c + 1) _ (by omega) (fun x hx => ?_)
      by_cases z : x = c
      · rw [z, pk_us, eb]
      · rw [pk_un z]
        exact hz x (by omega)
    have hp := hP (c / 17) (c % 17)
    have ic : vp_in (nI c) 289 := pk_in c 289 (by omega)
    refine pk_le 289 c (fun g => by omega) (fun _ => And.intro ic ?_)
    rw [nI_clamp (by omega : c < 2 ^ 31), hF c (by omega)]
    exact pk_eq (P (c / 17) (c % 17)) 2 (fun e => And.intro ic (nm_e (nm_r (nI_1 c) (key true (decide_eq_true e).symm)))) (fun e => And.intro ic (nm_e (nm_r (nI_1 c) (key false (decide_eq_false e).symm))))
theorem yy_outer {post : Int32 → SY → Prop} {s : Nat} (hs : s < 12) (hY : zz_RY mb M)
    (hc : ∀ L n hd' f1' pc' qu', zz_Lab (fun i j => decide (zz_pt (kd s) (M s) i j = 2)) L n → n ≤ 289 → (∀ c, c < 289 → pc' c = nI (L (c / 17) (c % 17))) → post (nI n) (kd, mb, hd', f1', f2, pc', qu')) : wpY_outerPieces post (kd, mb, hd, f1, f2, pc, qu) (nI s) := by
  unfold wpY_outerPieces
  dsimp only
  refine yy_find1 hs hY (fun f' hF => Exists.intro 290 ?_)
  exact yy_outer_l (zz_pt_le (kd s) (M s)) hF (fun L n hd' pc' qu' a1 a2 a3 => hc L n hd' f' pc' qu' a1 a2 a3) 289 0 hd rfl (fun x hx => by omega)
theorem yy_holes_l {post : Int32 → SY → Prop} {L : Nat → Nat → Nat} {n : Nat} (hn : n ≤ 289) (hL : ∀ i j, i < 17 → j < 17 → L i j ≤ n) (hp : ∀ x, x < 289 → pc x = nI (L (x / 17) (x % 17))) (h : post (nI (zz_cn (fun k => zz_hole L (k + 1)) n)) (kd, mb, hd, f1, f2, pc, qu)) :
    ∀ d k, k + d = n → wY_holes_24 post (nI n) kd mb hd f1 f2 pc qu (d + 1) (nI (zz_cn (fun k => zz_hole L (k + 1)) k)) (nI (k + 1)) := by
  intro d
  induction d with
  | zero =>
    intro k hk
    obtain rfl : k = n := by omega
    exact pk_lt k (k + 1) (fun _ => h) (fun g => by omega)
  | succ d ih =>
    intro k hk
    have ih' := ih (k + 1) (by omega)
    rw [zz_cn_s] at ih'
    refine pk_lt n (k + 1) (fun g => by omega) (fun _ => yy_hole (by omega) hn hL hp ?_)
    cases e : zz_hole L (k + 1) with
    | false =>
      simp only [e, Bool.toNat_false, Nat.add_zero] at ih'
      exact br_t rfl (nm_r (nI_1 (k + 1)) ih')
    | true =>
      simp only [e, Bool.toNat_true] at ih'
      exact br_f (by decide) (nm_r (nI_1 _) (nm_r (nI_1 (k + 1)) ih'))
end
theorem i_vc_holes {k : Nat} {u : SX} {v : SY} (I : i_Rel k u v) (hk : k + 4 ≤ 2048) (v1 : Int32) : wpX_holes (fun r u' => wpY_holes (fun r' v' => r' = r ∧ i_Rel (k + 4) u' v') v v1) u v1 := by
  refine zz_el (P := fun u v => wpX_holes (fun r u' => wpY_holes (fun r' v' => r' = r ∧ i_Rel (k + 4) u' v') v v1) u v1) ?_ I
  intro kd rr ins rim gd gn mb hd f1 f2 pc qu M hT hX hY
  unfold wpX_holes wpY_holes
  dsimp only
  rcases zz_area kd v1 with ⟨s, hs, rfl, hk3⟩ | ⟨r, hr, hr0, hrX, hrY⟩
  · have k0 : ¬ kd s = 0 := by rw [hk3]; decide
    refine xx_area3 hs hk3 (br_t rfl ?_)
    refine xx_lh hs hX (hT s hs) k0 (fun ins' rim' gd' gn' B' hSP hG => ?_)
    refine xx_cp (fun i j => decide (zz_pt (kd s) (M s) i j = 2)) hG (fun q gd2 gn2 hq => ?_)
    refine yy_area3 hs hk3 (br_t (by decide) ?_)
    refine yy_outer hs hY (fun L n hd' f' pc' qu' hL hn hp => Exists.intro (n + 1) ?_)
    have ho := zz_outer hL hSP
    refine yy_holes_l hn hL.1 hp ⟨?_, zz_in hT hX hY⟩ n 0 (by omega)
    rw [← hq L n hL (zz_Sat_hole hL ho), zz_lc_hole hL ho]
  · exact hrX _ _ _ _ _ _ (br_f hr (hrY _ _ _ _ _ _ _ (br_f hr0 ⟨rfl, zz_in hT hX hY⟩)))
/-! fill -/
def zz_fl (N G : Nat → Nat → Bool) : Nat → Nat → Bool := fun i j => N i j || (G i j && decide (i % 2 = 1 ∧ j % 2 = 1))
def zz_fk (N : Nat → Nat → Bool) (L : Nat → Nat → Nat) (k : Nat) : Nat → Nat → Bool := fun i j => N i j || (decide (1 ≤ L i j ∧ L i j ≤ k ∧ i % 2 + j % 2 = 2) && zz_hole L (L i j))
section
variable {kd rr ins rim gd gn mb hd f1 f2 pc qu : Nat → Int32} {M : Nat → Nat → Nat → Bool}
theorem xx_fill_l {post : Int32 → SX → Prop} {s : Nat} {G : Nat → Nat → Bool} (hs : s < 12) (hG : zz_W gd G) (hc : ∀ rr', zz_RX rr' (zz_put s (zz_fl (M s) G) M) → post (nI (zz_ct (zz_put s (zz_fl (M s) G) M) s)) (kd, rr', ins, rim, gd, gn)) :
    ∀ n j rr, j % 2 = 1 → j ≤ 17 → 17 < n + j → zz_RX rr (zz_mr s j (zz_fl (M s) G) M) → wX_fill_19 post (nI s) n (nI j) kd rr ins rim gd gn := by
  have ev : ∀ i b, b % 2 = 0 → zz_fl (M s) G i b = M s i b := by
    intro i b hb
    unfold zz_fl
    rw [decide_eq_false (by omega), Bool.and_false, Bool.or_false]
  intro n
  induction n with
  | zero => intro j rr h1 h2 h4 hR; omega
  | succ n ih =>
    intro j rr h1 h2 h4 hR
    have i1 : 17 * s + j < 204 ∨ 17 ≤ j := by omega
    refine pk_le 17 j (fun g => ?_) (fun g => And.intro (pk_in (17 * s + j) 204 (by omega) (zz_ix s j)) (And.intro (pk_in j 17 (by omega)) (And.intro (pk_in (17 * s + j) 204 (by omega) (zz_ix s j)) ?_)))
    · have hX' := zz_mr_e hR (fun b hb1 hb2 i hi => by omega)
      exact xx_count hs hX' (hc rr hX')
    · rw [zz_cx s j (by omega), nI_clamp (by omega : j < 2 ^ 31)]
      refine nm_e (nm_r (zz_a2 j) (ih (j + 2) _ (by omega) (by omega) (by omega) (zz_mr_2 hR (by omega) (fun i hi => ?_) (fun i hi => ev i (j + 1) (by omega)))))
      rw [b_or, b_and, zz_mr_rd hR hs (by omega) hi, hG j (by omega) i hi, zz_odd i hi]
      unfold zz_fl
      by_cases c : i < 17
      · by_cases c2 : i % 2 = 1
        · rw [decide_eq_true c, decide_eq_true (⟨c, c2⟩ : i < 17 ∧ i % 2 = 1), decide_eq_true (⟨c2, h1⟩ : i % 2 = 1 ∧ j % 2 = 1)]
          simp
        · rw [decide_eq_true c, decide_eq_false (fun z => c2 z.2 : ¬ (i < 17 ∧ i % 2 = 1)), decide_eq_false (fun z => c2 z.1 : ¬ (i % 2 = 1 ∧ j % 2 = 1))]
          simp
      · rw [decide_eq_false c]
        simp
theorem yy_fill_i {post : Int32 → SY → Prop} {J : Int32 → (Nat → Int32) → (Nat → Int32) → (Nat → Int32) → (Nat → Int32) → (Nat → Int32) → (Nat → Int32) → (Nat → Int32) → Prop} {s n k : Nat} {x3 : Int32} {L : Nat → Nat → Nat} (hs : s < 12) (hk : k < n) (hn : n ≤ 289) (hL : ∀ i j, i < 17 → j < 17 → L i j ≤ n) (hp : ∀ x, x < 289 → pc x = nI (L (x / 17) (x % 17)))
    (hJ : ∀ mb', zz_RY mb' (zz_put s (zz_fk (M s) L (k + 1)) M) → J (nI (k + 2)) kd mb' hd f1 f2 pc qu) :
    ∀ d c mb, c + d = 289 → zz_RY mb (zz_mc s c (zz_fk (M s) L (k + 1)) (zz_put s (zz_fk (M s) L k) M)) → wY_fill_38 post J (nI s) x3 (nI (k + 1)) (zz_o (zz_hole L (k + 1))) (d + 1) (nI c) kd mb hd f1 f2 pc qu := by
  intro d
  induction d with
  | zero =>
    intro c mb hc hR
    obtain rfl : c = 289 := by omega
    refine pk_le 289 289 (fun _ => nm_r (nI_1 (k + 1)) (hJ mb (zz_RY_congr (zz_mc_e hR) (fun t i b ht hi hb => ?_)))) (fun g => by omega)
    by_cases z : t = s
    · rw [z, zz_put_s, zz_put_s]
    · rw [zz_put_n z, zz_put_n z, zz_put_n z]
  | succ d ih =>
    intro c mb hc hR
    have key : ∀ b : Bool, b = zz_fk (M s) L (k + 1) (c / 17) (c % 17) → wY_fill_38 post J (nI s) x3 (nI (k + 1)) (zz_o (zz_hole L (k + 1))) (d + 1) (nI (c + 1)) kd (upd mb (289 * s + c) (zz_o b)) hd f1 f2 pc qu :=
      fun b eb => ih (c + 1) _ (by omega) (zz_mc_1 hR (by omega) (by rw [eb]))
    have i1 : vp_in (289 * nI s + nI c) 3468 := pk_in (289 * s + c) 3468 (by omega) (zz_iy s c)
    have ic : vp_in (nI c) 289 := pk_in c 289 (by omega)
    have hl := hL (c / 17) (c % 17) (by omega) (by omega)
    refine pk_le 289 c (fun g => by omega) (fun _ => And.intro i1 ?_)
    rw [zz_cy s c (by omega), nI_clamp (by omega : c < 2 ^ 31), zz_mc_rd hR hs (by omega), zz_put_s, hp c (by omega)]
    -- what the cell holds so far, and what it holds afterwards
    have stepT : zz_fk (M s) L k (c / 17) (c % 17) = true → zz_fk (M s) L (k + 1) (c / 17) (c % 17) = true := by
      unfold zz_fk
      rw [Bool.or_eq_true, Bool.or_eq_true, Bool.and_eq_true, Bool.and_eq_true, decide_eq_true_iff, decide_eq_true_iff]
      rintro (h | h)
      · exact Or.inl h
      · exact Or.inr ⟨by omega, h.2⟩
    have stepF : zz_fk (M s) L k (c / 17) (c % 17) = false → ¬ (L (c / 17) (c % 17) = k + 1 ∧ c / 17 % 2 + c % 17 % 2 = 2 ∧ zz_hole L (k + 1) = true) → zz_fk (M s) L (k + 1) (c / 17) (c % 17) = false := by
      intro e ne
      cases e2 : zz_fk (M s) L (k + 1) (c / 17) (c % 17) with
      | false => rfl
      | true =>
        exfalso
        unfold zz_fk at e e2
        rw [Bool.or_eq_true, Bool.and_eq_true, decide_eq_true_iff] at e2
        rw [Bool.or_eq_false_iff] at e
        rcases e2 with h | h
        · rw [e.1] at h
          exact absurd h (by decide)
        · by_cases z : L (c / 17) (c % 17) = k + 1
          · rw [z] at h
            exact ne ⟨z, h.1.2.2, h.2⟩
          · have e3 := e.2
            rw [h.2, decide_eq_true (by omega)] at e3
            exact absurd e3 (by decide)
    cases em : zz_fk (M s) L k (c / 17) (c % 17) with
    | true => exact br_f (by decide) (And.intro i1 (nm_e (nm_r (nI_1 c) (key true (stepT em).symm))))
    | false =>
      refine br_t rfl ?_
      cases eh : zz_hole L (k + 1) with
      | false => exact br_t rfl (And.intro i1 (nm_e (nm_r (nI_1 c) (by rw [eh] at key; exact key false (stepF em (fun z => by rw [eh] at z; exact absurd z.2.2 (by decide))).symm))))
      | true =>
        rw [eh] at key
        refine br_f (by decide) (And.intro ic (pk_eq (L (c / 17) (c % 17)) (k + 1) (fun e => yy_dim (by omega) (pk_eq (c / 17 % 2 + c % 17 % 2) 2 (fun e2 => And.intro i1 (nm_e (nm_r (nI_1 c) (key true ?_)))) (fun e2 => And.intro i1 (nm_e (nm_r (nI_1 c) (key false (stepF em (fun z => e2 z.2.1)).symm)))))) (fun e => And.intro i1 (nm_e (nm_r (nI_1 c) (key false (stepF em (fun z => e z.1)).symm))))))
        unfold zz_fk
        rw [decide_eq_true (by omega), e, eh, Bool.and_true, Bool.or_true]
theorem yy_fill_o {post : Int32 → SY → Prop} {s n : Nat} {L : Nat → Nat → Nat} (hs : s < 12) (hn : n ≤ 289) (hL : ∀ i j, i < 17 → j < 17 → L i j ≤ n) (hp : ∀ x, x < 289 → pc x = nI (L (x / 17) (x % 17)))
    (hc : ∀ mb', zz_RY mb' (zz_put s (zz_fk (M s) L n) M) → wpY_count (fun r => post r (kd, mb', hd, f1, f2, pc, qu)) (kd, mb', hd, f1, f2, pc, qu) (nI s)) :
    ∀ d k mb, k + d = n → zz_RY mb (zz_put s (zz_fk (M s) L k) M) → wY_fill_21 post (nI s) (nI n) (d + 1) (nI (k + 1)) kd mb hd f1 f2 pc qu := by
  intro d
  induction d with
  | zero =>
    intro k mb hk hR
    obtain rfl : k = n := by omega
    exact pk_lt k (k + 1) (fun _ => hc mb hR) (fun g => by omega)
  | succ d ih =>
    intro k mb hk hR
    refine pk_lt n (k + 1) (fun g => by omega) (fun _ => yy_hole (by omega) hn hL hp (Exists.intro 290 ?_))
    refine yy_fill_i (M := M) hs (by omega) hn hL hp (fun mb' hR' => ih (k + 1) mb' (by omega) hR') 289 0 mb rfl (zz_mc_0 hR)
end
theorem i_vc_fill {k : Nat} {u : SX} {v : SY} (I : i_Rel k u v) (hk : k + 4 ≤ 2048) (v1 : Int32) : wpX_fill (fun r u' => wpY_fill (fun r' v' => r' = r ∧ i_Rel (k + 4) u' v') v v1) u v1 := by
  refine zz_el (P := fun u v => wpX_fill (fun r u' => wpY_fill (fun r' v' => r' = r ∧ i_Rel (k + 4) u' v') v v1) u v1) ?_ I
  intro kd rr ins rim gd gn mb hd f1 f2 pc qu M hT hX hY
  unfold wpX_fill wpY_fill
  dsimp only
  rcases zz_area kd v1 with ⟨s, hs, rfl, hk3⟩ | ⟨r, hr, hr0, hrX, hrY⟩
  · have k0 : ¬ kd s = 0 := by rw [hk3]; decide
    have hok := hT s hs
    refine xx_area3 hs hk3 (br_t rfl ?_)
    refine xx_lh hs hX hok k0 (fun ins' rim' gd' gn' B' hSP hG => Exists.intro 18 ?_)
    refine xx_fill_l (M := M) hs hG (fun rr' hX' => ?_) 18 1 rr (by omega) (by omega) (by omega) (zz_mr_0 hX (fun b hb i hi => ?_))
    · refine yy_area3 hs hk3 (br_t (by decide) ?_)
      refine yy_outer hs hY (fun L n hd' f' pc' qu' hL hn hp => Exists.intro (n + 1) ?_)
      have ho := zz_outer hL hSP
      have eq : ∀ i j, i < 17 → j < 17 → zz_fl (M s) (fun i j => decide (zz_pt (kd s) (M s) i j = 2) && !B' i j) i j = zz_fk (M s) L n i j := by
        intro i j hi hj
        unfold zz_fl zz_fk
        refine zz_beq ?_
        have hg := ho i j hi hj
        dsimp only
        generalize (decide (zz_pt (kd s) (M s) i j = 2) && !B' i j) = g at hg ⊢
        rw [Bool.or_eq_true, Bool.or_eq_true, Bool.and_eq_true, Bool.and_eq_true, hg, decide_eq_true_iff (p := i % 2 = 1 ∧ j % 2 = 1), decide_eq_true_iff (p := 1 ≤ L i j ∧ L i j ≤ n ∧ i % 2 + j % 2 = 2)]
        have h1 := hL.1 i j hi hj
        have h2 := hL.2.1 i j hi hj
        constructor
        · rintro (h | ⟨⟨a, b⟩, c⟩)
          · exact Or.inl h
          · have := h2.2 a
            exact Or.inr ⟨by omega, b⟩
        · rintro (h | ⟨a, b⟩)
          · exact Or.inl h
          · exact Or.inr ⟨⟨h2.1 (by omega), b⟩, by omega⟩
      have hok3 : zz_okk (kd s) (zz_fl (M s) (fun i j => decide (zz_pt (kd s) (M s) i j = 2) && !B' i j)) := by
        rw [hk3] at hok
        have h3 := zz_of3 hok
        have goal : ∀ i j, i < 17 → j < 17 → zz_fl (M s) (fun i j => decide (zz_pt (kd s) (M s) i j = 2) && !B' i j) i j = true → i % 2 = 1 ∧ j % 2 = 1 := by
          intro i j hi hj e
          unfold zz_fl at e
          rw [Bool.or_eq_true, Bool.and_eq_true, decide_eq_true_iff] at e
          rcases e with e | e
          · exact h3 i j hi hj e
          · exact e.2
        have := zz_ok3 goal
        rw [← hk3] at this
        exact this
      refine yy_fill_o (M := M) hs hn hL.1 hp (fun mb' hY' => ?_) n 0 mb (by omega) (zz_RY_congr hY (fun t i b ht hi hb => ?_))
      · have hY2 : zz_RY mb' (zz_put s (zz_fl (M s) (fun i j => decide (zz_pt (kd s) (M s) i j = 2) && !B' i j)) M) := by
          refine zz_RY_congr hY' (fun t i b ht hi hb => ?_)
          by_cases z : t = s
          · rw [z, zz_put_s, zz_put_s]
            exact eq i b hi hb
          · rw [zz_put_n z, zz_put_n z]
        exact yy_count hs hY2 ⟨rfl, zz_in (zz_Ty_putk hT hok3) hX' hY2⟩
      · by_cases z : t = s
        · rw [z, zz_put_s]
          unfold zz_fk
          rw [decide_eq_false (by omega), Bool.false_and, Bool.or_false]
        · rw [zz_put_n z]
    · unfold zz_fl
      rw [decide_eq_false (by omega), Bool.and_false, Bool.or_false]
  · exact hrX _ _ _ _ _ _ (br_f hr (hrY _ _ _ _ _ _ _ (br_f hr0 ⟨rfl, zz_in hT hX hY⟩)))
end
