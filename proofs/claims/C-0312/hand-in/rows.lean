section
theorem pk_us {f : Nat → Int32} {k : Nat} {x : Int32} : upd f k x k = x := if_pos rfl
theorem pk_un {f : Nat → Int32} {k j : Nat} {x : Int32} (h : j ≠ k) : upd f k x j = f j := if_neg h
theorem pk_sub {a b : Nat} (h : b ≤ a) : nI a - nI b = nI (a - b) := by
  obtain ⟨c, rfl⟩ : ∃ c, a = c + b := ⟨a - b, by omega⟩
  rw [← nI_add, Int32.add_sub_cancel, Nat.add_sub_cancel]
theorem pk_m1 (n : Nat) : nI (n + 1) + (-1) = nI n := by
  rw [← nI_1, Int32.add_assoc, show (1 : Int32) + (-1) = 0 from rfl, Int32.add_zero]
theorem pk_mul (a b : Nat) : nI a * nI b = nI (a * b) := (Int32.ofNat_mul a b).symm
theorem pk_ix (x : Int32) {n : Nat} (hn : n < 2 ^ 31) : x < 0 ∨ nI n ≤ x ∨ ∃ j : Nat, j < n ∧ x = nI j := by
  by_cases h : x < 0
  · exact Or.inl h
  · obtain ⟨j, hj, rfl⟩ := nI_of h
    by_cases h2 : j < n
    · exact Or.inr (Or.inr ⟨j, h2, rfl⟩)
    · exact Or.inr (Or.inl (nI_le (by omega) hj))
theorem pk_le {x y : Int32} {A B : Prop} (a b : Nat) (f : a ≤ b → A) (g : b < a → B) (hx : x = nI a := by rfl) (hy : y = nI b := by rfl) (ha : a < 2 ^ 31 := by omega) (hb : b < 2 ^ 31 := by omega) : (x ≤ y → A) ∧ (¬ x ≤ y → B) := by
  subst hx hy
  rw [nI_leI ha hb]
  exact ⟨f, fun z => g (by omega)⟩
theorem pk_lt {x y : Int32} {A B : Prop} (a b : Nat) (f : a < b → A) (g : b ≤ a → B) (hx : x = nI a := by rfl) (hy : y = nI b := by rfl) (ha : a < 2 ^ 31 := by omega) (hb : b < 2 ^ 31 := by omega) : (x < y → A) ∧ (¬ x < y → B) := by
  subst hx hy
  rw [nI_ltI ha hb]
  exact ⟨f, fun z => g (by omega)⟩
theorem pk_eq {x y : Int32} {A B : Prop} (a b : Nat) (f : a = b → A) (g : a ≠ b → B) (hx : x = nI a := by rfl) (hy : y = nI b := by rfl) (ha : a < 2 ^ 31 := by omega) (hb : b < 2 ^ 31 := by omega) : (x = y → A) ∧ (¬ x = y → B) := by
  subst hx hy
  rw [nI_eq ha hb]
  exact ⟨f, g⟩
theorem pk_in {x : Int32} (n N : Nat) (h : n < N) (hx : x = nI n := by rfl) (hN : N < 2 ^ 31 := by omega) : vp_in x N := by
  subst hx
  exact vp_in_nI h hN
theorem pk_cl {x : Int32} (n : Nat) (hx : x = nI n := by rfl) (h : n < 2 ^ 31 := by omega) : x.toNatClampNeg = n := by
  subst hx
  exact nI_clamp h
theorem pk_tn {n : Nat} (h : n < 2 ^ 32) : (nI n).toBitVec.toNat = n := Nat.mod_eq_of_lt h
theorem pk_and (x : Int32) {m : Int32} (k : Nat) (hm : m.toBitVec.toNat = 2 ^ k - 1) : x &&& m = nI (x.toBitVec.toNat % 2 ^ k) := by
  apply Int32.toBitVec_inj.mp
  apply BitVec.eq_of_toNat_eq
  rw [Int32.toBitVec_and, BitVec.toNat_and, hm, Nat.and_two_pow_sub_one_eq_mod]
  show _ = (BitVec.ofNat 32 _).toNat
  rw [BitVec.toNat_ofNat]
  exact (Nat.mod_eq_of_lt (Nat.lt_of_le_of_lt (Nat.mod_le _ _) x.toBitVec.isLt)).symm
theorem pk_andN {n : Nat} (h : n < 2 ^ 32) {m : Int32} (k : Nat) (hm : m.toBitVec.toNat = 2 ^ k - 1) : nI n &&& m = nI (n % 2 ^ k) := by
  rw [pk_and _ k hm, pk_tn h]
theorem pk_shl (a s : Int32) (k : Nat) (hs : (s.toBitVec.smod 32).toNat = k) : (a <<< s).toBitVec.toNat = a.toBitVec.toNat * 2 ^ k % 2 ^ 32 := by
  show (a.toBitVec <<< (s.toBitVec.smod 32).toNat).toNat = _
  rw [hs, BitVec.toNat_shiftLeft, Nat.shiftLeft_eq]
theorem pk_shlN {n : Nat} (s : Int32) (k : Nat) (hs : (s.toBitVec.smod 32).toNat = k) (h : n * 2 ^ k < 2 ^ 32) : nI n <<< s = nI (n * 2 ^ k) := by
  apply Int32.toBitVec_inj.mp
  apply BitVec.eq_of_toNat_eq
  have hn : n < 2 ^ 32 := Nat.lt_of_le_of_lt (Nat.le_mul_of_pos_right n (Nat.two_pow_pos k)) h
  rw [pk_shl _ _ k hs, pk_tn hn, pk_tn h, Nat.mod_eq_of_lt h]
theorem pk_shr (a s : Int32) (k : Nat) (hs : (s.toBitVec.smod 32).toNat = k) : (a >>> s).toInt = a.toInt >>> k := by
  show (a.toBitVec.sshiftRight (s.toBitVec.smod 32).toNat).toInt = _
  rw [hs, BitVec.toInt_sshiftRight]
  rfl
theorem pk_shrN {n : Nat} (h : n < 2 ^ 31) (s : Int32) (k : Nat) (hs : (s.toBitVec.smod 32).toNat = k) : nI n >>> s = nI (n / 2 ^ k) := by
  apply Int32.toInt_inj.mp
  have h2 : n / 2 ^ k ≤ n := Nat.div_le_self _ _
  rw [pk_shr _ _ k hs, nI_toInt h, nI_toInt (by omega), Int.shiftRight_eq_div_pow]
  rfl
theorem pk_vb (z : Int32) : vp_nar .byte z.toInt8.toInt32 = z.toInt8.toInt32 := by rw [vp_nar_byte]; simp
end
section
/-! sums, counts, first places -/
def rz_sm (f : Nat → Nat) : Nat → Nat
  | 0 => 0
  | n + 1 => rz_sm f n + f n
def rz_cn (Q : Nat → Bool) (n : Nat) : Nat := rz_sm (fun p => (Q p).toNat) n
theorem rz_sm_add (f g : Nat → Nat) (n : Nat) : rz_sm (fun p => f p + g p) n = rz_sm f n + rz_sm g n := by
  induction n with
  | zero => rfl
  | succ n ih => simp only [rz_sm, ih]; omega
theorem rz_sm_mul (c : Nat) (f : Nat → Nat) (n : Nat) : rz_sm (fun p => c * f p) n = c * rz_sm f n := by
  induction n with
  | zero => rfl
  | succ n ih => simp only [rz_sm, ih, Nat.mul_add]
theorem rz_sm_congr {f g : Nat → Nat} {n : Nat} (h : ∀ p, p < n → f p = g p) : rz_sm f n = rz_sm g n := by
  induction n with
  | zero => rfl
  | succ n ih =>
    have h1 := ih (fun p hp => h p (by omega))
    have h2 := h n (by omega)
    simp only [rz_sm]; omega
theorem rz_sm_le {f : Nat → Nat} {n : Nat} (h : ∀ p, p < n → f p ≤ 1) : rz_sm f n ≤ n := by
  induction n with
  | zero => exact Nat.le_refl 0
  | succ n ih =>
    have h1 := ih (fun p hp => h p (by omega))
    have h2 := h n (by omega)
    simp only [rz_sm]; omega
theorem rz_sm_split (f : Nat → Nat) (a b : Nat) : rz_sm f (a + b) = rz_sm f a + rz_sm (fun j => f (a + j)) b := by
  induction b with
  | zero => rfl
  | succ b ih =>
    show rz_sm f (a + b) + f (a + b) = rz_sm f a + (rz_sm (fun j => f (a + j)) b + f (a + b))
    rw [ih, Nat.add_assoc]
theorem rz_cn_congr {Q R : Nat → Bool} {n : Nat} (h : ∀ p, p < n → Q p = R p) : rz_cn Q n = rz_cn R n :=
  rz_sm_congr (fun p hp => congrArg Bool.toNat (h p hp))
theorem rz_cn_le (Q : Nat → Bool) (n : Nat) : rz_cn Q n ≤ n := rz_sm_le (fun p _ => Bool.toNat_le (Q p))
theorem rz_cn_prod (A B : Nat → Bool) (k : Nat) (hk : 0 < k) (N : Nat) : rz_cn (fun p => A (p / k) && B (p % k)) (N * k) = rz_cn A N * rz_cn B k := by
  induction N with
  | zero => simp [rz_cn, rz_sm]
  | succ N ih =>
    have e : rz_sm (fun j => (A ((N * k + j) / k) && B ((N * k + j) % k)).toNat) k = (A N).toNat * rz_sm (fun p => (B p).toNat) k := by
      rw [← rz_sm_mul]
      refine rz_sm_congr (fun j hj => ?_)
      have e1 : (N * k + j) / k = N := by
        rw [Nat.mul_comm, Nat.mul_add_div hk, Nat.div_eq_of_lt hj]; rfl
      have e2 : (N * k + j) % k = j := by
        rw [Nat.mul_comm, Nat.mul_add_mod, Nat.mod_eq_of_lt hj]
      rw [e1, e2]
      cases A N <;> cases B j <;> rfl
    have s := rz_sm_split (fun p => (A (p / k) && B (p % k)).toNat) (N * k) k
    rw [Nat.succ_mul]
    show rz_sm (fun p => (A (p / k) && B (p % k)).toNat) (N * k + k) = (rz_sm (fun p => (A p).toNat) N + (A N).toNat) * rz_sm (fun p => (B p).toNat) k
    rw [s, Nat.add_mul, ← e]
    exact congrArg (· + _) ih
def rz_iv (a b s : Nat) : Bool := decide (a ≤ s ∧ s ≤ b)
theorem rz_iv_t {a b s : Nat} : rz_iv a b s = true ↔ a ≤ s ∧ s ≤ b := decide_eq_true_iff
theorem rz_cn_iv (a b : Nat) (h : a ≤ b) (n : Nat) : rz_cn (rz_iv a b) n = min n (b + 1) - a := by
  induction n with
  | zero => show 0 = min 0 (b + 1) - a; omega
  | succ n ih =>
    show rz_cn (rz_iv a b) n + (rz_iv a b n).toNat = min (n + 1) (b + 1) - a
    rw [ih]
    by_cases c : a ≤ n ∧ n ≤ b
    · rw [rz_iv_t.mpr c]; show _ + 1 = _; omega
    · rw [Bool.eq_false_iff.mpr (fun z => c (rz_iv_t.mp z))]; show _ + 0 = _; omega
def rz_ff (Q : Nat → Bool) : Nat → Option Nat
  | 0 => none
  | n + 1 => (rz_ff Q n).or (if Q n = true then some n else none)
theorem rz_ff_s1 {Q : Nat → Bool} {n i : Nat} (h : rz_ff Q n = some i) : rz_ff Q (n + 1) = some i := by
  show (rz_ff Q n).or _ = _
  rw [h]; rfl
theorem rz_ff_s2 {Q : Nat → Bool} {n : Nat} (h : rz_ff Q n = none) (hq : Q n = true) : rz_ff Q (n + 1) = some n := by
  show (rz_ff Q n).or _ = _
  rw [h, if_pos hq]; rfl
theorem rz_ff_s3 {Q : Nat → Bool} {n : Nat} (h : rz_ff Q n = none) (hq : Q n = false) : rz_ff Q (n + 1) = none := by
  show (rz_ff Q n).or _ = _
  rw [h, if_neg (by rw [hq]; exact Bool.false_ne_true)]; rfl
/-- what rz_ff says -/
theorem rz_ff_sp (Q : Nat → Bool) (n : Nat) : (rz_ff Q n = none ∧ ∀ i, i < n → Q i = false) ∨ (∃ i, rz_ff Q n = some i ∧ i < n ∧ Q i = true ∧ ∀ j, j < i → Q j = false) := by
  induction n with
  | zero => exact Or.inl ⟨rfl, fun i hi => absurd hi (Nat.not_lt_zero i)⟩
  | succ n ih =>
    rcases ih with ⟨h, hn⟩ | ⟨i, h, hi, hq, hl⟩
    · cases hq : Q n with
      | true => exact Or.inr ⟨n, rz_ff_s2 h hq, Nat.lt_succ_self n, hq, hn⟩
      | false =>
        refine Or.inl ⟨rz_ff_s3 h hq, fun i hi => ?_⟩
        by_cases c : i = n
        · rw [c]; exact hq
        · exact hn i (by omega)
    · exact Or.inr ⟨i, rz_ff_s1 h, by omega, hq, hl⟩
theorem rz_ff_none {Q : Nat → Bool} {n : Nat} : rz_ff Q n = none ↔ ∀ i, i < n → Q i = false := by
  rcases rz_ff_sp Q n with ⟨h, hn⟩ | ⟨i, h, hi, hq, _⟩
  · exact ⟨fun _ => hn, fun _ => h⟩
  · refine ⟨fun z => ?_, fun z => ?_⟩
    · rw [h] at z; exact absurd z (by simp)
    · have := z i hi; rw [hq] at this; exact absurd this (by simp)
theorem rz_ff_some {Q : Nat → Bool} {n i : Nat} : rz_ff Q n = some i ↔ i < n ∧ Q i = true ∧ ∀ j, j < i → Q j = false := by
  rcases rz_ff_sp Q n with ⟨h, hn⟩ | ⟨k, h, hk, hq, hl⟩
  · refine ⟨fun z => ?_, fun z => ?_⟩
    · rw [h] at z; exact absurd z (by simp)
    · have := hn i z.1; rw [z.2.1] at this; exact absurd this (by simp)
  · refine ⟨fun z => ?_, fun z => ?_⟩
    · rw [h] at z
      have e : k = i := Option.some.inj z
      subst e
      exact ⟨hk, hq, hl⟩
    · rw [h]
      have e : k = i := by
        rcases Nat.lt_trichotomy k i with c | c | c
        · have := z.2.2 k c; rw [hq] at this; exact absurd this (by simp)
        · exact c
        · have := hl i c; rw [z.2.1] at this; exact absurd this (by simp)
      rw [e]
theorem rz_ff_congr {Q R : Nat → Bool} {n : Nat} (h : ∀ i, i < n → Q i = R i) : rz_ff Q n = rz_ff R n := by
  rcases rz_ff_sp Q n with ⟨e, hn⟩ | ⟨i, e, hi, hq, hl⟩
  · rw [e]; exact (rz_ff_none.mpr (fun i hi => by rw [← h i hi]; exact hn i hi)).symm
  · rw [e]; exact (rz_ff_some.mpr ⟨hi, by rw [← h i hi]; exact hq, fun j hj => by rw [← h j (by omega)]; exact hl j hj⟩).symm
def rz_oI : Option Nat → Int32
  | none => -3
  | some i => nI i
end
section
/-! boxes: a code below 2^18, its six fields, its packets -/
def rz_fS (x : Int32) : Nat := x.toNatClampNeg / 16384 % 16
def rz_tS (x : Int32) : Nat := x.toNatClampNeg / 1024 % 16
def rz_fD (x : Int32) : Nat := x.toNatClampNeg / 64 % 16
def rz_tD (x : Int32) : Nat := x.toNatClampNeg / 4 % 16
def rz_fP (x : Int32) : Nat := x.toNatClampNeg / 2 % 2
def rz_tP (x : Int32) : Nat := x.toNatClampNeg % 2
theorem rz_fSl (x : Int32) : rz_fS x < 16 := Nat.mod_lt _ (by decide)
theorem rz_tSl (x : Int32) : rz_tS x < 16 := Nat.mod_lt _ (by decide)
theorem rz_fDl (x : Int32) : rz_fD x < 16 := Nat.mod_lt _ (by decide)
theorem rz_tDl (x : Int32) : rz_tD x < 16 := Nat.mod_lt _ (by decide)
theorem rz_fPl (x : Int32) : rz_fP x < 2 := Nat.mod_lt _ (by decide)
theorem rz_tPl (x : Int32) : rz_tP x < 2 := Nat.mod_lt _ (by decide)
def rz_cd (x : Int32) : Prop := ∃ n : Nat, n < 262144 ∧ x = nI n
def rz_ok (x : Int32) : Prop := rz_cd x ∧ rz_fS x ≤ rz_tS x ∧ rz_fD x ≤ rz_tD x ∧ rz_fP x ≤ rz_tP x
def rz_in (x : Int32) (p : Nat) : Bool :=
  rz_iv (rz_fS x) (rz_tS x) (p / 32) && (rz_iv (rz_fD x) (rz_tD x) (p % 32 / 2) && rz_iv (rz_fP x) (rz_tP x) (p % 32 % 2))
theorem rz_in_t {x : Int32} {p : Nat} : rz_in x p = true ↔ (rz_fS x ≤ p / 32 ∧ p / 32 ≤ rz_tS x) ∧ (rz_fD x ≤ p % 32 / 2 ∧ p % 32 / 2 ≤ rz_tD x) ∧ (rz_fP x ≤ p % 32 % 2 ∧ p % 32 % 2 ≤ rz_tP x) := by
  unfold rz_in
  rw [Bool.and_eq_true, Bool.and_eq_true, rz_iv_t, rz_iv_t, rz_iv_t]
def rz_vol (x : Int32) : Nat := (rz_tS x + 1 - rz_fS x) * ((rz_tD x + 1 - rz_fD x) * (rz_tP x + 1 - rz_fP x))
theorem rz_vol_cn {x : Int32} (h : rz_ok x) : rz_cn (rz_in x) 512 = rz_vol x := by
  have e := rz_cn_prod (rz_iv (rz_fS x) (rz_tS x)) (fun r => rz_iv (rz_fD x) (rz_tD x) (r / 2) && rz_iv (rz_fP x) (rz_tP x) (r % 2)) 32 (by decide) 16
  have e2 := rz_cn_prod (rz_iv (rz_fD x) (rz_tD x)) (rz_iv (rz_fP x) (rz_tP x)) 2 (by decide) 16
  have a := rz_cn_iv _ _ h.2.1 16
  have b := rz_cn_iv _ _ h.2.2.1 16
  have c := rz_cn_iv _ _ h.2.2.2 2
  have l1 := rz_tSl x
  have l2 := rz_tDl x
  have l3 := rz_tPl x
  rw [show min 16 (rz_tS x + 1) = rz_tS x + 1 by omega] at a
  rw [show min 16 (rz_tD x + 1) = rz_tD x + 1 by omega] at b
  rw [show min 2 (rz_tP x + 1) = rz_tP x + 1 by omega] at c
  rw [b, c] at e2
  have e3 : rz_cn (fun r => rz_iv (rz_fD x) (rz_tD x) (r / 2) && rz_iv (rz_fP x) (rz_tP x) (r % 2)) 32 = (rz_tD x + 1 - rz_fD x) * (rz_tP x + 1 - rz_fP x) := e2
  rw [a, e3] at e
  exact e
theorem rz_vol_pos {x : Int32} (h : rz_ok x) : 0 < rz_vol x := by
  have h1 := h.2.1
  have h2 := h.2.2.1
  have h3 := h.2.2.2
  exact Nat.mul_pos (by omega) (Nat.mul_pos (by omega) (by omega))
/-- the lowest packet -/
def rz_co (x : Int32) : Nat := 32 * rz_fS x + 2 * rz_fD x + rz_fP x
theorem rz_pk {s d q : Nat} (hd : d < 16) (hq : q < 2) : (32 * s + 2 * d + q) / 32 = s ∧ (32 * s + 2 * d + q) % 32 / 2 = d ∧ (32 * s + 2 * d + q) % 32 % 2 = q := by omega
theorem rz_pk_lt {s d q : Nat} (hs : s < 16) (hd : d < 16) (hq : q < 2) : 32 * s + 2 * d + q < 512 := by omega
theorem rz_in_pk {x : Int32} {s d q : Nat} (hd : d < 16) (hq : q < 2) : rz_in x (32 * s + 2 * d + q) = true ↔ (rz_fS x ≤ s ∧ s ≤ rz_tS x) ∧ (rz_fD x ≤ d ∧ d ≤ rz_tD x) ∧ (rz_fP x ≤ q ∧ q ≤ rz_tP x) := by
  obtain ⟨e1, e2, e3⟩ := rz_pk (s := s) hd hq
  rw [rz_in_t, e1, e2, e3]
theorem rz_co_lt (x : Int32) : rz_co x < 512 := rz_pk_lt (rz_fSl x) (rz_fDl x) (rz_fPl x)
theorem rz_co_in {x : Int32} (h : rz_ok x) : rz_in x (rz_co x) = true :=
  (rz_in_pk (rz_fDl x) (rz_fPl x)).mpr ⟨⟨Nat.le_refl _, h.2.1⟩, ⟨Nat.le_refl _, h.2.2.1⟩, ⟨Nat.le_refl _, h.2.2.2⟩⟩
theorem rz_co_min {x : Int32} {p : Nat} (h : rz_in x p = true) : rz_co x ≤ p := by
  obtain ⟨⟨a, _⟩, ⟨b, _⟩, ⟨c, _⟩⟩ := rz_in_t.mp h
  unfold rz_co
  omega
def rz_mt (a b : Int32) : Prop := (rz_fS a ≤ rz_tS b ∧ rz_fS b ≤ rz_tS a) ∧ (rz_fD a ≤ rz_tD b ∧ rz_fD b ≤ rz_tD a) ∧ (rz_fP a ≤ rz_tP b ∧ rz_fP b ≤ rz_tP a)
theorem rz_mx {a b c d : Nat} (h1 : a ≤ d) (h2 : c ≤ b) (h3 : a ≤ b) (h4 : c ≤ d) : ∃ m, (a ≤ m ∧ m ≤ b) ∧ (c ≤ m ∧ m ≤ d) := by
  by_cases h : a ≤ c
  · exact ⟨c, ⟨h, h2⟩, ⟨Nat.le_refl _, h4⟩⟩
  · exact ⟨a, ⟨Nat.le_refl _, h3⟩, ⟨by omega, h1⟩⟩
theorem rz_mt_in {a b : Int32} (ha : rz_ok a) (hb : rz_ok b) : rz_mt a b ↔ ∃ p, p < 512 ∧ rz_in a p = true ∧ rz_in b p = true := by
  constructor
  · rintro ⟨⟨h1, h2⟩, ⟨h3, h4⟩, ⟨h5, h6⟩⟩
    obtain ⟨s, s1, s2⟩ := rz_mx h1 h2 ha.2.1 hb.2.1
    obtain ⟨d, d1, d2⟩ := rz_mx h3 h4 ha.2.2.1 hb.2.2.1
    obtain ⟨q, q1, q2⟩ := rz_mx h5 h6 ha.2.2.2 hb.2.2.2
    have l1 := Nat.lt_of_le_of_lt s1.2 (rz_tSl a)
    have l2 := Nat.lt_of_le_of_lt d1.2 (rz_tDl a)
    have l3 := Nat.lt_of_le_of_lt q1.2 (rz_tPl a)
    exact ⟨32 * s + 2 * d + q, rz_pk_lt l1 l2 l3, (rz_in_pk l2 l3).mpr ⟨s1, d1, q1⟩, (rz_in_pk l2 l3).mpr ⟨s2, d2, q2⟩⟩
  · rintro ⟨p, _, h1, h2⟩
    obtain ⟨⟨a1, a2⟩, ⟨a3, a4⟩, ⟨a5, a6⟩⟩ := rz_in_t.mp h1
    obtain ⟨⟨b1, b2⟩, ⟨b3, b4⟩, ⟨b5, b6⟩⟩ := rz_in_t.mp h2
    exact ⟨⟨Nat.le_trans a1 b2, Nat.le_trans b1 a2⟩, ⟨Nat.le_trans a3 b4, Nat.le_trans b3 a4⟩, ⟨Nat.le_trans a5 b6, Nat.le_trans b5 a6⟩⟩
def rz_wi (a b : Int32) : Prop := (rz_fS b ≤ rz_fS a ∧ rz_tS a ≤ rz_tS b) ∧ (rz_fD b ≤ rz_fD a ∧ rz_tD a ≤ rz_tD b) ∧ (rz_fP b ≤ rz_fP a ∧ rz_tP a ≤ rz_tP b)
theorem rz_wi_in {a b : Int32} (ha : rz_ok a) : rz_wi a b ↔ ∀ p, p < 512 → rz_in a p = true → rz_in b p = true := by
  constructor
  · rintro ⟨⟨h1, h2⟩, ⟨h3, h4⟩, ⟨h5, h6⟩⟩ p _ h
    obtain ⟨⟨a1, a2⟩, ⟨a3, a4⟩, ⟨a5, a6⟩⟩ := rz_in_t.mp h
    exact rz_in_t.mpr ⟨⟨Nat.le_trans h1 a1, Nat.le_trans a2 h2⟩, ⟨Nat.le_trans h3 a3, Nat.le_trans a4 h4⟩, ⟨Nat.le_trans h5 a5, Nat.le_trans a6 h6⟩⟩
  · intro h
    have u := h (rz_co a) (rz_co_lt a) (rz_co_in ha)
    have v := h (32 * rz_tS a + 2 * rz_tD a + rz_tP a) (rz_pk_lt (rz_tSl a) (rz_tDl a) (rz_tPl a)) ((rz_in_pk (rz_tDl a) (rz_tPl a)).mpr ⟨⟨ha.2.1, Nat.le_refl _⟩, ⟨ha.2.2.1, Nat.le_refl _⟩, ⟨ha.2.2.2, Nat.le_refl _⟩⟩)
    obtain ⟨u1, u2, u3⟩ := (rz_in_pk (rz_fDl a) (rz_fPl a)).mp u
    obtain ⟨v1, v2, v3⟩ := (rz_in_pk (rz_tDl a) (rz_tPl a)).mp v
    exact ⟨⟨u1.1, v1.2⟩, ⟨u2.1, v2.2⟩, ⟨u3.1, v3.2⟩⟩
/-! lists of boxes -/
def rz_mu (a : Nat → Int32) (p : Nat) : Nat → Nat
  | 0 => 0
  | n + 1 => rz_mu a p n + (rz_in (a n) p).toNat
theorem rz_mu_congr {a b : Nat → Int32} {p n : Nat} (h : ∀ k, k < n → a k = b k) : rz_mu a p n = rz_mu b p n := by
  induction n with
  | zero => rfl
  | succ n ih =>
    show rz_mu a p n + (rz_in (a n) p).toNat = rz_mu b p n + (rz_in (b n) p).toNat
    rw [ih (fun k hk => h k (by omega)), h n (by omega)]
theorem rz_mu_mono {a : Nat → Int32} {p k m : Nat} (h : k ≤ m) : rz_mu a p k ≤ rz_mu a p m := by
  induction m with
  | zero => have : k = 0 := by omega
            rw [this]; exact Nat.le_refl _
  | succ m ih =>
    by_cases c : k = m + 1
    · rw [c]; exact Nat.le_refl _
    · exact Nat.le_trans (ih (by omega)) (Nat.le_add_right _ _)
theorem rz_mu_pos {a : Nat → Int32} {p m : Nat} : 0 < rz_mu a p m ↔ ∃ k, k < m ∧ rz_in (a k) p = true := by
  induction m with
  | zero => exact ⟨fun h => absurd h (Nat.lt_irrefl 0), fun ⟨k, hk, _⟩ => absurd hk (Nat.not_lt_zero k)⟩
  | succ m ih =>
    constructor
    · intro h
      cases c : rz_in (a m) p with
      | true => exact ⟨m, Nat.lt_succ_self m, c⟩
      | false =>
        have h2 : 0 < rz_mu a p m + (rz_in (a m) p).toNat := h
        rw [c] at h2
        obtain ⟨k, hk, e⟩ := ih.mp h2
        exact ⟨k, by omega, e⟩
    · rintro ⟨k, hk, e⟩
      by_cases c : k = m
      · subst c
        show 0 < rz_mu a p k + (rz_in (a k) p).toNat
        rw [e]; exact Nat.succ_pos _
      · exact Nat.lt_of_lt_of_le (ih.mpr ⟨k, by omega, e⟩) (Nat.le_add_right _ _)
def rz_V (a : Nat → Int32) (n : Nat) : Prop := ∀ k, k < n → rz_ok (a k)
def rz_LG (g : Nat → Nat) (a : Nat → Int32) (n : Nat) : Prop := rz_V a n ∧ ∀ p, p < 512 → rz_mu a p n = g p
def rz_LS (S : Nat → Bool) (a : Nat → Int32) (n : Nat) : Prop := rz_LG (fun p => (S p).toNat) a n
theorem rz_sm_step (a : Nat → Int32) (n : Nat) : rz_sm (fun p => rz_mu a p (n + 1)) 512 = rz_sm (fun p => rz_mu a p n) 512 + rz_cn (rz_in (a n)) 512 :=
  rz_sm_add (fun p => rz_mu a p n) (fun p => (rz_in (a n) p).toNat) 512
theorem rz_sv {a : Nat → Int32} {n : Nat} (h : rz_V a n) : n ≤ rz_sm (fun p => rz_mu a p n) 512 := by
  induction n with
  | zero => exact Nat.zero_le _
  | succ n ih =>
    have h1 := ih (fun k hk => h k (by omega))
    have h2 := rz_vol_pos (h n (by omega))
    rw [rz_sm_step, rz_vol_cn (h n (by omega))]
    omega
theorem rz_room {g : Nat → Nat} {a : Nat → Int32} {n : Nat} (h : rz_LG g a n) (hg : ∀ p, p < 512 → g p ≤ 1) : n ≤ 512 :=
  Nat.le_trans (rz_sv h.1) (rz_sm_le (fun p hp => by rw [h.2 p hp]; exact hg p hp))
theorem rz_LS_room {S : Nat → Bool} {a : Nat → Int32} {n : Nat} (h : rz_LS S a n) : n ≤ 512 := rz_room h (fun p _ => Bool.toNat_le (S p))
theorem rz_LG_nil (a : Nat → Int32) : rz_LG (fun _ => 0) a 0 := ⟨fun k hk => absurd hk (Nat.not_lt_zero k), fun _ _ => rfl⟩
theorem rz_LG_push {g : Nat → Nat} {a : Nat → Int32} {n : Nat} {x : Int32} (h : rz_LG g a n) (hx : rz_ok x) : rz_LG (fun p => g p + (rz_in x p).toNat) (upd a n x) (n + 1) := by
  refine ⟨fun k hk => ?_, fun p hp => ?_⟩
  · by_cases c : k = n
    · subst c; rw [pk_us]; exact hx
    · rw [pk_un c]; exact h.1 k (by omega)
  · show rz_mu (upd a n x) p n + (rz_in (upd a n x n) p).toNat = g p + (rz_in x p).toNat
    rw [pk_us, rz_mu_congr (b := a) (fun k hk => pk_un (by omega)), h.2 p hp]
theorem rz_LG_congr {g g' : Nat → Nat} {a : Nat → Int32} {n : Nat} (h : rz_LG g a n) (e : ∀ p, p < 512 → g p = g' p) : rz_LG g' a n :=
  ⟨h.1, fun p hp => (h.2 p hp).trans (e p hp)⟩
theorem rz_LG_arr {g : Nat → Nat} {a b : Nat → Int32} {n : Nat} (h : rz_LG g a n) (e : ∀ k, k < n → b k = a k) : rz_LG g b n :=
  ⟨fun k hk => by rw [e k hk]; exact h.1 k hk, fun p hp => (rz_mu_congr e).trans (h.2 p hp)⟩
theorem rz_LS_congr {S T : Nat → Bool} {a : Nat → Int32} {n : Nat} (h : rz_LS S a n) (e : ∀ p, p < 512 → S p = T p) : rz_LS T a n :=
  rz_LG_congr h (fun p hp => congrArg Bool.toNat (e p hp))
theorem rz_LS_mem {S : Nat → Bool} {a : Nat → Int32} {n p : Nat} (h : rz_LS S a n) (hp : p < 512) : S p = true ↔ ∃ k, k < n ∧ rz_in (a k) p = true := by
  rw [← rz_mu_pos, h.2 p hp]
  show S p = true ↔ 0 < (S p).toNat
  cases S p <;> simp
theorem rz_LS_zero {S : Nat → Bool} {a : Nat → Int32} (h : rz_LS S a 0) : ∀ p, p < 512 → S p = false := by
  intro p hp
  cases c : S p with
  | false => rfl
  | true =>
    obtain ⟨k, hk, _⟩ := (rz_LS_mem h hp).mp c
    exact absurd hk (Nat.not_lt_zero k)
theorem rz_LS_empty {S : Nat → Bool} {a : Nat → Int32} {n : Nat} (h : rz_LS S a n) (hS : ∀ p, p < 512 → S p = false) : n = 0 := by
  by_cases c : n = 0
  · exact c
  · have hk : 0 < n := by omega
    have e := (rz_LS_mem h (rz_co_lt (a 0))).mpr ⟨0, hk, rz_co_in (h.1 0 hk)⟩
    rw [hS _ (rz_co_lt (a 0))] at e
    exact absurd e (by simp)
theorem rz_LS_mt {S : Nat → Bool} {a : Nat → Int32} {n : Nat} (h : rz_LS S a n) {b : Int32} (hb : rz_ok b) : (∃ k, k < n ∧ rz_mt (a k) b) ↔ ∃ p, p < 512 ∧ S p = true ∧ rz_in b p = true := by
  constructor
  · rintro ⟨k, hk, m⟩
    obtain ⟨p, hp, e1, e2⟩ := (rz_mt_in (h.1 k hk) hb).mp m
    exact ⟨p, hp, (rz_LS_mem h hp).mpr ⟨k, hk, e1⟩, e2⟩
  · rintro ⟨p, hp, e1, e2⟩
    obtain ⟨k, hk, e⟩ := (rz_LS_mem h hp).mp e1
    exact ⟨k, hk, (rz_mt_in (h.1 k hk) hb).mpr ⟨p, hp, e, e2⟩⟩
theorem rz_LS_cn {S : Nat → Bool} {a : Nat → Int32} {n : Nat} (h : rz_LS S a n) : rz_sm (fun p => rz_mu a p n) 512 = rz_cn S 512 :=
  rz_sm_congr (fun p hp => h.2 p hp)
/-- what rule i owns -/
def rz_ow (rb : Nat → Int32) (i p : Nat) : Bool := rz_in (rb i) p && (rz_ff (fun j => rz_in (rb j) p) i).isNone
theorem rz_ow_iff {rb : Nat → Int32} {n i p : Nat} (hi : i < n) : rz_ow rb i p = true ↔ rz_ff (fun j => rz_in (rb j) p) n = some i := by
  unfold rz_ow
  rw [Bool.and_eq_true, Option.isNone_iff_eq_none, rz_ff_none, rz_ff_some]
  exact ⟨fun h => ⟨hi, h.1, h.2⟩, fun h => ⟨h.2.1, h.2.2⟩⟩
end
section
/-! the codes' bits -/
theorem rz_or {k p a b : Nat} (hp : 2 ^ k = p) (hb : b < p) (h : a * p + b < 2 ^ 32) : nI (a * p) ||| nI b = nI (a * p + b) := by
  subst hp
  apply Int32.toBitVec_inj.mp
  apply BitVec.eq_of_toNat_eq
  rw [Int32.toBitVec_or, BitVec.toNat_or, pk_tn (by omega), pk_tn (by omega), pk_tn h, Nat.mul_comm, ← Nat.two_pow_add_eq_or_of_lt hb]
theorem rz_dis (x y z : Int32) : (x ||| y) &&& z = (x &&& z) ||| (y &&& z) := by
  rw [Int32.and_comm (x ||| y), Int32.and_comm x, Int32.and_comm y]
  exact Int32.toBitVec_inj.1 BitVec.and_or_distrib_left
theorem rz_cd_ok {x : Int32} (h : rz_ok x) : rz_cd x := h.1
theorem rz_cd_cl {x : Int32} (h : rz_cd x) : x.toNatClampNeg < 262144 ∧ x = nI x.toNatClampNeg := by
  obtain ⟨n, hn, rfl⟩ := h
  rw [nI_clamp (by omega)]
  exact ⟨hn, rfl⟩
theorem rz_shr {x s m : Int32} {k j : Nat} (h : rz_cd x) (hs : (s.toBitVec.smod 32).toNat = k) (hm : m.toBitVec.toNat = 2 ^ j - 1) : (x >>> s) &&& m = nI (x.toNatClampNeg / 2 ^ k % 2 ^ j) := by
  obtain ⟨h1, h2⟩ := rz_cd_cl h
  generalize x.toNatClampNeg = n at *
  subst h2
  have h3 : n / 2 ^ k ≤ n := Nat.div_le_self _ _
  rw [pk_shrN (by omega) s k hs, pk_andN (by omega) j hm]
theorem rz_efS {x : Int32} (h : rz_cd x) : (x >>> ((14 : Int32) &&& 31)) &&& 15 = nI (rz_fS x) := rz_shr (k := 14) (j := 4) h (by decide) (by decide)
theorem rz_etS {x : Int32} (h : rz_cd x) : (x >>> ((10 : Int32) &&& 31)) &&& 15 = nI (rz_tS x) := rz_shr (k := 10) (j := 4) h (by decide) (by decide)
theorem rz_efD {x : Int32} (h : rz_cd x) : (x >>> ((6 : Int32) &&& 31)) &&& 15 = nI (rz_fD x) := rz_shr (k := 6) (j := 4) h (by decide) (by decide)
theorem rz_etD {x : Int32} (h : rz_cd x) : (x >>> ((2 : Int32) &&& 31)) &&& 15 = nI (rz_tD x) := rz_shr (k := 2) (j := 4) h (by decide) (by decide)
theorem rz_efP {x : Int32} (h : rz_cd x) : (x >>> ((1 : Int32) &&& 31)) &&& 1 = nI (rz_fP x) := rz_shr (k := 1) (j := 1) h (by decide) (by decide)
theorem rz_etP {x : Int32} (h : rz_cd x) : x &&& 1 = nI (rz_tP x) := by
  obtain ⟨h1, h2⟩ := rz_cd_cl h
  unfold rz_tP
  generalize x.toNatClampNeg = n at *
  subst h2
  exact pk_andN (by omega) 1 (by decide)
def rz_wS (x : Int32) (a b : Nat) : Int32 := nI (a * 16384 + (b * 1024 + x.toNatClampNeg % 1024))
def rz_wD (x : Int32) (a b : Nat) : Int32 := nI (x.toNatClampNeg / 1024 * 1024 + (a * 64 + (b * 4 + x.toNatClampNeg % 4)))
def rz_wP (x : Int32) (c : Nat) : Int32 := nI (x.toNatClampNeg / 4 * 4 + c)
theorem rz_eS3 {r a b : Nat} (hr : r < 1024) (ha : a < 16) (hb : b < 16) {s t : Int32} (hs : (s.toBitVec.smod 32).toNat = 14) (ht : (t.toBitVec.smod 32).toNat = 10) : (nI r ||| (nI a <<< s)) ||| (nI b <<< t) = nI (a * 16384 + (b * 1024 + r)) := by
  rw [pk_shlN s 14 hs (by omega), pk_shlN t 10 ht (by omega), Int32.or_comm (nI r), Int32.or_assoc, Int32.or_comm (nI r), rz_or rfl (by omega) (by omega), rz_or rfl (by omega) (by omega)]
theorem rz_ewS {x : Int32} (h : rz_cd x) {a b : Nat} (ha : a < 16) (hb : b < 16) : ((x &&& 1023) ||| (nI a <<< ((14 : Int32) &&& 31))) ||| (nI b <<< ((10 : Int32) &&& 31)) = rz_wS x a b := by
  obtain ⟨h1, h2⟩ := rz_cd_cl h
  unfold rz_wS
  generalize x.toNatClampNeg = n at *
  subst h2
  rw [pk_andN (by omega) 10 (by decide)]
  exact rz_eS3 (Nat.mod_lt _ (by decide)) ha hb (by decide) (by decide)
theorem rz_m1 : ∀ h : Fin 256, nI (h.val * 1024) &&& (-1021) = nI (h.val * 1024) := by decide +kernel
theorem rz_m2 : ∀ h : Fin 256, nI (h.val * 4) &&& (-1021) = 0 := by decide +kernel
theorem rz_m3 : ∀ h : Fin 4, nI h.val &&& (-1021) = nI h.val := by decide +kernel
theorem rz_m4 : ∀ h : Fin 256, nI (h.val * 1024) &&& (-4) = nI (h.val * 1024) := by decide +kernel
theorem rz_m5 : ∀ h : Fin 256, nI (h.val * 4) &&& (-4) = nI (h.val * 4) := by decide +kernel
theorem rz_m6 : ∀ h : Fin 4, nI h.val &&& (-4) = 0 := by decide +kernel
theorem rz_m7 : ∀ h : Fin 256, nI (h.val * 1024) &&& (((255 : Int32) <<< ((10 : Int32) &&& 31)) ^^^ (-1)) = 0 := by decide +kernel
theorem rz_m8 : ∀ h : Fin 1024, nI h.val &&& (((255 : Int32) <<< ((10 : Int32) &&& 31)) ^^^ (-1)) = nI h.val := by decide +kernel
theorem rz_m9 : ∀ h : Fin 4, nI h.val ||| 3 = nI 3 := by decide +kernel
theorem rz_sp {n : Nat} (h : n < 262144) : nI n = nI (n / 1024 * 1024) ||| (nI (n / 4 % 256 * 4) ||| nI (n % 4)) := by
  rw [rz_or (k := 2) (p := 4) rfl (by omega) (by omega), rz_or (k := 10) (p := 1024) rfl (by omega) (by omega)]
  exact congrArg nI (by omega)
theorem rz_and1021 {n : Nat} (h : n < 262144) : nI n &&& (-1021) = nI (n / 1024 * 1024 + n % 4) := by
  rw [rz_sp h, rz_dis, rz_dis, rz_m1 ⟨n / 1024, by omega⟩, rz_m2 ⟨n / 4 % 256, by omega⟩, rz_m3 ⟨n % 4, by omega⟩, Int32.zero_or, rz_or (k := 10) (p := 1024) rfl (by omega) (by omega)]
theorem rz_and4 {n : Nat} (h : n < 262144) : nI n &&& (-4) = nI (n / 4 * 4) := by
  rw [rz_sp h, rz_dis, rz_dis, rz_m4 ⟨n / 1024, by omega⟩, rz_m5 ⟨n / 4 % 256, by omega⟩, rz_m6 ⟨n % 4, by omega⟩, Int32.or_zero, rz_or (k := 10) (p := 1024) rfl (by omega) (by omega)]
  show nI (n / 1024 * 1024 + n / 4 % 256 * 4) = nI (n / 4 * 4)
  exact congrArg nI (by omega)
theorem rz_andS {n : Nat} (h : n < 262144) : nI n &&& (((255 : Int32) <<< ((10 : Int32) &&& 31)) ^^^ (-1)) = nI (n % 1024) := by
  have e : nI n = nI (n / 1024 * 1024) ||| nI (n % 1024) := by
    rw [rz_or (k := 10) (p := 1024) rfl (by omega) (by omega)]
    exact congrArg nI (by omega)
  rw [e, rz_dis, rz_m7 ⟨n / 1024, by omega⟩, rz_m8 ⟨n % 1024, by omega⟩, Int32.zero_or]
theorem rz_or3 {n : Nat} (h : n < 262144) : nI n ||| 3 = nI (n / 4 * 4 + 3) := by
  have e : nI n = nI (n / 4 * 4) ||| nI (n % 4) := by
    rw [rz_or (k := 2) (p := 4) rfl (by omega) (by omega)]
    exact congrArg nI (by omega)
  rw [e, Int32.or_assoc, rz_m9 ⟨n % 4, by omega⟩, rz_or (k := 2) (p := 4) rfl (by omega) (by omega)]
theorem rz_ewD {x : Int32} (h : rz_cd x) {a b : Nat} (ha : a < 16) (hb : b < 16) {s t : Int32} (hs : (s.toBitVec.smod 32).toNat = 6) (ht : (t.toBitVec.smod 32).toNat = 2) : ((x &&& (-1021)) ||| (nI a <<< s)) ||| (nI b <<< t) = rz_wD x a b := by
  obtain ⟨h1, h2⟩ := rz_cd_cl h
  unfold rz_wD
  generalize x.toNatClampNeg = n at *
  subst h2
  rw [rz_and1021 h1, pk_shlN s 6 hs (by omega), pk_shlN t 2 ht (by omega), ← rz_or (k := 10) (p := 1024) rfl (by omega) (by omega), Int32.or_assoc, Int32.or_assoc, Int32.or_comm (nI (n % 4)), Int32.or_assoc, rz_or (k := 2) (p := 2 ^ 2) rfl (by omega) (by omega), rz_or (k := 6) (p := 2 ^ 6) rfl (by omega) (by omega), rz_or (k := 10) (p := 1024) rfl (by omega) (by omega)]
theorem rz_eP0 {x : Int32} (h : rz_cd x) : x &&& (-4) = rz_wP x 0 := by
  obtain ⟨h1, h2⟩ := rz_cd_cl h
  unfold rz_wP
  generalize x.toNatClampNeg = n at *
  subst h2
  exact rz_and4 h1
theorem rz_eP3 {x : Int32} (h : rz_cd x) : x ||| 3 = rz_wP x 3 := by
  obtain ⟨h1, h2⟩ := rz_cd_cl h
  unfold rz_wP
  generalize x.toNatClampNeg = n at *
  subst h2
  exact rz_or3 h1
theorem rz_eP {x : Int32} (h : rz_cd x) {c : Nat} (hc : c < 4) : (x &&& (-4)) ||| nI c = rz_wP x c := by
  obtain ⟨h1, h2⟩ := rz_cd_cl h
  unfold rz_wP
  generalize x.toNatClampNeg = n at *
  subst h2
  rw [rz_and4 h1, rz_or (k := 2) (p := 4) rfl (by omega) (by omega)]
/-! the fields of a changed code -/
theorem rz_wS_n {x : Int32} (_ : rz_cd x) {a b : Nat} (ha : a < 16) (hb : b < 16) : (rz_wS x a b).toNatClampNeg = a * 16384 + (b * 1024 + x.toNatClampNeg % 1024) := nI_clamp (by omega)
theorem rz_wS_c {x : Int32} (_ : rz_cd x) {a b : Nat} (ha : a < 16) (hb : b < 16) : rz_cd (rz_wS x a b) := ⟨_, by omega, rfl⟩
theorem rz_wS_f {x : Int32} (h : rz_cd x) {a b : Nat} (ha : a < 16) (hb : b < 16) : rz_fS (rz_wS x a b) = a ∧ rz_tS (rz_wS x a b) = b ∧ rz_fD (rz_wS x a b) = rz_fD x ∧ rz_tD (rz_wS x a b) = rz_tD x ∧ rz_fP (rz_wS x a b) = rz_fP x ∧ rz_tP (rz_wS x a b) = rz_tP x := by
  unfold rz_fS rz_tS rz_fD rz_tD rz_fP rz_tP
  rw [rz_wS_n h ha hb]
  generalize x.toNatClampNeg = n
  refine ⟨?_, ?_, ?_, ?_, ?_, ?_⟩ <;> omega
theorem rz_wD_n {x : Int32} (h : rz_cd x) {a b : Nat} (ha : a < 16) (hb : b < 16) : (rz_wD x a b).toNatClampNeg = x.toNatClampNeg / 1024 * 1024 + (a * 64 + (b * 4 + x.toNatClampNeg % 4)) := by
  have h1 := (rz_cd_cl h).1
  exact nI_clamp (by omega)
theorem rz_wD_c {x : Int32} (h : rz_cd x) {a b : Nat} (ha : a < 16) (hb : b < 16) : rz_cd (rz_wD x a b) := by
  have h1 := (rz_cd_cl h).1
  exact ⟨_, by omega, rfl⟩
theorem rz_wD_f {x : Int32} (h : rz_cd x) {a b : Nat} (ha : a < 16) (hb : b < 16) : rz_fD (rz_wD x a b) = a ∧ rz_tD (rz_wD x a b) = b ∧ rz_fS (rz_wD x a b) = rz_fS x ∧ rz_tS (rz_wD x a b) = rz_tS x ∧ rz_fP (rz_wD x a b) = rz_fP x ∧ rz_tP (rz_wD x a b) = rz_tP x := by
  unfold rz_fS rz_tS rz_fD rz_tD rz_fP rz_tP
  rw [rz_wD_n h ha hb]
  generalize x.toNatClampNeg = n
  refine ⟨?_, ?_, ?_, ?_, ?_, ?_⟩ <;> omega
theorem rz_wP_n {x : Int32} (h : rz_cd x) {c : Nat} (hc : c < 4) : (rz_wP x c).toNatClampNeg = x.toNatClampNeg / 4 * 4 + c := by
  have h1 := (rz_cd_cl h).1
  exact nI_clamp (by omega)
theorem rz_wP_c {x : Int32} (h : rz_cd x) {c : Nat} (hc : c < 4) : rz_cd (rz_wP x c) := by
  have h1 := (rz_cd_cl h).1
  exact ⟨_, by omega, rfl⟩
theorem rz_wP_f {x : Int32} (h : rz_cd x) {c : Nat} (hc : c < 4) : rz_fP (rz_wP x c) = c / 2 ∧ rz_tP (rz_wP x c) = c % 2 ∧ rz_fS (rz_wP x c) = rz_fS x ∧ rz_tS (rz_wP x c) = rz_tS x ∧ rz_fD (rz_wP x c) = rz_fD x ∧ rz_tD (rz_wP x c) = rz_tD x := by
  unfold rz_fS rz_tS rz_fD rz_tD rz_fP rz_tP
  rw [rz_wP_n h hc]
  generalize x.toNatClampNeg = n
  refine ⟨?_, ?_, ?_, ?_, ?_, ?_⟩ <;> omega
theorem rz_wS_ok {x : Int32} (h : rz_ok x) {a b : Nat} (hab : a ≤ b) (hb : b < 16) : rz_ok (rz_wS x a b) := by
  obtain ⟨e1, e2, e3, e4, e5, e6⟩ := rz_wS_f h.1 (Nat.lt_of_le_of_lt hab hb) hb
  unfold rz_ok
  rw [e1, e2, e3, e4, e5, e6]
  exact ⟨rz_wS_c h.1 (Nat.lt_of_le_of_lt hab hb) hb, hab, h.2.2⟩
theorem rz_wD_ok {x : Int32} (h : rz_ok x) {a b : Nat} (hab : a ≤ b) (hb : b < 16) : rz_ok (rz_wD x a b) := by
  obtain ⟨e1, e2, e3, e4, e5, e6⟩ := rz_wD_f h.1 (Nat.lt_of_le_of_lt hab hb) hb
  unfold rz_ok
  rw [e1, e2, e3, e4, e5, e6]
  exact ⟨rz_wD_c h.1 (Nat.lt_of_le_of_lt hab hb) hb, h.2.1, hab, h.2.2.2⟩
theorem rz_wP_ok {x : Int32} (h : rz_ok x) {c : Nat} (hc : c < 4) (hab : c / 2 ≤ c % 2) : rz_ok (rz_wP x c) := by
  obtain ⟨e1, e2, e3, e4, e5, e6⟩ := rz_wP_f h.1 hc
  unfold rz_ok
  rw [e1, e2, e3, e4, e5, e6]
  exact ⟨rz_wP_c h.1 hc, h.2.1, h.2.2.1, hab⟩
theorem rz_wS_in {x : Int32} (h : rz_cd x) {a b p : Nat} (ha : a < 16) (hb : b < 16) : rz_in (rz_wS x a b) p = (rz_iv a b (p / 32) && (rz_iv (rz_fD x) (rz_tD x) (p % 32 / 2) && rz_iv (rz_fP x) (rz_tP x) (p % 32 % 2))) := by
  obtain ⟨e1, e2, e3, e4, e5, e6⟩ := rz_wS_f h ha hb
  unfold rz_in
  rw [e1, e2, e3, e4, e5, e6]
theorem rz_wD_in {x : Int32} (h : rz_cd x) {a b p : Nat} (ha : a < 16) (hb : b < 16) : rz_in (rz_wD x a b) p = (rz_iv (rz_fS x) (rz_tS x) (p / 32) && (rz_iv a b (p % 32 / 2) && rz_iv (rz_fP x) (rz_tP x) (p % 32 % 2))) := by
  obtain ⟨e1, e2, e3, e4, e5, e6⟩ := rz_wD_f h ha hb
  unfold rz_in
  rw [e1, e2, e3, e4, e5, e6]
theorem rz_wP_in {x : Int32} (h : rz_cd x) {c p : Nat} (hc : c < 4) : rz_in (rz_wP x c) p = (rz_iv (rz_fS x) (rz_tS x) (p / 32) && (rz_iv (rz_fD x) (rz_tD x) (p % 32 / 2) && rz_iv (c / 2) (c % 2) (p % 32 % 2))) := by
  obtain ⟨e1, e2, e3, e4, e5, e6⟩ := rz_wP_f h hc
  unfold rz_in
  rw [e1, e2, e3, e4, e5, e6]
end
section
/-! the component's small methods, over boxes -/
section
variable {dr rc wc pc ac sc : Int32} {rb ra wk ps al sv : Nat → Int32}
theorem rz_xfS {post : Int32 → Prop} {x : Int32} (hx : rz_cd x) (h : post (nI (rz_fS x))) : wpX_fromS post (dr, rc, wc, pc, ac, sc, rb, ra, wk, ps, al, sv) x := by
  show post _
  rw [rz_efS hx]
  exact h
theorem rz_xtS {post : Int32 → Prop} {x : Int32} (hx : rz_cd x) (h : post (nI (rz_tS x))) : wpX_toS post (dr, rc, wc, pc, ac, sc, rb, ra, wk, ps, al, sv) x := by
  show post _
  rw [rz_etS hx]
  exact h
theorem rz_xfD {post : Int32 → Prop} {x : Int32} (hx : rz_cd x) (h : post (nI (rz_fD x))) : wpX_fromD post (dr, rc, wc, pc, ac, sc, rb, ra, wk, ps, al, sv) x := by
  show post _
  rw [rz_efD hx]
  exact h
theorem rz_xtD {post : Int32 → Prop} {x : Int32} (hx : rz_cd x) (h : post (nI (rz_tD x))) : wpX_toD post (dr, rc, wc, pc, ac, sc, rb, ra, wk, ps, al, sv) x := by
  show post _
  rw [rz_etD hx]
  exact h
theorem rz_xfP {post : Int32 → Prop} {x : Int32} (hx : rz_cd x) (h : post (nI (rz_fP x))) : wpX_fromP post (dr, rc, wc, pc, ac, sc, rb, ra, wk, ps, al, sv) x := by
  show post _
  rw [rz_efP hx]
  exact h
theorem rz_xtP {post : Int32 → Prop} {x : Int32} (hx : rz_cd x) (h : post (nI (rz_tP x))) : wpX_toP post (dr, rc, wc, pc, ac, sc, rb, ra, wk, ps, al, sv) x := by
  show post _
  rw [rz_etP hx]
  exact h
theorem rz_xwS {post : Int32 → Prop} {x y z : Int32} (a b : Nat) (hx : rz_cd x) (ha : a < 16) (hb : b < 16) (ea : y = nI a) (eb : z = nI b) (h : post (rz_wS x a b)) : wpX_withS post (dr, rc, wc, pc, ac, sc, rb, ra, wk, ps, al, sv) x y z := by
  subst ea eb
  show post _
  rw [rz_ewS hx ha hb]
  exact h
theorem rz_xwD {post : Int32 → Prop} {x y z : Int32} (a b : Nat) (hx : rz_cd x) (ha : a < 16) (hb : b < 16) (ea : y = nI a) (eb : z = nI b) (h : post (rz_wD x a b)) : wpX_withD post (dr, rc, wc, pc, ac, sc, rb, ra, wk, ps, al, sv) x y z := by
  subst ea eb
  show post _
  rw [rz_ewD hx ha hb (by decide) (by decide)]
  exact h
theorem rz_xmt {post : Int32 → Prop} {a b : Int32} (ha : rz_ok a) (hb : rz_ok b) (h1 : rz_mt a b → post 1) (h0 : ¬ rz_mt a b → post 0) : wpX_meets post (dr, rc, wc, pc, ac, sc, rb, ra, wk, ps, al, sv) a b := by
  have a1 := rz_fSl a
  have a2 := rz_tSl a
  have a3 := rz_fDl a
  have a4 := rz_tDl a
  have a5 := rz_fPl a
  have a6 := rz_tPl a
  have b1 := rz_fSl b
  have b2 := rz_tSl b
  have b3 := rz_fDl b
  have b4 := rz_tDl b
  have b5 := rz_fPl b
  have b6 := rz_tPl b
  unfold wpX_meets
  dsimp only
  refine rz_xfS ha.1 (rz_xtS hb.1 (pk_lt (rz_tS b) (rz_fS a) (fun c => h0 (fun m => ?_)) (fun c1 => rz_xfS hb.1 (rz_xtS ha.1 (pk_le (rz_fS b) (rz_tS a) (fun c2 => ?_) (fun c => h0 (fun m => ?_)))))))
  · have := m.1.1; omega
  · refine rz_xfD ha.1 (rz_xtD hb.1 (pk_lt (rz_tD b) (rz_fD a) (fun c => h0 (fun m => ?_)) (fun c3 => rz_xfD hb.1 (rz_xtD ha.1 (pk_le (rz_fD b) (rz_tD a) (fun c4 => ?_) (fun c => h0 (fun m => ?_)))))))
    · have := m.2.1.1; omega
    · refine rz_xfP ha.1 (rz_xtP hb.1 (pk_lt (rz_tP b) (rz_fP a) (fun c => h0 (fun m => ?_)) (fun c5 => rz_xfP hb.1 (rz_xtP ha.1 (pk_lt (rz_tP a) (rz_fP b) (fun c => h0 (fun m => ?_)) (fun c6 => h1 ⟨⟨c1, c2⟩, ⟨c3, c4⟩, ⟨c5, c6⟩⟩))))))
      · have := m.2.2.1; omega
      · have := m.2.2.2; omega
    · have := m.2.1.2; omega
  · have := m.1.2; omega
theorem rz_xwi {post : Int32 → Prop} {a b : Int32} (ha : rz_ok a) (hb : rz_ok b) (h1 : rz_wi a b → post 1) (h0 : ¬ rz_wi a b → post 0) : wpX_within post (dr, rc, wc, pc, ac, sc, rb, ra, wk, ps, al, sv) a b := by
  have a1 := rz_fSl a
  have a2 := rz_tSl a
  have a3 := rz_fDl a
  have a4 := rz_tDl a
  have a5 := rz_fPl a
  have a6 := rz_tPl a
  have b1 := rz_fSl b
  have b2 := rz_tSl b
  have b3 := rz_fDl b
  have b4 := rz_tDl b
  have b5 := rz_fPl b
  have b6 := rz_tPl b
  unfold wpX_within
  dsimp only
  refine rz_xfS ha.1 (rz_xfS hb.1 (pk_lt (rz_fS a) (rz_fS b) (fun c => h0 (fun m => ?_)) (fun c1 => rz_xtS ha.1 (rz_xtS hb.1 (pk_le (rz_tS a) (rz_tS b) (fun c2 => ?_) (fun c => h0 (fun m => ?_)))))))
  · have := m.1.1; omega
  · refine rz_xfD ha.1 (rz_xfD hb.1 (pk_lt (rz_fD a) (rz_fD b) (fun c => h0 (fun m => ?_)) (fun c3 => rz_xtD ha.1 (rz_xtD hb.1 (pk_le (rz_tD a) (rz_tD b) (fun c4 => ?_) (fun c => h0 (fun m => ?_)))))))
    · have := m.2.1.1; omega
    · refine rz_xfP ha.1 (rz_xfP hb.1 (pk_lt (rz_fP a) (rz_fP b) (fun c => h0 (fun m => ?_)) (fun c5 => rz_xtP ha.1 (rz_xtP hb.1 (pk_lt (rz_tP b) (rz_tP a) (fun c => h0 (fun m => ?_)) (fun c6 => h1 ⟨⟨c1, c2⟩, ⟨c3, c4⟩, ⟨c5, c6⟩⟩))))))
      · have := m.2.2.1; omega
      · have := m.2.2.2; omega
    · have := m.2.1.2; omega
  · have := m.1.2; omega
theorem rz_len {a b : Nat} (h : a ≤ b) : nI b - nI a + 1 = nI (b + 1 - a) := by
  rw [pk_sub h, nI_1]
  exact congrArg nI (by omega)
theorem rz_xvol {post : Int32 → Prop} {x : Int32} (hx : rz_ok x) (h : post (nI (rz_vol x))) : wpX_volume post (dr, rc, wc, pc, ac, sc, rb, ra, wk, ps, al, sv) x := by
  unfold wpX_volume
  dsimp only
  refine rz_xtS hx.1 (rz_xfS hx.1 (nm_r (rz_len hx.2.1) (rz_xtD hx.1 (rz_xfD hx.1 (nm_r (rz_len hx.2.2.1) (rz_xtP hx.1 (rz_xfP hx.1 (nm_r (rz_len hx.2.2.2) ?_))))))))
  rw [pk_mul, pk_mul, Nat.mul_assoc]
  exact h
theorem rz_xadd {post : SX → Prop} {g : Nat → Nat} {n : Nat} {x : Int32} (hP : rz_LG g ps n) (hx : rz_ok x) (hg : ∀ p, p < 512 → g p + (rz_in x p).toNat ≤ 1) (h : ∀ ps', rz_LG (fun p => g p + (rz_in x p).toNat) ps' (n + 1) → post (dr, rc, wc, nI (n + 1), ac, sc, rb, ra, wk, ps', al, sv)) : wpX_addPiece post (dr, rc, wc, nI n, ac, sc, rb, ra, wk, ps, al, sv) x := by
  have hL := rz_LG_push hP hx
  have hn : n + 1 ≤ 512 := rz_room hL hg
  unfold wpX_addPiece
  dsimp only
  refine ⟨vp_in_nI (by omega) (by decide), nm_r (e' := upd ps n x) (by rw [nI_clamp (by omega)]) (nm_r (nI_1 n) (h _ hL))⟩
end
end
section
/-! carving a box -/
theorem rz_iv_lo {a b m s : Nat} (h1 : a < m) (h2 : m ≤ b) : rz_iv a (m - 1) s = (rz_iv a b s && decide (s < m)) := by
  rw [Bool.eq_iff_iff, Bool.and_eq_true, rz_iv_t, rz_iv_t, decide_eq_true_iff]; omega
theorem rz_iv_hi {a b m s : Nat} (h1 : a ≤ m) (h2 : m < b) : rz_iv (m + 1) b s = (rz_iv a b s && decide (m < s)) := by
  rw [Bool.eq_iff_iff, Bool.and_eq_true, rz_iv_t, rz_iv_t, decide_eq_true_iff]; omega
theorem rz_iv_mid (a b c d s : Nat) : rz_iv (max a c) (min b d) s = (rz_iv a b s && rz_iv c d s) := by
  rw [Bool.eq_iff_iff, Bool.and_eq_true, rz_iv_t, rz_iv_t, rz_iv_t]; omega
theorem rz_b1 (a x d q : Bool) : ((a && x) && (d && q)) = ((a && (d && q)) && x) := by cases a <;> cases x <;> cases d <;> cases q <;> rfl
theorem rz_b2 (a x d q : Bool) : (d && ((a && x) && q)) = ((d && (a && q)) && x) := by cases a <;> cases x <;> cases d <;> cases q <;> rfl
theorem rz_b3 (a x d q : Bool) : (d && (q && (a && x))) = ((d && (q && a)) && x) := by cases a <;> cases x <;> cases d <;> cases q <;> rfl
theorem rz_c3 (u s d q : Bool) : (u && !s).toNat + ((u && s) && !d).toNat + (((u && s) && d) && !q).toNat = (u && !(s && (d && q))).toNat := by cases u <;> cases s <;> cases d <;> cases q <;> rfl
theorem rz_tri {u : Bool} {a b s : Nat} (h : a ≤ b) : (u && decide (s < a)).toNat + (u && decide (b < s)).toNat = (u && !rz_iv a b s).toNat := by
  cases u with
  | false => rfl
  | true =>
    by_cases h1 : s < a
    · have h2 : ¬ b < s := by omega
      have h3 : rz_iv a b s = false := Bool.eq_false_iff.mpr (fun z => by have := rz_iv_t.mp z; omega)
      rw [h3, decide_eq_true h1, decide_eq_false h2]; rfl
    · by_cases h2 : b < s
      · have h3 : rz_iv a b s = false := Bool.eq_false_iff.mpr (fun z => by have := rz_iv_t.mp z; omega)
        rw [h3, decide_eq_false h1, decide_eq_true h2]; rfl
      · have h3 : rz_iv a b s = true := rz_iv_t.mpr (by omega)
        rw [h3, decide_eq_false h1, decide_eq_false h2]; rfl
theorem rz_and_f {u v : Bool} (h : u = true → v = false) : (u && v).toNat = 0 := by
  cases u with
  | false => rfl
  | true => rw [h rfl]; rfl
theorem rz_wS_lo {b : Int32} (h : rz_cd b) {m p : Nat} (h1 : rz_fS b < m) (h2 : m ≤ rz_tS b) : rz_in (rz_wS b (rz_fS b) (m - 1)) p = (rz_in b p && decide (p / 32 < m)) := by
  have l := rz_tSl b
  rw [rz_wS_in h (rz_fSl b) (by omega), rz_iv_lo h1 h2, rz_b1]; rfl
theorem rz_wS_hi {b : Int32} (h : rz_cd b) {m p : Nat} (h1 : rz_fS b ≤ m) (h2 : m < rz_tS b) : rz_in (rz_wS b (m + 1) (rz_tS b)) p = (rz_in b p && decide (m < p / 32)) := by
  have l := rz_tSl b
  rw [rz_wS_in h (by omega) l, rz_iv_hi h1 h2, rz_b1]; rfl
theorem rz_wS_mid {b : Int32} (h : rz_cd b) {c d p : Nat} (hc : c < 16) : rz_in (rz_wS b (max (rz_fS b) c) (min (rz_tS b) d)) p = (rz_in b p && rz_iv c d (p / 32)) := by
  have l := rz_tSl b
  have l2 := rz_fSl b
  rw [rz_wS_in h (by omega) (by omega), rz_iv_mid, rz_b1]; rfl
theorem rz_wD_lo {b : Int32} (h : rz_cd b) {m p : Nat} (h1 : rz_fD b < m) (h2 : m ≤ rz_tD b) : rz_in (rz_wD b (rz_fD b) (m - 1)) p = (rz_in b p && decide (p % 32 / 2 < m)) := by
  have l := rz_tDl b
  rw [rz_wD_in h (rz_fDl b) (by omega), rz_iv_lo h1 h2, rz_b2]; rfl
theorem rz_wD_hi {b : Int32} (h : rz_cd b) {m p : Nat} (h1 : rz_fD b ≤ m) (h2 : m < rz_tD b) : rz_in (rz_wD b (m + 1) (rz_tD b)) p = (rz_in b p && decide (m < p % 32 / 2)) := by
  have l := rz_tDl b
  rw [rz_wD_in h (by omega) l, rz_iv_hi h1 h2, rz_b2]; rfl
theorem rz_wD_mid {b : Int32} (h : rz_cd b) {c d p : Nat} (hc : c < 16) : rz_in (rz_wD b (max (rz_fD b) c) (min (rz_tD b) d)) p = (rz_in b p && rz_iv c d (p % 32 / 2)) := by
  have l := rz_tDl b
  have l2 := rz_fDl b
  rw [rz_wD_in h (by omega) (by omega), rz_iv_mid, rz_b2]; rfl
theorem rz_wP_lo {b : Int32} (h : rz_cd b) {m p : Nat} (h1 : rz_fP b < m) (h2 : m ≤ rz_tP b) : rz_in (rz_wP b 0) p = (rz_in b p && decide (p % 32 % 2 < m)) := by
  have l := rz_tPl b
  have e0 : rz_fP b = 0 := by omega
  have e1 : rz_tP b = 1 := by omega
  have e2 : m = 1 := by omega
  have e := rz_iv_lo (s := p % 32 % 2) h1 h2
  rw [rz_wP_in h (by decide), show (0 / 2 : Nat) = rz_fP b from e0.symm, show (0 % 2 : Nat) = m - 1 from by omega, e, rz_b3]; rfl
theorem rz_wP_hi {b : Int32} (h : rz_cd b) {m p : Nat} (h1 : rz_fP b ≤ m) (h2 : m < rz_tP b) : rz_in (rz_wP b 3) p = (rz_in b p && decide (m < p % 32 % 2)) := by
  have l := rz_tPl b
  have e1 : rz_tP b = 1 := by omega
  have e2 : m = 0 := by omega
  have e := rz_iv_hi (s := p % 32 % 2) h1 h2
  rw [rz_wP_in h (by decide), show (3 % 2 : Nat) = rz_tP b from e1.symm, show (3 / 2 : Nat) = m + 1 from by omega, e, rz_b3]; rfl
section
variable {dr rc wc pc ac sc : Int32} {rb ra wk ps al sv : Nat → Int32}
theorem rz_xcS54 {post : Int32 → SX → Prop} {g : Nat → Nat} {n f tc : Nat} {b : Int32} (hb : rz_ok b) (hf0 : rz_fS b ≤ f) (hf : f ≤ rz_tS b) (hf2 : f ≤ tc) (ht : tc < 16) (hP : rz_LG g ps n) (hg : ∀ p, p < 512 → g p + (rz_in b p && decide (tc < p / 32)).toNat ≤ 1) (h : ∀ ps' n', rz_LG (fun p => g p + (rz_in b p && decide (tc < p / 32)).toNat) ps' n' → post (rz_wS b f (min (rz_tS b) tc)) (dr, rc, wc, nI n', ac, sc, rb, ra, wk, ps', al, sv)) : wX_carveS_54 post b (nI f) (nI (rz_tS b)) (nI tc) dr rc wc (nI n) ac sc rb ra wk ps al sv := by
  have l := rz_tSl b
  unfold wX_carveS_54
  refine pk_le (rz_tS b) tc (fun c => ?_) (fun c => ?_)
  · unfold wX_carveS_84
    refine rz_xwS f (rz_tS b) hb.1 (by omega) l rfl rfl ?_
    rw [show min (rz_tS b) tc = rz_tS b from by omega] at h
    refine h _ _ (rz_LG_congr hP (fun p hp => ?_))
    have e : (rz_in b p && decide (tc < p / 32)).toNat = 0 := rz_and_f (fun z => decide_eq_false (by
      have := (rz_in_t.mp z).1.2; omega))
    show g p = g p + _
    rw [e]; rfl
  · refine rz_xwS (tc + 1) (rz_tS b) hb.1 (by omega) l (nI_1 tc) rfl ?_
    have e : ∀ p, rz_in (rz_wS b (tc + 1) (rz_tS b)) p = (rz_in b p && decide (tc < p / 32)) := fun p => rz_wS_hi hb.1 (by omega) c
    refine rz_xadd hP (rz_wS_ok hb (by omega) l) (fun p hp => by rw [e]; exact hg p hp) (fun ps' hP' => ?_)
    dsimp only
    unfold wX_carveS_84
    refine rz_xwS f tc hb.1 (by omega) ht rfl rfl ?_
    rw [show min (rz_tS b) tc = tc from by omega] at h
    exact h _ _ (rz_LG_congr hP' (fun p hp => by rw [e]))
theorem rz_xcS {post : Int32 → SX → Prop} {g : Nat → Nat} {n : Nat} {b c : Int32} (hb : rz_ok b) (hc : rz_ok c) (hm1 : rz_fS b ≤ rz_tS c) (hm2 : rz_fS c ≤ rz_tS b) (hP : rz_LG g ps n) (hg : ∀ p, p < 512 → g p + (rz_in b p && !rz_iv (rz_fS c) (rz_tS c) (p / 32)).toNat ≤ 1) (h : ∀ ps' n', rz_LG (fun p => g p + (rz_in b p && !rz_iv (rz_fS c) (rz_tS c) (p / 32)).toNat) ps' n' → post (rz_wS b (max (rz_fS b) (rz_fS c)) (min (rz_tS b) (rz_tS c))) (dr, rc, wc, nI n', ac, sc, rb, ra, wk, ps', al, sv)) : wpX_carveS post (dr, rc, wc, nI n, ac, sc, rb, ra, wk, ps, al, sv) b c := by
  have l1 := rz_fSl b
  have l2 := rz_tSl b
  have l3 := rz_fSl c
  have l4 := rz_tSl c
  have hbl : rz_fS b ≤ rz_tS b := hb.2.1
  have hcl : rz_fS c ≤ rz_tS c := hc.2.1
  unfold wpX_carveS
  dsimp only
  refine rz_xfS hb.1 (rz_xtS hb.1 (rz_xfS hc.1 (rz_xtS hc.1 (pk_le (rz_fS c) (rz_fS b) (fun k => ?_) (fun k => ?_)))))
  · have e : ∀ p, (rz_in b p && decide (rz_tS c < p / 32)).toNat = (rz_in b p && !rz_iv (rz_fS c) (rz_tS c) (p / 32)).toNat := by
      intro p
      rw [← rz_tri hcl, rz_and_f (u := rz_in b p) (v := decide (p / 32 < rz_fS c)) (fun z => decide_eq_false (by
        have := (rz_in_t.mp z).1.1; omega)), Nat.zero_add]
    rw [show max (rz_fS b) (rz_fS c) = rz_fS b from by omega] at h
    exact rz_xcS54 hb (Nat.le_refl _) hbl hm1 l4 hP (fun p hp => by rw [e]; exact hg p hp) (fun ps' n' hP' => h _ _ (rz_LG_congr hP' (fun p hp => by rw [e])))
  · refine rz_xwS (rz_fS b) (rz_fS c - 1) hb.1 l1 (by omega) rfl (by rw [← nI_pred (rz_fS c - 1), Nat.sub_add_cancel (by omega)]) ?_
    have e : ∀ p, rz_in (rz_wS b (rz_fS b) (rz_fS c - 1)) p = (rz_in b p && decide (p / 32 < rz_fS c)) := fun p => rz_wS_lo hb.1 k hm2
    have t : ∀ p, (rz_in b p && decide (p / 32 < rz_fS c)).toNat + (rz_in b p && decide (rz_tS c < p / 32)).toNat = (rz_in b p && !rz_iv (rz_fS c) (rz_tS c) (p / 32)).toNat := fun p => rz_tri hcl
    refine rz_xadd hP (rz_wS_ok hb (by omega) (by omega)) (fun p hp => ?_) (fun ps' hP' => ?_)
    · have h1 := hg p hp
      have h2 := t p
      rw [e]; omega
    · dsimp only
      rw [show max (rz_fS b) (rz_fS c) = rz_fS c from by omega] at h
      refine rz_xcS54 hb (by omega) hm2 hcl l4 hP' (fun p hp => ?_) (fun ps'' n'' hP'' => h _ _ (rz_LG_congr hP'' (fun p hp => ?_)))
      · have h1 := hg p hp
        have h2 := t p
        rw [e]; omega
      · have h2 := t p
        rw [e]; omega
theorem rz_xcD54 {post : Int32 → SX → Prop} {g : Nat → Nat} {n f tc : Nat} {b : Int32} (hb : rz_ok b) (hf0 : rz_fD b ≤ f) (hf : f ≤ rz_tD b) (hf2 : f ≤ tc) (ht : tc < 16) (hP : rz_LG g ps n) (hg : ∀ p, p < 512 → g p + (rz_in b p && decide (tc < p % 32 / 2)).toNat ≤ 1) (h : ∀ ps' n', rz_LG (fun p => g p + (rz_in b p && decide (tc < p % 32 / 2)).toNat) ps' n' → post (rz_wD b f (min (rz_tD b) tc)) (dr, rc, wc, nI n', ac, sc, rb, ra, wk, ps', al, sv)) : wX_carveD_54 post b (nI f) (nI (rz_tD b)) (nI tc) dr rc wc (nI n) ac sc rb ra wk ps al sv := by
  have l := rz_tDl b
  unfold wX_carveD_54
  refine pk_le (rz_tD b) tc (fun c => ?_) (fun c => ?_)
  · unfold wX_carveD_84
    refine rz_xwD f (rz_tD b) hb.1 (by omega) l rfl rfl ?_
    rw [show min (rz_tD b) tc = rz_tD b from by omega] at h
    refine h _ _ (rz_LG_congr hP (fun p hp => ?_))
    have e : (rz_in b p && decide (tc < p % 32 / 2)).toNat = 0 := rz_and_f (fun z => decide_eq_false (by
      have := (rz_in_t.mp z).2.1.2; omega))
    show g p = g p + _
    rw [e]; rfl
  · refine rz_xwD (tc + 1) (rz_tD b) hb.1 (by omega) l (nI_1 tc) rfl ?_
    have e : ∀ p, rz_in (rz_wD b (tc + 1) (rz_tD b)) p = (rz_in b p && decide (tc < p % 32 / 2)) := fun p => rz_wD_hi hb.1 (by omega) c
    refine rz_xadd hP (rz_wD_ok hb (by omega) l) (fun p hp => by rw [e]; exact hg p hp) (fun ps' hP' => ?_)
    dsimp only
    unfold wX_carveD_84
    refine rz_xwD f tc hb.1 (by omega) ht rfl rfl ?_
    rw [show min (rz_tD b) tc = tc from by omega] at h
    exact h _ _ (rz_LG_congr hP' (fun p hp => by rw [e]))
theorem rz_xcD {post : Int32 → SX → Prop} {g : Nat → Nat} {n : Nat} {b c : Int32} (hb : rz_ok b) (hc : rz_ok c) (hm1 : rz_fD b ≤ rz_tD c) (hm2 : rz_fD c ≤ rz_tD b) (hP : rz_LG g ps n) (hg : ∀ p, p < 512 → g p + (rz_in b p && !rz_iv (rz_fD c) (rz_tD c) (p % 32 / 2)).toNat ≤ 1) (h : ∀ ps' n', rz_LG (fun p => g p + (rz_in b p && !rz_iv (rz_fD c) (rz_tD c) (p % 32 / 2)).toNat) ps' n' → post (rz_wD b (max (rz_fD b) (rz_fD c)) (min (rz_tD b) (rz_tD c))) (dr, rc, wc, nI n', ac, sc, rb, ra, wk, ps', al, sv)) : wpX_carveD post (dr, rc, wc, nI n, ac, sc, rb, ra, wk, ps, al, sv) b c := by
  have l1 := rz_fDl b
  have l2 := rz_tDl b
  have l3 := rz_fDl c
  have l4 := rz_tDl c
  have hbl : rz_fD b ≤ rz_tD b := hb.2.2.1
  have hcl : rz_fD c ≤ rz_tD c := hc.2.2.1
  unfold wpX_carveD
  dsimp only
  refine rz_xfD hb.1 (rz_xtD hb.1 (rz_xfD hc.1 (rz_xtD hc.1 (pk_le (rz_fD c) (rz_fD b) (fun k => ?_) (fun k => ?_)))))
  · have e : ∀ p, (rz_in b p && decide (rz_tD c < p % 32 / 2)).toNat = (rz_in b p && !rz_iv (rz_fD c) (rz_tD c) (p % 32 / 2)).toNat := by
      intro p
      rw [← rz_tri hcl, rz_and_f (u := rz_in b p) (v := decide (p % 32 / 2 < rz_fD c)) (fun z => decide_eq_false (by
        have := (rz_in_t.mp z).2.1.1; omega)), Nat.zero_add]
    rw [show max (rz_fD b) (rz_fD c) = rz_fD b from by omega] at h
    exact rz_xcD54 hb (Nat.le_refl _) hbl hm1 l4 hP (fun p hp => by rw [e]; exact hg p hp) (fun ps' n' hP' => h _ _ (rz_LG_congr hP' (fun p hp => by rw [e])))
  · refine rz_xwD (rz_fD b) (rz_fD c - 1) hb.1 l1 (by omega) rfl (by rw [← nI_pred (rz_fD c - 1), Nat.sub_add_cancel (by omega)]) ?_
    have e : ∀ p, rz_in (rz_wD b (rz_fD b) (rz_fD c - 1)) p = (rz_in b p && decide (p % 32 / 2 < rz_fD c)) := fun p => rz_wD_lo hb.1 k hm2
    have t : ∀ p, (rz_in b p && decide (p % 32 / 2 < rz_fD c)).toNat + (rz_in b p && decide (rz_tD c < p % 32 / 2)).toNat = (rz_in b p && !rz_iv (rz_fD c) (rz_tD c) (p % 32 / 2)).toNat := fun p => rz_tri hcl
    refine rz_xadd hP (rz_wD_ok hb (by omega) (by omega)) (fun p hp => ?_) (fun ps' hP' => ?_)
    · have h1 := hg p hp
      have h2 := t p
      rw [e]; omega
    · dsimp only
      rw [show max (rz_fD b) (rz_fD c) = rz_fD c from by omega] at h
      refine rz_xcD54 hb (by omega) hm2 hcl l4 hP' (fun p hp => ?_) (fun ps'' n'' hP'' => h _ _ (rz_LG_congr hP'' (fun p hp => ?_)))
      · have h1 := hg p hp
        have h2 := t p
        rw [e]; omega
      · have h2 := t p
        rw [e]; omega
theorem rz_xcP35 {post : SX → Prop} {g : Nat → Nat} {n : Nat} {r c : Int32} (hr : rz_ok r) (hc : rz_ok c) (hm : rz_fP r ≤ rz_tP c) (hP : rz_LG g ps n) (hg : ∀ p, p < 512 → g p + (rz_in r p && decide (rz_tP c < p % 32 % 2)).toNat ≤ 1) (h : ∀ ps' n', rz_LG (fun p => g p + (rz_in r p && decide (rz_tP c < p % 32 % 2)).toNat) ps' n' → post (dr, rc, wc, nI n', ac, sc, rb, ra, wk, ps', al, sv)) : wX_carve_35 post c r dr rc wc (nI n) ac sc rb ra wk ps al sv := by
  have l := rz_tPl r
  have l2 := rz_tPl c
  unfold wX_carve_35
  refine rz_xtP hr.1 (rz_xtP hc.1 (pk_le (rz_tP r) (rz_tP c) (fun k => ?_) (fun k => ?_)))
  · refine h _ _ (rz_LG_congr hP (fun p hp => ?_))
    have e : (rz_in r p && decide (rz_tP c < p % 32 % 2)).toNat = 0 := rz_and_f (fun z => decide_eq_false (by
      have := (rz_in_t.mp z).2.2.2; omega))
    show g p = g p + _
    rw [e]; rfl
  · have e : ∀ p, rz_in (rz_wP r 3) p = (rz_in r p && decide (rz_tP c < p % 32 % 2)) := fun p => rz_wP_hi hr.1 hm k
    rw [rz_eP3 hr.1]
    refine rz_xadd hP (rz_wP_ok hr (by decide) (by decide)) (fun p hp => by rw [e]; exact hg p hp) (fun ps' hP' => ?_)
    exact h _ _ (rz_LG_congr hP' (fun p hp => by rw [e]))
theorem rz_xcarve {post : SX → Prop} {g : Nat → Nat} {n : Nat} {b c : Int32} (hb : rz_ok b) (hc : rz_ok c) (hm : rz_mt b c) (hP : rz_LG g ps n) (hg : ∀ p, p < 512 → g p + (rz_in b p && !rz_in c p).toNat ≤ 1) (h : ∀ ps' n', rz_LG (fun p => g p + (rz_in b p && !rz_in c p).toNat) ps' n' → post (dr, rc, wc, nI n', ac, sc, rb, ra, wk, ps', al, sv)) : wpX_carve post (dr, rc, wc, nI n, ac, sc, rb, ra, wk, ps, al, sv) b c := by
  have q1 := rz_fSl b
  have q2 := rz_tSl b
  have q3 := rz_fSl c
  have q4 := rz_tSl c
  have q5 := rz_fDl b
  have q6 := rz_tDl b
  have q7 := rz_fDl c
  have q8 := rz_tDl c
  have q9 := rz_fPl c
  have q10 := rz_tPl c
  obtain ⟨⟨m1, m2⟩, ⟨m3, m4⟩, ⟨m5, m6⟩⟩ := hm
  have ob1 := hb.2.1
  have ob2 := hb.2.2.1
  have oc1 := hc.2.1
  have oc2 := hc.2.2.1
  have oc3 := hc.2.2.2
  have e1 : ∀ p, rz_in (rz_wS b (max (rz_fS b) (rz_fS c)) (min (rz_tS b) (rz_tS c))) p = (rz_in b p && rz_iv (rz_fS c) (rz_tS c) (p / 32)) := fun p => rz_wS_mid hb.1 q3
  have o1 : rz_ok (rz_wS b (max (rz_fS b) (rz_fS c)) (min (rz_tS b) (rz_tS c))) := rz_wS_ok hb (by omega) (by omega)
  obtain ⟨_, _, f3, f4, f5, f6⟩ := rz_wS_f hb.1 (a := max (rz_fS b) (rz_fS c)) (b := min (rz_tS b) (rz_tS c)) (by omega) (by omega)
  have T : ∀ p, (rz_in b p && !rz_iv (rz_fS c) (rz_tS c) (p / 32)).toNat + ((rz_in b p && rz_iv (rz_fS c) (rz_tS c) (p / 32)) && !rz_iv (rz_fD c) (rz_tD c) (p % 32 / 2)).toNat + (((rz_in b p && rz_iv (rz_fS c) (rz_tS c) (p / 32)) && rz_iv (rz_fD c) (rz_tD c) (p % 32 / 2)) && !rz_iv (rz_fP c) (rz_tP c) (p % 32 % 2)).toNat = (rz_in b p && !rz_in c p).toNat := fun p => rz_c3 _ _ _ _
  unfold wpX_carve
  dsimp only
  refine rz_xcS hb hc m1 m2 hP (fun p hp => by have h1 := hg p hp; have h2 := T p; omega) (fun ps1 n1 hP1 => ?_)
  dsimp only
  generalize rz_wS b (max (rz_fS b) (rz_fS c)) (min (rz_tS b) (rz_tS c)) = r at *
  have e2 : ∀ p, rz_in (rz_wD r (max (rz_fD r) (rz_fD c)) (min (rz_tD r) (rz_tD c))) p = (rz_in r p && rz_iv (rz_fD c) (rz_tD c) (p % 32 / 2)) := fun p => rz_wD_mid o1.1 q7
  have o2 : rz_ok (rz_wD r (max (rz_fD r) (rz_fD c)) (min (rz_tD r) (rz_tD c))) := rz_wD_ok o1 (by omega) (by omega)
  obtain ⟨_, _, _, _, f7, f8⟩ := rz_wD_f o1.1 (a := max (rz_fD r) (rz_fD c)) (b := min (rz_tD r) (rz_tD c)) (by omega) (by omega)
  refine rz_xcD o1 hc (by omega) (by omega) hP1 (fun p hp => by have h1 := hg p hp; have h2 := T p; rw [e1]; omega) (fun ps2 n2 hP2 => ?_)
  dsimp only
  generalize rz_wD r (max (rz_fD r) (rz_fD c)) (min (rz_tD r) (rz_tD c)) = t at *
  have q11 := rz_fPl t
  have q12 := rz_tPl t
  have T2 : ∀ p, (rz_in t p && decide (p % 32 % 2 < rz_fP c)).toNat + (rz_in t p && decide (rz_tP c < p % 32 % 2)).toNat = (rz_in t p && !rz_iv (rz_fP c) (rz_tP c) (p % 32 % 2)).toNat := fun p => rz_tri oc3
  have T3 : ∀ p, g p + (rz_in b p && !rz_iv (rz_fS c) (rz_tS c) (p / 32)).toNat + (rz_in r p && !rz_iv (rz_fD c) (rz_tD c) (p % 32 / 2)).toNat + (rz_in t p && decide (p % 32 % 2 < rz_fP c)).toNat + (rz_in t p && decide (rz_tP c < p % 32 % 2)).toNat = g p + (rz_in b p && !rz_in c p).toNat := by
    intro p
    have h1 := T p
    have h2 := T2 p
    rw [e2, e1] at h2
    rw [e2, e1]
    omega
  refine rz_xfP o2.1 (rz_xfP hc.1 (pk_le (rz_fP c) (rz_fP t) (fun k => ?_) (fun k => ?_)))
  · have e : ∀ p, (rz_in t p && decide (p % 32 % 2 < rz_fP c)).toNat = 0 := fun p => rz_and_f (fun z => decide_eq_false (by
      have := (rz_in_t.mp z).2.2.1; omega))
    refine rz_xcP35 o2 hc (by omega) hP2 (fun p hp => ?_) (fun ps3 n3 hP3 => h _ _ (rz_LG_congr hP3 (fun p hp => ?_)))
    · have h1 := hg p hp
      have h2 := T3 p
      have h3 := e p
      omega
    · have h2 := T3 p
      have h3 := e p
      omega
  · have e : ∀ p, rz_in (rz_wP t 0) p = (rz_in t p && decide (p % 32 % 2 < rz_fP c)) := fun p => rz_wP_lo o2.1 k (by omega)
    rw [rz_eP0 o2.1]
    refine rz_xadd hP2 (rz_wP_ok o2 (by decide) (by decide)) (fun p hp => ?_) (fun ps3 hP3 => ?_)
    · have h1 := hg p hp
      have h2 := T3 p
      rw [e]; omega
    · dsimp only
      refine rz_xcP35 o2 hc (by omega) hP3 (fun p hp => ?_) (fun ps4 n4 hP4 => h _ _ (rz_LG_congr hP4 (fun p hp => ?_)))
      · have h1 := hg p hp
        have h2 := T3 p
        rw [e]; omega
      · have h2 := T3 p
        rw [e]; omega
end
end
section
/-! the component's loops over lists of boxes -/
theorem rz_isN (Q : Nat → Bool) (n : Nat) : (rz_ff Q (n + 1)).isNone = ((rz_ff Q n).isNone && !Q n) := by
  show ((rz_ff Q n).or (if Q n = true then some n else none)).isNone = _
  cases rz_ff Q n <;> cases Q n <;> rfl
theorem rz_mu_s (a : Nat → Int32) (p n : Nat) : rz_mu a p (n + 1) = rz_mu a p n + (rz_in (a n) p).toNat := rfl
theorem rz_toN1 (b : Bool) : b.toNat ≤ 1 := Bool.toNat_le b
theorem rz_LS_mu {S : Nat → Bool} {a : Nat → Int32} {n p : Nat} (h : rz_LS S a n) (hp : p < 512) : rz_mu a p n = (S p).toNat := h.2 p hp
theorem rz_x10 : ¬ (1 : Int32) = 0 := by decide
section
variable {dr rc wc pc ac sc : Int32} {rb ra wk ps al sv : Nat → Int32}
theorem rz_xs61 {post : SX → Prop} {n : Nat} (hn : n ≤ 512) (h : ∀ wk', (∀ j, j < n → wk' j = ps j) → post (dr, rc, nI n, nI n, ac, sc, rb, ra, wk', ps, al, sv)) : ∀ (d k : Nat) (wk : Nat → Int32), k + d = n → (∀ j, j < k → wk j = ps j) → wX_subtract_61 post dr rc wc (nI n) ac sc (d + 1) (nI k) rb ra wk ps al sv := by
  intro d
  induction d with
  | zero =>
    intro k wk hk hw
    have e : k = n := by omega
    subst e
    exact br_t (nI_le (Nat.le_refl _) (by omega)) (h wk hw)
  | succ d ih =>
    intro k wk hk hw
    have i1 : vp_in (nI k) 512 := vp_in_nI (by omega) (by decide)
    refine br_f (nI_ge (by omega) (by omega)) ⟨i1, i1, nm_r (e' := upd wk k (ps k)) (by rw [nI_clamp (by omega)]) (nm_r (nI_1 k) (ih (k + 1) _ (by omega) (fun j hj => ?_)))⟩
    by_cases c : j = k
    · subst c; exact pk_us
    · rw [pk_un c]; exact hw j (by omega)
theorem rz_xs7 {post : SX → Prop} {c : Int32} {S : Nat → Bool} {m : Nat} (hc : rz_ok c) (hW : rz_LS S wk m) (h : ∀ wk' ps' n', rz_LS (fun p => S p && !rz_in c p) wk' n' → post (dr, rc, nI n', nI n', ac, sc, rb, ra, wk', ps', al, sv)) : ∀ (d k : Nat) (ps : Nat → Int32) (n : Nat), k + d = m → rz_LG (fun p => if rz_in c p = true then 0 else rz_mu wk p k) ps n → wX_subtract_7 post c (d + 1) (nI k) dr rc (nI m) (nI n) ac sc rb ra wk ps al sv := by
  have hm : m ≤ 512 := rz_LS_room hW
  intro d
  induction d with
  | zero =>
    intro k ps n hk hP
    have e : k = m := by omega
    subst e
    have hL : rz_LS (fun p => S p && !rz_in c p) ps n := rz_LG_congr hP (fun p hp => by
      have h1 := rz_LS_mu hW hp
      dsimp only
      rw [h1]
      cases rz_in c p <;> cases S p <;> rfl)
    refine br_t (nI_le (Nat.le_refl _) (by omega)) ⟨n + 1, rz_xs61 (rz_LS_room hL) (fun wk' hw => h _ _ _ (rz_LG_arr hL hw)) n 0 wk (by omega) (fun j hj => absurd hj (Nat.not_lt_zero j))⟩
  | succ d ih =>
    intro k ps n hk hP
    have i1 : vp_in (nI k) 512 := vp_in_nI (by omega) (by decide)
    have ek : (nI k).toNatClampNeg = k := nI_clamp (by omega)
    have ok := hW.1 k (by omega)
    have mono : ∀ p, p < 512 → rz_mu wk p k + (rz_in (wk k) p).toNat ≤ 1 := fun p hp => by
      have h1 := rz_LS_mu hW hp
      have h2 : rz_mu wk p (k + 1) ≤ rz_mu wk p m := rz_mu_mono (by omega)
      have h3 := rz_toN1 (S p)
      rw [rz_mu_s] at h2
      omega
    refine br_f (nI_ge (by omega) (by omega)) ?_
    rw [ek]
    refine ⟨i1, rz_xmt ok hc (fun mt => br_f rz_x10 ⟨i1, ?_⟩) (fun mt => br_t rfl ⟨i1, ?_⟩)⟩
    · have e : ∀ p, p < 512 → (if rz_in c p = true then 0 else rz_mu wk p k) + (rz_in (wk k) p && !rz_in c p).toNat = if rz_in c p = true then 0 else rz_mu wk p (k + 1) := by
        intro p hp
        rw [rz_mu_s]
        cases rz_in c p <;> cases rz_in (wk k) p <;> rfl
      refine rz_xcarve ok hc mt hP (fun p hp => ?_) (fun ps' n' hP' => ?_)
      · have h1 := mono p hp
        rw [e p hp]
        by_cases z : rz_in c p = true
        · rw [if_pos z]; omega
        · rw [if_neg z, rz_mu_s]; exact h1
      · exact nm_r (nI_1 k) (ih (k + 1) ps' n' (by omega) (rz_LG_congr hP' e))
    · have e : ∀ p, p < 512 → (if rz_in c p = true then 0 else rz_mu wk p k) + (rz_in (wk k) p).toNat = if rz_in c p = true then 0 else rz_mu wk p (k + 1) := by
        intro p hp
        rw [rz_mu_s]
        by_cases z : rz_in c p = true
        · have z2 : rz_in (wk k) p = false := Bool.eq_false_iff.mpr (fun y => mt ((rz_mt_in ok hc).mpr ⟨p, hp, y, z⟩))
          rw [if_pos z, if_pos z, z2]; rfl
        · rw [if_neg z, if_neg z]
      refine rz_xadd hP ok (fun p hp => ?_) (fun ps' hP' => ?_)
      · have h1 := mono p hp
        rw [e p hp]
        by_cases z : rz_in c p = true
        · rw [if_pos z]; omega
        · rw [if_neg z, rz_mu_s]; exact h1
      · exact nm_r (nI_1 k) (ih (k + 1) ps' (n + 1) (by omega) (rz_LG_congr hP' e))
theorem rz_xsub {post : SX → Prop} {c : Int32} {S : Nat → Bool} {m : Nat} (hc : rz_ok c) (hW : rz_LS S wk m) (h : ∀ wk' ps' n' pc', rz_LS (fun p => S p && !rz_in c p) wk' n' → post (dr, rc, nI n', pc', ac, sc, rb, ra, wk', ps', al, sv)) : wpX_subtract post (dr, rc, nI m, pc, ac, sc, rb, ra, wk, ps, al, sv) c := by
  unfold wpX_subtract
  dsimp only
  refine ⟨m + 1, rz_xs7 hc hW (fun wk' ps' n' hW' => h _ _ _ _ hW') m 0 ps 0 (by omega) (rz_LG_congr (rz_LG_nil ps) (fun p hp => ?_))⟩
  show 0 = if rz_in c p = true then 0 else 0
  cases rz_in c p <;> rfl
theorem rz_xco12 {post : SX → Prop} {i : Nat} (hi : i ≤ 10) (hV : rz_V rb i) (h : ∀ wk' ps' m pc', rz_LS (rz_ow rb i) wk' m → post (dr, rc, nI m, pc', ac, sc, rb, ra, wk', ps', al, sv)) : ∀ (d k : Nat) (wk ps : Nat → Int32) (m : Nat) (pc : Int32), k + d = i → rz_LS (fun p => rz_in (rb i) p && (rz_ff (fun j => rz_in (rb j) p) k).isNone) wk m → wX_carveOwned_12 post (nI i) (d + 1) (nI k) dr rc (nI m) pc ac sc rb ra wk ps al sv := by
  intro d
  induction d with
  | zero =>
    intro k wk ps m pc hk hW
    have e : k = i := by omega
    subst e
    exact br_t (nI_le (Nat.le_refl _) (by omega)) (h _ _ _ _ hW)
  | succ d ih =>
    intro k wk ps m pc hk hW
    refine br_f (nI_ge (by omega) (by omega)) ?_
    rw [nI_clamp (by omega)]
    refine ⟨vp_in_nI (by omega) (by decide), rz_xsub (hV k (by omega)) hW (fun wk' ps' n' pc' hW' => nm_r (nI_1 k) (ih (k + 1) _ _ _ _ (by omega) (rz_LS_congr hW' (fun p hp => ?_))))⟩
    show (rz_in (rb i) p && (rz_ff (fun j => rz_in (rb j) p) k).isNone && !rz_in (rb k) p) = (rz_in (rb i) p && (rz_ff (fun j => rz_in (rb j) p) (k + 1)).isNone)
    rw [rz_isN, Bool.and_assoc]
theorem rz_xco {post : SX → Prop} {i : Nat} (hi : i < 10) (hV : rz_V rb (i + 1)) (h : ∀ wk' ps' m pc', rz_LS (rz_ow rb i) wk' m → post (dr, rc, nI m, pc', ac, sc, rb, ra, wk', ps', al, sv)) : wpX_carveOwned post (dr, rc, wc, pc, ac, sc, rb, ra, wk, ps, al, sv) (nI i) := by
  unfold wpX_carveOwned
  dsimp only
  rw [nI_clamp (by omega)]
  refine ⟨vp_in_nI hi (by decide), ?_⟩
  unfold wpX_startWork
  dsimp only
  refine nm_e ⟨i + 1, rz_xco12 (by omega) (fun k hk => hV k (by omega)) h i 0 _ _ 1 _ (by omega) (rz_LG_congr (rz_LG_push (rz_LG_nil wk) (hV i (by omega))) (fun p hp => ?_))⟩
  show 0 + (rz_in (rb i) p).toNat = (rz_in (rb i) p && true).toNat
  rw [Nat.zero_add, Bool.and_true]
theorem rz_xvw4 {post : Int32 → Prop} {m : Nat} (hm : m ≤ 512) (hV : rz_V wk m) (h : post (nI (rz_sm (fun p => rz_mu wk p m) 512))) : ∀ (d k : Nat), k + d = m → wX_volumeOfWork_4 post dr rc (nI m) pc ac sc rb ra wk ps al sv (d + 1) (nI (rz_sm (fun p => rz_mu wk p k) 512)) (nI k) := by
  intro d
  induction d with
  | zero =>
    intro k hk
    have e : k = m := by omega
    subst e
    exact br_t (nI_le (Nat.le_refl _) (by omega)) h
  | succ d ih =>
    intro k hk
    refine br_f (nI_ge (by omega) (by omega)) ?_
    rw [nI_clamp (by omega)]
    have ok := hV k (by omega)
    refine ⟨vp_in_nI (by omega) (by decide), rz_xvol ok (nm_r ?_ (nm_r (nI_1 k) (ih (k + 1) (by omega))))⟩
    rw [nI_add, rz_sm_step, rz_vol_cn ok]
theorem rz_xvw {post : Int32 → Prop} {S : Nat → Bool} {m : Nat} (hW : rz_LS S wk m) (h : post (nI (rz_cn S 512))) : wpX_volumeOfWork post (dr, rc, nI m, pc, ac, sc, rb, ra, wk, ps, al, sv) := by
  unfold wpX_volumeOfWork
  dsimp only
  rw [← rz_LS_cn hW] at h
  have z : rz_sm (fun p => rz_mu wk p 0) 512 = 0 := by
    rw [rz_sm_congr (f := fun p => rz_mu wk p 0) (g := fun _ => 0 * 0) (fun p hp => rfl), rz_sm_mul, Nat.zero_mul]
  have := rz_xvw4 (dr := dr) (rc := rc) (pc := pc) (ac := ac) (sc := sc) (rb := rb) (ra := ra) (ps := ps) (al := al) (sv := sv) (rz_LS_room hW) hW.1 h m 0 (by omega)
  rw [z] at this
  exact ⟨m + 1, this⟩
theorem rz_nI3 {q : Nat} (h : q < 2 ^ 31) : ¬ nI q = -3 := fun z => nI_pos h (by rw [z]; decide)
theorem rz_nIc (a b c : Nat) : (32 * nI a + 2 * nI b) + nI c = nI (32 * a + 2 * b + c) := by
  rw [show (32 : Int32) = nI 32 from rfl, show (2 : Int32) = nI 2 from rfl, pk_mul, pk_mul, nI_add, nI_add]
theorem rz_xlc4 {post : Int32 → Prop} {S0 : Nat → Bool} {m : Nat} (hm : m ≤ 512) (hV : rz_V wk m) (h : post (rz_oI (rz_ff (fun p => S0 p || decide (0 < rz_mu wk p m)) 512))) : ∀ (d k : Nat), k + d = m → wX_lowestCorner_4 post dr rc (nI m) pc ac sc rb ra wk ps al sv (d + 1) (rz_oI (rz_ff (fun p => S0 p || decide (0 < rz_mu wk p k)) 512)) (nI k) := by
  intro d
  induction d with
  | zero =>
    intro k hk
    have e : k = m := by omega
    subst e
    exact br_t (nI_le (Nat.le_refl _) (by omega)) h
  | succ d ih =>
    intro k hk
    have ok := hV k (by omega)
    have ht : ∀ p, (S0 p || decide (0 < rz_mu wk p (k + 1))) = true ↔ ((S0 p || decide (0 < rz_mu wk p k)) = true ∨ rz_in (wk k) p = true) := by
      intro p
      rw [rz_mu_s, Bool.or_eq_true, Bool.or_eq_true, decide_eq_true_iff, decide_eq_true_iff]
      cases rz_in (wk k) p
      · simp
      · simp
    have hf : ∀ p, (S0 p || decide (0 < rz_mu wk p k)) = false → ¬ rz_in (wk k) p = true → (S0 p || decide (0 < rz_mu wk p (k + 1))) = false := by
      intro p h1 h2
      rw [Bool.eq_false_iff]
      intro z
      rcases (ht p).mp z with y | y
      · rw [h1] at y; exact absurd y (by simp)
      · exact h2 y
    have nlow : ∀ p, p < rz_co (wk k) → ¬ rz_in (wk k) p = true := fun p hp z => by
      have := rz_co_min z; omega
    have I := ih (k + 1) (by omega)
    refine br_f (nI_ge (by omega) (by omega)) ?_
    rw [nI_clamp (by omega)]
    refine ⟨vp_in_nI (by omega) (by decide), nm_e (rz_xfS ok.1 (rz_xfD ok.1 (rz_xfP ok.1 (nm_r (rz_nIc _ _ _) ?_))))⟩
    have cl := rz_co_lt (wk k)
    rcases rz_ff_sp (fun p => S0 p || decide (0 < rz_mu wk p k)) 512 with ⟨e, hn⟩ | ⟨q, e, hq, hqt, hl⟩
    · rw [e]
      refine br_t rfl (nm_r (nI_1 k) ?_)
      rw [rz_ff_some.mpr ⟨cl, (ht _).mpr (Or.inr (rz_co_in ok)), fun j hj => hf j (hn j (by omega)) (nlow j hj)⟩] at I
      exact I
    · rw [e]
      refine br_f (rz_nI3 (by omega)) (pk_le q (rz_co (wk k)) (fun c => nm_r (nI_1 k) ?_) (fun c => nm_r (nI_1 k) ?_))
      · rw [rz_ff_some.mpr ⟨hq, (ht _).mpr (Or.inl hqt), fun j hj => hf j (hl j hj) (nlow j (by omega))⟩] at I
        exact I
      · rw [rz_ff_some.mpr ⟨cl, (ht _).mpr (Or.inr (rz_co_in ok)), fun j hj => hf j (hl j (by omega)) (nlow j hj)⟩] at I
        exact I
theorem rz_xlc {post : Int32 → Prop} {S S0 : Nat → Bool} {m : Nat} (hW : rz_LS S wk m) (h : post (rz_oI (rz_ff (fun p => S0 p || S p) 512))) : wpX_lowestCorner post (dr, rc, nI m, pc, ac, sc, rb, ra, wk, ps, al, sv) (rz_oI (rz_ff S0 512)) := by
  unfold wpX_lowestCorner
  dsimp only
  have e1 : rz_ff (fun p => S0 p || S p) 512 = rz_ff (fun p => S0 p || decide (0 < rz_mu wk p m)) 512 := rz_ff_congr (fun p hp => by
    rw [rz_LS_mu hW hp]
    cases S p <;> rfl)
  have e2 : rz_ff S0 512 = rz_ff (fun p => S0 p || decide (0 < rz_mu wk p 0)) 512 := rz_ff_congr (fun p hp => by
    show S0 p = (S0 p || false)
    rw [Bool.or_false])
  rw [e1] at h
  rw [e2]
  exact ⟨m + 1, rz_xlc4 (rz_LS_room hW) hW.1 h m 0 (by omega)⟩
end
end
section
/-! the allowed packets -/
def rz_al (act : Nat → Int32) (o : Option Nat) : Bool := match o with
  | none => false
  | some j => decide (¬ act j = 0)
theorem rz_al_s (act : Nat → Int32) (Q : Nat → Bool) (i : Nat) : (rz_al act (rz_ff Q (i + 1))).toNat = (rz_al act (rz_ff Q i)).toNat + (if act i = 0 then 0 else (Q i && (rz_ff Q i).isNone).toNat) := by
  cases h : rz_ff Q i with
  | some j =>
    rw [rz_ff_s1 h]
    by_cases c : act i = 0
    · rw [if_pos c]; rfl
    · rw [if_neg c]
      show _ = _ + (Q i && false).toNat
      rw [Bool.and_false]; rfl
  | none =>
    cases hq : Q i with
    | true =>
      rw [rz_ff_s2 h hq]
      by_cases c : act i = 0
      · rw [if_pos c]
        show (decide (¬ act i = 0)).toNat = 0
        rw [decide_eq_false (fun z => z c)]; rfl
      · rw [if_neg c]
        show (decide (¬ act i = 0)).toNat = 1
        rw [decide_eq_true c]; rfl
    | false =>
      rw [rz_ff_s3 h hq]
      by_cases c : act i = 0
      · rw [if_pos c]; rfl
      · rw [if_neg c]; rfl
/-- what the first i rules let through -/
def rz_aw (rb act : Nat → Int32) (i p : Nat) : Bool := rz_al act (rz_ff (fun j => rz_in (rb j) p) i)
theorem rz_aw_s (rb act : Nat → Int32) (i p : Nat) : (rz_aw rb act (i + 1) p).toNat = (rz_aw rb act i p).toNat + (if act i = 0 then 0 else (rz_ow rb i p).toNat) := rz_al_s act _ i
section
variable {dr rc wc pc ac sc : Int32} {rb ra wk ps al sv : Nat → Int32}
theorem rz_xg34 {post : SX → Prop} {J : Int32 → Int32 → Int32 → Int32 → Int32 → Int32 → Int32 → (Nat → Int32) → (Nat → Int32) → (Nat → Int32) → (Nat → Int32) → (Nat → Int32) → (Nat → Int32) → Prop} {A T : Nat → Bool} {i m k : Nat} (hW : rz_LS T wk k) (hd : ∀ p, p < 512 → (A p).toNat + (T p).toNat ≤ 1) (h : ∀ al', rz_LG (fun p => (A p).toNat + (T p).toNat) al' (m + k) → J (nI (i + 1)) dr rc (nI k) pc (nI (m + k)) sc rb ra wk ps al' sv) : ∀ (d t : Nat) (al : Nat → Int32), t + d = k → rz_LG (fun p => (A p).toNat + rz_mu wk p t) al (m + t) → wX_gatherAllowed_34 post J (nI i) dr rc (nI k) pc sc (d + 1) (nI t) (nI (m + t)) rb ra wk ps al sv := by
  have hk : k ≤ 512 := rz_LS_room hW
  intro d
  induction d with
  | zero =>
    intro t al ht hA
    have e : t = k := by omega
    subst e
    refine br_t (nI_le (Nat.le_refl _) (by omega)) (nm_r (nI_1 i) (h al (rz_LG_congr hA (fun p hp => ?_))))
    show (A p).toNat + rz_mu wk p t = (A p).toNat + (T p).toNat
    rw [rz_LS_mu hW hp]
  | succ d ih =>
    intro t al ht hA
    have ok := hW.1 t (by omega)
    have hL := rz_LG_push hA ok
    have hr : m + t + 1 ≤ 512 := rz_room hL (fun p hp => by
      have h1 := hd p hp
      have h2 := rz_LS_mu hW hp
      have h3 : rz_mu wk p (t + 1) ≤ rz_mu wk p k := rz_mu_mono (by omega)
      rw [rz_mu_s] at h3
      omega)
    refine br_f (nI_ge (by omega) (by omega)) ⟨vp_in_nI (by omega) (by decide), vp_in_nI (by omega) (by decide), nm_r (e' := upd al (m + t) (wk t)) (by rw [nI_clamp (by omega), nI_clamp (by omega)]) (nm_r (nI_1 (m + t)) (nm_r (nI_1 t) (ih (t + 1) _ (by omega) (rz_LG_congr hL (fun p hp => ?_)))))⟩
    show (A p).toNat + rz_mu wk p t + (rz_in (wk t) p).toNat = (A p).toNat + rz_mu wk p (t + 1)
    rw [rz_mu_s, Nat.add_assoc]
theorem rz_xg7 {post : SX → Prop} {n : Nat} (hn : n ≤ 10) (hV : rz_V rb n) (h : ∀ wc pc m wk ps al, rz_LS (rz_aw rb ra n) al m → post (dr, nI n, wc, pc, nI m, sc, rb, ra, wk, ps, al, sv)) : ∀ (d i : Nat) (wc pc : Int32) (m : Nat) (wk ps al : Nat → Int32), i + d = n → rz_LS (rz_aw rb ra i) al m → wX_gatherAllowed_7 post (d + 1) (nI i) dr (nI n) wc pc (nI m) sc rb ra wk ps al sv := by
  intro d
  induction d with
  | zero =>
    intro i wc pc m wk ps al hi hA
    have e : i = n := by omega
    subst e
    exact br_t (nI_le (Nat.le_refl _) (by omega)) (h _ _ _ _ _ _ hA)
  | succ d ih =>
    intro i wc pc m wk ps al hi hA
    refine br_f (nI_ge (by omega) (by omega)) ?_
    rw [nI_clamp (by omega)]
    refine ⟨vp_in_nI (by omega) (by decide), br_c (fun z => ?_) (fun z => ?_)⟩
    · refine nm_r (nI_1 i) (ih (i + 1) _ _ _ _ _ _ (by omega) (rz_LG_congr hA (fun p hp => ?_)))
      rw [rz_aw_s, if_pos z]; rfl
    · have e : ∀ p, (rz_aw rb ra i p).toNat + (rz_ow rb i p).toNat = (rz_aw rb ra (i + 1) p).toNat := fun p => by
        rw [rz_aw_s, if_neg z]
      refine rz_xco (by omega) (fun k hk => hV k (by omega)) (fun wk' ps' k pc' hW => ?_)
      dsimp only
      exact ⟨k + 1, rz_xg34 (m := m) hW (fun p hp => by rw [e]; exact rz_toN1 _) (fun al' hA' => ih (i + 1) _ _ _ _ _ _ (by omega) (rz_LG_congr hA' (fun p hp => e p))) k 0 al (by omega) hA⟩
theorem rz_xga {post : SX → Prop} {n : Nat} (hn : n ≤ 10) (hV : rz_V rb n) (h : ∀ wc pc m wk ps al, rz_LS (rz_aw rb ra n) al m → post (dr, nI n, wc, pc, nI m, sc, rb, ra, wk, ps, al, sv)) : wpX_gatherAllowed post (dr, nI n, wc, pc, ac, sc, rb, ra, wk, ps, al, sv) := by
  unfold wpX_gatherAllowed
  dsimp only
  exact ⟨n + 1, rz_xg7 hn hV h n 0 _ _ 0 _ _ _ (by omega) (rz_LG_congr (rz_LG_nil al) (fun p hp => rfl))⟩
theorem rz_xsv8 {post : Int32 → SX → Prop} {m : Nat} (hm : m ≤ 512) (hV : rz_V al m) (h : ∀ sv', (∀ j, j < m → sv' j = al j) → post (nI (rz_sm (fun p => rz_mu al p m) 512)) (dr, rc, wc, pc, nI m, nI m, rb, ra, wk, ps, al, sv')) : ∀ (d k : Nat) (sv : Nat → Int32), k + d = m → (∀ j, j < k → sv j = al j) → wX_save_8 post dr rc wc pc (nI m) sc (d + 1) (nI (rz_sm (fun p => rz_mu al p k) 512)) (nI k) rb ra wk ps al sv := by
  intro d
  induction d with
  | zero =>
    intro k sv hk hs
    have e : k = m := by omega
    subst e
    exact br_t (nI_le (Nat.le_refl _) (by omega)) (h sv hs)
  | succ d ih =>
    intro k sv hk hs
    have i1 : vp_in (nI k) 512 := vp_in_nI (by omega) (by decide)
    have ok := hV k (by omega)
    refine br_f (nI_ge (by omega) (by omega)) ?_
    rw [nI_clamp (by omega)]
    refine ⟨i1, i1, nm_e ⟨i1, rz_xvol ok (nm_r ?_ (nm_r (nI_1 k) (ih (k + 1) _ (by omega) (fun j hj => ?_))))⟩⟩
    · rw [nI_add, rz_sm_step, rz_vol_cn ok]
    · by_cases c : j = k
      · subst c; exact pk_us
      · rw [pk_un c]; exact hs j (by omega)
theorem rz_sm0 (a : Nat → Int32) : rz_sm (fun p => rz_mu a p 0) 512 = 0 := by
  rw [rz_sm_congr (f := fun p => rz_mu a p 0) (g := fun _ => 0 * 0) (fun p hp => rfl), rz_sm_mul, Nat.zero_mul]
theorem rz_xsave {post : Int32 → SX → Prop} {n : Nat} (hn : n ≤ 10) (hV : rz_V rb n) (h : ∀ wc pc m wk ps al sv, rz_LS (rz_aw rb ra n) sv m → post (nI (rz_cn (rz_aw rb ra n) 512)) (dr, nI n, wc, pc, nI m, nI m, rb, ra, wk, ps, al, sv)) : wpX_save post (dr, nI n, wc, pc, ac, sc, rb, ra, wk, ps, al, sv) := by
  unfold wpX_save
  dsimp only
  refine rz_xga hn hV (fun wc pc m wk ps al hA => ?_)
  dsimp only
  have e := rz_sm0 al
  have w := rz_xsv8 (post := post) (dr := dr) (rc := nI n) (wc := wc) (pc := pc) (sc := sc) (rb := rb) (ra := ra) (wk := wk) (ps := ps) (rz_LS_room hA) hA.1 (fun sv' hs => by
    rw [rz_LS_cn hA]
    exact h wc pc m wk ps al sv' (rz_LG_arr hA hs)) m 0 sv (by omega) (fun j hj => absurd hj (Nat.not_lt_zero j))
  rw [e] at w
  exact ⟨m + 1, w⟩
theorem rz_xcn38 {post : SX → Prop} {A B : Nat → Bool} {s : Nat} (hB : rz_LS B sv s) (h : ∀ wc pc wk ps q, rz_LS (fun p => A p && !B p) wk q → wc = nI q → post (dr, rc, wc, pc, ac, nI s, rb, ra, wk, ps, al, sv)) : ∀ (d k : Nat) (pc : Int32) (wk ps : Nat → Int32) (q : Nat), k + d = s → rz_LS (fun p => A p && decide (rz_mu sv p k = 0)) wk q → wX_carveNewlyAllowed_38 post (d + 1) (nI k) dr rc (nI q) pc ac (nI s) rb ra wk ps al sv := by
  have hs : s ≤ 512 := rz_LS_room hB
  intro d
  induction d with
  | zero =>
    intro k pc wk ps q hk hW
    have e : k = s := by omega
    subst e
    refine br_t (nI_le (Nat.le_refl _) (by omega)) (h _ _ _ _ q (rz_LS_congr hW (fun p hp => ?_)) rfl)
    rw [rz_LS_mu hB hp]
    cases B p <;> rfl
  | succ d ih =>
    intro k pc wk ps q hk hW
    have hq : q ≤ 512 := rz_LS_room hW
    refine br_f (nI_ge (by omega) (by omega)) (pk_le q 0 (fun c => h _ _ _ _ q (rz_LS_congr hW (fun p hp => ?_)) rfl) (fun c => ?_))
    · have e : q = 0 := by omega
      subst e
      have z : (A p && decide (rz_mu sv p k = 0)) = false := rz_LS_zero hW p hp
      have h1 := rz_LS_mu hB hp
      have h2 : rz_mu sv p k ≤ rz_mu sv p s := rz_mu_mono (by omega)
      rw [z]
      cases hb : B p with
      | true => rw [Bool.not_true, Bool.and_false]
      | false =>
        rw [hb] at h1
        have h3 : rz_mu sv p k = 0 := by
          have : (false : Bool).toNat = 0 := rfl
          omega
        rw [decide_eq_true h3] at z
        exact z.symm
    · rw [nI_clamp (by omega)]
      refine ⟨vp_in_nI (by omega) (by decide), rz_xsub (hB.1 k (by omega)) hW (fun wk' ps' n' pc' hW' => nm_r (nI_1 k) (ih (k + 1) _ _ _ _ (by omega) (rz_LS_congr hW' (fun p hp => ?_))))⟩
      rw [rz_mu_s, Bool.and_assoc]
      cases rz_in (sv k) p
      · exact congrArg (fun b => A p && b) (Bool.and_true (decide (rz_mu sv p k = 0)))
      · rw [Bool.not_true, Bool.and_false]
        exact congrArg (A p && ·) (decide_eq_false (Nat.succ_ne_zero _)).symm
theorem rz_xcn2 {post : SX → Prop} {A B : Nat → Bool} {m s : Nat} (hA : rz_LS A al m) (hB : rz_LS B sv s) (h : ∀ wc pc wk ps q, rz_LS (fun p => A p && !B p) wk q → wc = nI q → post (dr, rc, wc, pc, nI m, nI s, rb, ra, wk, ps, al, sv)) : ∀ (d k : Nat) (wk : Nat → Int32), k + d = m → (∀ j, j < k → wk j = al j) → wX_carveNewlyAllowed_2 post dr rc wc pc (nI m) (nI s) (d + 1) (nI k) rb ra wk ps al sv := by
  have hm : m ≤ 512 := rz_LS_room hA
  intro d
  induction d with
  | zero =>
    intro k wk hk hw
    have e : k = m := by omega
    subst e
    refine br_t (nI_le (Nat.le_refl _) (by omega)) ⟨s + 1, rz_xcn38 hB h s 0 _ _ _ k (by omega) (rz_LS_congr (rz_LG_arr hA hw) (fun p hp => ?_))⟩
    exact (Bool.and_true _).symm
  | succ d ih =>
    intro k wk hk hw
    have i1 : vp_in (nI k) 512 := vp_in_nI (by omega) (by decide)
    refine br_f (nI_ge (by omega) (by omega)) ⟨i1, i1, nm_r (e' := upd wk k (al k)) (by rw [nI_clamp (by omega)]) (nm_r (nI_1 k) (ih (k + 1) _ (by omega) (fun j hj => ?_)))⟩
    by_cases c : j = k
    · subst c; exact pk_us
    · rw [pk_un c]; exact hw j (by omega)
theorem rz_xcn {post : SX → Prop} {A B : Nat → Bool} {m s : Nat} (hA : rz_LS A al m) (hB : rz_LS B sv s) (h : ∀ pc wk ps q, rz_LS (fun p => A p && !B p) wk q → post (dr, rc, nI q, pc, nI m, nI s, rb, ra, wk, ps, al, sv)) : wpX_carveNewlyAllowed post (dr, rc, wc, pc, nI m, nI s, rb, ra, wk, ps, al, sv) := by
  unfold wpX_carveNewlyAllowed
  dsimp only
  exact ⟨m + 1, rz_xcn2 hA hB (fun wc pc wk ps q hW e => by subst e; exact h pc wk ps q hW) m 0 wk (by omega) (fun j hj => absurd hj (Nat.not_lt_zero j))⟩
theorem rz_xcl38 {post : SX → Prop} {A B : Nat → Bool} {s : Nat} (hB : rz_LS B al s) (h : ∀ wc pc wk ps q, rz_LS (fun p => A p && !B p) wk q → wc = nI q → post (dr, rc, wc, pc, nI s, sc, rb, ra, wk, ps, al, sv)) : ∀ (d k : Nat) (pc : Int32) (wk ps : Nat → Int32) (q : Nat), k + d = s → rz_LS (fun p => A p && decide (rz_mu al p k = 0)) wk q → wX_carveNoLongerAllowed_38 post (d + 1) (nI k) dr rc (nI q) pc (nI s) sc rb ra wk ps al sv := by
  have hs : s ≤ 512 := rz_LS_room hB
  intro d
  induction d with
  | zero =>
    intro k pc wk ps q hk hW
    have e : k = s := by omega
    subst e
    refine br_t (nI_le (Nat.le_refl _) (by omega)) (h _ _ _ _ q (rz_LS_congr hW (fun p hp => ?_)) rfl)
    rw [rz_LS_mu hB hp]
    cases B p <;> rfl
  | succ d ih =>
    intro k pc wk ps q hk hW
    have hq : q ≤ 512 := rz_LS_room hW
    refine br_f (nI_ge (by omega) (by omega)) (pk_le q 0 (fun c => h _ _ _ _ q (rz_LS_congr hW (fun p hp => ?_)) rfl) (fun c => ?_))
    · have e : q = 0 := by omega
      subst e
      have z : (A p && decide (rz_mu al p k = 0)) = false := rz_LS_zero hW p hp
      have h1 := rz_LS_mu hB hp
      have h2 : rz_mu al p k ≤ rz_mu al p s := rz_mu_mono (by omega)
      rw [z]
      cases hb : B p with
      | true => rw [Bool.not_true, Bool.and_false]
      | false =>
        rw [hb] at h1
        have h3 : rz_mu al p k = 0 := by
          have : (false : Bool).toNat = 0 := rfl
          omega
        rw [decide_eq_true h3] at z
        exact z.symm
    · rw [nI_clamp (by omega)]
      refine ⟨vp_in_nI (by omega) (by decide), rz_xsub (hB.1 k (by omega)) hW (fun wk' ps' n' pc' hW' => nm_r (nI_1 k) (ih (k + 1) _ _ _ _ (by omega) (rz_LS_congr hW' (fun p hp => ?_))))⟩
      rw [rz_mu_s, Bool.and_assoc]
      cases rz_in (al k) p
      · exact congrArg (fun b => A p && b) (Bool.and_true (decide (rz_mu al p k = 0)))
      · rw [Bool.not_true, Bool.and_false]
        exact congrArg (A p && ·) (decide_eq_false (Nat.succ_ne_zero _)).symm
theorem rz_xcl2 {post : SX → Prop} {A B : Nat → Bool} {m s : Nat} (hA : rz_LS A sv m) (hB : rz_LS B al s) (h : ∀ wc pc wk ps q, rz_LS (fun p => A p && !B p) wk q → wc = nI q → post (dr, rc, wc, pc, nI s, nI m, rb, ra, wk, ps, al, sv)) : ∀ (d k : Nat) (wk : Nat → Int32), k + d = m → (∀ j, j < k → wk j = sv j) → wX_carveNoLongerAllowed_2 post dr rc wc pc (nI s) (nI m) (d + 1) (nI k) rb ra wk ps al sv := by
  have hm : m ≤ 512 := rz_LS_room hA
  intro d
  induction d with
  | zero =>
    intro k wk hk hw
    have e : k = m := by omega
    subst e
    refine br_t (nI_le (Nat.le_refl _) (by omega)) ⟨s + 1, rz_xcl38 hB h s 0 _ _ _ k (by omega) (rz_LS_congr (rz_LG_arr hA hw) (fun p hp => ?_))⟩
    exact (Bool.and_true _).symm
  | succ d ih =>
    intro k wk hk hw
    have i1 : vp_in (nI k) 512 := vp_in_nI (by omega) (by decide)
    refine br_f (nI_ge (by omega) (by omega)) ⟨i1, i1, nm_r (e' := upd wk k (sv k)) (by rw [nI_clamp (by omega)]) (nm_r (nI_1 k) (ih (k + 1) _ (by omega) (fun j hj => ?_)))⟩
    by_cases c : j = k
    · subst c; exact pk_us
    · rw [pk_un c]; exact hw j (by omega)
theorem rz_xcl {post : SX → Prop} {A B : Nat → Bool} {m s : Nat} (hA : rz_LS A sv m) (hB : rz_LS B al s) (h : ∀ pc wk ps q, rz_LS (fun p => A p && !B p) wk q → post (dr, rc, nI q, pc, nI s, nI m, rb, ra, wk, ps, al, sv)) : wpX_carveNoLongerAllowed post (dr, rc, wc, pc, nI s, nI m, rb, ra, wk, ps, al, sv) := by
  unfold wpX_carveNoLongerAllowed
  dsimp only
  exact ⟨m + 1, rz_xcl2 hA hB (fun wc pc wk ps q hW e => by subst e; exact h pc wk ps q hW) m 0 wk (by omega) (fun j hj => absurd hj (Nat.not_lt_zero j))⟩
theorem rz_cn2 (A B : Nat → Bool) (n : Nat) : rz_cn (fun p => A p && !B p) n + rz_cn (fun p => B p && !A p) n = rz_cn (fun p => A p ^^ B p) n := by
  unfold rz_cn
  rw [← rz_sm_add]
  refine rz_sm_congr (fun p hp => ?_)
  dsimp only
  cases A p <;> cases B p <;> rfl
theorem rz_xchg {post : Int32 → SX → Prop} {n s : Nat} {B : Nat → Bool} (hn : n ≤ 10) (hV : rz_V rb n) (hB : rz_LS B sv s) (h : ∀ wc pc ac wk ps al, post (nI (rz_cn (fun p => rz_aw rb ra n p ^^ B p) 512)) (dr, nI n, wc, pc, ac, nI s, rb, ra, wk, ps, al, sv)) : wpX_changed post (dr, nI n, wc, pc, ac, nI s, rb, ra, wk, ps, al, sv) := by
  unfold wpX_changed
  dsimp only
  refine rz_xga hn hV (fun wc pc m wk ps al hA => ?_)
  dsimp only
  refine rz_xcn hA hB (fun pc wk ps q hW => ?_)
  dsimp only
  refine rz_xvw hW (rz_xcl hB hA (fun pc wk ps q hW2 => ?_))
  dsimp only
  refine rz_xvw hW2 ?_
  rw [nI_add, rz_cn2]
  exact h _ _ _ _ _ _
theorem rz_m3e : (-3 : Int32) = rz_oI (rz_ff (fun _ => false) 512) := by
  rw [rz_ff_none.mpr (fun _ _ => rfl)]; rfl
theorem rz_xfch {post : Int32 → SX → Prop} {n s : Nat} {B : Nat → Bool} (hn : n ≤ 10) (hV : rz_V rb n) (hB : rz_LS B sv s) (h : ∀ wc pc ac wk ps al, post (rz_oI (rz_ff (fun p => rz_aw rb ra n p ^^ B p) 512)) (dr, nI n, wc, pc, ac, nI s, rb, ra, wk, ps, al, sv)) : wpX_firstChanged post (dr, nI n, wc, pc, ac, nI s, rb, ra, wk, ps, al, sv) := by
  unfold wpX_firstChanged
  dsimp only
  refine rz_xga hn hV (fun wc pc m wk ps al hA => ?_)
  dsimp only
  refine rz_xcn hA hB (fun pc wk ps q hW => ?_)
  dsimp only
  rw [rz_m3e]
  refine rz_xlc hW (rz_xcl hB hA (fun pc wk ps q hW2 => ?_))
  dsimp only
  refine rz_xlc hW2 ?_
  rw [rz_ff_congr (R := fun p => rz_aw rb ra n p ^^ B p) (fun p hp => by cases rz_aw rb ra n p <;> cases B p <;> rfl)]
  exact h _ _ _ _ _ _
end
end
section
/-! the component's answers: decider, owned, firstOwned, fault -/
def rz_dc (act : Nat → Int32) (o : Option Nat) : Int32 := match o with
  | none => 0
  | some j => act j
def rz_Fw (rb : Nat → Int32) (i p j : Nat) : Bool := decide (¬ j = i) && rz_in (rb j) p
/-- some packet is decided otherwise without rule i -/
def rz_ms (rb act : Nat → Int32) (n i : Nat) : Prop := ∃ p, p < 512 ∧ ¬ rz_dc act (rz_ff (fun j => rz_in (rb j) p) n) = rz_dc act (rz_ff (rz_Fw rb i p) n)
def rz_ov1 (rb act : Nat → Int32) (i j : Nat) : Prop := ¬ act j = act i ∧ ∃ p, p < 512 ∧ rz_ow rb j p = true ∧ rz_in (rb i) p = true
def rz_ov (rb act : Nat → Int32) (i : Nat) : Prop := ∃ j, j < i ∧ rz_ov1 rb act i j
def rz_co1 (rb act : Nat → Int32) (i j : Nat) : Prop := ¬ act j = act i ∧ rz_mt (rb i) (rb j) ∧ ¬ rz_wi (rb j) (rb i) ∧ ¬ rz_wi (rb i) (rb j)
def rz_cor (rb act : Nat → Int32) (i : Nat) : Prop := ∃ j, j < i ∧ rz_co1 rb act i j
def rz_ge1 (rb act : Nat → Int32) (i j : Nat) : Prop := ¬ act j = act i ∧ rz_wi (rb j) (rb i)
def rz_gen (rb act : Nat → Int32) (i : Nat) : Prop := ∃ j, j < i ∧ rz_ge1 rb act i j
def rz_em (rb : Nat → Int32) (i : Nat) : Prop := ∀ p, p < 512 → rz_ow rb i p = false
def rz_FA (E O M C G : Prop) (r : Int32) : Prop := (E ∧ O ∧ r = 1) ∨ (E ∧ ¬ O ∧ r = 2) ∨ (¬ E ∧ ¬ M ∧ r = 3) ∨ (¬ E ∧ M ∧ C ∧ r = 4) ∨ (¬ E ∧ M ∧ ¬ C ∧ G ∧ r = 5) ∨ (¬ E ∧ M ∧ ¬ C ∧ ¬ G ∧ r = 0)
theorem rz_FA_u {E O M C G : Prop} {r r' : Int32} (h : rz_FA E O M C G r) (h' : rz_FA E O M C G r') : r' = r := by
  unfold rz_FA at h h'
  by_cases e : E
  · by_cases o : O
    · simp [e, o] at h h'; rw [h, h']
    · simp [e, o] at h h'; rw [h, h']
  · by_cases m : M
    · by_cases c : C
      · simp [e, m, c] at h h'; rw [h, h']
      · by_cases g : G
        · simp [e, m, c, g] at h h'; rw [h, h']
        · simp [e, m, c, g] at h h'; rw [h, h']
    · simp [e, m] at h h'; rw [h, h']
theorem rz_ow_t {rb : Nat → Int32} {i p : Nat} : rz_ow rb i p = true ↔ rz_in (rb i) p = true ∧ ∀ j, j < i → rz_in (rb j) p = false := by
  unfold rz_ow
  rw [Bool.and_eq_true, Option.isNone_iff_eq_none, rz_ff_none]
theorem rz_Fw_t {rb : Nat → Int32} {i p j : Nat} : rz_Fw rb i p j = true ↔ ¬ j = i ∧ rz_in (rb j) p = true := by
  unfold rz_Fw
  rw [Bool.and_eq_true, decide_eq_true_iff]
theorem rz_Fw_ne {rb : Nat → Int32} {i p j : Nat} (h : ¬ j = i) : rz_Fw rb i p j = rz_in (rb j) p := by
  unfold rz_Fw
  rw [decide_eq_true h, Bool.true_and]
theorem rz_Fw_f {rb : Nat → Int32} {i p j : Nat} (h : rz_in (rb j) p = false) : rz_Fw rb i p j = false := by
  unfold rz_Fw
  rw [h, Bool.and_false]
/-- where rule i decides nothing, leaving it out changes nothing -/
theorem rz_Fw_same {rb : Nat → Int32} {n i p : Nat} (h : rz_ow rb i p = false) : rz_ff (fun j => rz_in (rb j) p) n = rz_ff (rz_Fw rb i p) n := by
  rcases rz_ff_sp (fun j => rz_in (rb j) p) n with ⟨e, hn⟩ | ⟨k, e, hk, hq, hl⟩
  · rw [e]; exact (rz_ff_none.mpr (fun j hj => rz_Fw_f (hn j hj))).symm
  · rw [e]
    refine (rz_ff_some.mpr ⟨hk, rz_Fw_t.mpr ⟨fun c => ?_, hq⟩, fun j hj => rz_Fw_f (hl j hj)⟩).symm
    subst c
    have t := rz_ow_t.mpr ⟨hq, hl⟩
    rw [h] at t
    exact absurd t (by simp)
theorem rz_Fw_i1 {rb : Nat → Int32} {i p : Nat} (h : rz_ow rb i p = true) : rz_ff (rz_Fw rb i p) (i + 1) = none := by
  refine rz_ff_none.mpr (fun j hj => ?_)
  by_cases c : j = i
  · subst c
    refine Bool.eq_false_iff.mpr (fun z => (rz_Fw_t.mp z).1 rfl)
  · exact rz_Fw_f ((rz_ow_t.mp h).2 j (by omega))
theorem rz_jms {rb act : Nat → Int32} {n i j p : Nat} (hi : i < n) (hj : j < n) (hij : i < j) (hp : p < 512) (ho : rz_ow rb i p = true) (hN : rz_ff (rz_Fw rb i p) j = none) (hI : rz_in (rb j) p = true) (ha : ¬ act j = act i) : rz_ms rb act n i := by
  refine ⟨p, hp, ?_⟩
  rw [(rz_ow_iff hi).mp ho, rz_ff_some.mpr ⟨hj, rz_Fw_t.mpr ⟨by omega, hI⟩, rz_ff_none.mp hN⟩]
  exact fun z => ha z.symm
theorem rz_yms {rb act : Nat → Int32} {n i p : Nat} (hi : i < n) (hp : p < 512) (ho : rz_ow rb i p = true) (hN : rz_ff (rz_Fw rb i p) n = none) (ha : ¬ act i = 0) : rz_ms rb act n i := by
  refine ⟨p, hp, ?_⟩
  rw [(rz_ow_iff hi).mp ho, hN]
  exact ha
theorem rz_nms {rb act : Nat → Int32} {n i : Nat} (hi : i < n) (hc : ∀ l, i < l → l < n → ¬ act l = act i → ∀ p, p < 512 → rz_ow rb i p = true → rz_ff (rz_Fw rb i p) l = none → rz_in (rb l) p = false) (he : (∀ p, p < 512 → rz_ow rb i p = true → ¬ rz_ff (rz_Fw rb i p) n = none) ∨ act i = 0) : ¬ rz_ms rb act n i := by
  rintro ⟨p, hp, hne⟩
  apply hne
  cases ho : rz_ow rb i p with
  | false => rw [rz_Fw_same ho]
  | true =>
    rw [(rz_ow_iff hi).mp ho]
    rcases rz_ff_sp (rz_Fw rb i p) n with ⟨e, hn⟩ | ⟨k, e, hk, hq, hl⟩
    · rw [e]
      rcases he with c | c
      · exact absurd e (c p hp ho)
      · exact c
    · rw [e]
      show act i = act k
      obtain ⟨k1, k2⟩ := rz_Fw_t.mp hq
      by_cases c : act k = act i
      · exact c.symm
      · have hik : i < k := by
          by_cases d : i < k
          · exact d
          · have := (rz_ow_t.mp ho).2 k (by omega)
            rw [k2] at this
            exact absurd this (by simp)
        have := hc k hik hk c p hp ho (rz_ff_none.mpr hl)
        rw [k2] at this
        exact absurd this (by simp)
theorem rz_ge_mt {a b : Int32} (ha : rz_ok a) (hb : rz_ok b) (h : rz_wi a b) : rz_mt b a :=
  (rz_mt_in hb ha).mpr ⟨rz_co a, rz_co_lt a, (rz_wi_in ha).mp h _ (rz_co_lt a) (rz_co_in ha), rz_co_in ha⟩
theorem rz_pt {s d q : Nat} (hs : s < 16) (hd : d < 16) (hq : q < 2) : (((((nI s <<< ((14 : Int32) &&& 31)) ||| (nI s <<< ((10 : Int32) &&& 31))) ||| (nI d <<< ((6 : Int32) &&& 31))) ||| (nI d <<< ((2 : Int32) &&& 31))) ||| (nI q <<< ((1 : Int32) &&& 31))) ||| nI q = nI (s * 16384 + (s * 1024 + (d * 64 + (d * 4 + (q * 2 + q))))) := by
  rw [pk_shlN ((14 : Int32) &&& 31) 14 (by decide) (by omega), pk_shlN ((10 : Int32) &&& 31) 10 (by decide) (by omega), pk_shlN ((6 : Int32) &&& 31) 6 (by decide) (by omega), pk_shlN ((2 : Int32) &&& 31) 2 (by decide) (by omega), pk_shlN ((1 : Int32) &&& 31) 1 (by decide) (by omega)]
  rw [Int32.or_assoc, Int32.or_assoc, Int32.or_assoc, Int32.or_assoc]
  rw [rz_or (k := 1) (p := 2 ^ 1) rfl (by omega) (by omega), rz_or (k := 2) (p := 2 ^ 2) rfl (by omega) (by omega), rz_or (k := 6) (p := 2 ^ 6) rfl (by omega) (by omega), rz_or (k := 10) (p := 2 ^ 10) rfl (by omega) (by omega), rz_or (k := 14) (p := 2 ^ 14) rfl (by omega) (by omega)]
theorem rz_c6 {a b c d e f n : Nat} (ha : a < 16) (hb : b < 16) (hc : c < 16) (hd : d < 16) (he : e < 2) (hf : f < 2) (hn : n = a * 16384 + (b * 1024 + (c * 64 + (d * 4 + (e * 2 + f))))) : n / 16384 % 16 = a ∧ n / 1024 % 16 = b ∧ n / 64 % 16 = c ∧ n / 4 % 16 = d ∧ n / 2 % 2 = e ∧ n % 2 = f := by
  refine ⟨?_, ?_, ?_, ?_, ?_, ?_⟩ <;> omega
theorem rz_pt_f {s d q : Nat} (hs : s < 16) (hd : d < 16) (hq : q < 2) {x : Int32} (hx : x = nI (s * 16384 + (s * 1024 + (d * 64 + (d * 4 + (q * 2 + q)))))) : rz_ok x ∧ ∀ a, rz_mt a x ↔ rz_in a (32 * s + 2 * d + q) = true := by
  have c : x.toNatClampNeg = s * 16384 + (s * 1024 + (d * 64 + (d * 4 + (q * 2 + q)))) := by
    rw [hx]; exact nI_clamp (by omega)
  obtain ⟨e1, e2, e3, e4, e5, e6⟩ : rz_fS x = s ∧ rz_tS x = s ∧ rz_fD x = d ∧ rz_tD x = d ∧ rz_fP x = q ∧ rz_tP x = q := rz_c6 hs hs hd hd hq hq c
  refine ⟨⟨⟨_, by omega, hx⟩, by omega, by omega, by omega⟩, fun a => ?_⟩
  rw [rz_in_pk hd hq]
  unfold rz_mt
  rw [e1, e2, e3, e4, e5, e6]
section
variable {dr rc wc pc ac sc : Int32} {rb ra wk ps al sv : Nat → Int32}
theorem rz_xir {post : Int32 → Prop} {n : Nat} {x : Int32} (hn : n ≤ 10) (h0 : (¬ ∃ j, j < n ∧ x = nI j) → post 0) (h1 : ∀ j, j < n → x = nI j → post 1) : wpX_isRule post (dr, nI n, wc, pc, ac, sc, rb, ra, wk, ps, al, sv) x := by
  unfold wpX_isRule
  dsimp only
  refine br_c (fun c => h0 (fun ⟨j, hj, e⟩ => ?_)) (fun c => ?_)
  · rw [e] at c; exact nI_pos (by omega) c
  · obtain ⟨j, hj, rfl⟩ := nI_of c
    refine pk_le n j (fun d => h0 (fun ⟨k, hk, e⟩ => ?_)) (fun d => h1 j d rfl)
    rw [nI_eq hj (by omega)] at e
    omega
theorem rz_xd60 {post : Int32 → Prop} {n : Nat} {x : Int32} {Q : Nat → Bool} (hn : n ≤ 10) (hV : rz_V rb n) (hx : rz_ok x) (hQ : ∀ j, rz_mt (rb j) x ↔ Q j = true) (h : post (rz_oI (rz_ff Q n))) : ∀ (d k : Nat), k + d = n → rz_ff Q k = none → wX_decider_60 post x dr (nI n) wc pc ac sc rb ra wk ps al sv (d + 1) (nI k) := by
  intro d
  induction d with
  | zero =>
    intro k hk hN
    have e : k = n := by omega
    subst e
    rw [hN] at h
    exact br_t (nI_le (Nat.le_refl _) (by omega)) h
  | succ d ih =>
    intro k hk hN
    refine br_f (nI_ge (by omega) (by omega)) ?_
    rw [nI_clamp (by omega)]
    refine ⟨vp_in_nI (by omega) (by decide), rz_xmt (hV k (by omega)) hx (fun m => br_f rz_x10 ?_) (fun m => br_t rfl (nm_r (nI_1 k) (ih (k + 1) (by omega) (rz_ff_s3 hN (Bool.eq_false_iff.mpr (fun z => m ((hQ k).mpr z)))))))⟩
    rw [rz_ff_some.mpr ⟨by omega, (hQ k).mp m, rz_ff_none.mp hN⟩] at h
    exact h
theorem rz_xo32 {post : Int32 → SX → Prop} {J : Int32 → Int32 → Int32 → Int32 → Int32 → Int32 → Int32 → (Nat → Int32) → (Nat → Int32) → (Nat → Int32) → (Nat → Int32) → (Nat → Int32) → (Nat → Int32) → Prop} {S : Nat → Bool} {i j m : Nat} (hi : i < 10) (hb : rz_ok (rb i)) (hW : rz_LS S wk m) (h1 : (∃ p, p < 512 ∧ S p = true ∧ rz_in (rb i) p = true) → post 1 (dr, rc, nI m, pc, ac, sc, rb, ra, wk, ps, al, sv)) (h0 : (¬ ∃ p, p < 512 ∧ S p = true ∧ rz_in (rb i) p = true) → J (nI (j + 1)) dr rc (nI m) pc ac sc rb ra wk ps al sv) : ∀ (d k : Nat), k + d = m → (∀ l, l < k → ¬ rz_mt (wk l) (rb i)) → wX_overruled_32 post J (nI i) (nI j) dr rc (nI m) pc ac sc rb ra wk ps al sv (d + 1) (nI k) := by
  have hm : m ≤ 512 := rz_LS_room hW
  intro d
  induction d with
  | zero =>
    intro k hk hl
    have e : k = m := by omega
    subst e
    refine br_t (nI_le (Nat.le_refl _) (by omega)) (nm_r (nI_1 j) (h0 (fun z => ?_)))
    obtain ⟨l, h2, h3⟩ := (rz_LS_mt hW hb).mpr z
    exact hl l h2 h3
  | succ d ih =>
    intro k hk hl
    refine br_f (nI_ge (by omega) (by omega)) ?_
    rw [nI_clamp (n := k) (by omega), nI_clamp (n := i) (by omega)]
    refine ⟨vp_in_nI (by omega) (by decide), vp_in_nI hi (by decide), rz_xmt (hW.1 k (by omega)) hb (fun mt => br_f rz_x10 (h1 ((rz_LS_mt hW hb).mp ⟨k, by omega, mt⟩))) (fun mt => br_t rfl (nm_r (nI_1 k) (ih (k + 1) (by omega) (fun l h2 => ?_))))⟩
    by_cases c : l = k
    · rw [c]; exact mt
    · exact hl l (by omega)
theorem rz_xo2 {post : Int32 → SX → Prop} {i : Nat} (hi : i < 10) (hV : rz_V rb (i + 1)) (h1 : rz_ov rb ra i → ∀ wc pc wk ps, post 1 (dr, rc, wc, pc, ac, sc, rb, ra, wk, ps, al, sv)) (h0 : ¬ rz_ov rb ra i → ∀ wc pc wk ps, post 0 (dr, rc, wc, pc, ac, sc, rb, ra, wk, ps, al, sv)) : ∀ (d j : Nat) (wc pc : Int32) (wk ps : Nat → Int32), j + d = i → (∀ l, l < j → ¬ rz_ov1 rb ra i l) → wX_overruled_2 post (nI i) (d + 1) (nI j) dr rc wc pc ac sc rb ra wk ps al sv := by
  intro d
  induction d with
  | zero =>
    intro j wc pc wk ps hj hl
    have e : j = i := by omega
    subst e
    exact br_t (nI_le (Nat.le_refl _) (by omega)) (h0 (fun ⟨l, h2, h3⟩ => hl l h2 h3) _ _ _ _)
  | succ d ih =>
    intro j wc pc wk ps hj hl
    refine br_f (nI_ge (by omega) (by omega)) ?_
    rw [nI_clamp (n := j) (by omega), nI_clamp (n := i) (by omega)]
    refine ⟨vp_in_nI (by omega) (by decide), vp_in_nI hi (by decide), br_c (fun e => nm_r (nI_1 j) (ih (j + 1) _ _ _ _ (by omega) (fun l h2 => ?_))) (fun ne => rz_xco (by omega) (fun k hk => hV k (by omega)) (fun wk' ps' m pc' hW => ?_))⟩
    · by_cases c : l = j
      · subst c; exact fun z => z.1 e
      · exact hl l (by omega)
    · dsimp only
      refine ⟨m + 1, rz_xo32 hi (hV i (by omega)) hW (fun z => h1 ⟨j, by omega, ne, z⟩ _ _ _ _) (fun z => ih (j + 1) _ _ _ _ (by omega) (fun l h2 => ?_)) m 0 (by omega) (fun l h2 => absurd h2 (Nat.not_lt_zero l))⟩
      by_cases c : l = j
      · subst c; exact fun y => z y.2
      · exact hl l (by omega)
theorem rz_xr64 {post : Int32 → SX → Prop} {J : Int32 → Int32 → Int32 → Int32 → Int32 → Int32 → Int32 → (Nat → Int32) → (Nat → Int32) → (Nat → Int32) → (Nat → Int32) → (Nat → Int32) → (Nat → Int32) → Prop} {S : Nat → Bool} {i j m : Nat} (hj : j < 10) (hb : rz_ok (rb j)) (hW : rz_LS S wk m) (h : ∀ wk' ps' n' pc', rz_LS (fun p => S p && !rz_in (rb j) p) wk' n' → J (nI (j + 1)) dr rc (nI n') pc' ac sc rb ra wk' ps' al sv) : wX_replaceable_64 post J (nI i) (nI j) dr rc (nI m) pc ac sc rb ra wk ps al sv := by
  unfold wX_replaceable_64
  rw [nI_clamp (by omega)]
  exact ⟨vp_in_nI hj (by decide), rz_xsub hb hW (fun wk' ps' n' pc' hW' => nm_r (nI_1 j) (h _ _ _ _ hW'))⟩
theorem rz_xr29 {post : Int32 → SX → Prop} {J : Int32 → Int32 → Int32 → Int32 → Int32 → Int32 → Int32 → (Nat → Int32) → (Nat → Int32) → (Nat → Int32) → (Nat → Int32) → (Nat → Int32) → (Nat → Int32) → Prop} {S : Nat → Bool} {i j m : Nat} (hj : j < 10) (hb : rz_ok (rb j)) (hW : rz_LS S wk m) (h1 : (∃ p, p < 512 ∧ S p = true ∧ rz_in (rb j) p = true) → post 0 (dr, rc, nI m, pc, ac, sc, rb, ra, wk, ps, al, sv)) (h0 : (¬ ∃ p, p < 512 ∧ S p = true ∧ rz_in (rb j) p = true) → wX_replaceable_64 post J (nI i) (nI j) dr rc (nI m) pc ac sc rb ra wk ps al sv) : ∀ (d k : Nat), k + d = m → (∀ l, l < k → ¬ rz_mt (wk l) (rb j)) → wX_replaceable_29 post J (nI i) (nI j) dr rc (nI m) pc ac sc rb ra wk ps al sv (d + 1) (nI k) := by
  have hm : m ≤ 512 := rz_LS_room hW
  intro d
  induction d with
  | zero =>
    intro k hk hl
    have e : k = m := by omega
    subst e
    refine br_t (nI_le (Nat.le_refl _) (by omega)) (h0 (fun z => ?_))
    obtain ⟨l, h2, h3⟩ := (rz_LS_mt hW hb).mpr z
    exact hl l h2 h3
  | succ d ih =>
    intro k hk hl
    refine br_f (nI_ge (by omega) (by omega)) ?_
    rw [nI_clamp (n := k) (by omega), nI_clamp (n := j) (by omega)]
    refine ⟨vp_in_nI (by omega) (by decide), vp_in_nI hj (by decide), rz_xmt (hW.1 k (by omega)) hb (fun mt => br_f rz_x10 (h1 ((rz_LS_mt hW hb).mp ⟨k, by omega, mt⟩))) (fun mt => br_t rfl (nm_r (nI_1 k) (ih (k + 1) (by omega) (fun l h2 => ?_))))⟩
    by_cases c : l = k
    · rw [c]; exact mt
    · exact hl l (by omega)
def rz_rc (rb act : Nat → Int32) (i j : Nat) : Prop := ∀ l, i < l → l < j → ¬ act l = act i → ∀ p, p < 512 → rz_ow rb i p = true → rz_ff (rz_Fw rb i p) l = none → rz_in (rb l) p = false
theorem rz_xr4 {post : Int32 → SX → Prop} {n i : Nat} (hn : n ≤ 10) (hi : i < n) (hV : rz_V rb n) (h1 : ¬ rz_ms rb ra n i → ∀ wc pc wk ps, post 1 (dr, nI n, wc, pc, ac, sc, rb, ra, wk, ps, al, sv)) (h0 : rz_ms rb ra n i → ∀ wc pc wk ps, post 0 (dr, nI n, wc, pc, ac, sc, rb, ra, wk, ps, al, sv)) : ∀ (d j : Nat) (wk ps : Nat → Int32) (m : Nat) (pc : Int32), j + d = n → i < j → rz_rc rb ra i j → rz_LS (fun p => rz_ow rb i p && (rz_ff (rz_Fw rb i p) j).isNone) wk m → wX_replaceable_4 post (nI i) (d + 1) (nI j) dr (nI n) (nI m) pc ac sc rb ra wk ps al sv := by
  intro d
  induction d with
  | zero =>
    intro j wk ps m pc hj hij hc hW
    have e : j = n := by omega
    subst e
    have hm : m ≤ 512 := rz_LS_room hW
    refine br_t (nI_le (Nat.le_refl _) (by omega)) (pk_eq m 0 (fun c => h1 (rz_nms hi hc (Or.inl (fun p hp ho hN => ?_))) _ _ _ _) (fun c => ?_))
    · subst c
      have := rz_LS_zero hW p hp
      rw [ho, hN] at this
      exact absurd this (by simp)
    · rw [nI_clamp (by omega)]
      refine ⟨vp_in_nI (by omega) (by decide), br_c (fun z => h1 (rz_nms hi hc (Or.inr z)) _ _ _ _) (fun z => h0 ?_ _ _ _ _)⟩
      have hk : 0 < m := by omega
      have t := (rz_LS_mem hW (rz_co_lt (wk 0))).mpr ⟨0, hk, rz_co_in (hW.1 0 hk)⟩
      rw [Bool.and_eq_true, Option.isNone_iff_eq_none] at t
      exact rz_yms hi (rz_co_lt (wk 0)) t.1 t.2 z
  | succ d ih =>
    intro j wk ps m pc hj hij hc hW
    have hcg : ∀ (S : Nat → Bool), (∀ p, S p = (rz_ow rb i p && (rz_ff (rz_Fw rb i p) j).isNone && !rz_in (rb j) p)) → ∀ p, p < 512 → S p = (rz_ow rb i p && (rz_ff (rz_Fw rb i p) (j + 1)).isNone) := by
      intro S hS p hp
      rw [hS, rz_isN, rz_Fw_ne (by omega), Bool.and_assoc]
    refine br_f (nI_ge (by omega) (by omega)) ?_
    rw [nI_clamp (n := j) (by omega), nI_clamp (n := i) (by omega)]
    refine ⟨vp_in_nI (by omega) (by decide), vp_in_nI (by omega) (by decide), br_c (fun e => ?_) (fun ne => ⟨m + 1, rz_xr29 (by omega) (hV j (by omega)) hW (fun y => ?_) (fun z => ?_) m 0 (by omega) (fun l h2 => absurd h2 (Nat.not_lt_zero l))⟩)⟩
    · exact rz_xr64 (by omega) (hV j (by omega)) hW (fun wk' ps' n' pc' hW' => ih (j + 1) _ _ _ _ (by omega) (by omega) (fun l h2 h3 h4 => by
        by_cases c : l = j
        · subst c; exact absurd e h4
        · exact hc l h2 (by omega) h4) (rz_LS_congr hW' (hcg _ (fun p => rfl))))
    · obtain ⟨p, hp, z1, z2⟩ := y
      rw [Bool.and_eq_true, Option.isNone_iff_eq_none] at z1
      exact h0 (rz_jms hi (by omega) hij hp z1.1 z1.2 z2 ne) _ _ _ _
    · exact rz_xr64 (by omega) (hV j (by omega)) hW (fun wk' ps' n' pc' hW' => ih (j + 1) _ _ _ _ (by omega) (by omega) (fun l h2 h3 h4 => by
        by_cases c : l = j
        · subst c
          intro p hp ho hN
          refine Bool.eq_false_iff.mpr (fun y => z ⟨p, hp, ?_, y⟩)
          rw [ho, hN]; rfl
        · exact hc l h2 (by omega) h4) (rz_LS_congr hW' (hcg _ (fun p => rfl))))
theorem rz_xf50 {post : Int32 → SX → Prop} {n i : Nat} (hn : n ≤ 10) (hi : i < n) (hV : rz_V rb n) (h4 : rz_cor rb ra i → post 4 (dr, rc, wc, pc, ac, sc, rb, ra, wk, ps, al, sv)) (h5 : ¬ rz_cor rb ra i → rz_gen rb ra i → post 5 (dr, rc, wc, pc, ac, sc, rb, ra, wk, ps, al, sv)) (h0 : ¬ rz_cor rb ra i → ¬ rz_gen rb ra i → post 0 (dr, rc, wc, pc, ac, sc, rb, ra, wk, ps, al, sv)) : ∀ (d j : Nat) (c : Int32), j + d = i → (∀ l, l < j → ¬ rz_co1 rb ra i l) → ((c = 0 ∧ ∀ l, l < j → ¬ rz_ge1 rb ra i l) ∨ (c = 1 ∧ rz_gen rb ra i)) → wX_fault_50 post (nI i) dr rc wc pc ac sc rb ra wk ps al sv (d + 1) c (nI j) := by
  have oki := hV i hi
  intro d
  induction d with
  | zero =>
    intro j c hj hl hg
    have e : j = i := by omega
    subst e
    have nc : ¬ rz_cor rb ra j := fun ⟨l, h2, h3⟩ => hl l h2 h3
    rcases hg with ⟨rfl, hg⟩ | ⟨rfl, hg⟩
    · exact br_t (nI_le (Nat.le_refl _) (by omega)) (br_t rfl (h0 nc (fun ⟨l, h2, h3⟩ => hg l h2 h3)))
    · exact br_t (nI_le (Nat.le_refl _) (by omega)) (br_f rz_x10 (h5 nc hg))
  | succ d ih =>
    intro j c hj hl hg
    have okj := hV j (by omega)
    have next : ¬ rz_co1 rb ra i j → ∀ l, l < j + 1 → ¬ rz_co1 rb ra i l := by
      intro z l h2
      by_cases q : l = j
      · rw [q]; exact z
      · exact hl l (by omega)
    have nextg : ¬ rz_ge1 rb ra i j → ((c = 0 ∧ ∀ l, l < j + 1 → ¬ rz_ge1 rb ra i l) ∨ (c = 1 ∧ rz_gen rb ra i)) := by
      intro z
      rcases hg with ⟨e, hg⟩ | hg
      · refine Or.inl ⟨e, fun l h2 => ?_⟩
        by_cases q : l = j
        · rw [q]; exact z
        · exact hg l (by omega)
      · exact Or.inr hg
    have i3 : vp_in (nI j) 10 := vp_in_nI (by omega) (by decide)
    have i1 : vp_in (nI i) 10 := vp_in_nI (by omega) (by decide)
    refine br_f (nI_ge (by omega) (by omega)) ?_
    rw [nI_clamp (n := j) (by omega), nI_clamp (n := i) (by omega)]
    refine ⟨i3, i1, br_c (fun e => nm_r (nI_1 j) (ih (j + 1) c (by omega) (next (fun z => z.1 e)) (nextg (fun z => z.1 e)))) (fun ne => ⟨i1, i3, rz_xmt oki okj (fun mt => br_f rz_x10 ⟨i3, i1, rz_xwi okj oki (fun w => br_f rz_x10 (nm_r (nI_1 j) (ih (j + 1) 1 (by omega) (next (fun z => z.2.2.1 w)) (Or.inr ⟨rfl, j, by omega, ne, w⟩)))) (fun w => br_t rfl ⟨i1, i3, rz_xwi oki okj (fun w2 => br_f rz_x10 (nm_r (nI_1 j) (ih (j + 1) c (by omega) (next (fun z => z.2.2.2 w2)) (nextg (fun z => w z.2))))) (fun w2 => br_t rfl (h4 ⟨j, by omega, ne, mt, w, w2⟩))⟩)⟩) (fun mt => br_t rfl (nm_r (nI_1 j) (ih (j + 1) c (by omega) (next (fun z => mt z.2.1)) (nextg (fun z => mt (rz_ge_mt okj oki z.2))))))⟩)⟩
theorem rz_xfault {post : Int32 → SX → Prop} {n i : Nat} (hn : n ≤ 10) (hi : i < n) (hV : rz_V rb n) (h : ∀ r, rz_FA (rz_em rb i) (rz_ov rb ra i) (rz_ms rb ra n i) (rz_cor rb ra i) (rz_gen rb ra i) r → ∀ wc pc wk ps, post r (dr, nI n, wc, pc, ac, sc, rb, ra, wk, ps, al, sv)) : wpX_fault post (dr, nI n, wc, pc, ac, sc, rb, ra, wk, ps, al, sv) (nI i) := by
  unfold wpX_fault
  dsimp only
  refine rz_xir hn (fun z => absurd ⟨i, hi, rfl⟩ z) (fun _ _ _ => br_f rz_x10 ?_)
  refine rz_xco (by omega) (fun k hk => hV k (by omega)) (fun wk ps m pc hW => ?_)
  dsimp only
  have hm : m ≤ 512 := rz_LS_room hW
  refine pk_eq m 0 (fun c => ?_) (fun c => ?_)
  · subst c
    have hE : rz_em rb i := rz_LS_zero hW
    unfold wpX_overruled
    dsimp only
    refine ⟨i + 1, rz_xo2 (by omega) (fun k hk => hV k (by omega)) (fun z wc pc wk ps => ?_) (fun z wc pc wk ps => ?_) i 0 _ _ _ _ (by omega) (fun l h2 => absurd h2 (Nat.not_lt_zero l))⟩
    · exact br_f rz_x10 (h 1 (Or.inl ⟨hE, z, rfl⟩) _ _ _ _)
    · exact br_t rfl (h 2 (Or.inr (Or.inl ⟨hE, z, rfl⟩)) _ _ _ _)
  · have hE : ¬ rz_em rb i := fun z => c (rz_LS_empty hW z)
    unfold wpX_replaceable
    dsimp only
    refine nm_r (nI_1 i) ⟨n - (i + 1) + 1, rz_xr4 hn hi hV (fun z wc pc wk ps => ?_) (fun z wc pc wk ps => ?_) (n - (i + 1)) (i + 1) _ _ m _ (by omega) (by omega) (fun l h2 h3 => absurd h3 (by omega)) (rz_LS_congr hW (fun p hp => ?_))⟩
    · exact br_f rz_x10 (h 3 (Or.inr (Or.inr (Or.inl ⟨hE, z, rfl⟩))) _ _ _ _)
    · refine br_t rfl ⟨i + 1, rz_xf50 hn hi hV (fun y => h 4 ?_ _ _ _ _) (fun y1 y2 => h 5 ?_ _ _ _ _) (fun y1 y2 => h 0 ?_ _ _ _ _) i 0 0 (by omega) (fun l h2 => absurd h2 (Nat.not_lt_zero l)) (Or.inl ⟨rfl, fun l h2 => absurd h2 (Nat.not_lt_zero l)⟩)⟩
      · exact Or.inr (Or.inr (Or.inr (Or.inl ⟨hE, z, y, rfl⟩)))
      · exact Or.inr (Or.inr (Or.inr (Or.inr (Or.inl ⟨hE, z, y1, y2, rfl⟩))))
      · exact Or.inr (Or.inr (Or.inr (Or.inr (Or.inr ⟨hE, z, y1, y2, rfl⟩))))
    · cases ho : rz_ow rb i p with
      | false => rfl
      | true => rw [rz_Fw_i1 ho]; rfl
end
end
section
/-! the reference, over the same rules -/
def rz_wh (x : Int32) : Nat := if rz_fP x = rz_tP x then rz_fP x else 2
def rz_RB (x a b c d w : Int32) : Prop := rz_ok x ∧ a = nI (rz_fS x) ∧ b = nI (rz_tS x) ∧ c = nI (rz_fD x) ∧ d = nI (rz_tD x) ∧ w = nI (rz_wh x)
def rz_YR (n : Nat) (rb ra fs ts fd td wh aa : Nat → Int32) : Prop := ∀ j, j < n → rz_RB (rb j) (fs j) (ts j) (fd j) (td j) (wh j) ∧ aa j = ra j
theorem rz_e5 {p : Nat} (h : p < 512) : nI p >>> ((5 : Int32) &&& 31) = nI (p / 32) := pk_shrN (by omega) _ 5 (by decide)
theorem rz_e1 {p : Nat} (h : p < 512) : (nI p >>> ((1 : Int32) &&& 31)) &&& 15 = nI (p % 32 / 2) := by
  rw [pk_shrN (by omega) _ 1 (by decide), pk_andN (by omega) 4 (by decide)]
  exact congrArg nI (by omega)
theorem rz_e0 {p : Nat} (h : p < 512) : nI p &&& 1 = nI (p % 32 % 2) := by
  rw [pk_andN (by omega) 1 (by decide)]
  exact congrArg nI (by omega)
theorem rz_wh_l (x : Int32) : rz_wh x < 3 := by
  unfold rz_wh
  have := rz_fPl x
  split <;> omega
theorem rz_wh_2 {x : Int32} (h : rz_ok x) (e : rz_wh x = 2) {q : Nat} (hq : q < 2) : rz_fP x ≤ q ∧ q ≤ rz_tP x := by
  unfold rz_wh at e
  have h1 := rz_fPl x
  have h2 := rz_tPl x
  have h3 := h.2.2.2
  by_cases c : rz_fP x = rz_tP x
  · rw [if_pos c] at e; omega
  · omega
theorem rz_wh_n {x : Int32} (e : ¬ rz_wh x = 2) {q : Nat} : (rz_fP x ≤ q ∧ q ≤ rz_tP x) ↔ rz_wh x = q := by
  unfold rz_wh at e ⊢
  by_cases c : rz_fP x = rz_tP x
  · rw [if_pos c]; omega
  · rw [if_neg c] at e; omega
section
variable {fn : Int32} {fs ts fd td wh aa sy rb ra : Nat → Int32}
theorem rz_ymt {post : Int32 → Prop} {i p : Nat} {x : Int32} (hi : i < 11) (hp : p < 512) (h : rz_RB x (fs i) (ts i) (fd i) (td i) (wh i)) (h1 : rz_in x p = true → post 1) (h0 : rz_in x p = false → post 0) : wpY_matches post (fn, fs, ts, fd, td, wh, aa, sy) (nI i) (nI p) := by
  obtain ⟨ok, r1, r2, r3, r4, r5⟩ := h
  have b1 := rz_fSl x
  have b2 := rz_tSl x
  have b3 := rz_fDl x
  have b4 := rz_tDl x
  have b5 := rz_wh_l x
  have hin : vp_in (nI i) 11 := vp_in_nI hi (by decide)
  have no : ¬ ((rz_fS x ≤ p / 32 ∧ p / 32 ≤ rz_tS x) ∧ (rz_fD x ≤ p % 32 / 2 ∧ p % 32 / 2 ≤ rz_tD x) ∧ (rz_fP x ≤ p % 32 % 2 ∧ p % 32 % 2 ≤ rz_tP x)) → post 0 := fun z => h0 (Bool.eq_false_iff.mpr (fun y => z (rz_in_t.mp y)))
  unfold wpY_matches
  dsimp only
  rw [nI_clamp (n := i) (by omega), r1, r2, r3, r4, r5]
  refine nm_r (rz_e5 hp) (nm_r (rz_e1 hp) (nm_r (rz_e0 hp) ⟨hin, pk_lt (p / 32) (rz_fS x) (fun c => no (fun z => ?_)) (fun c1 => ⟨hin, pk_lt (rz_tS x) (p / 32) (fun c => no (fun z => ?_)) (fun c2 => ⟨hin, pk_lt (p % 32 / 2) (rz_fD x) (fun c => no (fun z => ?_)) (fun c3 => ⟨hin, pk_lt (rz_tD x) (p % 32 / 2) (fun c => no (fun z => ?_)) (fun c4 => ⟨hin, pk_eq (rz_wh x) 2 (fun c => h1 (rz_in_t.mpr ⟨⟨c1, c2⟩, ⟨c3, c4⟩, rz_wh_2 ok c (by omega)⟩)) (fun c => ⟨hin, pk_eq (rz_wh x) (p % 32 % 2) (fun c5 => h1 (rz_in_t.mpr ⟨⟨c1, c2⟩, ⟨c3, c4⟩, (rz_wh_n c).mpr c5⟩)) (fun c5 => no (fun z => c5 ((rz_wh_n c).mp z.2.2)))⟩)⟩)⟩)⟩)⟩)⟩))
  · have := z.1.1; omega
  · have := z.1.2; omega
  · have := z.2.1.1; omega
  · have := z.2.1.2; omega
theorem rz_yf2 {post : Int32 → Prop} {n p i : Nat} {w : Int32} (hn : n ≤ 10) (hp : p < 512) (hR : rz_YR n rb ra fs ts fd td wh aa) (hw : ∀ j, j < n → (nI j = w ↔ j = i)) (h : post (rz_oI (rz_ff (rz_Fw rb i p) n))) : ∀ (d k : Nat), k + d = n → rz_ff (rz_Fw rb i p) k = none → wY_first_2 post (nI p) w (nI n) fs ts fd td wh aa sy (d + 1) (nI k) := by
  intro d
  induction d with
  | zero =>
    intro k hk hN
    have e : k = n := by omega
    subst e
    rw [hN] at h
    exact br_t (nI_le (Nat.le_refl _) (by omega)) h
  | succ d ih =>
    intro k hk hN
    refine br_f (nI_ge (by omega) (by omega)) (br_c (fun e => nm_r (nI_1 k) (ih (k + 1) (by omega) (rz_ff_s3 hN (Bool.eq_false_iff.mpr (fun z => (rz_Fw_t.mp z).1 ((hw k (by omega)).mp e)))))) (fun ne => rz_ymt (by omega) hp (hR k (by omega)).1 (fun t => br_f rz_x10 ?_) (fun t => br_t rfl (nm_r (nI_1 k) (ih (k + 1) (by omega) (rz_ff_s3 hN (rz_Fw_f t)))))))
    rw [rz_ff_some.mpr ⟨by omega, rz_Fw_t.mpr ⟨fun z => ne ((hw k (by omega)).mpr z), t⟩, rz_ff_none.mp hN⟩] at h
    exact h
theorem rz_yfi {post : Int32 → Prop} {n p i : Nat} (hn : n ≤ 10) (hp : p < 512) (hi : i < 10) (hR : rz_YR n rb ra fs ts fd td wh aa) (h : post (rz_oI (rz_ff (rz_Fw rb i p) n))) : wpY_first post (nI n, fs, ts, fd, td, wh, aa, sy) (nI p) (nI i) := by
  unfold wpY_first
  dsimp only
  exact ⟨n + 1, rz_yf2 hn hp hR (fun j hj => nI_eq (by omega) (by omega)) h n 0 (by omega) rfl⟩
theorem rz_Fw_11 {n p : Nat} (hn : n ≤ 10) : rz_ff (rz_Fw rb 11 p) n = rz_ff (fun j => rz_in (rb j) p) n := rz_ff_congr (fun j hj => rz_Fw_ne (by omega))
theorem rz_yf0 {post : Int32 → Prop} {n p : Nat} (hn : n ≤ 10) (hp : p < 512) (hR : rz_YR n rb ra fs ts fd td wh aa) (h : post (rz_oI (rz_ff (fun j => rz_in (rb j) p) n))) : wpY_first post (nI n, fs, ts, fd, td, wh, aa, sy) (nI p) (-1) := by
  unfold wpY_first
  dsimp only
  rw [← rz_Fw_11 hn] at h
  refine ⟨n + 1, rz_yf2 (i := 11) hn hp hR (fun j hj => ⟨fun z => absurd (nI_pos (n := j) (by omega)) (fun y => y (by rw [z]; decide)), fun z => absurd z (by omega)⟩) h n 0 (by omega) rfl⟩
theorem rz_ydo {post : Int32 → Prop} {n : Nat} {Q : Nat → Bool} (hn : n ≤ 10) (hR : rz_YR n rb ra fs ts fd td wh aa) (h : post (rz_dc ra (rz_ff Q n))) : ((rz_oI (rz_ff Q n) = (-3) → (post 0)) ∧ (¬ rz_oI (rz_ff Q n) = (-3) → (vp_in (rz_oI (rz_ff Q n)) 11 ∧ (post (aa (rz_oI (rz_ff Q n)).toNatClampNeg))))) := by
  rcases rz_ff_sp Q n with ⟨e, hN⟩ | ⟨k, e, hk, hq, hl⟩
  · rw [e] at h ⊢
    exact br_t rfl h
  · rw [e] at h ⊢
    refine br_f (rz_nI3 (by omega)) ⟨vp_in_nI (by omega) (by decide), ?_⟩
    show post (aa (nI k).toNatClampNeg)
    rw [nI_clamp (by omega), (hR k hk).2]
    exact h
theorem rz_ydi {post : Int32 → Prop} {n p i : Nat} (hn : n ≤ 10) (hp : p < 512) (hi : i < 10) (hR : rz_YR n rb ra fs ts fd td wh aa) (h : post (rz_dc ra (rz_ff (rz_Fw rb i p) n))) : wpY_decision post (nI n, fs, ts, fd, td, wh, aa, sy) (nI p) (nI i) := by
  unfold wpY_decision
  dsimp only
  exact rz_yfi hn hp hi hR (rz_ydo hn hR h)
theorem rz_yd0 {post : Int32 → Prop} {n p : Nat} (hn : n ≤ 10) (hp : p < 512) (hR : rz_YR n rb ra fs ts fd td wh aa) (h : post (rz_dc ra (rz_ff (fun j => rz_in (rb j) p) n))) : wpY_decision post (nI n, fs, ts, fd, td, wh, aa, sy) (nI p) (-1) := by
  unfold wpY_decision
  dsimp only
  exact rz_yf0 hn hp hR (rz_ydo hn hR h)
theorem rz_yir {post : Int32 → Prop} {n : Nat} {x : Int32} (hn : n ≤ 10) (h0 : (¬ ∃ j, j < n ∧ x = nI j) → post 0) (h1 : ∀ j, j < n → x = nI j → post 1) : wpY_isRule post (nI n, fs, ts, fd, td, wh, aa, sy) x := by
  unfold wpY_isRule
  dsimp only
  refine br_c (fun c => h0 (fun ⟨j, hj, e⟩ => ?_)) (fun c => ?_)
  · rw [e] at c; exact nI_pos (by omega) c
  · obtain ⟨j, hj, rfl⟩ := nI_of c
    refine pk_le n j (fun d => h0 (fun ⟨k, hk, e⟩ => ?_)) (fun d => h1 j d rfl)
    rw [nI_eq hj (by omega)] at e
    omega
theorem rz_512 {p : Nat} (h : p < 512) : ¬ (512 : Int32) ≤ nI p := nI_ge (b := 512) h (by decide)
theorem rz_512t : (512 : Int32) ≤ nI 512 := nI_le (a := 512) (b := 512) (Nat.le_refl _) (by decide)
theorem rz_own {n i p : Nat} (hn : n ≤ 10) (hi : i < n) : rz_oI (rz_ff (fun j => rz_in (rb j) p) n) = nI i ↔ rz_ow rb i p = true := by
  rw [rz_ow_iff hi]
  rcases rz_ff_sp (fun j => rz_in (rb j) p) n with ⟨e, hN⟩ | ⟨k, e, hk, hq, hl⟩
  · rw [e]
    exact ⟨fun z => absurd z.symm (rz_nI3 (by omega)), fun z => absurd z (by simp)⟩
  · rw [e]
    show nI k = nI i ↔ some k = some i
    rw [nI_eq (by omega) (by omega)]
    exact ⟨fun z => congrArg some z, fun z => Option.some.inj z⟩
theorem rz_yo14 {post : Int32 → Prop} {n i : Nat} (hn : n ≤ 10) (hi : i < n) (hR : rz_YR n rb ra fs ts fd td wh aa) (h : post (nI (rz_cn (rz_ow rb i) 512))) : ∀ (d p : Nat), p + d = 512 → wY_owned_14 post (nI i) (nI n) fs ts fd td wh aa sy (d + 1) (nI (rz_cn (rz_ow rb i) p)) (nI p) := by
  intro d
  induction d with
  | zero =>
    intro p hp
    have e : p = 512 := by omega
    subst e
    exact br_t rz_512t h
  | succ d ih =>
    intro p hp
    have I := ih (p + 1) (by omega)
    have s : rz_cn (rz_ow rb i) (p + 1) = rz_cn (rz_ow rb i) p + (rz_ow rb i p).toNat := rfl
    refine br_f (rz_512 (by omega)) (rz_yf0 hn (by omega) hR (br_c (fun z => ?_) (fun z => ?_)))
    · rw [(rz_own hn hi).mp z] at s
      rw [s] at I
      exact nm_r (nI_1 _) (nm_r (nI_1 p) I)
    · rw [Bool.eq_false_iff.mpr (fun y => z ((rz_own hn hi).mpr y))] at s
      rw [s] at I
      exact nm_r (nI_1 p) I
theorem rz_yow {post : Int32 → Prop} {n i : Nat} (hn : n ≤ 10) (hi : i < n) (hR : rz_YR n rb ra fs ts fd td wh aa) (h : post (nI (rz_cn (rz_ow rb i) 512))) : wpY_owned post (nI n, fs, ts, fd, td, wh, aa, sy) (nI i) := by
  unfold wpY_owned
  dsimp only
  refine rz_yir hn (fun z => absurd ⟨i, hi, rfl⟩ z) (fun _ _ _ => br_f rz_x10 ⟨512 + 1, rz_yo14 hn hi hR h 512 0 (by omega)⟩)
theorem rz_yfo12 {post : Int32 → Prop} {n i : Nat} (hn : n ≤ 10) (hi : i < n) (hR : rz_YR n rb ra fs ts fd td wh aa) (h : post (rz_oI (rz_ff (rz_ow rb i) 512))) : ∀ (d p : Nat), p + d = 512 → rz_ff (rz_ow rb i) p = none → wY_firstOwned_12 post (nI i) (nI n) fs ts fd td wh aa sy (d + 1) (nI p) := by
  intro d
  induction d with
  | zero =>
    intro p hp hN
    have e : p = 512 := by omega
    subst e
    rw [hN] at h
    exact br_t rz_512t h
  | succ d ih =>
    intro p hp hN
    refine br_f (rz_512 (by omega)) (rz_yf0 hn (by omega) hR (br_c (fun z => ?_) (fun z => nm_r (nI_1 p) (ih (p + 1) (by omega) (rz_ff_s3 hN (Bool.eq_false_iff.mpr (fun y => z ((rz_own hn hi).mpr y))))))))
    rw [rz_ff_some.mpr ⟨by omega, (rz_own hn hi).mp z, rz_ff_none.mp hN⟩] at h
    exact h
theorem rz_yfo {post : Int32 → Prop} {n i : Nat} (hn : n ≤ 10) (hi : i < n) (hR : rz_YR n rb ra fs ts fd td wh aa) (h : post (rz_oI (rz_ff (rz_ow rb i) 512))) : wpY_firstOwned post (nI n, fs, ts, fd, td, wh, aa, sy) (nI i) := by
  unfold wpY_firstOwned
  dsimp only
  refine rz_yir hn (fun z => absurd ⟨i, hi, rfl⟩ z) (fun _ _ _ => br_f rz_x10 ⟨512 + 1, rz_yfo12 hn hi hR h 512 0 (by omega) rfl⟩)
/-! fault -/
def rz_ct1 (rb act : Nat → Int32) (n i p : Nat) : Prop := rz_in (rb i) p = true ∧ ¬ rz_dc act (rz_ff (fun j => rz_in (rb j) p) n) = act i
theorem rz_yct {post : Int32 → Prop} {n i : Nat} (hn : n ≤ 10) (hi : i < n) (hR : rz_YR n rb ra fs ts fd td wh aa) (h1 : (∃ p, p < 512 ∧ rz_ct1 rb ra n i p) → post 1) (h0 : (∀ p, p < 512 → ¬ rz_ct1 rb ra n i p) → post 0) : ∀ (d p : Nat), p + d = 512 → (∀ q, q < p → ¬ rz_ct1 rb ra n i q) → wY_contradicted_2 post (nI i) (nI n) fs ts fd td wh aa sy (d + 1) (nI p) := by
  intro d
  induction d with
  | zero =>
    intro p hp hl
    have e : p = 512 := by omega
    subst e
    exact br_t rz_512t (h0 hl)
  | succ d ih =>
    intro p hp hl
    have next : ¬ rz_ct1 rb ra n i p → ∀ q, q < p + 1 → ¬ rz_ct1 rb ra n i q := by
      intro z q hq
      by_cases c : q = p
      · rw [c]; exact z
      · exact hl q (by omega)
    refine br_f (rz_512 (by omega)) (rz_ymt (by omega) (by omega) (hR i hi).1 (fun t => br_f rz_x10 (rz_yd0 hn (by omega) hR ?_)) (fun t => br_t rfl (nm_r (nI_1 p) (ih (p + 1) (by omega) (next (fun z => ?_))))))
    · rw [nI_clamp (by omega), (hR i hi).2]
      exact ⟨vp_in_nI (by omega) (by decide), br_c (fun e => nm_r (nI_1 p) (ih (p + 1) (by omega) (next (fun z => z.2 e)))) (fun ne => h1 ⟨p, by omega, t, ne⟩)⟩
    · have z1 := z.1
      rw [t] at z1
      exact absurd z1 (by simp)
def rz_ms1 (rb act : Nat → Int32) (n i p : Nat) : Prop := ¬ rz_dc act (rz_ff (fun j => rz_in (rb j) p) n) = rz_dc act (rz_ff (rz_Fw rb i p) n)
theorem rz_yms2 {post : Int32 → Prop} {n i : Nat} (hn : n ≤ 10) (hi : i < n) (hR : rz_YR n rb ra fs ts fd td wh aa) (h1 : rz_ms rb ra n i → post 1) (h0 : ¬ rz_ms rb ra n i → post 0) : ∀ (d p : Nat), p + d = 512 → (∀ q, q < p → ¬ rz_ms1 rb ra n i q) → wY_missed_2 post (nI i) (nI n) fs ts fd td wh aa sy (d + 1) (nI p) := by
  intro d
  induction d with
  | zero =>
    intro p hp hl
    have e : p = 512 := by omega
    subst e
    exact br_t rz_512t (h0 (fun ⟨q, h2, h3⟩ => hl q h2 h3))
  | succ d ih =>
    intro p hp hl
    refine br_f (rz_512 (by omega)) (rz_yd0 hn (by omega) hR (rz_ydi hn (by omega) (by omega) hR (br_c (fun e => nm_r (nI_1 p) (ih (p + 1) (by omega) (fun q hq => ?_))) (fun ne => h1 ⟨p, by omega, ne⟩))))
    by_cases c : q = p
    · rw [c]; exact fun z => z e
    · exact hl q (by omega)
def rz_b01 (b : Bool) : Int32 := if b = true then 1 else 0
def rz_so1 (rb : Nat → Int32) (i j : Nat) (a b : Bool) (p : Nat) : Prop := rz_in (rb i) p = a ∧ rz_in (rb j) p = b
theorem rz_b01e {a b : Bool} : rz_b01 a = rz_b01 b ↔ a = b := by cases a <;> cases b <;> decide
theorem rz_ymb {post : Int32 → Prop} {i p : Nat} {x : Int32} (hi : i < 11) (hp : p < 512) (h : rz_RB x (fs i) (ts i) (fd i) (td i) (wh i)) (h1 : post (rz_b01 (rz_in x p))) : wpY_matches post (fn, fs, ts, fd, td, wh, aa, sy) (nI i) (nI p) :=
  rz_ymt hi hp h (fun t => by rw [t] at h1; exact h1) (fun t => by rw [t] at h1; exact h1)
theorem rz_yso3 {post : Int32 → Prop} {n i j : Nat} {a b : Bool} (hn : n ≤ 10) (hi : i < n) (hj : j < n) (hR : rz_YR n rb ra fs ts fd td wh aa) (h1 : (∃ p, p < 512 ∧ rz_so1 rb i j a b p) → post 1) (h0 : (¬ ∃ p, p < 512 ∧ rz_so1 rb i j a b p) → post 0) : ∀ (d p : Nat), p + d = 512 → (∀ q, q < p → ¬ rz_so1 rb i j a b q) → wY_some_3 post (nI i) (rz_b01 a) (nI j) (rz_b01 b) (nI n) fs ts fd td wh aa sy (d + 1) (nI p) := by
  intro d
  induction d with
  | zero =>
    intro p hp hl
    have e : p = 512 := by omega
    subst e
    exact br_t rz_512t (h0 (fun ⟨q, h2, h3⟩ => hl q h2 h3))
  | succ d ih =>
    intro p hp hl
    have next : ¬ rz_so1 rb i j a b p → ∀ q, q < p + 1 → ¬ rz_so1 rb i j a b q := by
      intro z q hq
      by_cases c : q = p
      · rw [c]; exact z
      · exact hl q (by omega)
    exact br_f (rz_512 (by omega)) (rz_ymb (by omega) (by omega) (hR i hi).1 (br_c (fun e => rz_ymb (by omega) (by omega) (hR j hj).1 (br_c (fun e2 => h1 ⟨p, by omega, rz_b01e.mp e, rz_b01e.mp e2⟩) (fun e2 => nm_r (nI_1 p) (ih (p + 1) (by omega) (next (fun z => e2 (rz_b01e.mpr z.2))))))) (fun e => nm_r (nI_1 p) (ih (p + 1) (by omega) (next (fun z => e (rz_b01e.mpr z.1)))))))
theorem rz_yso {post : Int32 → Prop} {n i j : Nat} {x y : Int32} (a b : Bool) (hn : n ≤ 10) (hi : i < n) (hj : j < n) (hR : rz_YR n rb ra fs ts fd td wh aa) (hx : x = rz_b01 a) (hy : y = rz_b01 b) (h1 : (∃ p, p < 512 ∧ rz_so1 rb i j a b p) → post 1) (h0 : (¬ ∃ p, p < 512 ∧ rz_so1 rb i j a b p) → post 0) : wpY_some post (nI n, fs, ts, fd, td, wh, aa, sy) (nI i) x (nI j) y := by
  subst hx hy
  unfold wpY_some
  dsimp only
  exact ⟨512 + 1, rz_yso3 hn hi hj hR h1 h0 512 0 (by omega) (fun q hq => absurd hq (Nat.not_lt_zero q))⟩
theorem rz_so_11 {i j : Nat} (hi : rz_ok (rb i)) (hj : rz_ok (rb j)) : (∃ p, p < 512 ∧ rz_so1 rb i j true true p) ↔ rz_mt (rb i) (rb j) := (rz_mt_in hi hj).symm
theorem rz_so_10 {i j : Nat} (hi : rz_ok (rb i)) : (∃ p, p < 512 ∧ rz_so1 rb i j true false p) ↔ ¬ rz_wi (rb i) (rb j) := by
  rw [rz_wi_in hi]
  constructor
  · rintro ⟨p, hp, h1, h2⟩ z
    rw [z p hp h1] at h2
    exact absurd h2 (by simp)
  · intro z
    apply Classical.byContradiction
    intro y
    exact z (fun p hp h1 => Bool.not_eq_false _ ▸ (fun h2 => y ⟨p, hp, h1, h2⟩))
theorem rz_so_01 {i j : Nat} (hj : rz_ok (rb j)) : (∃ p, p < 512 ∧ rz_so1 rb i j false true p) ↔ ¬ rz_wi (rb j) (rb i) := by
  rw [← rz_so_10 (rb := rb) (j := i) hj]
  exact ⟨fun ⟨p, hp, h1, h2⟩ => ⟨p, hp, h2, h1⟩, fun ⟨p, hp, h1, h2⟩ => ⟨p, hp, h2, h1⟩⟩
theorem rz_yco2 {post : Int32 → Prop} {n i : Nat} (hn : n ≤ 10) (hi : i < n) (hR : rz_YR n rb ra fs ts fd td wh aa) (h1 : rz_cor rb ra i → post 1) (h0 : ¬ rz_cor rb ra i → post 0) : ∀ (d j : Nat), j + d = i → (∀ l, l < j → ¬ rz_co1 rb ra i l) → wY_correlated_2 post (nI i) (nI n) fs ts fd td wh aa sy (d + 1) (nI j) := by
  have oki := (hR i hi).1.1
  intro d
  induction d with
  | zero =>
    intro j hj hl
    have e : j = i := by omega
    subst e
    exact br_t (nI_le (Nat.le_refl _) (by omega)) (h0 (fun ⟨l, h2, h3⟩ => hl l h2 h3))
  | succ d ih =>
    intro j hj hl
    have okj := (hR j (by omega)).1.1
    have next : ¬ rz_co1 rb ra i j → ∀ l, l < j + 1 → ¬ rz_co1 rb ra i l := by
      intro z l h2
      by_cases q : l = j
      · rw [q]; exact z
      · exact hl l (by omega)
    refine br_f (nI_ge (by omega) (by omega)) ?_
    rw [nI_clamp (n := j) (by omega), nI_clamp (n := i) (by omega), (hR j (by omega)).2, (hR i hi).2]
    refine ⟨vp_in_nI (by omega) (by decide), vp_in_nI (by omega) (by decide), br_c (fun e => nm_r (nI_1 j) (ih (j + 1) (by omega) (next (fun z => z.1 e)))) (fun ne => rz_yso true true hn hi (by omega) hR rfl rfl (fun a => br_f rz_x10 (rz_yso true false hn hi (by omega) hR rfl rfl (fun b => br_f rz_x10 (rz_yso false true hn hi (by omega) hR rfl rfl (fun c => br_f rz_x10 (h1 ⟨j, by omega, ne, (rz_so_11 oki okj).mp a, (rz_so_01 okj).mp c, (rz_so_10 oki).mp b⟩)) (fun c => br_t rfl (nm_r (nI_1 j) (ih (j + 1) (by omega) (next (fun z => c ((rz_so_01 okj).mpr z.2.2.1)))))))) (fun b => br_t rfl (nm_r (nI_1 j) (ih (j + 1) (by omega) (next (fun z => b ((rz_so_10 oki).mpr z.2.2.2)))))))) (fun a => br_t rfl (nm_r (nI_1 j) (ih (j + 1) (by omega) (next (fun z => a ((rz_so_11 oki okj).mpr z.2.1)))))))⟩
theorem rz_yge2 {post : Int32 → Prop} {n i : Nat} (hn : n ≤ 10) (hi : i < n) (hR : rz_YR n rb ra fs ts fd td wh aa) (h1 : rz_gen rb ra i → post 1) (h0 : ¬ rz_gen rb ra i → post 0) : ∀ (d j : Nat), j + d = i → (∀ l, l < j → ¬ rz_ge1 rb ra i l) → wY_general_2 post (nI i) (nI n) fs ts fd td wh aa sy (d + 1) (nI j) := by
  intro d
  induction d with
  | zero =>
    intro j hj hl
    have e : j = i := by omega
    subst e
    exact br_t (nI_le (Nat.le_refl _) (by omega)) (h0 (fun ⟨l, h2, h3⟩ => hl l h2 h3))
  | succ d ih =>
    intro j hj hl
    have okj := (hR j (by omega)).1.1
    have next : ¬ rz_ge1 rb ra i j → ∀ l, l < j + 1 → ¬ rz_ge1 rb ra i l := by
      intro z l h2
      by_cases q : l = j
      · rw [q]; exact z
      · exact hl l (by omega)
    refine br_f (nI_ge (by omega) (by omega)) ?_
    rw [nI_clamp (n := j) (by omega), nI_clamp (n := i) (by omega), (hR j (by omega)).2, (hR i hi).2]
    refine ⟨vp_in_nI (by omega) (by decide), vp_in_nI (by omega) (by decide), br_c (fun e => nm_r (nI_1 j) (ih (j + 1) (by omega) (next (fun z => z.1 e)))) (fun ne => rz_yso false true hn hi (by omega) hR rfl rfl (fun a => br_f rz_x10 (nm_r (nI_1 j) (ih (j + 1) (by omega) (next (fun z => (rz_so_01 okj).mp a z.2))))) (fun a => br_t rfl (h1 ⟨j, by omega, ne, Classical.byContradiction (fun z => a ((rz_so_01 okj).mpr z))⟩)))⟩
theorem rz_cn0 {Q : Nat → Bool} {n : Nat} : rz_cn Q n = 0 ↔ ∀ p, p < n → Q p = false := by
  induction n with
  | zero => exact ⟨fun _ p hp => absurd hp (Nat.not_lt_zero p), fun _ => rfl⟩
  | succ n ih =>
    have s : rz_cn Q (n + 1) = rz_cn Q n + (Q n).toNat := rfl
    rw [s]
    constructor
    · intro h p hp
      by_cases c : p = n
      · rw [c]
        cases q : Q n with
        | false => rfl
        | true => rw [q] at h; exact absurd h (by simp)
      · exact ih.mp (by omega) p (by omega)
    · intro h
      rw [ih.mpr (fun p hp => h p (by omega)), h n (by omega)]; rfl
/-- where rule i owns nothing, being overruled is being contradicted -/
theorem rz_ct_ov {n i : Nat} (hi : i < n) (hE : rz_em rb i) : (∃ p, p < 512 ∧ rz_ct1 rb ra n i p) ↔ rz_ov rb ra i := by
  constructor
  · rintro ⟨p, hp, h1, h2⟩
    rcases rz_ff_sp (fun j => rz_in (rb j) p) n with ⟨e, hN⟩ | ⟨k, e, hk, hq, hl⟩
    · have := hN i hi
      rw [h1] at this
      exact absurd this (by simp)
    · rw [e] at h2
      have hki : k < i := by
        rcases Nat.lt_trichotomy k i with c | c | c
        · exact c
        · subst c
          have := (rz_ow_iff hi).mpr e
          rw [hE p hp] at this
          exact absurd this (by simp)
        · have := hl i c
          rw [h1] at this
          exact absurd this (by simp)
      exact ⟨k, hki, h2, p, hp, (rz_ow_iff hk).mpr e, h1⟩
  · rintro ⟨k, hk, h1, p, hp, h2, h3⟩
    refine ⟨p, hp, h3, ?_⟩
    rw [(rz_ow_iff (n := n) (by omega)).mp h2]
    exact h1
theorem rz_yfault {post : Int32 → Prop} {n i : Nat} (hn : n ≤ 10) (hi : i < n) (hR : rz_YR n rb ra fs ts fd td wh aa) (h : ∀ r, rz_FA (rz_em rb i) (rz_ov rb ra i) (rz_ms rb ra n i) (rz_cor rb ra i) (rz_gen rb ra i) r → post r) : wpY_fault post (nI n, fs, ts, fd, td, wh, aa, sy) (nI i) := by
  unfold wpY_fault
  dsimp only
  refine rz_yir hn (fun z => absurd ⟨i, hi, rfl⟩ z) (fun _ _ _ => br_f rz_x10 ?_)
  have hc := rz_cn_le (rz_ow rb i) 512
  refine rz_yow hn hi hR (pk_eq (rz_cn (rz_ow rb i) 512) 0 (fun c => ?_) (fun c => ?_))
  · have hE : rz_em rb i := rz_cn0.mp c
    unfold wpY_contradicted
    dsimp only
    refine ⟨512 + 1, rz_yct hn hi hR (fun z => br_f rz_x10 (h 1 (Or.inl ⟨hE, (rz_ct_ov hi hE).mp z, rfl⟩))) (fun z => br_t rfl (h 2 (Or.inr (Or.inl ⟨hE, fun y => ?_, rfl⟩)))) 512 0 (by omega) (fun q hq => absurd hq (Nat.not_lt_zero q))⟩
    obtain ⟨p, hp, w⟩ := (rz_ct_ov hi hE).mpr y
    exact z p hp w
  · have hE : ¬ rz_em rb i := fun z => c (rz_cn0.mpr z)
    unfold wpY_missed
    dsimp only
    refine ⟨512 + 1, rz_yms2 hn hi hR (fun z => br_f rz_x10 ?_) (fun z => br_t rfl (h 3 (Or.inr (Or.inr (Or.inl ⟨hE, z, rfl⟩))))) 512 0 (by omega) (fun q hq => absurd hq (Nat.not_lt_zero q))⟩
    unfold wpY_correlated
    dsimp only
    refine ⟨i + 1, rz_yco2 hn hi hR (fun y => br_f rz_x10 (h 4 (Or.inr (Or.inr (Or.inr (Or.inl ⟨hE, z, y, rfl⟩)))))) (fun y => br_t rfl ?_) i 0 (by omega) (fun q hq => absurd hq (Nat.not_lt_zero q))⟩
    unfold wpY_general
    dsimp only
    exact ⟨i + 1, rz_yge2 hn hi hR (fun w => br_f rz_x10 (h 5 (Or.inr (Or.inr (Or.inr (Or.inr (Or.inl ⟨hE, z, y, w, rfl⟩))))))) (fun w => br_t rfl (h 0 (Or.inr (Or.inr (Or.inr (Or.inr (Or.inr ⟨hE, z, y, w, rfl⟩))))))) i 0 (by omega) (fun q hq => absurd hq (Nat.not_lt_zero q))⟩
end
end
section
/-! the reference: save, changed, firstChanged -/
theorem rz_bI {a b : Bool} : nI a.toNat = nI b.toNat ↔ a = b := by cases a <;> cases b <;> decide
section
variable {fn : Int32} {fs ts fd td wh aa sy rb ra : Nat → Int32}
theorem rz_dc_aw {n p : Nat} (h01 : ∀ j, j < n → ra j = 0 ∨ ra j = 1) : rz_dc ra (rz_ff (fun j => rz_in (rb j) p) n) = nI (rz_aw rb ra n p).toNat := by
  unfold rz_aw
  rcases rz_ff_sp (fun j => rz_in (rb j) p) n with ⟨e, hN⟩ | ⟨k, e, hk, hq, hl⟩
  · rw [e]; rfl
  · rw [e]
    show ra k = nI (decide (¬ ra k = 0)).toNat
    rcases h01 k hk with c | c
    · rw [c]; decide
    · rw [c]; decide
theorem rz_ys4 {post : Int32 → SY → Prop} {n : Nat} (hn : n ≤ 10) (hR : rz_YR n rb ra fs ts fd td wh aa) (h01 : ∀ j, j < n → ra j = 0 ∨ ra j = 1) (h : ∀ sy', (∀ p, p < 512 → sy' p = nI (rz_aw rb ra n p).toNat) → post (nI (rz_cn (rz_aw rb ra n) 512)) (nI n, fs, ts, fd, td, wh, aa, sy')) : ∀ (d p : Nat) (sy : Nat → Int32), p + d = 512 → (∀ q, q < p → sy q = nI (rz_aw rb ra n q).toNat) → wY_save_4 post (nI n) (d + 1) (nI (rz_cn (rz_aw rb ra n) p)) (nI p) fs ts fd td wh aa sy := by
  intro d
  induction d with
  | zero =>
    intro p sy hp hs
    have e : p = 512 := by omega
    subst e
    exact br_t rz_512t (h sy hs)
  | succ d ih =>
    intro p sy hp hs
    have i1 : vp_in (nI p) 512 := vp_in_nI (by omega) (by decide)
    refine br_f (rz_512 (by omega)) (rz_yd0 hn (by omega) hR ?_)
    rw [rz_dc_aw h01, nI_clamp (by omega)]
    refine ⟨i1, nm_e ⟨i1, nm_r ?_ (nm_r (nI_1 p) (ih (p + 1) _ (by omega) (fun q hq => ?_)))⟩⟩
    · rw [pk_us, nI_add]; rfl
    · by_cases c : q = p
      · subst c; exact pk_us
      · rw [pk_un c]; exact hs q (by omega)
theorem rz_ysave {post : Int32 → SY → Prop} {n : Nat} (hn : n ≤ 10) (hR : rz_YR n rb ra fs ts fd td wh aa) (h01 : ∀ j, j < n → ra j = 0 ∨ ra j = 1) (h : ∀ sy', (∀ p, p < 512 → sy' p = nI (rz_aw rb ra n p).toNat) → post (nI (rz_cn (rz_aw rb ra n) 512)) (nI n, fs, ts, fd, td, wh, aa, sy')) : wpY_save post (nI n, fs, ts, fd, td, wh, aa, sy) := by
  unfold wpY_save
  dsimp only
  exact ⟨512 + 1, rz_ys4 hn hR h01 h 512 0 sy (by omega) (fun q hq => absurd hq (Nat.not_lt_zero q))⟩
theorem rz_yc4 {post : Int32 → Prop} {n : Nat} {B : Nat → Bool} (hn : n ≤ 10) (hR : rz_YR n rb ra fs ts fd td wh aa) (h01 : ∀ j, j < n → ra j = 0 ∨ ra j = 1) (hB : ∀ p, p < 512 → sy p = nI (B p).toNat) (h : post (nI (rz_cn (fun p => rz_aw rb ra n p ^^ B p) 512))) : ∀ (d p : Nat), p + d = 512 → wY_changed_4 post (nI n) fs ts fd td wh aa sy (d + 1) (nI (rz_cn (fun p => rz_aw rb ra n p ^^ B p) p)) (nI p) := by
  intro d
  induction d with
  | zero =>
    intro p hp
    have e : p = 512 := by omega
    subst e
    exact br_t rz_512t h
  | succ d ih =>
    intro p hp
    have I := ih (p + 1) (by omega)
    have s : rz_cn (fun p => rz_aw rb ra n p ^^ B p) (p + 1) = rz_cn (fun p => rz_aw rb ra n p ^^ B p) p + (rz_aw rb ra n p ^^ B p).toNat := rfl
    refine br_f (rz_512 (by omega)) (rz_yd0 hn (by omega) hR ?_)
    rw [rz_dc_aw h01, nI_clamp (by omega), hB p (by omega)]
    refine ⟨vp_in_nI (by omega) (by decide), br_c (fun e => ?_) (fun e => ?_)⟩
    · rw [rz_bI.mp e, Bool.xor_self] at s
      rw [s] at I
      exact nm_r (nI_1 p) I
    · have t : (rz_aw rb ra n p ^^ B p) = true := by
        have ne : ¬ rz_aw rb ra n p = B p := fun z => e (rz_bI.mpr z)
        revert ne
        cases rz_aw rb ra n p <;> cases B p <;> simp
      rw [t] at s
      rw [s] at I
      exact nm_r (nI_1 _) (nm_r (nI_1 p) I)
theorem rz_ychg {post : Int32 → Prop} {n : Nat} {B : Nat → Bool} (hn : n ≤ 10) (hR : rz_YR n rb ra fs ts fd td wh aa) (h01 : ∀ j, j < n → ra j = 0 ∨ ra j = 1) (hB : ∀ p, p < 512 → sy p = nI (B p).toNat) (h : post (nI (rz_cn (fun p => rz_aw rb ra n p ^^ B p) 512))) : wpY_changed post (nI n, fs, ts, fd, td, wh, aa, sy) := by
  unfold wpY_changed
  dsimp only
  exact ⟨512 + 1, rz_yc4 hn hR h01 hB h 512 0 (by omega)⟩
theorem rz_yfc2 {post : Int32 → Prop} {n : Nat} {B : Nat → Bool} (hn : n ≤ 10) (hR : rz_YR n rb ra fs ts fd td wh aa) (h01 : ∀ j, j < n → ra j = 0 ∨ ra j = 1) (hB : ∀ p, p < 512 → sy p = nI (B p).toNat) (h : post (rz_oI (rz_ff (fun p => rz_aw rb ra n p ^^ B p) 512))) : ∀ (d p : Nat), p + d = 512 → rz_ff (fun p => rz_aw rb ra n p ^^ B p) p = none → wY_firstChanged_2 post (nI n) fs ts fd td wh aa sy (d + 1) (nI p) := by
  intro d
  induction d with
  | zero =>
    intro p hp hN
    have e : p = 512 := by omega
    subst e
    rw [hN] at h
    exact br_t rz_512t h
  | succ d ih =>
    intro p hp hN
    refine br_f (rz_512 (by omega)) (rz_yd0 hn (by omega) hR ?_)
    rw [rz_dc_aw h01, nI_clamp (by omega), hB p (by omega)]
    refine ⟨vp_in_nI (by omega) (by decide), br_c (fun e => nm_r (nI_1 p) (ih (p + 1) (by omega) (rz_ff_s3 hN ?_))) (fun e => ?_)⟩
    · rw [rz_bI.mp e, Bool.xor_self]
    · have t : (rz_aw rb ra n p ^^ B p) = true := by
        have ne : ¬ rz_aw rb ra n p = B p := fun z => e (rz_bI.mpr z)
        revert ne
        cases rz_aw rb ra n p <;> cases B p <;> simp
      rw [rz_ff_some.mpr ⟨by omega, t, rz_ff_none.mp hN⟩] at h
      exact h
theorem rz_yfch {post : Int32 → Prop} {n : Nat} {B : Nat → Bool} (hn : n ≤ 10) (hR : rz_YR n rb ra fs ts fd td wh aa) (h01 : ∀ j, j < n → ra j = 0 ∨ ra j = 1) (hB : ∀ p, p < 512 → sy p = nI (B p).toNat) (h : post (rz_oI (rz_ff (fun p => rz_aw rb ra n p ^^ B p) 512))) : wpY_firstChanged post (nI n, fs, ts, fd, td, wh, aa, sy) := by
  unfold wpY_firstChanged
  dsimp only
  exact ⟨512 + 1, rz_yfc2 hn hR h01 hB h 512 0 (by omega) rfl⟩
end
end
section
/-! the draft, insertion and removal -/
theorem rz_edS {x : Int32} (h : rz_cd x) {a b : Nat} (ha : a < 16) (hb : b < 16) : ((x &&& (((255 : Int32) <<< ((10 : Int32) &&& 31)) ^^^ (-1))) ||| (nI a <<< (((10 : Int32) + 4) &&& 31))) ||| (nI b <<< ((10 : Int32) &&& 31)) = rz_wS x a b := by
  obtain ⟨h1, h2⟩ := rz_cd_cl h
  unfold rz_wS
  generalize x.toNatClampNeg = n at *
  subst h2
  rw [rz_andS h1]
  exact rz_eS3 (Nat.mod_lt _ (by decide)) ha hb (by decide) (by decide)
theorem rz_edD {x : Int32} (h : rz_cd x) {a b : Nat} (ha : a < 16) (hb : b < 16) : ((x &&& (((255 : Int32) <<< ((2 : Int32) &&& 31)) ^^^ (-1))) ||| (nI a <<< (((2 : Int32) + 4) &&& 31))) ||| (nI b <<< ((2 : Int32) &&& 31)) = rz_wD x a b := by
  rw [show (((255 : Int32) <<< ((2 : Int32) &&& 31)) ^^^ (-1)) = -1021 from by decide]
  exact rz_ewD h ha hb (by decide) (by decide)
theorem rz_RB_S {x c d w y z : Int32} {a b : Nat} (h : rz_RB x y z c d w) (hab : a ≤ b) (hb : b < 16) : rz_RB (rz_wS x a b) (nI a) (nI b) c d w := by
  obtain ⟨ok, _, _, r3, r4, r5⟩ := h
  obtain ⟨e1, e2, e3, e4, e5, e6⟩ := rz_wS_f ok.1 (Nat.lt_of_le_of_lt hab hb) hb
  refine ⟨rz_wS_ok ok hab hb, by rw [e1], by rw [e2], by rw [e3]; exact r3, by rw [e4]; exact r4, ?_⟩
  unfold rz_wh at r5 ⊢
  rw [e5, e6]; exact r5
theorem rz_RB_D {x c d w y z : Int32} {a b : Nat} (h : rz_RB x c d y z w) (hab : a ≤ b) (hb : b < 16) : rz_RB (rz_wD x a b) c d (nI a) (nI b) w := by
  obtain ⟨ok, r1, r2, _, _, r5⟩ := h
  obtain ⟨e1, e2, e3, e4, e5, e6⟩ := rz_wD_f ok.1 (Nat.lt_of_le_of_lt hab hb) hb
  refine ⟨rz_wD_ok ok hab hb, by rw [e3]; exact r1, by rw [e4]; exact r2, by rw [e1], by rw [e2], ?_⟩
  unfold rz_wh at r5 ⊢
  rw [e5, e6]; exact r5
theorem rz_RB_P {x a b c d w : Int32} {k m : Nat} (h : rz_RB x a b c d w) (hk : k < 4) (hab : k / 2 ≤ k % 2) (hm : (if k / 2 = k % 2 then k / 2 else 2) = m) : rz_RB (rz_wP x k) a b c d (nI m) := by
  obtain ⟨ok, r1, r2, r3, r4, _⟩ := h
  obtain ⟨e1, e2, e3, e4, e5, e6⟩ := rz_wP_f ok.1 hk
  refine ⟨rz_wP_ok ok hk hab, by rw [e3]; exact r1, by rw [e4]; exact r2, by rw [e5]; exact r3, by rw [e6]; exact r4, ?_⟩
  unfold rz_wh
  rw [e1, e2, hm]
def rz_sh (i n : Nat) (a a' : Nat → Int32) : Prop := (∀ j, j < i → a' j = a j) ∧ (∀ j, i ≤ j → j < n → a' (j + 1) = a j) ∧ ∀ j, n < j → a' j = a j
def rz_ins (i n : Nat) (x : Int32) (a a' : Nat → Int32) : Prop := (∀ j, j < i → a' j = a j) ∧ a' i = x ∧ (∀ j, i ≤ j → j < n → a' (j + 1) = a j) ∧ ∀ j, n < j → a' j = a j
theorem rz_sh_0 (n : Nat) (a : Nat → Int32) : rz_sh n n a a := ⟨fun _ _ => rfl, fun j h1 h2 => absurd h1 (by omega), fun _ _ => rfl⟩
theorem rz_sh_s {k n : Nat} {a a' : Nat → Int32} (h : rz_sh (k + 1) n a a') (hk : k < n) : rz_sh k n a (upd a' (k + 1) (a' k)) := by
  refine ⟨fun j hj => ?_, fun j h1 h2 => ?_, fun j hj => ?_⟩
  · rw [pk_un (by omega)]; exact h.1 j (by omega)
  · by_cases c : j = k
    · subst c; rw [pk_us]; exact h.1 j (by omega)
    · rw [pk_un (by omega)]; exact h.2.1 j (by omega) h2
  · rw [pk_un (by omega)]; exact h.2.2 j hj
theorem rz_sh_e {i n : Nat} {x : Int32} {a a' : Nat → Int32} (h : rz_sh i n a a') (hi : i ≤ n) : rz_ins i n x a (upd a' i x) := by
  refine ⟨fun j hj => ?_, pk_us, fun j h1 h2 => ?_, fun j hj => ?_⟩
  · rw [pk_un (by omega)]; exact h.1 j hj
  · rw [pk_un (by omega)]; exact h.2.1 j h1 h2
  · rw [pk_un (by omega)]; exact h.2.2 j hj
theorem rz_ins_u {i n : Nat} {x y : Int32} {a a' : Nat → Int32} (h : rz_ins i n x a a') (hi : i ≤ n) : rz_ins i n y a (upd a' i y) :=
  rz_sh_e ⟨h.1, h.2.2.1, h.2.2.2⟩ hi
theorem rz_ins_YR {i n : Nat} {dr x : Int32} {rb ra fs ts fd td wh aa rb' ra' fs' ts' fd' td' wh' aa' : Nat → Int32} (hi : i ≤ n) (hR : rz_YR n rb ra fs ts fd td wh aa) (hD : rz_RB dr (fs 10) (ts 10) (fd 10) (td 10) (wh 10)) (a1 : rz_ins i n dr rb rb') (a2 : rz_ins i n x ra ra') (b1 : rz_ins i n (fs 10) fs fs') (b2 : rz_ins i n (ts 10) ts ts') (b3 : rz_ins i n (fd 10) fd fd') (b4 : rz_ins i n (td 10) td td') (b5 : rz_ins i n (wh 10) wh wh') (b6 : rz_ins i n x aa aa') : rz_YR (n + 1) rb' ra' fs' ts' fd' td' wh' aa' := by
  intro j hj
  rcases Nat.lt_trichotomy j i with c | c | c
  · rw [a1.1 j c, a2.1 j c, b1.1 j c, b2.1 j c, b3.1 j c, b4.1 j c, b5.1 j c, b6.1 j c]
    exact hR j (by omega)
  · subst c
    rw [a1.2.1, a2.2.1, b1.2.1, b2.2.1, b3.2.1, b4.2.1, b5.2.1, b6.2.1]
    exact ⟨hD, rfl⟩
  · obtain ⟨l, rfl⟩ : ∃ l, j = l + 1 := ⟨j - 1, by omega⟩
    have h1 : i ≤ l := by omega
    have h2 : l < n := by omega
    rw [a1.2.2.1 l h1 h2, a2.2.2.1 l h1 h2, b1.2.2.1 l h1 h2, b2.2.2.1 l h1 h2, b3.2.2.1 l h1 h2, b4.2.2.1 l h1 h2, b5.2.2.1 l h1 h2, b6.2.2.1 l h1 h2]
    exact hR l h2
theorem rz_ins_01 {i n : Nat} {x : Int32} {a a' : Nat → Int32} (hx : x = 0 ∨ x = 1) (h : rz_ins i n x a a') (h01 : ∀ j, j < n → a j = 0 ∨ a j = 1) (hi : i ≤ n) : ∀ j, j < n + 1 → a' j = 0 ∨ a' j = 1 := by
  intro j hj
  rcases Nat.lt_trichotomy j i with c | c | c
  · rw [h.1 j c]; exact h01 j (by omega)
  · subst c; rw [h.2.1]; exact hx
  · obtain ⟨l, rfl⟩ : ∃ l, j = l + 1 := ⟨j - 1, by omega⟩
    rw [h.2.2.1 l (by omega) (by omega)]
    exact h01 l (by omega)
def rz_de (i j : Nat) (a a' : Nat → Int32) : Prop := (∀ l, l < i → a' l = a l) ∧ (∀ l, i ≤ l → l < j → a' l = a (l + 1)) ∧ ∀ l, j ≤ l → a' l = a l
theorem rz_de_0 (i : Nat) (a : Nat → Int32) : rz_de i i a a := ⟨fun _ _ => rfl, fun l h1 h2 => absurd h1 (by omega), fun _ _ => rfl⟩
theorem rz_de_s {i j : Nat} {a a' : Nat → Int32} (h : rz_de i j a a') (hi : i ≤ j) : rz_de i (j + 1) a (upd a' j (a' (j + 1))) := by
  refine ⟨fun l hl => ?_, fun l h1 h2 => ?_, fun l hl => ?_⟩
  · rw [pk_un (by omega)]; exact h.1 l hl
  · by_cases c : l = j
    · subst c; rw [pk_us]; exact h.2.2 (l + 1) (by omega)
    · rw [pk_un c]; exact h.2.1 l h1 (by omega)
  · rw [pk_un (by omega)]; exact h.2.2 l (by omega)
theorem rz_de_P {i m : Nat} {a a' : Nat → Int32} (h : rz_de i m a a') (l : Nat) (hl : l < m) : (l < i ∧ a' l = a l) ∨ (i ≤ l ∧ a' l = a (l + 1)) := by
  by_cases c : l < i
  · exact Or.inl ⟨c, h.1 l c⟩
  · exact Or.inr ⟨by omega, h.2.1 l (by omega) hl⟩
theorem rz_de_YR {i m : Nat} {rb ra fs ts fd td wh aa rb' ra' fs' ts' fd' td' wh' aa' : Nat → Int32} (hR : rz_YR (m + 1) rb ra fs ts fd td wh aa) (a1 : rz_de i m rb rb') (a2 : rz_de i m ra ra') (b1 : rz_de i m fs fs') (b2 : rz_de i m ts ts') (b3 : rz_de i m fd fd') (b4 : rz_de i m td td') (b5 : rz_de i m wh wh') (b6 : rz_de i m aa aa') : rz_YR m rb' ra' fs' ts' fd' td' wh' aa' := by
  intro j hj
  by_cases c : j < i
  · rw [a1.1 j c, a2.1 j c, b1.1 j c, b2.1 j c, b3.1 j c, b4.1 j c, b5.1 j c, b6.1 j c]
    exact hR j (by omega)
  · have h1 : i ≤ j := by omega
    rw [a1.2.1 j h1 hj, a2.2.1 j h1 hj, b1.2.1 j h1 hj, b2.2.1 j h1 hj, b3.2.1 j h1 hj, b4.2.1 j h1 hj, b5.2.1 j h1 hj, b6.2.1 j h1 hj]
    exact hR (j + 1) (by omega)
theorem rz_de_01 {i m : Nat} {a a' : Nat → Int32} (h : rz_de i m a a') (h01 : ∀ j, j < m + 1 → a j = 0 ∨ a j = 1) : ∀ j, j < m → a' j = 0 ∨ a' j = 1 := by
  intro j hj
  rcases rz_de_P h j hj with ⟨_, e⟩ | ⟨_, e⟩
  · rw [e]; exact h01 j (by omega)
  · rw [e]; exact h01 (j + 1) (by omega)
theorem rz_nb {x : Int32} (h : x = 0 ∨ x = 1) : vp_nar .byte x = x := by
  rw [vp_nar_byte]
  rcases h with e | e
  · rw [e]; decide
  · rw [e]; decide
theorem rz_nb2 {x : Int32} (h : x = 0 ∨ x = 1) : vp_nar .byte x.toInt8.toInt32 = x := by
  rw [vp_nar_byte]
  rcases h with e | e
  · rw [e]; decide
  · rw [e]; decide
section
variable {dr rc wc pc ac sc : Int32} {rb ra wk ps al sv : Nat → Int32}
theorem rz_xi40 {post : Int32 → SX → Prop} {i n : Nat} {x : Int32} (hi : i ≤ n) (hn : n < 10) (hx : x = 0 ∨ x = 1) (h01 : ∀ j, j < n → ra j = 0 ∨ ra j = 1) (h : ∀ rb' ra', rz_ins i n dr rb rb' → rz_ins i n x ra ra' → post (nI (n + 1)) (dr, nI (n + 1), wc, pc, ac, sc, rb', ra', wk, ps, al, sv)) : ∀ (d k : Nat) (rb' ra' : Nat → Int32), i + d = k → k ≤ n → rz_sh k n rb rb' → rz_sh k n ra ra' → wX_insert_40 post (nI i) x dr (nI n) wc pc ac sc (d + 1) (nI k) rb' ra' wk ps al sv := by
  have ii : vp_in (nI i) 10 := vp_in_nI (by omega) (by decide)
  intro d
  induction d with
  | zero =>
    intro k rb' ra' hk hkn s1 s2
    have e : k = i := by omega
    subst e
    refine br_t (nI_le (Nat.le_refl _) (by omega)) ?_
    rw [nI_clamp (by omega), rz_nb2 hx]
    exact ⟨ii, nm_e ⟨ii, nm_e (nm_r (nI_1 n) (h _ _ (rz_sh_e s1 hi) (rz_sh_e s2 hi)))⟩⟩
  | succ d ih =>
    intro k rb' ra' hk hkn s1 s2
    obtain ⟨k, rfl⟩ : ∃ l, k = l + 1 := ⟨k - 1, by omega⟩
    refine br_f (nI_ge (by omega) (by omega)) ?_
    have i1 : vp_in (nI k) 10 := vp_in_nI (by omega) (by decide)
    have i2 : vp_in (nI (k + 1)) 10 := vp_in_nI (by omega) (by decide)
    have v : ra' k = 0 ∨ ra' k = 1 := by rw [s2.1 k (by omega)]; exact h01 k (by omega)
    rw [nI_pred, nI_clamp (n := k) (by omega), nI_clamp (n := k + 1) (by omega), rz_nb v]
    exact ⟨i1, i2, nm_e ⟨i1, i2, nm_e (nm_r (pk_m1 k) (ih k _ _ (by omega) (by omega) (rz_sh_s s1 (by omega)) (rz_sh_s s2 (by omega))))⟩⟩
theorem rz_xr22 {post : Int32 → SX → Prop} {i m : Nat} (hi : i ≤ m) (hm : m < 10) (h01 : ∀ j, j < m + 1 → ra j = 0 ∨ ra j = 1) (h : ∀ rb' ra', rz_de i m rb rb' → rz_de i m ra ra' → post (nI m) (dr, nI m, wc, pc, ac, sc, rb', ra', wk, ps, al, sv)) : ∀ (d k : Nat) (rb' ra' : Nat → Int32), k + d = m → i ≤ k → rz_de i k rb rb' → rz_de i k ra ra' → wX_remove_22 post dr (nI m) wc pc ac sc (d + 1) (nI k) rb' ra' wk ps al sv := by
  intro d
  induction d with
  | zero =>
    intro k rb' ra' hk hik s1 s2
    have e : k = m := by omega
    subst e
    exact br_t (nI_le (Nat.le_refl _) (by omega)) (h _ _ s1 s2)
  | succ d ih =>
    intro k rb' ra' hk hik s1 s2
    refine br_f (nI_ge (by omega) (by omega)) ?_
    have i1 : vp_in (nI k) 10 := vp_in_nI (by omega) (by decide)
    have i2 : vp_in (nI (k + 1)) 10 := vp_in_nI (by omega) (by decide)
    have v : ra' (k + 1) = 0 ∨ ra' (k + 1) = 1 := by rw [s2.2.2 (k + 1) (by omega)]; exact h01 (k + 1) (by omega)
    rw [nI_1, nI_clamp (n := k) (by omega), nI_clamp (n := k + 1) (by omega), rz_nb v]
    exact ⟨i2, i1, nm_e ⟨i2, i1, nm_e (nm_e (ih (k + 1) _ _ (by omega) (by omega) (rz_de_s s1 hik) (rz_de_s s2 hik)))⟩⟩
end
section
variable {fn : Int32} {fs ts fd td wh aa sy rb ra : Nat → Int32}
theorem rz_ycp {post : SY → Prop} {a b : Nat} (ha : a < 11) (hb : b < 11) (h : post (fn, upd fs b (fs a), upd ts b (ts a), upd fd b (fd a), upd td b (td a), upd wh b (wh a), upd aa b (aa a), sy)) : wpY_copy post (fn, fs, ts, fd, td, wh, aa, sy) (nI a) (nI b) := by
  have ia : vp_in (nI a) 11 := vp_in_nI ha (by decide)
  have ib : vp_in (nI b) 11 := vp_in_nI hb (by decide)
  unfold wpY_copy
  dsimp only
  rw [nI_clamp (n := a) (by omega), nI_clamp (n := b) (by omega)]
  exact ⟨ia, ib, nm_e ⟨ia, ib, nm_e ⟨ia, ib, nm_e ⟨ia, ib, nm_e ⟨ia, ib, nm_e ⟨ia, ib, nm_e h⟩⟩⟩⟩⟩⟩
theorem rz_yi40 {post : Int32 → SY → Prop} {i n : Nat} {x : Int32} (hi : i ≤ n) (hn : n < 10) (h : ∀ fs' ts' fd' td' wh' aa', rz_ins i n (fs 10) fs fs' → rz_ins i n (ts 10) ts ts' → rz_ins i n (fd 10) fd fd' → rz_ins i n (td 10) td td' → rz_ins i n (wh 10) wh wh' → rz_ins i n x aa aa' → post (nI (n + 1)) (nI (n + 1), fs', ts', fd', td', wh', aa', sy)) : ∀ (d k : Nat) (fs' ts' fd' td' wh' aa' : Nat → Int32), i + d = k → k ≤ n → rz_sh k n fs fs' → rz_sh k n ts ts' → rz_sh k n fd fd' → rz_sh k n td td' → rz_sh k n wh wh' → rz_sh k n aa aa' → wY_insert_40 post (nI i) x (d + 1) (nI k) (nI n) fs' ts' fd' td' wh' aa' sy := by
  intro d
  induction d with
  | zero =>
    intro k fs' ts' fd' td' wh' aa' hk hkn s1 s2 s3 s4 s5 s6
    have e : k = i := by omega
    subst e
    refine br_t (nI_le (Nat.le_refl _) (by omega)) (rz_ycp (a := 10) (b := k) (by omega) (by omega) ?_)
    dsimp only
    rw [nI_clamp (by omega)]
    refine ⟨vp_in_nI (by omega) (by decide), nm_e (nm_r (nI_1 n) (h _ _ _ _ _ _ ?_ ?_ ?_ ?_ ?_ ?_))⟩
    · rw [s1.2.2 10 (by omega)]; exact rz_sh_e s1 hi
    · rw [s2.2.2 10 (by omega)]; exact rz_sh_e s2 hi
    · rw [s3.2.2 10 (by omega)]; exact rz_sh_e s3 hi
    · rw [s4.2.2 10 (by omega)]; exact rz_sh_e s4 hi
    · rw [s5.2.2 10 (by omega)]; exact rz_sh_e s5 hi
    · exact rz_ins_u (rz_sh_e s6 hi) hi
  | succ d ih =>
    intro k fs' ts' fd' td' wh' aa' hk hkn s1 s2 s3 s4 s5 s6
    obtain ⟨k, rfl⟩ : ∃ l, k = l + 1 := ⟨k - 1, by omega⟩
    refine br_f (nI_ge (by omega) (by omega)) ?_
    rw [nI_pred]
    exact rz_ycp (by omega) (by omega) (nm_r (pk_m1 k) (ih k _ _ _ _ _ _ (by omega) (by omega) (rz_sh_s s1 (by omega)) (rz_sh_s s2 (by omega)) (rz_sh_s s3 (by omega)) (rz_sh_s s4 (by omega)) (rz_sh_s s5 (by omega)) (rz_sh_s s6 (by omega))))
theorem rz_yr12 {post : Int32 → SY → Prop} {i m : Nat} (hi : i ≤ m) (hm : m < 10) (h : ∀ fs' ts' fd' td' wh' aa', rz_de i m fs fs' → rz_de i m ts ts' → rz_de i m fd fd' → rz_de i m td td' → rz_de i m wh wh' → rz_de i m aa aa' → post (nI m) (nI m, fs', ts', fd', td', wh', aa', sy)) : ∀ (d k : Nat) (fs' ts' fd' td' wh' aa' : Nat → Int32), k + d = m → i ≤ k → rz_de i k fs fs' → rz_de i k ts ts' → rz_de i k fd fd' → rz_de i k td td' → rz_de i k wh wh' → rz_de i k aa aa' → wY_remove_12 post (d + 1) (nI k) (nI (m + 1)) fs' ts' fd' td' wh' aa' sy := by
  intro d
  induction d with
  | zero =>
    intro k fs' ts' fd' td' wh' aa' hk hik s1 s2 s3 s4 s5 s6
    have e : k = m := by omega
    subst e
    exact br_t (by rw [nI_pred]; exact nI_le (Nat.le_refl _) (by omega)) (nm_r (nI_pred k) (h _ _ _ _ _ _ s1 s2 s3 s4 s5 s6))
  | succ d ih =>
    intro k fs' ts' fd' td' wh' aa' hk hik s1 s2 s3 s4 s5 s6
    refine br_f (by rw [nI_pred]; exact nI_ge (by omega) (by omega)) ?_
    rw [nI_1 k]
    exact rz_ycp (by omega) (by omega) (nm_e (ih (k + 1) _ _ _ _ _ _ (by omega) (by omega) (rz_de_s s1 hik) (rz_de_s s2 hik) (rz_de_s s3 hik) (rz_de_s s4 hik) (rz_de_s s5 hik) (rz_de_s s6 hik)))
end
end
section
/-! the relation, and what is owed -/
def rz_I (dr rc sc : Int32) (rb ra sv : Nat → Int32) (fn : Int32) (fs ts fd td wh aa sy : Nat → Int32) : Prop := ∃ (n s : Nat) (B : Nat → Bool), n ≤ 10 ∧ rc = nI n ∧ fn = nI n ∧ sc = nI s ∧ rz_YR n rb ra fs ts fd td wh aa ∧ (∀ j, j < n → ra j = 0 ∨ ra j = 1) ∧ rz_RB dr (fs 10) (ts 10) (fd 10) (td 10) (wh 10) ∧ rz_LS B sv s ∧ (∀ p, p < 512 → sy p = nI (B p).toNat)
theorem rz_I_i {dr : Int32} {rb ra sv fs ts fd td wh aa sy : Nat → Int32} {n s : Nat} {B : Nat → Bool} (hn : n ≤ 10) (hR : rz_YR n rb ra fs ts fd td wh aa) (h01 : ∀ j, j < n → ra j = 0 ∨ ra j = 1) (hD : rz_RB dr (fs 10) (ts 10) (fd 10) (td 10) (wh 10)) (hB : rz_LS B sv s) (hY : ∀ p, p < 512 → sy p = nI (B p).toNat) : rz_I dr (nI n) (nI s) rb ra sv (nI n) fs ts fd td wh aa sy := ⟨n, s, B, hn, rfl, rfl, rfl, hR, h01, hD, hB, hY⟩
def i_Rel (k : Nat) (u : SX) (v : SY) : Prop := match u, v with
  | (dr, rc, _, _, _, sc, rb, ra, _, _, _, sv), (fn, fs, ts, fd, td, wh, aa, sy) => rz_I dr rc sc rb ra sv fn fs ts fd td wh aa sy
theorem rz_el {P : SX → SY → Prop} {k : Nat} {u : SX} {v : SY} (h : ∀ (dr wc pc ac : Int32) (rb ra wk ps al sv fs ts fd td wh aa sy : Nat → Int32) (n s : Nat) (B : Nat → Bool), n ≤ 10 → rz_YR n rb ra fs ts fd td wh aa → (∀ j, j < n → ra j = 0 ∨ ra j = 1) → rz_RB dr (fs 10) (ts 10) (fd 10) (td 10) (wh 10) → rz_LS B sv s → (∀ p, p < 512 → sy p = nI (B p).toNat) → P (dr, nI n, wc, pc, ac, nI s, rb, ra, wk, ps, al, sv) (nI n, fs, ts, fd, td, wh, aa, sy)) (I : i_Rel k u v) : P u v := by
  obtain ⟨dr, rc, wc, pc, ac, sc, rb, ra, wk, ps, al, sv⟩ := u
  obtain ⟨fn, fs, ts, fd, td, wh, aa, sy⟩ := v
  obtain ⟨n, s, B, hn, e1, e2, e3, hR, h01, hD, hB, hY⟩ := I
  subst e1 e2 e3
  exact h _ _ _ _ _ _ _ _ _ _ _ _ _ _ _ _ _ _ _ B hn hR h01 hD hB hY
theorem rz_RV {n : Nat} {rb ra fs ts fd td wh aa : Nat → Int32} (hR : rz_YR n rb ra fs ts fd td wh aa) : rz_V rb n := fun k hk => (hR k hk).1.1
theorem i_up {k : Nat} {u : SX} {v : SY} (h : i_Rel k u v) : i_Rel (k + 4) u v := h
theorem rz_RB0 : rz_RB 15421 0 15 0 15 2 := by
  have c : (15421 : Int32).toNatClampNeg = 15421 := nI_clamp (n := 15421) (by decide)
  have e1 : rz_fS 15421 = 0 := by unfold rz_fS; rw [c]
  have e2 : rz_tS 15421 = 15 := by unfold rz_tS; rw [c]
  have e3 : rz_fD 15421 = 0 := by unfold rz_fD; rw [c]
  have e4 : rz_tD 15421 = 15 := by unfold rz_tD; rw [c]
  have e5 : rz_fP 15421 = 0 := by unfold rz_fP; rw [c]
  have e6 : rz_tP 15421 = 1 := by unfold rz_tP; rw [c]
  have e7 : rz_wh 15421 = 2 := by unfold rz_wh; rw [e5, e6]; rfl
  unfold rz_RB rz_ok
  rw [e1, e2, e3, e4, e5, e6, e7]
  exact ⟨⟨⟨15421, by decide, rfl⟩, by decide, by decide, by decide⟩, rfl, rfl, rfl, rfl, rfl⟩
theorem i_vc0 : wpX_init (fun u => wpY_init (fun v => i_Rel 0 u v)) := by
  refine nm_e (nm_e (nm_e ?_))
  refine rz_I_i (n := 0) (s := 0) (B := fun _ => false) (by decide) (fun j hj => absurd hj (Nat.not_lt_zero j)) (fun j hj => absurd hj (Nat.not_lt_zero j)) rz_RB0 (rz_LG_nil _) (fun p hp => rfl)
theorem i_vc_draftRange {k : Nat} {u : SX} {v : SY} (I : i_Rel k u v) (hk : k + 4 ≤ 2048) (v1 : Int32) (v2 : Int32) (v3 : Int32) : wpX_draftRange (fun r u' => wpY_draftRange (fun r' v' => r' = r ∧ i_Rel (k + 4) u' v') v v1 v2 v3) u v1 v2 v3 := by
  refine rz_el (P := fun u v => wpX_draftRange (fun r u' => wpY_draftRange (fun r' v' => r' = r ∧ i_Rel (k + 4) u' v') v v1 v2 v3) u v1 v2 v3) ?_ I
  intro dr wc pc ac rb ra wk ps al sv fs ts fd td wh aa sy n s B hn hR h01 hD hB hY
  have J := rz_I_i hn hR h01 hD hB hY
  unfold wpX_draftRange wpY_draftRange
  dsimp only
  by_cases c1 : v1 < 0
  · exact br_t c1 (br_t c1 ⟨rfl, J⟩)
  refine br_f c1 ?_
  by_cases c2 : v1 ≤ 1
  · have c2' : ¬ 1 < v1 := Int32.not_lt.mpr c2
    refine br_t c2 ?_
    by_cases c3 : v2 < 0
    · exact br_t c3 (br_f c1 (br_f c2' (br_t c3 ⟨rfl, J⟩)))
    refine br_f c3 ?_
    by_cases c4 : 15 < v2
    · exact br_t c4 (br_f c1 (br_f c2' (br_f c3 (br_t c4 ⟨rfl, J⟩))))
    refine br_f c4 ?_
    by_cases c5 : v3 < 0
    · exact br_t c5 (br_f c1 (br_f c2' (br_f c3 (br_f c4 (br_t c5 ⟨rfl, J⟩)))))
    refine br_f c5 ?_
    by_cases c6 : 15 < v3
    · exact br_t c6 (br_f c1 (br_f c2' (br_f c3 (br_f c4 (br_f c5 (br_t c6 ⟨rfl, J⟩))))))
    refine br_f c6 ?_
    by_cases c7 : v2 ≤ v3
    · refine br_t c7 ?_
      obtain ⟨a, ha, rfl⟩ := nI_of2 (x := v2) (M := 15) (n := 15) (by decide) c3 (Int32.not_lt.mp c4)
      obtain ⟨b, hb, rfl⟩ := nI_of2 (x := v3) (M := 15) (n := 15) (by decide) c5 (Int32.not_lt.mp c6)
      have hab : a ≤ b := (nI_leI (by omega) (by omega)).mp c7
      by_cases c8 : v1 = 0
      · refine br_t c8 ?_
        unfold wX_draftRange_48
        refine nm_r (rz_edS hD.1.1 (by omega) (by omega)) (br_f c1 (br_f c2' (br_f c3 (br_f c4 (br_f c5 (br_f c6 (br_t c7 (br_t c8 (nm_e (nm_e ⟨rfl, ?_⟩))))))))))
        refine rz_I_i hn (fun j hj => ?_) h01 ?_ hB hY
        · rw [pk_un (by omega), pk_un (by omega)]; exact hR j hj
        · rw [pk_us, pk_us]; exact rz_RB_S hD hab (by omega)
      · refine br_f c8 ?_
        unfold wX_draftRange_48
        refine nm_r (rz_edD hD.1.1 (by omega) (by omega)) (br_f c1 (br_f c2' (br_f c3 (br_f c4 (br_f c5 (br_f c6 (br_t c7 (br_f c8 (nm_e (nm_e ⟨rfl, ?_⟩))))))))))
        refine rz_I_i hn (fun j hj => ?_) h01 ?_ hB hY
        · rw [pk_un (by omega), pk_un (by omega)]; exact hR j hj
        · rw [pk_us, pk_us]; exact rz_RB_D hD hab (by omega)
    · exact br_f c7 (br_f c1 (br_f c2' (br_f c3 (br_f c4 (br_f c5 (br_f c6 (br_f c7 ⟨rfl, J⟩)))))))
  · exact br_f c2 (br_f c1 (br_t (Int32.not_le.mp c2) ⟨rfl, J⟩))
theorem i_vc_draftSet {k : Nat} {u : SX} {v : SY} (I : i_Rel k u v) (hk : k + 4 ≤ 2048) (v1 : Int32) : wpX_draftSet (fun r u' => wpY_draftSet (fun r' v' => r' = r ∧ i_Rel (k + 4) u' v') v v1) u v1 := by
  refine rz_el (P := fun u v => wpX_draftSet (fun r u' => wpY_draftSet (fun r' v' => r' = r ∧ i_Rel (k + 4) u' v') v v1) u v1) ?_ I
  intro dr wc pc ac rb ra wk ps al sv fs ts fd td wh aa sy n s B hn hR h01 hD hB hY
  have J := rz_I_i hn hR h01 hD hB hY
  unfold wpX_draftSet wpY_draftSet
  dsimp only
  by_cases c1 : v1 < 0
  · exact br_t c1 (br_t c1 ⟨rfl, J⟩)
  refine br_f c1 ?_
  by_cases c2 : v1 ≤ 2
  · refine br_t c2 ?_
    obtain ⟨a, ha, rfl⟩ := nI_of2 (x := v1) (M := 2) (n := 2) (by decide) c1 c2
    have K : ∀ x, rz_RB x (fs 10) (ts 10) (fd 10) (td 10) (nI a) → wpY_draftSet (fun r' v' => r' = 1 ∧ i_Rel (k + 4) (x, nI n, wc, pc, ac, nI s, rb, ra, wk, ps, al, sv) v') (nI n, fs, ts, fd, td, wh, aa, sy) (nI a) := by
      intro x hx
      unfold wpY_draftSet
      dsimp only
      refine br_f c1 (br_t c2 (nm_e ⟨rfl, rz_I_i hn (fun j hj => ?_) h01 ?_ hB hY⟩))
      · rw [pk_un (by omega)]; exact hR j hj
      · rw [pk_us]; exact hx
    refine pk_eq a 0 (fun c3 => ?_) (fun c3 => pk_eq a 1 (fun c4 => ?_) (fun c4 => ?_))
    · refine nm_r (rz_eP (c := 0) hD.1.1 (by decide)) (K _ (rz_RB_P hD (by decide) (by decide) ?_))
      rw [c3]; rfl
    · refine nm_r (rz_eP (c := 3) hD.1.1 (by decide)) (K _ (rz_RB_P hD (by decide) (by decide) ?_))
      rw [c4]; rfl
    · refine nm_r (rz_eP (c := 1) hD.1.1 (by decide)) (K _ (rz_RB_P hD (by decide) (by decide) ?_))
      rw [show a = 2 from by omega]; rfl
  · exact br_f c2 (br_f c1 (br_f c2 ⟨rfl, J⟩))
theorem i_vc_insert {k : Nat} {u : SX} {v : SY} (I : i_Rel k u v) (hk : k + 4 ≤ 2048) (v1 : Int32) (v2 : Int32) : wpX_insert (fun r u' => wpY_insert (fun r' v' => r' = r ∧ i_Rel (k + 4) u' v') v v1 v2) u v1 v2 := by
  refine rz_el (P := fun u v => wpX_insert (fun r u' => wpY_insert (fun r' v' => r' = r ∧ i_Rel (k + 4) u' v') v v1 v2) u v1 v2) ?_ I
  intro dr wc pc ac rb ra wk ps al sv fs ts fd td wh aa sy n s B hn hR h01 hD hB hY
  have J := rz_I_i hn hR h01 hD hB hY
  unfold wpX_insert wpY_insert
  dsimp only
  refine pk_lt n 10 (fun c0 => ?_) (fun c0 => ?_)
  · have c0' : ¬ nI n = 10 := fun z => by
      have := (nI_eq (a := n) (b := 10) (by omega) (by decide)).mp z
      omega
    by_cases c1 : v1 < 0
    · exact br_t c1 (br_f c0' (br_t c1 ⟨rfl, J⟩))
    refine br_f c1 ?_
    by_cases c2 : nI n < v1
    · exact br_t c2 (br_f c0' (br_f c1 (br_t c2 ⟨rfl, J⟩)))
    refine br_f c2 ?_
    by_cases c3 : v2 < 0
    · exact br_t c3 (br_f c0' (br_f c1 (br_f c2 (br_t c3 ⟨rfl, J⟩))))
    refine br_f c3 ?_
    by_cases c4 : v2 ≤ 1
    · refine br_t c4 ?_
      obtain ⟨i, hi, rfl⟩ := nI_of2 (x := v1) (M := nI n) (n := n) (nI_toInt (by omega)) c1 (Int32.not_lt.mp c2)
      obtain ⟨x, hx, rfl⟩ := nI_of2 (x := v2) (M := 1) (n := 1) (by decide) c3 c4
      have x01 : nI x = 0 ∨ nI x = 1 := by
        rcases Nat.lt_or_ge x 1 with z | z
        · rw [show x = 0 from by omega]; exact Or.inl rfl
        · rw [show x = 1 from by omega]; exact Or.inr rfl
      refine ⟨n - i + 1, rz_xi40 hi c0 x01 h01 (fun rb' ra' a1 a2 => ?_) (n - i) n rb ra (by omega) (Nat.le_refl _) (rz_sh_0 _ _) (rz_sh_0 _ _)⟩
      refine br_f c0' (br_f c1 (br_f c2 (br_f c3 (br_t c4 ⟨n - i + 1, rz_yi40 hi c0 (fun fs' ts' fd' td' wh' aa' b1 b2 b3 b4 b5 b6 => ⟨rfl, ?_⟩) (n - i) n fs ts fd td wh aa (by omega) (Nat.le_refl _) (rz_sh_0 _ _) (rz_sh_0 _ _) (rz_sh_0 _ _) (rz_sh_0 _ _) (rz_sh_0 _ _) (rz_sh_0 _ _)⟩))))
      refine rz_I_i (by omega) (rz_ins_YR hi hR hD a1 a2 b1 b2 b3 b4 b5 b6) (rz_ins_01 x01 a2 h01 hi) ?_ hB hY
      rw [b1.2.2.2 10 (by omega), b2.2.2.2 10 (by omega), b3.2.2.2 10 (by omega), b4.2.2.2 10 (by omega), b5.2.2.2 10 (by omega)]
      exact hD
    · exact br_f c4 (br_f c0' (br_f c1 (br_f c2 (br_f c3 (br_f c4 ⟨rfl, J⟩)))))
  · have e : n = 10 := by omega
    subst e
    exact br_t rfl ⟨rfl, J⟩
theorem i_vc_remove {k : Nat} {u : SX} {v : SY} (I : i_Rel k u v) (hk : k + 4 ≤ 2048) (v1 : Int32) : wpX_remove (fun r u' => wpY_remove (fun r' v' => r' = r ∧ i_Rel (k + 4) u' v') v v1) u v1 := by
  refine rz_el (P := fun u v => wpX_remove (fun r u' => wpY_remove (fun r' v' => r' = r ∧ i_Rel (k + 4) u' v') v v1) u v1) ?_ I
  intro dr wc pc ac rb ra wk ps al sv fs ts fd td wh aa sy n s B hn hR h01 hD hB hY
  have J := rz_I_i hn hR h01 hD hB hY
  unfold wpX_remove wpY_remove
  dsimp only
  refine rz_xir hn (fun z => br_t rfl (rz_yir hn (fun _ => br_t rfl ⟨rfl, J⟩) (fun j hj e => absurd ⟨j, hj, e⟩ z))) (fun i hi ei => ?_)
  subst ei
  obtain ⟨m, rfl⟩ : ∃ m, n = m + 1 := ⟨n - 1, by omega⟩
  refine br_f rz_x10 (nm_r (nI_pred m) ⟨m - i + 1, rz_xr22 (by omega) (by omega) h01 (fun rb' ra' a1 a2 => ?_) (m - i) i rb ra (by omega) (Nat.le_refl _) (rz_de_0 _ _) (rz_de_0 _ _)⟩)
  refine rz_yir hn (fun z => absurd ⟨i, hi, rfl⟩ z) (fun _ _ _ => br_f rz_x10 ⟨m - i + 1, rz_yr12 (by omega) (by omega) (fun fs' ts' fd' td' wh' aa' b1 b2 b3 b4 b5 b6 => ⟨rfl, ?_⟩) (m - i) i fs ts fd td wh aa (by omega) (Nat.le_refl _) (rz_de_0 _ _) (rz_de_0 _ _) (rz_de_0 _ _) (rz_de_0 _ _) (rz_de_0 _ _) (rz_de_0 _ _)⟩)
  refine rz_I_i (by omega) (rz_de_YR hR a1 a2 b1 b2 b3 b4 b5 b6) (rz_de_01 a2 h01) ?_ hB hY
  rw [b1.2.2 10 (by omega), b2.2.2 10 (by omega), b3.2.2 10 (by omega), b4.2.2 10 (by omega), b5.2.2 10 (by omega)]
  exact hD
theorem i_vc_decider {k : Nat} {u : SX} {v : SY} (I : i_Rel k u v) (hk : k + 4 ≤ 2048) (v1 : Int32) (v2 : Int32) (v3 : Int32) : wpX_decider (fun r => wpY_decider (fun r' => r' = r ∧ i_Rel (k + 4) u v) v v1 v2 v3) u v1 v2 v3 := by
  refine rz_el (P := fun u v => wpX_decider (fun r => wpY_decider (fun r' => r' = r ∧ i_Rel (k + 4) u v) v v1 v2 v3) u v1 v2 v3) ?_ I
  intro dr wc pc ac rb ra wk ps al sv fs ts fd td wh aa sy n s B hn hR h01 hD hB hY
  have J := rz_I_i hn hR h01 hD hB hY
  unfold wpX_decider wpY_decider
  dsimp only
  by_cases c1 : v1 < 0
  · exact br_t c1 (br_t c1 ⟨rfl, J⟩)
  refine br_f c1 ?_
  by_cases c2 : 15 < v1
  · exact br_t c2 (br_f c1 (br_t c2 ⟨rfl, J⟩))
  refine br_f c2 ?_
  by_cases c3 : v2 < 0
  · exact br_t c3 (br_f c1 (br_f c2 (br_t c3 ⟨rfl, J⟩)))
  refine br_f c3 ?_
  by_cases c4 : 15 < v2
  · exact br_t c4 (br_f c1 (br_f c2 (br_f c3 (br_t c4 ⟨rfl, J⟩))))
  refine br_f c4 ?_
  by_cases c5 : v3 < 0
  · exact br_t c5 (br_f c1 (br_f c2 (br_f c3 (br_f c4 (br_t c5 ⟨rfl, J⟩)))))
  refine br_f c5 ?_
  by_cases c6 : v3 ≤ 1
  · refine br_t c6 ?_
    obtain ⟨a, ha, rfl⟩ := nI_of2 (x := v1) (M := 15) (n := 15) (by decide) c1 (Int32.not_lt.mp c2)
    obtain ⟨b, hb, rfl⟩ := nI_of2 (x := v2) (M := 15) (n := 15) (by decide) c3 (Int32.not_lt.mp c4)
    obtain ⟨q, hq, rfl⟩ := nI_of2 (x := v3) (M := 1) (n := 1) (by decide) c5 c6
    obtain ⟨okx, hx⟩ := rz_pt_f (s := a) (d := b) (q := q) (by omega) (by omega) (by omega) rfl
    refine nm_r (rz_pt (by omega) (by omega) (by omega)) ⟨n + 1, rz_xd60 hn (rz_RV hR) okx (fun j => hx (rb j)) ?_ n 0 (by omega) rfl⟩
    refine br_f c1 (br_f c2 (br_f c3 (br_f c4 (br_f c5 (br_t c6 ?_)))))
    rw [rz_nIc]
    exact rz_yf0 hn (by omega) hR ⟨rfl, J⟩
  · exact br_f c6 (br_f c1 (br_f c2 (br_f c3 (br_f c4 (br_f c5 (br_f c6 ⟨rfl, J⟩))))))
theorem i_vc_owned {k : Nat} {u : SX} {v : SY} (I : i_Rel k u v) (hk : k + 4 ≤ 2048) (v1 : Int32) : wpX_owned (fun r u' => wpY_owned (fun r' => r' = r ∧ i_Rel (k + 4) u' v) v v1) u v1 := by
  refine rz_el (P := fun u v => wpX_owned (fun r u' => wpY_owned (fun r' => r' = r ∧ i_Rel (k + 4) u' v) v v1) u v1) ?_ I
  intro dr wc pc ac rb ra wk ps al sv fs ts fd td wh aa sy n s B hn hR h01 hD hB hY
  have J := rz_I_i hn hR h01 hD hB hY
  unfold wpX_owned
  dsimp only
  refine rz_xir hn (fun z => br_t rfl ?_) (fun i hi ei => ?_)
  · unfold wpY_owned
    dsimp only
    exact rz_yir hn (fun _ => br_t rfl ⟨rfl, J⟩) (fun j hj e => absurd ⟨j, hj, e⟩ z)
  · subst ei
    refine br_f rz_x10 (rz_xco (by omega) (fun j hj => rz_RV hR j (by omega)) (fun wk' ps' m pc' hW => ?_))
    dsimp only
    exact rz_xvw hW (rz_yow hn hi hR ⟨rfl, J⟩)
theorem i_vc_firstOwned {k : Nat} {u : SX} {v : SY} (I : i_Rel k u v) (hk : k + 4 ≤ 2048) (v1 : Int32) : wpX_firstOwned (fun r u' => wpY_firstOwned (fun r' => r' = r ∧ i_Rel (k + 4) u' v) v v1) u v1 := by
  refine rz_el (P := fun u v => wpX_firstOwned (fun r u' => wpY_firstOwned (fun r' => r' = r ∧ i_Rel (k + 4) u' v) v v1) u v1) ?_ I
  intro dr wc pc ac rb ra wk ps al sv fs ts fd td wh aa sy n s B hn hR h01 hD hB hY
  have J := rz_I_i hn hR h01 hD hB hY
  unfold wpX_firstOwned
  dsimp only
  refine rz_xir hn (fun z => br_t rfl ?_) (fun i hi ei => ?_)
  · unfold wpY_firstOwned
    dsimp only
    exact rz_yir hn (fun _ => br_t rfl ⟨rfl, J⟩) (fun j hj e => absurd ⟨j, hj, e⟩ z)
  · subst ei
    refine br_f rz_x10 (rz_xco (by omega) (fun j hj => rz_RV hR j (by omega)) (fun wk' ps' m pc' hW => ?_))
    dsimp only
    rw [rz_m3e]
    refine rz_xlc hW ?_
    rw [show rz_ff (fun p => false || rz_ow rb i p) 512 = rz_ff (rz_ow rb i) 512 from rz_ff_congr (fun p hp => Bool.false_or _)]
    exact rz_yfo hn hi hR ⟨rfl, J⟩
theorem i_vc_fault {k : Nat} {u : SX} {v : SY} (I : i_Rel k u v) (hk : k + 4 ≤ 2048) (v1 : Int32) : wpX_fault (fun r u' => wpY_fault (fun r' => r' = r ∧ i_Rel (k + 4) u' v) v v1) u v1 := by
  refine rz_el (P := fun u v => wpX_fault (fun r u' => wpY_fault (fun r' => r' = r ∧ i_Rel (k + 4) u' v) v v1) u v1) ?_ I
  intro dr wc pc ac rb ra wk ps al sv fs ts fd td wh aa sy n s B hn hR h01 hD hB hY
  have J := rz_I_i hn hR h01 hD hB hY
  by_cases z : ∃ j, j < n ∧ v1 = nI j
  · obtain ⟨i, hi, rfl⟩ := z
    exact rz_xfault hn hi (rz_RV hR) (fun r hr _ _ _ _ => rz_yfault hn hi hR (fun r' hr' => ⟨rz_FA_u hr hr', J⟩))
  · unfold wpX_fault wpY_fault
    dsimp only
    exact rz_xir hn (fun _ => br_t rfl (rz_yir hn (fun _ => br_t rfl ⟨rfl, J⟩) (fun j hj e => absurd ⟨j, hj, e⟩ z))) (fun j hj e => absurd ⟨j, hj, e⟩ z)
theorem i_vc_save {k : Nat} {u : SX} {v : SY} (I : i_Rel k u v) (hk : k + 4 ≤ 2048) : wpX_save (fun r u' => wpY_save (fun r' v' => r' = r ∧ i_Rel (k + 4) u' v') v) u := by
  refine rz_el (P := fun u v => wpX_save (fun r u' => wpY_save (fun r' v' => r' = r ∧ i_Rel (k + 4) u' v') v) u) ?_ I
  intro dr wc pc ac rb ra wk ps al sv fs ts fd td wh aa sy n s B hn hR h01 hD hB hY
  exact rz_xsave hn (rz_RV hR) (fun wc pc m wk ps al sv hS => rz_ysave hn hR h01 (fun sy' hy => ⟨rfl, rz_I_i hn hR h01 hD hS hy⟩))
theorem i_vc_changed {k : Nat} {u : SX} {v : SY} (I : i_Rel k u v) (hk : k + 4 ≤ 2048) : wpX_changed (fun r u' => wpY_changed (fun r' => r' = r ∧ i_Rel (k + 4) u' v) v) u := by
  refine rz_el (P := fun u v => wpX_changed (fun r u' => wpY_changed (fun r' => r' = r ∧ i_Rel (k + 4) u' v) v) u) ?_ I
  intro dr wc pc ac rb ra wk ps al sv fs ts fd td wh aa sy n s B hn hR h01 hD hB hY
  have J := rz_I_i hn hR h01 hD hB hY
  exact rz_xchg hn (rz_RV hR) hB (fun _ _ _ _ _ _ => rz_ychg hn hR h01 hY ⟨rfl, J⟩)
theorem i_vc_firstChanged {k : Nat} {u : SX} {v : SY} (I : i_Rel k u v) (hk : k + 4 ≤ 2048) : wpX_firstChanged (fun r u' => wpY_firstChanged (fun r' => r' = r ∧ i_Rel (k + 4) u' v) v) u := by
  refine rz_el (P := fun u v => wpX_firstChanged (fun r u' => wpY_firstChanged (fun r' => r' = r ∧ i_Rel (k + 4) u' v) v) u) ?_ I
  intro dr wc pc ac rb ra wk ps al sv fs ts fd td wh aa sy n s B hn hR h01 hD hB hY
  have J := rz_I_i hn hR h01 hD hB hY
  exact rz_xfch hn (rz_RV hR) hB (fun _ _ _ _ _ _ => rz_yfch hn hR h01 hY ⟨rfl, J⟩)
end
