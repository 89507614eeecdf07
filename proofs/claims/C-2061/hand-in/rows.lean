section
/-! rows pasted from the starting texts (PURE-ROWS) -/
theorem pk_us {f : Nat → Int32} {k : Nat} {x : Int32} : upd f k x k = x := if_pos rfl
theorem pk_un {f : Nat → Int32} {k j : Nat} {x : Int32} (h : j ≠ k) : upd f k x j = f j := if_neg h
theorem pk_sub {a b : Nat} (h : b ≤ a) : nI a - nI b = nI (a - b) := by
  obtain ⟨c, rfl⟩ : ∃ c, a = c + b := ⟨a - b, by omega⟩
  rw [← nI_add, Int32.add_sub_cancel, Nat.add_sub_cancel]
theorem pk_m1 (n : Nat) : nI (n + 1) + (-1) = nI n := by
  rw [← nI_1, Int32.add_assoc, show (1 : Int32) + (-1) = 0 from rfl, Int32.add_zero]
theorem pk_mul (a b : Nat) : nI a * nI b = nI (a * b) := (Int32.ofNat_mul a b).symm
theorem pk_div {a d : Nat} (ha : a < 2 ^ 31) (h0 : 0 < d) (hd : d < 2 ^ 31) : nI a / nI d = nI (a / d) := by
  apply Int32.toInt_inj.mp
  rw [lg_idiv_nonneg (by rw [nI_toInt ha]; omega) (by rw [nI_toInt hd]; omega), nI_toInt ha, nI_toInt hd, nI_toInt (Nat.lt_of_le_of_lt (Nat.div_le_self a d) ha)]
  first | rfl | exact (Int.natCast_ediv _ _).symm
theorem pk_rem {a d : Nat} (ha : a < 2 ^ 31) (h0 : 0 < d) (hd : d < 2 ^ 31) : nI a - nI a / nI d * nI d = nI (a % d) := by
  rw [pk_div ha h0 hd, pk_mul, pk_sub (Nat.div_mul_le_self a d)]
  exact congrArg nI (by have := Nat.div_add_mod' a d; omega)
theorem pk_le {x y : Int32} {A B : Prop} (a b : Nat) (f : a ≤ b → A) (g : b < a → B) (hx : x = nI a := by rfl) (hy : y = nI b := by rfl) (ha : a < 2 ^ 31 := by omega) (hb : b < 2 ^ 31 := by omega) : (x ≤ y → A) ∧ (¬ x ≤ y → B) := by
  subst hx hy
  rw [nI_leI ha hb]
  exact ⟨f, fun z => g (by omega)⟩
theorem pk_lt {x y : Int32} {A B : Prop} (a b : Nat) (f : a < b → A) (g : b ≤ a → B) (hx : x = nI a := by rfl) (hy : y = nI b := by rfl) (ha : a < 2 ^ 31 := by omega) (hb : b < 2 ^ 31 := by omega) : (x < y → A) ∧ (¬ x < y → B) := by
  subst hx hy
  rw [nI_ltI ha hb]
  exact ⟨f, fun z => g (by omega)⟩
theorem pk_eq {x y : Int32} {A B : Prop} (a b : Nat) (f : a = b → A) (g : a ≠ b → B) (hx : x = nI a := by rfl) (hy : y = nI b := by rfl) (ha : a < 2 ^ 31 := by omega) (hb : b < 2 ^ 31 := by omega) : (x = y → A) ∧ (¬ x = y → B) := by
  subst hx hy
  rw [nI_eq ha hb]
  exact ⟨f, g⟩
theorem pk_in {x : Int32} (n N : Nat) (h : n < N) (hx : x = nI n := by rfl) (hN : N < 2 ^ 31 := by omega) : vp_in x N := by
  subst hx
  exact vp_in_nI h hN
theorem pk_cl {x : Int32} (n : Nat) (hx : x = nI n := by rfl) (h : n < 2 ^ 31 := by omega) : x.toNatClampNeg = n := by
  subst hx
  exact nI_clamp h
def bx_sum (f : Nat → Int32) : Nat → Int32
  | 0 => 0
  | n + 1 => bx_sum f n + f n
end
section
/-! numbers: products, sums within the range, and sums of Int32 over an index -/
theorem qn_mulB {a b A B : Int} (h1 : -A ≤ a) (h2 : a ≤ A) (h3 : -B ≤ b) (h4 : b ≤ B) : -(A * B) ≤ a * b ∧ a * b ≤ A * B := by
  have e1 : a.natAbs ≤ A.toNat := by omega
  have e2 : b.natAbs ≤ B.toNat := by omega
  have e3 := Nat.mul_le_mul e1 e2
  rw [← Int.natAbs_mul] at e3
  have hA : (A.toNat : Int) = A := Int.toNat_of_nonneg (by omega)
  have hB : (B.toNat : Int) = B := Int.toNat_of_nonneg (by omega)
  have e4 : ((A.toNat * B.toNat : Nat) : Int) = A * B := by rw [Int.natCast_mul, hA, hB]
  have e5 : ((a * b).natAbs : Int) ≤ A * B := by rw [← e4]; exact Int.ofNat_le.mpr e3
  generalize a * b = p at e5 ⊢
  generalize A * B = q at e5 ⊢
  omega
theorem qn_mul {x y : Int32} (A B : Int) (h1 : -A ≤ x.toInt) (h2 : x.toInt ≤ A) (h3 : -B ≤ y.toInt) (h4 : y.toInt ≤ B) (hAB : A * B < 2147483648) : (x * y).toInt = x.toInt * y.toInt := by
  have h := qn_mulB h1 h2 h3 h4
  rw [Int32.toInt_mul]
  generalize x.toInt * y.toInt = p at h ⊢
  generalize A * B = q at h hAB
  exact Int.bmod_eq_of_le (by omega) (by omega)
theorem qn_add {x y : Int32} (h1 : -2147483648 ≤ x.toInt + y.toInt) (h2 : x.toInt + y.toInt < 2147483648) : (x + y).toInt = x.toInt + y.toInt := by
  rw [Int32.toInt_add]
  exact Int.bmod_eq_of_le (by omega) (by omega)
theorem qn_sub {x y : Int32} (h1 : -2147483648 ≤ x.toInt - y.toInt) (h2 : x.toInt - y.toInt < 2147483648) : (x - y).toInt = x.toInt - y.toInt := by
  rw [Int32.toInt_sub]
  exact Int.bmod_eq_of_le (by omega) (by omega)
theorem qn_neg {x : Int32} (h1 : -2147483648 < x.toInt) : (-x).toInt = -x.toInt := by
  have h2 := x.toInt_lt
  rw [Int32.toInt_neg]
  exact Int.bmod_eq_of_le (by omega) (by omega)
theorem qn_l0 : (0 : Int32).toInt = 0 := by decide
theorem qn_l64 : (64 : Int32).toInt = 64 := by decide
theorem qn_lm64 : (-64 : Int32).toInt = -64 := by decide
theorem qn_l16 : (16 : Int32).toInt = 16 := by decide
theorem qn_l15 : (15 : Int32).toInt = 15 := by decide
theorem qn_l12 : (12 : Int32).toInt = 12 := by decide
theorem qn_l255 : (255 : Int32).toInt = 255 := by decide
/-- a coordinate within the plane -/
def qo_in (p : Int32) : Prop := 0 ≤ p.toInt ∧ p.toInt ≤ 64
/-- a pixel's row or column -/
def qo_px (p : Int32) : Prop := 0 ≤ p.toInt ∧ p.toInt < 16
theorem qo_inN {n : Nat} (h : n ≤ 64) : qo_in (nI n) := by
  have e := nI_toInt (n := n) (by omega)
  exact ⟨by omega, by omega⟩
theorem qo_pxN {n : Nat} (h : n < 16) : qo_px (nI n) := by
  have e := nI_toInt (n := n) (by omega)
  exact ⟨by omega, by omega⟩
theorem qo_ofI {p : Int32} (h : 0 ≤ p.toInt) : p = nI p.toInt.toNat := by
  apply Int32.toInt_inj.mp
  have h2 := p.toInt_lt
  rw [nI_toInt (by omega)]
  omega
theorem qo_nI {p : Int32} (h : qo_in p) : ∃ n : Nat, n ≤ 64 ∧ p = nI n := by
  obtain ⟨a, b⟩ := h
  exact ⟨p.toInt.toNat, by omega, qo_ofI a⟩
theorem qo_pI {p : Int32} (h : qo_px p) : ∃ n : Nat, n < 16 ∧ p = nI n := by
  obtain ⟨a, b⟩ := h
  exact ⟨p.toInt.toNat, by omega, qo_ofI a⟩
/-! sums -/
theorem qs_congr {f g : Nat → Int32} : ∀ {n : Nat}, (∀ j, j < n → f j = g j) → bx_sum f n = bx_sum g n
  | 0, _ => rfl
  | n + 1, h => by
    show bx_sum f n + f n = bx_sum g n + g n
    rw [qs_congr (fun j hj => h j (Nat.lt_succ_of_lt hj)), h n (Nat.lt_succ_self n)]
theorem qs_zero {f : Nat → Int32} : ∀ {n : Nat}, (∀ j, j < n → f j = 0) → bx_sum f n = 0
  | 0, _ => rfl
  | n + 1, h => by
    show bx_sum f n + f n = 0
    rw [qs_zero (fun j hj => h j (Nat.lt_succ_of_lt hj)), h n (Nat.lt_succ_self n), Int32.add_zero]
theorem qs_swap {f g : Nat → Int32} {d : Nat} (h1 : g d = f (d + 1)) (h2 : g (d + 1) = f d) (h3 : ∀ j, j ≠ d → j ≠ d + 1 → g j = f j) : ∀ n, d + 1 < n → bx_sum g n = bx_sum f n
  | 0, h => by omega
  | n + 1, h => by
    by_cases e : d + 1 < n
    · show bx_sum g n + g n = bx_sum f n + f n
      rw [qs_swap h1 h2 h3 n e, h3 n (by omega) (by omega)]
    · have en : n = d + 1 := by omega
      subst en
      show bx_sum g d + g d + g (d + 1) = bx_sum f d + f d + f (d + 1)
      have e0 : bx_sum g d = bx_sum f d := qs_congr (fun j hj => h3 j (by omega) (by omega))
      rw [e0, h1, h2, Int32.add_assoc, Int32.add_comm (f (d + 1)), ← Int32.add_assoc]
theorem qs_two {f : Nat → Int32} {a : Nat} : ∀ n, a + 1 < n → (∀ j, j < n → j ≠ a → j ≠ a + 1 → f j = 0) → bx_sum f n = f a + f (a + 1)
  | 0, h, _ => by omega
  | n + 1, h, hz => by
    by_cases e : a + 1 < n
    · show bx_sum f n + f n = _
      rw [qs_two n e (fun j hj => hz j (by omega)), hz n (by omega) (by omega) (by omega), Int32.add_zero]
    · have en : n = a + 1 := by omega
      subst en
      show bx_sum f a + f a + f (a + 1) = _
      rw [qs_zero (f := f) (n := a) (fun j hj => hz j (by omega) (by omega) (by omega)), Int32.zero_add]
theorem qs_sub1 (a b c : Int32) : a - b - c = a - (b + c) := Int32.sub_sub a b c
theorem qs_sub2 (a b c : Int32) : a - b + c = a + c - b := by
  rw [Int32.sub_eq_add_neg, Int32.sub_eq_add_neg, Int32.add_assoc, Int32.add_comm (-b) c, Int32.add_assoc]
theorem qs_sub3 (a b c : Int32) : a - (b + c) + c = a - b := by
  rw [← qs_sub1, Int32.sub_add_cancel]
/-- the terms below k count nothing, those from k on count W -/
theorem qs_cut {f W : Nat → Int32} {k : Nat} : ∀ n, k ≤ n → (∀ j, j < k → f j = 0) → (∀ j, k ≤ j → j < n → f j = W j) → bx_sum f n = bx_sum W n - bx_sum W k
  | 0, h, _, _ => by
    have e : k = 0 := by omega
    subst e
    exact (Int32.sub_self _).symm
  | n + 1, h, h0, h1 => by
    by_cases e : k ≤ n
    · show bx_sum f n + f n = bx_sum W n + W n - bx_sum W k
      rw [qs_cut n e h0 (fun j hj hn => h1 j hj (by omega)), h1 n e (by omega), qs_sub2]
    · have ek : k = n + 1 := by omega
      subst ek
      rw [Int32.sub_self]
      exact qs_zero h0
end
section
/-! crossings, pure: T top, B bottom, W way; n of them; sorted, bounded; S x: the ways right of x -/
def qc_t (T B W : Nat → Int32) (x : Int32) (j : Nat) : Int32 := if x * B j < T j then W j else 0
def qc_Ok (T B : Nat → Int32) (n : Nat) : Prop := ∀ j, j < n → (0 < (B j).toInt ∧ (B j).toInt ≤ 64) ∧ (-8192 ≤ (T j).toInt ∧ (T j).toInt ≤ 8192)
def qc_le (T B : Nat → Int32) (j k : Nat) : Prop := (T j).toInt * (B k).toInt ≤ (T k).toInt * (B j).toInt
def qc_R (T B W : Nat → Int32) (n : Nat) (S : Int32 → Int32) : Prop :=
  qc_Ok T B n ∧ (∀ j k, j < k → k < n → qc_le T B j k) ∧ ∀ x, qo_in x → bx_sum (qc_t T B W x) n = S x
def qc_Ins (T B W : Nat → Int32) (n i : Nat) (S : Int32 → Int32) : Prop :=
  qc_Ok T B (n + 1) ∧ (∀ j k, j < k → k < n + 1 → j ≠ i → k ≠ i → qc_le T B j k) ∧ (∀ k, i < k → k < n + 1 → qc_le T B i k) ∧ ∀ x, qo_in x → bx_sum (qc_t T B W x) (n + 1) = S x
theorem qc_RS {T B W : Nat → Int32} {n : Nat} {S S' : Int32 → Int32} (h : qc_R T B W n S) (e : ∀ x, qo_in x → S x = S' x) : qc_R T B W n S' :=
  ⟨h.1, h.2.1, fun x hx => (h.2.2 x hx).trans (e x hx)⟩
theorem qc_R0 (T B W : Nat → Int32) : qc_R T B W 0 (fun _ => 0) :=
  ⟨fun j h => absurd h (Nat.not_lt_zero j), fun j k _ h => absurd h (Nat.not_lt_zero k), fun _ _ => rfl⟩
/-- the comparison with a sample, in numbers -/
theorem qc_cmp {x b t : Int32} (hx : qo_in x) (hb : 0 < b.toInt ∧ b.toInt ≤ 64) : x * b < t ↔ x.toInt * b.toInt < t.toInt := by
  obtain ⟨x0, x1⟩ := hx
  rw [Int32.lt_iff_toInt_lt, qn_mul 64 64 (by omega) (by omega) (by omega) (by omega) (by decide)]
theorem qc_leI {T B : Nat → Int32} {j k n : Nat} (h : qc_Ok T B n) (hj : j < n) (hk : k < n) : T j * B k ≤ T k * B j ↔ qc_le T B j k := by
  have a := h j hj
  have b := h k hk
  rw [Int32.le_iff_toInt_le, qn_mul 8192 64 (by omega) (by omega) (by omega) (by omega) (by decide), qn_mul 8192 64 (by omega) (by omega) (by omega) (by omega) (by decide)]
  exact Iff.rfl
theorem qc_trI {a b c d e f : Int} (hd : 0 < d) (hb : 0 < b) (hf : 0 < f) (h1 : a * d ≤ c * b) (h2 : c * f ≤ e * d) : a * f ≤ e * b := by
  have e1 : a * d * f ≤ c * b * f := Int.mul_le_mul_of_nonneg_right h1 (by omega)
  have e2 : c * f * b ≤ e * d * b := Int.mul_le_mul_of_nonneg_right h2 (by omega)
  have e3 : c * b * f = c * f * b := Int.mul_right_comm c b f
  have e4 : a * d * f = a * f * d := Int.mul_right_comm a d f
  have e5 : e * d * b = e * b * d := Int.mul_right_comm e d b
  apply Int.le_of_mul_le_mul_right (a := d) _ hd
  rw [← e4, ← e5]
  rw [e3] at e1
  exact Int.le_trans e1 e2
theorem qc_le_tr {T B : Nat → Int32} {i j k n : Nat} (h : qc_Ok T B n) (hi : i < n) (hj : j < n) (hk : k < n) (h1 : qc_le T B i j) (h2 : qc_le T B j k) : qc_le T B i k :=
  qc_trI (h j hj).1.1 (h i hi).1.1 (h k hk).1.1 h1 h2
theorem qc_moI {x a b c d : Int} (hb : 0 < b) (hd : 0 < d) (h1 : a * d ≤ c * b) (h2 : x * b < a) : x * d < c := by
  have e1 : x * b * d < a * d := Int.mul_lt_mul_of_pos_right h2 hd
  have e2 : x * b * d = x * d * b := Int.mul_right_comm x b d
  apply Int.lt_of_mul_lt_mul_right (a := b) _ (by omega)
  rw [← e2]
  exact Int.lt_of_lt_of_le e1 h1
/-- right of x, and so all behind it -/
theorem qc_mono {T B W : Nat → Int32} {n : Nat} {S : Int32 → Int32} (h : qc_R T B W n S) {x : Int32} (hx : qo_in x) {j k : Nat} (hjk : j ≤ k) (hk : k < n) (hj : x * B j < T j) : x * B k < T k := by
  by_cases e : j = k
  · subst e; exact hj
  · have a := (h.1 j (by omega)).1
    have b := (h.1 k hk).1
    rw [qc_cmp hx a] at hj
    rw [qc_cmp hx b]
    exact qc_moI a.1 b.1 (h.2.1 j k (by omega) hk) hj
/-- the cut at k: what is left counts the sample's winding -/
theorem qc_cut {T B W : Nat → Int32} {n k : Nat} {S : Int32 → Int32} (h : qc_R T B W n S) {x : Int32} (hx : qo_in x) (hk : k ≤ n) (h0 : ∀ j, j < k → ¬ x * B j < T j) (h1 : ∀ j, k ≤ j → j < n → x * B j < T j) : bx_sum W n - bx_sum W k = S x := by
  rw [← h.2.2 x hx]
  exact (qs_cut n hk (fun j hj => if_neg (h0 j hj)) (fun j hj hn => if_pos (h1 j hj hn))).symm
/-- left of a sample, and so of all samples to the right -/
theorem qc_keep {x x' b t : Int32} (hx : qo_in x) (hx' : qo_in x') (hb : 0 < b.toInt ∧ b.toInt ≤ 64) (hle : x.toInt ≤ x'.toInt) (h : ¬ x * b < t) : ¬ x' * b < t := by
  rw [qc_cmp hx hb] at h
  rw [qc_cmp hx' hb]
  have e : x.toInt * b.toInt ≤ x'.toInt * b.toInt := Int.mul_le_mul_of_nonneg_right hle (by omega)
  omega
theorem qc_done0 {T B W : Nat → Int32} {n : Nat} {S : Int32 → Int32} (h : qc_Ins T B W n 0 S) : qc_R T B W (n + 1) S := by
  obtain ⟨a, b, c, d⟩ := h
  refine ⟨a, fun j k hjk hk => ?_, d⟩
  by_cases e : j = 0
  · subst e; exact c k hjk hk
  · exact b j k hjk hk e (by omega)
theorem qc_done {T B W : Nat → Int32} {n i : Nat} {S : Int32 → Int32} (h : qc_Ins T B W n (i + 1) S) (hi : i + 1 ≤ n) (hle : qc_le T B i (i + 1)) : qc_R T B W (n + 1) S := by
  obtain ⟨a, b, c, d⟩ := h
  refine ⟨a, fun j k hjk hk => ?_, d⟩
  by_cases e : j = i + 1
  · subst e; exact c k hjk hk
  · by_cases e2 : k = i + 1
    · subst e2
      by_cases e3 : j = i
      · subst e3; exact hle
      · exact qc_le_tr a (by omega) (by omega) hk (b j i (by omega) (by omega) e (by omega)) hle
    · exact b j k hjk hk e e2
def qc_sw (f : Nat → Int32) (d : Nat) : Nat → Int32 := upd (upd f (d + 1) (f d)) d (f (d + 1))
theorem qc_sw1 (f : Nat → Int32) (d : Nat) : qc_sw f d d = f (d + 1) := pk_us
theorem qc_sw2 (f : Nat → Int32) (d : Nat) : qc_sw f d (d + 1) = f d := (pk_un (by omega)).trans pk_us
theorem qc_sw3 (f : Nat → Int32) {d j : Nat} (h1 : j ≠ d) (h2 : j ≠ d + 1) : qc_sw f d j = f j := (pk_un h1).trans (pk_un h2)
theorem qc_step {T B W : Nat → Int32} {n d : Nat} {S : Int32 → Int32} (h : qc_Ins T B W n (d + 1) S) (hd : d + 1 ≤ n) (hle : ¬ qc_le T B d (d + 1)) : qc_Ins (qc_sw T d) (qc_sw B d) (qc_sw W d) n d S := by
  obtain ⟨a, b, c, s⟩ := h
  refine ⟨fun j hj => ?_, fun j k hjk hk h1 h2 => ?_, fun k hk hn => ?_, fun x hx => ?_⟩
  · by_cases e1 : j = d
    · subst e1; rw [qc_sw1, qc_sw1]; exact a _ (by omega)
    · by_cases e2 : j = d + 1
      · subst e2; rw [qc_sw2, qc_sw2]; exact a _ (by omega)
      · rw [qc_sw3 _ e1 e2, qc_sw3 _ e1 e2]; exact a j hj
  · unfold qc_le
    by_cases e1 : j = d + 1
    · subst e1
      rw [qc_sw2, qc_sw2, qc_sw3 T (d := d) (j := k) (by omega) (by omega), qc_sw3 B (d := d) (j := k) (by omega) (by omega)]
      exact b d k (by omega) hk (by omega) (by omega)
    · rw [qc_sw3 T h1 e1, qc_sw3 B h1 e1]
      by_cases e2 : k = d + 1
      · subst e2
        rw [qc_sw2, qc_sw2]
        exact b j d (by omega) (by omega) e1 (by omega)
      · rw [qc_sw3 T h2 e2, qc_sw3 B h2 e2]
        exact b j k hjk hk e1 e2
  · unfold qc_le
    rw [qc_sw1, qc_sw1]
    by_cases e2 : k = d + 1
    · subst e2
      rw [qc_sw2, qc_sw2]
      unfold qc_le at hle
      omega
    · rw [qc_sw3 T (d := d) (j := k) (by omega) e2, qc_sw3 B (d := d) (j := k) (by omega) e2]
      exact c k (by omega) hn
  · rw [← s x hx]
    refine qs_swap (d := d) ?_ ?_ ?_ (n + 1) (by omega)
    · show qc_t _ _ _ x d = qc_t _ _ _ x (d + 1)
      unfold qc_t; rw [qc_sw1, qc_sw1, qc_sw1]
    · show qc_t _ _ _ x (d + 1) = qc_t _ _ _ x d
      unfold qc_t; rw [qc_sw2, qc_sw2, qc_sw2]
    · intro j h1 h2
      unfold qc_t; rw [qc_sw3 _ h1 h2, qc_sw3 _ h1 h2, qc_sw3 _ h1 h2]
theorem qc_start {T B W : Nat → Int32} {n : Nat} {S : Int32 → Int32} (h : qc_R T B W n S) {t b w : Int32} (hb : 0 < b.toInt ∧ b.toInt ≤ 64) (ht : -8192 ≤ t.toInt ∧ t.toInt ≤ 8192) :
    qc_Ins (upd T n t) (upd B n b) (upd W n w) n n (fun x => S x + (if x * b < t then w else 0)) := by
  obtain ⟨a, c, s⟩ := h
  refine ⟨fun j hj => ?_, fun j k hjk hk h1 h2 => ?_, fun k hk hn => absurd hk (by omega), fun x hx => ?_⟩
  · by_cases e : j = n
    · subst e; rw [pk_us, pk_us]; exact ⟨hb, ht⟩
    · rw [pk_un e, pk_un e]; exact a j (by omega)
  · unfold qc_le
    rw [pk_un h1, pk_un h1, pk_un h2, pk_un h2]
    exact c j k hjk (by omega)
  · show bx_sum _ n + qc_t _ _ _ x n = _
    have e1 : bx_sum (qc_t (upd T n t) (upd B n b) (upd W n w) x) n = S x := by
      rw [← s x hx]
      refine qs_congr (fun j hj => ?_)
      unfold qc_t; rw [pk_un (by omega), pk_un (by omega), pk_un (by omega)]
    have e2 : qc_t (upd T n t) (upd B n b) (upd W n w) x n = if x * b < t then w else 0 := by
      unfold qc_t; rw [pk_us, pk_us, pk_us]
    rw [e1, e2]
end
section
/-! an edge against a sample, pure; the walks of leftOf, exchange, addEdge -/
def qe_v (x1 y1 x2 y2 x y : Int32) : Int32 :=
  if y1 ≤ y ∧ y < y2 then (if (x2 - x1) * (y - y1) ≤ (x - x1) * (y2 - y1) then 0 else 1)
  else if y2 ≤ y ∧ y < y1 then (if (x1 - x2) * (y - y2) ≤ (x - x2) * (y1 - y2) then 0 else -1)
  else 0
theorem qe_cmp {x f h a r : Int32} (hx : qo_in x) (hf : qo_in f) (hh : 0 < h.toInt ∧ h.toInt ≤ 64) (ha : 0 ≤ a.toInt ∧ a.toInt ≤ 64) (hr : -64 ≤ r.toInt ∧ r.toInt ≤ 64) :
    (x * h < f * h + a * r ↔ ¬ (r * a ≤ (x - f) * h)) ∧ -8192 ≤ (f * h + a * r).toInt ∧ (f * h + a * r).toInt ≤ 8192 := by
  obtain ⟨x0, x1⟩ := hx
  obtain ⟨f0, f1⟩ := hf
  have e1 : (x * h).toInt = x.toInt * h.toInt := qn_mul 64 64 (by omega) (by omega) (by omega) (by omega) (by decide)
  have e2 : (f * h).toInt = f.toInt * h.toInt := qn_mul 64 64 (by omega) (by omega) (by omega) (by omega) (by decide)
  have e3 : (a * r).toInt = a.toInt * r.toInt := qn_mul 64 64 (by omega) (by omega) (by omega) (by omega) (by decide)
  have e7 : (r * a).toInt = r.toInt * a.toInt := qn_mul 64 64 (by omega) (by omega) (by omega) (by omega) (by decide)
  have e5 : (x - f).toInt = x.toInt - f.toInt := qn_sub (by omega) (by omega)
  have e6 : ((x - f) * h).toInt = (x.toInt - f.toInt) * h.toInt := by
    rw [qn_mul 64 64 (by omega) (by omega) (by omega) (by omega) (by decide), e5]
  have b2 := qn_mulB (a := f.toInt) (b := h.toInt) (A := 64) (B := 64) (by omega) (by omega) (by omega) (by omega)
  have b3 := qn_mulB (a := a.toInt) (b := r.toInt) (A := 64) (B := 64) (by omega) (by omega) (by omega) (by omega)
  have e4 : (f * h + a * r).toInt = f.toInt * h.toInt + a.toInt * r.toInt := by
    rw [qn_add (by rw [e2, e3]; omega) (by rw [e2, e3]; omega), e2, e3]
  rw [Int32.lt_iff_toInt_lt, Int32.le_iff_toInt_le, e1, e4, e6, e7, Int.sub_mul, Int.mul_comm r.toInt a.toInt]
  generalize x.toInt * h.toInt = u1 at *
  generalize f.toInt * h.toInt = u2 at *
  generalize a.toInt * r.toInt = u3 at *
  omega
theorem qe_none {x1 y1 x2 y2 x y : Int32} (h1 : ¬ (y1 ≤ y ∧ y < y2)) (h2 : ¬ (y2 ≤ y ∧ y < y1)) : qe_v x1 y1 x2 y2 x y = 0 := by
  unfold qe_v
  rw [if_neg h1, if_neg h2]
theorem qe_down {x1 y1 x2 y2 x y : Int32} (h : y1 ≤ y ∧ y < y2) (c : x * (y2 - y1) < x1 * (y2 - y1) + (y - y1) * (x2 - x1) ↔ ¬ ((x2 - x1) * (y - y1) ≤ (x - x1) * (y2 - y1))) :
    (if x * (y2 - y1) < x1 * (y2 - y1) + (y - y1) * (x2 - x1) then (if (1 : Int32) = 0 then (-1 : Int32) else 1) else 0) = qe_v x1 y1 x2 y2 x y := by
  unfold qe_v
  rw [if_pos h, if_neg (show ¬ (1 : Int32) = 0 by decide)]
  by_cases e : (x2 - x1) * (y - y1) ≤ (x - x1) * (y2 - y1)
  · rw [if_pos e, if_neg (fun z => c.mp z e)]
  · rw [if_neg e, if_pos (c.mpr e)]
theorem qe_up {x1 y1 x2 y2 x y : Int32} (h1 : ¬ (y1 ≤ y ∧ y < y2)) (h : y2 ≤ y ∧ y < y1) (c : x * (y1 - y2) < x2 * (y1 - y2) + (y - y2) * (x1 - x2) ↔ ¬ ((x1 - x2) * (y - y2) ≤ (x - x2) * (y1 - y2))) :
    (if x * (y1 - y2) < x2 * (y1 - y2) + (y - y2) * (x1 - x2) then (if (0 : Int32) = 0 then (-1 : Int32) else 1) else 0) = qe_v x1 y1 x2 y2 x y := by
  unfold qe_v
  rw [if_neg h1, if_pos h, if_pos (show (0 : Int32) = 0 from rfl)]
  by_cases e : (x1 - x2) * (y - y2) ≤ (x - x2) * (y1 - y2)
  · rw [if_pos e, if_neg (fun z => c.mp z e)]
  · rw [if_neg e, if_pos (c.mpr e)]
theorem qx_leftOf {post : Int32 → Prop} {c m q : Int32} {col fst xs ys T B W cov : Nat → Int32} {d n : Nat} (hn : d + 1 < n) (h12 : n ≤ 12) (hok : qc_Ok T B n) (h0 : qc_le T B d (d + 1) → post 0) (h1 : ¬ qc_le T B d (d + 1) → post 1) :
    wpX_leftOf post (c, m, q, col, fst, xs, ys, T, B, W, cov) (nI (d + 1)) (nI (d + 1) - 1) := by
  rw [nI_pred]
  have i0 : vp_in (nI (d + 1)) 12 := vp_in_nI (by omega) (by omega)
  have i1 : vp_in (nI d) 12 := vp_in_nI (by omega) (by omega)
  unfold wpX_leftOf
  dsimp only
  rw [nI_clamp (n := d + 1) (by omega), nI_clamp (n := d) (by omega), qc_leI hok (by omega) (by omega)]
  exact ⟨i0, i1, i1, i0, h0, h1⟩
theorem qx_exchange {post : SX → Prop} {c m q : Int32} {col fst xs ys T B W cov : Nat → Int32} {d : Nat} (hd : d + 1 < 12) (h : post (c, m, q, col, fst, xs, ys, qc_sw T d, qc_sw B d, qc_sw W d, cov)) :
    wpX_exchange post (c, m, q, col, fst, xs, ys, T, B, W, cov) (nI (d + 1)) (nI (d + 1) - 1) := by
  rw [nI_pred]
  have i0 : vp_in (nI (d + 1)) 12 := vp_in_nI (by omega) (by omega)
  have i1 : vp_in (nI d) 12 := vp_in_nI (by omega) (by omega)
  unfold wpX_exchange
  dsimp only
  rw [nI_clamp (n := d + 1) (by omega), nI_clamp (n := d) (by omega)]
  exact ⟨i0, nm_e ⟨i1, i0, nm_e ⟨i1, nm_e ⟨i0, nm_e ⟨i1, i0, nm_e ⟨i1, nm_e ⟨i0, nm_e ⟨i1, i0, nm_e ⟨i1, nm_e h⟩⟩⟩⟩⟩⟩⟩⟩⟩
theorem qx_176 {post : SX → Prop} {c m : Int32} {col fst xs ys cov : Nat → Int32} {n : Nat} (hn : n < 12) {S : Int32 → Int32}
    (K : ∀ T B W, qc_R T B W (n + 1) S → post (c, m, nI (n + 1), col, fst, xs, ys, T, B, W, cov)) :
    ∀ (f i : Nat) (T B W : Nat → Int32), i < f → i ≤ n → qc_Ins T B W n i S → wX_addEdge_176 post f (nI i) c m (nI (n + 1)) col fst xs ys T B W cov := by
  intro f
  induction f with
  | zero => intro i T B W hf; omega
  | succ f ih =>
    intro i T B W hf hi h
    rw [wX_addEdge_176]
    cases i with
    | zero => exact br_t (by rw [nI_0]; exact Int32.le_refl 0) (K T B W (qc_done0 h))
    | succ d =>
      refine br_f (nI_nle (by omega) (by omega)) (qx_leftOf (n := n + 1) (by omega) (by omega) h.1 (fun hle => br_t rfl (K T B W (qc_done h hi hle))) (fun hle => br_f (by decide) ?_))
      refine qx_exchange (by omega) ?_
      exact nm_r (pk_m1 d) (ih d _ _ _ (by omega) (by omega) (qc_step h hi hle))
theorem qx_120 {post : SX → Prop} {c m : Int32} {col fst xs ys T B W cov : Nat → Int32} {n : Nat} (hn : n < 12) {S : Int32 → Int32} (h : qc_R T B W n S) {x6 x9 x10 x11 z0 : Int32} (hb : 0 < x9.toInt ∧ x9.toInt ≤ 64)
    (ht : -8192 ≤ (x11 * x9 + z0 * x10).toInt ∧ (x11 * x9 + z0 * x10).toInt ≤ 8192)
    (K : ∀ T B W, qc_R T B W (n + 1) (fun x => S x + (if x * x9 < x11 * x9 + z0 * x10 then (if x6 = 0 then -1 else 1) else 0)) → post (c, m, nI (n + 1), col, fst, xs, ys, T, B, W, cov)) :
    wX_addEdge_120 post x6 (nI n) x9 x10 x11 z0 c m (nI n) col fst xs ys T B W cov := by
  have i0 : vp_in (nI n) 12 := vp_in_nI hn (by omega)
  unfold wX_addEdge_120
  rw [nI_clamp (n := n) (by omega)]
  by_cases e : x6 = 0
  · rw [if_pos e] at K
    refine ⟨i0, nm_e ⟨i0, nm_e (br_t e ⟨i0, nm_e (nm_r (nI_1 n) ⟨n + 1, ?_⟩)⟩)⟩⟩
    exact qx_176 hn K (n + 1) n _ _ _ (by omega) (by omega) (qc_start h hb ht)
  · rw [if_neg e] at K
    refine ⟨i0, nm_e ⟨i0, nm_e (br_f e ⟨i0, nm_e (nm_r (nI_1 n) ⟨n + 1, ?_⟩)⟩)⟩⟩
    exact qx_176 hn K (n + 1) n _ _ _ (by omega) (by omega) (qc_start h hb ht)
theorem qx_down {post : SX → Prop} {c m : Int32} {col fst xs ys T B W cov : Nat → Int32} {n : Nat} (hn : n < 12) {S : Int32 → Int32} (h : qc_R T B W n S) {x1 y1 x2 y2 y : Int32} (hx1 : qo_in x1) (hy1 : qo_in y1) (hx2 : qo_in x2) (hy2 : qo_in y2) (hy : qo_in y)
    (hd : y1 ≤ y ∧ y < y2) (K : ∀ T B W, qc_R T B W (n + 1) (fun x => S x + qe_v x1 y1 x2 y2 x y) → post (c, m, nI (n + 1), col, fst, xs, ys, T, B, W, cov)) :
    wX_addEdge_51 post x1 y1 x2 y2 y 1 c m (nI n) col fst xs ys T B W cov := by
  have h10 : ¬ (1 : Int32) = 0 := by decide
  obtain ⟨d1, d2⟩ := hd
  have d1' := Int32.le_iff_toInt_le.mp d1
  have d2' := Int32.lt_iff_toInt_lt.mp d2
  obtain ⟨a1, a2⟩ := hy1
  obtain ⟨b1, b2⟩ := hy2
  obtain ⟨c1, c2⟩ := hx1
  obtain ⟨f1, f2⟩ := hx2
  obtain ⟨g1, g2⟩ := hy
  have e1 : (y2 - y1).toInt = y2.toInt - y1.toInt := qn_sub (by omega) (by omega)
  have e2 : (x2 - x1).toInt = x2.toInt - x1.toInt := qn_sub (by omega) (by omega)
  have e3 : (y - y1).toInt = y.toInt - y1.toInt := qn_sub (by omega) (by omega)
  have hc : ∀ x, qo_in x → _ := fun x hx => qe_cmp (f := x1) (h := y2 - y1) (a := y - y1) (r := x2 - x1) hx ⟨c1, c2⟩ (by rw [e1]; omega) (by rw [e3]; omega) (by rw [e2]; omega)
  refine br_f h10 (br_f h10 (br_f h10 (br_f h10 ?_)))
  refine qx_120 hn h (by rw [e1]; omega) (hc x1 ⟨c1, c2⟩).2 (fun T B W hR => K T B W (qc_RS hR (fun x hx => ?_)))
  exact congrArg (S x + ·) (qe_down ⟨d1, d2⟩ (hc x hx).1)
theorem qx_up {post : SX → Prop} {c m : Int32} {col fst xs ys T B W cov : Nat → Int32} {n : Nat} (hn : n < 12) {S : Int32 → Int32} (h : qc_R T B W n S) {x1 y1 x2 y2 y : Int32} (hx1 : qo_in x1) (hy1 : qo_in y1) (hx2 : qo_in x2) (hy2 : qo_in y2) (hy : qo_in y)
    (hn1 : ¬ (y1 ≤ y ∧ y < y2)) (hd : y2 ≤ y ∧ y < y1) (K : ∀ T B W, qc_R T B W (n + 1) (fun x => S x + qe_v x1 y1 x2 y2 x y) → post (c, m, nI (n + 1), col, fst, xs, ys, T, B, W, cov)) :
    wX_addEdge_51 post x1 y1 x2 y2 y 0 c m (nI n) col fst xs ys T B W cov := by
  obtain ⟨d1, d2⟩ := hd
  have d1' := Int32.le_iff_toInt_le.mp d1
  have d2' := Int32.lt_iff_toInt_lt.mp d2
  obtain ⟨a1, a2⟩ := hy1
  obtain ⟨b1, b2⟩ := hy2
  obtain ⟨c1, c2⟩ := hx1
  obtain ⟨f1, f2⟩ := hx2
  obtain ⟨g1, g2⟩ := hy
  have e1 : (y1 - y2).toInt = y1.toInt - y2.toInt := qn_sub (by omega) (by omega)
  have e2 : (x1 - x2).toInt = x1.toInt - x2.toInt := qn_sub (by omega) (by omega)
  have e3 : (y - y2).toInt = y.toInt - y2.toInt := qn_sub (by omega) (by omega)
  have hc : ∀ x, qo_in x → _ := fun x hx => qe_cmp (f := x2) (h := y1 - y2) (a := y - y2) (r := x1 - x2) hx ⟨f1, f2⟩ (by rw [e1]; omega) (by rw [e3]; omega) (by rw [e2]; omega)
  refine br_t rfl (br_t rfl (br_t rfl (br_t rfl ?_)))
  refine qx_120 hn h (by rw [e1]; omega) (hc x1 ⟨c1, c2⟩).2 (fun T B W hR => K T B W (qc_RS hR (fun x hx => ?_)))
  exact congrArg (S x + ·) (qe_up hn1 ⟨d1, d2⟩ (hc x hx).1)
theorem qx_addEdge {post : SX → Prop} {c m : Int32} {col fst xs ys T B W cov : Nat → Int32} {n : Nat} (hn : n < 12) {S : Int32 → Int32} (h : qc_R T B W n S) {x1 y1 x2 y2 y : Int32} (hx1 : qo_in x1) (hy1 : qo_in y1) (hx2 : qo_in x2) (hy2 : qo_in y2) (hy : qo_in y)
    (K : ∀ n' T B W, n' ≤ n + 1 → qc_R T B W n' (fun x => S x + qe_v x1 y1 x2 y2 x y) → post (c, m, nI n', col, fst, xs, ys, T, B, W, cov)) :
    wpX_addEdge post (c, m, nI n, col, fst, xs, ys, T, B, W, cov) x1 y1 x2 y2 y := by
  have K1 : ∀ T B W, qc_R T B W (n + 1) (fun x => S x + qe_v x1 y1 x2 y2 x y) → post (c, m, nI (n + 1), col, fst, xs, ys, T, B, W, cov) := fun T B W => K (n + 1) T B W (Nat.le_refl _)
  have K0 : ¬ (y1 ≤ y ∧ y < y2) → ¬ (y2 ≤ y ∧ y < y1) → post (c, m, nI n, col, fst, xs, ys, T, B, W, cov) := fun h1 h2 =>
    K n T B W (Nat.le_succ n) (qc_RS h (fun x _ => by show S x = S x + _; rw [qe_none h1 h2, Int32.add_zero]))
  have h10 : ¬ (1 : Int32) = 0 := by decide
  unfold wpX_addEdge
  dsimp only
  by_cases d1 : y < y1
  · have nd : ¬ (y1 ≤ y ∧ y < y2) := fun z => Int32.not_lt.mpr z.1 d1
    by_cases u1 : y < y2
    · exact br_t d1 (br_t u1 (br_t rfl (br_t rfl (K0 nd (fun z => Int32.not_lt.mpr z.1 u1)))))
    · exact br_t d1 (br_f u1 (br_f (fun z => Int32.not_lt.mpr z d1) (br_t rfl (br_f h10 (qx_up hn h hx1 hy1 hx2 hy2 hy nd ⟨Int32.not_lt.mp u1, d1⟩ K1)))))
  · by_cases d2 : y2 ≤ y
    · exact br_f d1 (br_t d2 (br_f (Int32.not_lt.mpr d2) (br_t (Int32.not_lt.mp d1) (br_t rfl (br_t rfl (K0 (fun z => Int32.not_lt.mpr d2 z.2) (fun z => d1 z.2)))))))
    · exact br_f d1 (br_f d2 (br_t (Int32.not_le.mp d2) (br_f h10 (qx_down hn h hx1 hy1 hx2 hy2 hy ⟨Int32.not_lt.mp d1, Int32.not_le.mp d2⟩ K1))))
end
section
/-! the winding, pure; findCrossings and winding of X -/
abbrev QJ : Type := Int32 → Int32 → Int32 → Int32 → (Nat → Int32) → (Nat → Int32) → (Nat → Int32) → (Nat → Int32) → (Nat → Int32) → (Nat → Int32) → (Nat → Int32) → (Nat → Int32) → Prop
def qw_nx (F : Nat → Nat) (c i : Nat) : Nat := if i + 1 < F (c + 1) then i + 1 else F c
def qw_e (F P Q : Nat → Nat) (c i : Nat) (x y : Int32) : Int32 := qe_v (nI (P i)) (nI (Q i)) (nI (P (qw_nx F c i))) (nI (Q (qw_nx F c i))) x y
def qw_i (F P Q : Nat → Nat) (c : Nat) (x y : Int32) (t : Nat) : Int32 := bx_sum (fun t => qw_e F P Q c (F c + t) x y) t
def qw_w (F P Q : Nat → Nat) (C : Nat) (x y : Int32) : Int32 := bx_sum (fun c => qw_i F P Q c x y (F (c + 1) - F c)) C
/-- a shape: its contours' borders grow, its corners lie in the plane -/
def qr_sh (C : Nat) (F P Q : Nat → Nat) : Prop :=
  C ≤ 4 ∧ (∀ i, P i ≤ 64) ∧ (∀ i, Q i ≤ 64) ∧ (∀ i, i < C → F i ≤ F (i + 1)) ∧ (0 < C → ∀ i, i ≤ C → F i ≤ 12)
theorem qx_60 {post : SX → Prop} {J7 J22 : QJ} {c m : Int32} {col fst cov T B W : Nat → Int32} {P Q : Nat → Nat} (hP : ∀ i, P i ≤ 64) (hQ : ∀ i, Q i ≤ 64) {n : Nat} (hn : n < 12) {S : Int32 → Int32} (h : qc_R T B W n S) {y x2 : Int32} (hy : qo_in y) {i j : Nat} (hi : i < 12) (hj : j < 12)
    (K : ∀ n' T B W, n' ≤ n + 1 → qc_R T B W n' (fun x => S x + qe_v (nI (P i)) (nI (Q i)) (nI (P j)) (nI (Q j)) x y) → J22 (nI (i + 1)) c m (nI n') col fst (fun i => nI (P i)) (fun i => nI (Q i)) T B W cov) :
    wX_findCrossings_60 post J7 J22 y x2 (nI i) (nI j) c m (nI n) col fst (fun i => nI (P i)) (fun i => nI (Q i)) T B W cov := by
  have i0 : vp_in (nI i) 12 := vp_in_nI hi (by omega)
  have j0 : vp_in (nI j) 12 := vp_in_nI hj (by omega)
  unfold wX_findCrossings_60
  rw [nI_clamp (n := i) (by omega), nI_clamp (n := j) (by omega)]
  refine ⟨i0, i0, j0, j0, ?_⟩
  exact qx_addEdge hn h (qo_inN (hP i)) (qo_inN (hQ i)) (qo_inN (hP j)) (qo_inN (hQ j)) hy (fun n' T B W hl hR => nm_r (nI_1 i) (K n' T B W hl hR))
theorem qx_22 {post : SX → Prop} {J7 : QJ} {C m : Int32} {col cov : Nat → Int32} {F P Q : Nat → Nat} (hP : ∀ i, P i ≤ 64) (hQ : ∀ i, Q i ≤ 64) {y : Int32} (hy : qo_in y) {c : Nat} (hc : c < 4) (hm : F c ≤ F (c + 1)) (h12 : F (c + 1) ≤ 12) {U : Int32 → Int32}
    (K : ∀ n T B W, n ≤ F (c + 1) → qc_R T B W n (fun x => U x + qw_i F P Q c x y (F (c + 1) - F c)) → J7 (nI (c + 1)) C m (nI n) col (fun i => nI (F i)) (fun i => nI (P i)) (fun i => nI (Q i)) T B W cov) :
    ∀ (f t n : Nat) (T B W : Nat → Int32), F (c + 1) - F c < f + t → t ≤ F (c + 1) - F c → n ≤ F c + t → qc_R T B W n (fun x => U x + qw_i F P Q c x y t) →
      wX_findCrossings_22 post J7 y (nI c) f (nI (F c + t)) C m (nI n) col (fun i => nI (F i)) (fun i => nI (P i)) (fun i => nI (Q i)) T B W cov := by
  intro f
  induction f with
  | zero => intro t n T B W hf ht; omega
  | succ f ih =>
    intro t n T B W hf ht hn hR
    have i1 : vp_in (nI (c + 1)) 5 := vp_in_nI (by omega) (by omega)
    have i0 : vp_in (nI c) 5 := vp_in_nI (by omega) (by omega)
    rw [wX_findCrossings_22]
    dsimp only
    rw [nI_1 c, nI_clamp (n := c + 1) (by omega), nI_clamp (n := c) (by omega)]
    refine ⟨i1, pk_le (F (c + 1)) (F c + t) (fun h => ?_) (fun h => ⟨i1, ?_⟩)⟩
    · have e : t = F (c + 1) - F c := by omega
      subst e
      exact nm_e (K n T B W (by omega) hR)
    · have hstep : ∀ j, j = qw_nx F c (F c + t) → wX_findCrossings_60 post J7 (wX_findCrossings_22 post J7 y (nI c) f) y (nI c) (nI (F c + t)) (nI j) C m (nI n) col (fun i => nI (F i)) (fun i => nI (P i)) (fun i => nI (Q i)) T B W cov := by
        intro j ej
        have hj : j < 12 := by rw [ej]; unfold qw_nx; split <;> omega
        refine qx_60 hP hQ (by omega) hR hy (by omega) hj (fun n' T' B' W' hl hR' => ?_)
        refine ih (t + 1) n' T' B' W' (by omega) (by omega) (by omega) (qc_RS hR' (fun x _ => ?_))
        subst ej
        exact Int32.add_assoc _ _ _
      refine pk_le (F (c + 1)) (F c + t + 1) (fun h2 => ⟨i0, ?_⟩) (fun h2 => ?_) (hy := nI_1 _)
      · exact hstep (F c) (by unfold qw_nx; rw [if_neg (by omega)])
      · rw [nI_1]
        exact hstep (F c + t + 1) (by unfold qw_nx; rw [if_pos (by omega)])
theorem qx_7 {post : SX → Prop} {m : Int32} {C : Nat} {col cov : Nat → Int32} {F P Q : Nat → Nat} (hs : qr_sh C F P Q) {y : Int32} (hy : qo_in y)
    (K : ∀ n T B W, n ≤ 12 → qc_R T B W n (fun x => qw_w F P Q C x y) → post (nI C, m, nI n, col, fun i => nI (F i), fun i => nI (P i), fun i => nI (Q i), T, B, W, cov)) :
    ∀ (f c n : Nat) (T B W : Nat → Int32), C < f + c → c ≤ C → n ≤ 12 → (c < C → n ≤ F c) → qc_R T B W n (fun x => qw_w F P Q c x y) →
      wX_findCrossings_7 post y f (nI c) (nI C) m (nI n) col (fun i => nI (F i)) (fun i => nI (P i)) (fun i => nI (Q i)) T B W cov := by
  obtain ⟨h4, hP, hQ, hF, h12⟩ := hs
  intro f
  induction f with
  | zero => intro c n T B W hf hc; omega
  | succ f ih =>
    intro c n T B W hf hc hn hnF hR
    rw [wX_findCrossings_7]
    dsimp only
    rw [nI_clamp (n := c) (by omega)]
    refine pk_le C c (fun h => ?_) (fun h => ⟨vp_in_nI (by omega) (by omega), nm_r (e' := nI (F c + 0)) rfl ⟨F (c + 1) - F c + 1, ?_⟩⟩)
    · have e : c = C := by omega
      subst e
      exact K n T B W hn hR
    · have h2 : F (c + 1) ≤ 12 := h12 (by omega) (c + 1) (by omega)
      exact qx_22 hP hQ hy (by omega) (hF c h) h2 (U := fun x => qw_w F P Q c x y) (fun n' T' B' W' hl hR' => ih (c + 1) n' T' B' W' (by omega) (by omega) (by omega) (fun _ => hl) hR') _ 0 n T B W (by omega) (by omega) (hnF h) (qc_RS hR (fun x _ => (Int32.add_zero _).symm))
theorem qx_find {post : SX → Prop} {m q : Int32} {C : Nat} {col T B W cov : Nat → Int32} {F P Q : Nat → Nat} (hs : qr_sh C F P Q) {y : Int32} (hy : qo_in y)
    (K : ∀ n T B W, n ≤ 12 → qc_R T B W n (fun x => qw_w F P Q C x y) → post (nI C, m, nI n, col, fun i => nI (F i), fun i => nI (P i), fun i => nI (Q i), T, B, W, cov)) :
    wpX_findCrossings post (nI C, m, q, col, fun i => nI (F i), fun i => nI (P i), fun i => nI (Q i), T, B, W, cov) y := by
  unfold wpX_findCrossings
  dsimp only
  exact ⟨C + 1, qx_7 hs hy K (C + 1) 0 0 T B W (by omega) (by omega) (by omega) (fun _ => by omega) (qc_R0 T B W)⟩
theorem qx_w25 {post : Int32 → SX → Prop} {c m : Int32} {col fst xs ys T B W cov : Nat → Int32} {n : Nat} (hn : n ≤ 12) {S : Int32 → Int32} (hR : qc_R T B W n S) {x : Int32} (hx : qo_in x)
    (K : post (S x) (c, m, nI n, col, fst, xs, ys, T, B, W, cov)) :
    ∀ (f k : Nat), k < f → k ≤ n → (∀ j, k ≤ j → j < n → x * B j < T j) →
      wX_winding_25 post x c m (nI n) col fst xs ys T B W cov f (bx_sum W n - bx_sum W k) (nI k - 1) := by
  intro f
  induction f with
  | zero => intro k hf; omega
  | succ f ih =>
    intro k hf hk hp
    rw [wX_winding_25]
    cases k with
    | zero =>
      have e := qc_cut hR hx hk (fun j hj => absurd hj (Nat.not_lt_zero j)) hp
      rw [e]
      exact br_t (by rw [nI_0]; decide) K
    | succ d =>
      rw [nI_pred]
      rw [nI_clamp (n := d) (by omega)]
      have i0 : vp_in (nI d) 12 := vp_in_nI (by omega) (by omega)
      refine br_f (nI_pos (by omega)) ⟨i0, i0, ?_⟩
      by_cases e : x * B d < T d
      · refine br_f (Int32.not_le.mpr e) ⟨i0, nm_r (qs_sub3 (bx_sum W n) (bx_sum W d) (W d)) (nm_r (Int32.sub_eq_add_neg _ _).symm ?_)⟩
        refine ih d (by omega) (by omega) (fun j hj hjn => ?_)
        by_cases ej : j = d
        · subst ej; exact e
        · exact hp j (by omega) hjn
      · refine br_t (Int32.not_lt.mp e) ?_
        have e2 := qc_cut hR hx hk (fun j hj hc => e (qc_mono hR hx (k := d) (by omega) (by omega) hc)) hp
        rw [e2]
        exact K
end
section
/-! the sweep, covered samples; X's coverAll -/
abbrev QK : Type := Int32 → Int32 → Int32 → (Nat → Int32) → (Nat → Int32) → (Nat → Int32) → (Nat → Int32) → (Nat → Int32) → (Nat → Int32) → (Nat → Int32) → (Nat → Int32) → Prop
def qi (w odd : Int32) : Int32 := if odd = 0 then (if w = 0 then 0 else 1) else (if w &&& 1 = 1 then 1 else 0)
theorem qi_01 (w odd : Int32) : qi w odd = 0 ∨ qi w odd = 1 := by
  unfold qi
  split <;> split
  · exact Or.inl rfl
  · exact Or.inr rfl
  · exact Or.inr rfl
  · exact Or.inl rfl
/-- a sample (x, y): inside (1) or not (0) -/
def qj (F P Q : Nat → Nat) (C : Nat) (odd : Int32) (x y : Nat) : Int32 := qi (qw_w F P Q C (nI x) (nI y)) odd
/-- what a sweep of line l adds to pixel p -/
def qg (w : Nat → Nat → Int32) (l p : Nat) : Int32 := bx_sum (fun s => if p = l / 2 * 16 + s / 2 then w (2 * s + 1) (2 * l + 1) else 0) 32
theorem qx_inside {post : Int32 → Prop} {w odd : Int32} (h : post (qi w odd)) : wpX_isInside post w odd := by
  unfold wpX_isInside
  unfold qi at h
  by_cases e : odd = 0
  · rw [if_pos e] at h
    by_cases e2 : w = 0
    · rw [if_pos e2] at h; exact br_t e (br_t e2 h)
    · rw [if_neg e2] at h; exact br_t e (br_f e2 h)
  · rw [if_neg e] at h
    by_cases e2 : w &&& 1 = 1
    · rw [if_pos e2] at h; exact br_f e (br_t e2 h)
    · rw [if_neg e2] at h; exact br_f e (br_f e2 h)
theorem qn_pix {l s : Nat} (hl : l < 32) (hs : s < 32) : ((nI l / 2) * 16) + (nI s / 2) = nI (l / 2 * 16 + s / 2) := by
  show ((nI l / nI 2) * nI 16) + (nI s / nI 2) = _
  rw [pk_div (by omega) (by omega) (by omega), pk_div (by omega) (by omega) (by omega), pk_mul, nI_add]
theorem qn_2s (s : Nat) : 2 * nI s + 1 = nI (2 * s + 1) := by
  show nI 2 * nI s + nI 1 = _
  rw [pk_mul, nI_add]
theorem qn_2 (s : Nat) : 2 * nI s = nI (2 * s) := by
  show nI 2 * nI s = _
  rw [pk_mul]
theorem qn_16 (r c : Nat) : nI r * 16 + nI c = nI (r * 16 + c) := by
  show nI r * nI 16 + nI c = _
  rw [pk_mul, nI_add]
theorem qx_all4 {post : Int32 → Prop} {c m : Int32} {col fst xs ys T B W cov : Nat → Int32} {n : Nat} (hn : n ≤ 12) (K : post (bx_sum W n)) :
    ∀ (f k : Nat), n < f + k → k ≤ n → wX_allWays_4 post c m (nI n) col fst xs ys T B W cov f (bx_sum W k) (nI k) := by
  intro f
  induction f with
  | zero => intro k hf hk; omega
  | succ f ih =>
    intro k hf hk
    rw [wX_allWays_4]
    dsimp only
    rw [nI_clamp (n := k) (by omega)]
    refine pk_le n k (fun h => ?_) (fun h => ⟨vp_in_nI (by omega) (by omega), nm_e (nm_r (nI_1 k) (ih (k + 1) (by omega) (by omega)))⟩)
    have e : k = n := by omega
    subst e
    exact K
theorem qx_allWays {post : Int32 → Prop} {c m : Int32} {col fst xs ys T B W cov : Nat → Int32} {n : Nat} (hn : n ≤ 12) (K : post (bx_sum W n)) :
    wpX_allWays post (c, m, nI n, col, fst, xs, ys, T, B, W, cov) := by
  unfold wpX_allWays
  dsimp only
  exact ⟨n + 1, qx_all4 hn K (n + 1) 0 (by omega) (by omega)⟩
theorem qx_80 {post : SX → Prop} {J20 : QK} {c m q : Int32} {col fst xs ys T B W cov : Nat → Int32} {l s : Nat} (hl : l < 32) (hs : s < 32) {odd w k : Int32}
    (K : ∀ cov', (∀ p, cov' p = cov p + (if p = l / 2 * 16 + s / 2 then qi w odd else 0)) → J20 w k (nI (s + 1)) col fst xs ys T B W cov') :
    wX_sweep_80 post J20 (nI l) odd w k (nI s) c m q col fst xs ys T B W cov := by
  have i0 : vp_in (nI (l / 2 * 16 + s / 2)) 256 := vp_in_nI (by omega) (by omega)
  unfold wX_sweep_80
  rw [qn_pix hl hs, nI_clamp (n := l / 2 * 16 + s / 2) (by omega)]
  refine qx_inside ?_
  by_cases e : qi w odd = 0
  · refine br_t e (nm_r (nI_1 s) (K cov (fun p => ?_)))
    rw [e]
    split <;> rw [Int32.add_zero]
  · have e1 : qi w odd = 1 := (qi_01 w odd).resolve_left e
    refine br_f e ⟨by decide, by decide, i0, i0, nm_e (nm_r (nI_1 s) (K _ (fun p => ?_)))⟩
    rw [e1]
    by_cases hp : p = l / 2 * 16 + s / 2
    · subst hp; rw [pk_us, if_pos rfl]
    · rw [pk_un hp, if_neg hp, Int32.add_zero]
theorem qx_35 {post : SX → Prop} {J20 : QK} {c m x1 x2 x5 x : Int32} {col fst xs ys T B W cov : Nat → Int32} {n : Nat} (hn : n ≤ 12) {S : Int32 → Int32} (hR : qc_R T B W n S) (hx : qo_in x)
    (K : ∀ k, k ≤ n → (∀ j, j < k → ¬ x * B j < T j) → bx_sum W n - bx_sum W k = S x → wX_sweep_80 post J20 x1 x2 (bx_sum W n - bx_sum W k) (nI k) x5 c m (nI n) col fst xs ys T B W cov) :
    ∀ (f k : Nat), n < f + k → k ≤ n → (∀ j, j < k → ¬ x * B j < T j) → wX_sweep_35 post J20 x1 x2 x5 x c m (nI n) col fst xs ys T B W cov f (bx_sum W n - bx_sum W k) (nI k) := by
  intro f
  induction f with
  | zero => intro k hf hk; omega
  | succ f ih =>
    intro k hf hk h0
    rw [wX_sweep_35]
    dsimp only
    rw [nI_clamp (n := k) (by omega)]
    refine pk_le n k (fun h => ?_) (fun h => ?_)
    · exact K k hk h0 (qc_cut hR hx hk h0 (fun j hj hjn => by omega))
    · have i0 : vp_in (nI k) 12 := vp_in_nI (by omega) (by omega)
      refine ⟨i0, i0, ?_⟩
      by_cases e : x * B k < T k
      · exact br_t e (K k hk h0 (qc_cut hR hx hk h0 (fun j hj hjn => qc_mono hR hx hj hjn e)))
      · refine br_f e ⟨i0, nm_r (qs_sub1 _ _ _) (nm_r (nI_1 k) (ih (k + 1) (by omega) (by omega) (fun j hj => ?_)))⟩
        by_cases ej : j = k
        · subst ej; exact e
        · exact h0 j (by omega)
theorem qx_20 {post : SX → Prop} {c m odd : Int32} {col fst xs ys T B W cov0 : Nat → Int32} {n l : Nat} (hl : l < 32) (hn : n ≤ 12) {S : Int32 → Int32} (hR : qc_R T B W n S)
    (K : ∀ cov, (∀ p, cov p = cov0 p + bx_sum (fun s => if p = l / 2 * 16 + s / 2 then qi (S (nI (2 * s + 1))) odd else 0) 32) → post (c, m, nI n, col, fst, xs, ys, T, B, W, cov)) :
    ∀ (f s k : Nat) (cov : Nat → Int32), 32 < f + s → s ≤ 32 → k ≤ n → (s < 32 → ∀ j, j < k → ¬ nI (2 * s + 1) * B j < T j) →
      (∀ p, cov p = cov0 p + bx_sum (fun s => if p = l / 2 * 16 + s / 2 then qi (S (nI (2 * s + 1))) odd else 0) s) →
      wX_sweep_20 post (nI l) odd c m (nI n) f (bx_sum W n - bx_sum W k) (nI k) (nI s) col fst xs ys T B W cov := by
  intro f
  induction f with
  | zero => intro s k cov hf hs; omega
  | succ f ih =>
    intro s k cov hf hs hk h0 hcov
    rw [wX_sweep_20]
    refine pk_le 32 s (fun h => ?_) (fun h => nm_r (qn_2s s) ⟨n + 1, ?_⟩)
    · have e : s = 32 := by omega
      subst e
      exact K cov hcov
    · have hx : qo_in (nI (2 * s + 1)) := qo_inN (by omega)
      refine qx_35 hn hR hx (fun k' hk' hk0 hS => ?_) (n + 1) k (by omega) hk (h0 h)
      refine qx_80 hl h (fun cov' hc => ?_)
      refine ih (s + 1) k' cov' (by omega) (by omega) hk' (fun h1 j hj => ?_) (fun p => ?_)
      · refine qc_keep hx (qo_inN (by omega)) (hR.1 j (by omega)).1 ?_ (hk0 j hj)
        rw [nI_toInt (by omega), nI_toInt (by omega)]
        omega
      · rw [hc p, hcov p, hS]
        exact Int32.add_assoc _ _ _
theorem qx_sweep {post : SX → Prop} {m q odd : Int32} {C : Nat} {col T B W cov : Nat → Int32} {F P Q : Nat → Nat} (hs : qr_sh C F P Q) {l : Nat} (hl : l < 32)
    (K : ∀ q T B W cov', (∀ p, cov' p = cov p + qg (qj F P Q C odd) l p) → post (nI C, m, q, col, fun i => nI (F i), fun i => nI (P i), fun i => nI (Q i), T, B, W, cov')) :
    wpX_sweep post (nI C, m, q, col, fun i => nI (F i), fun i => nI (P i), fun i => nI (Q i), T, B, W, cov) (nI l) odd := by
  unfold wpX_sweep
  dsimp only
  rw [qn_2s]
  refine qx_find hs (qo_inN (by omega)) (fun n T' B' W' hn hR => ?_)
  refine qx_allWays hn ⟨33, ?_⟩
  have e : bx_sum W' n = bx_sum W' n - bx_sum W' 0 := (Int32.sub_zero _).symm
  rw [e]
  exact qx_20 hl hn hR (fun cov' hc => K _ _ _ _ cov' hc) 33 0 0 cov (by omega) (by omega) (by omega) (fun _ j hj => absurd hj (Nat.not_lt_zero j)) (fun p => (Int32.add_zero _).symm)
theorem qx_ca24 {post : SX → Prop} {m odd : Int32} {C : Nat} {col : Nat → Int32} {F P Q : Nat → Nat} (hs : qr_sh C F P Q)
    (K : ∀ q T B W cov, (∀ p, p < 256 → cov p = bx_sum (fun l => qg (qj F P Q C odd) l p) 32) → post (nI C, m, q, col, fun i => nI (F i), fun i => nI (P i), fun i => nI (Q i), T, B, W, cov)) :
    ∀ (f l : Nat) (q : Int32) (T B W cov : Nat → Int32), 32 < f + l → l ≤ 32 → (∀ p, p < 256 → cov p = bx_sum (fun l => qg (qj F P Q C odd) l p) l) →
      wX_coverAll_24 post odd f (nI l) (nI C) m q col (fun i => nI (F i)) (fun i => nI (P i)) (fun i => nI (Q i)) T B W cov := by
  intro f
  induction f with
  | zero => intro l q T B W cov hf hl; omega
  | succ f ih =>
    intro l q T B W cov hf hl hcov
    rw [wX_coverAll_24]
    refine pk_le 32 l (fun h => ?_) (fun h => ?_)
    · have e : l = 32 := by omega
      subst e
      exact K q T B W cov hcov
    · refine qx_sweep hs h (fun q' T' B' W' cov' hc => nm_r (nI_1 l) (ih (l + 1) q' T' B' W' cov' (by omega) (by omega) (fun p hp => ?_)))
      rw [hc p, hcov p hp]
      rfl
theorem qx_ca2 {post : SX → Prop} {m q odd : Int32} {C : Nat} {col T B W : Nat → Int32} {F P Q : Nat → Nat} (hs : qr_sh C F P Q)
    (K : ∀ q T B W cov, (∀ p, p < 256 → cov p = bx_sum (fun l => qg (qj F P Q C odd) l p) 32) → post (nI C, m, q, col, fun i => nI (F i), fun i => nI (P i), fun i => nI (Q i), T, B, W, cov)) :
    ∀ (f i : Nat) (cov : Nat → Int32), 256 < f + i → i ≤ 256 → (∀ p, p < i → cov p = 0) →
      wX_coverAll_2 post odd (nI C) m q f (nI i) col (fun i => nI (F i)) (fun i => nI (P i)) (fun i => nI (Q i)) T B W cov := by
  intro f
  induction f with
  | zero => intro i cov hf hi; omega
  | succ f ih =>
    intro i cov hf hi hcov
    rw [wX_coverAll_2]
    dsimp only
    rw [nI_clamp (n := i) (by omega)]
    refine pk_le 256 i (fun h => ?_) (fun h => ⟨vp_in_nI (by omega) (by omega), nm_e (nm_r (nI_1 i) (ih (i + 1) _ (by omega) (by omega) (fun p hp => ?_)))⟩)
    · exact ⟨33, qx_ca24 hs K 33 0 q T B W cov (by omega) (by omega) (fun p hp => hcov p (by omega))⟩
    · by_cases e : p = i
      · subst e; exact pk_us
      · rw [pk_un e]; exact hcov p (by omega)
theorem qx_coverAll {post : SX → Prop} {m q odd : Int32} {C : Nat} {col T B W cov : Nat → Int32} {F P Q : Nat → Nat} (hs : qr_sh C F P Q)
    (K : ∀ q T B W cov, (∀ p, p < 256 → cov p = bx_sum (fun l => qg (qj F P Q C odd) l p) 32) → post (nI C, m, q, col, fun i => nI (F i), fun i => nI (P i), fun i => nI (Q i), T, B, W, cov)) :
    wpX_coverAll post (nI C, m, q, col, fun i => nI (F i), fun i => nI (P i), fun i => nI (Q i), T, B, W, cov) odd := by
  unfold wpX_coverAll
  dsimp only
  exact ⟨257, qx_ca2 hs K 257 0 cov (by omega) (by omega) (fun p hp => absurd hp (Nat.not_lt_zero p))⟩
end
section
/-! the reference's walks: out, edge, winding, inside, coverage -/
/-- coverage of pixel (r, c) -/
def qk (w : Nat → Nat → Int32) (r c : Nat) : Int32 := bx_sum (fun s => w (4 * c + 1 + 2 * (s % 2)) (4 * r + 1 + 2 * (s / 2))) 4
theorem qy_out1 {post : Int32 → Prop} {M C : Int32} {xs ys fst col : Nat → Int32} {p : Int32} (h : qo_in p) (hp : post 0) : wpY_out post (M, C, xs, ys, fst, col) p := by
  obtain ⟨a, b⟩ := h
  have h1 : ¬ p < 0 := by rw [Int32.lt_iff_toInt_lt, qn_l0]; omega
  have h2 : p ≤ 64 := by rw [Int32.le_iff_toInt_le, qn_l64]; omega
  unfold wpY_out
  exact br_f h1 (br_t h2 hp)
theorem qy_out2 {post : Int32 → Prop} {M C : Int32} {xs ys fst col : Nat → Int32} {p : Int32} (h : ¬ qo_in p) (hp : post 1) : wpY_out post (M, C, xs, ys, fst, col) p := by
  unfold wpY_out
  dsimp only
  by_cases h1 : p < 0
  · exact br_t h1 hp
  · refine br_f h1 (br_f (fun h2 => h ?_) hp)
    rw [Int32.lt_iff_toInt_lt, qn_l0] at h1
    rw [Int32.le_iff_toInt_le, qn_l64] at h2
    exact ⟨by omega, h2⟩
theorem qx_bp1 {post : Int32 → Prop} {x y : Int32} (hx : qo_in x) (hy : qo_in y) (hp : post 0) : wpX_badPoint post x y := by
  obtain ⟨a, b⟩ := hx
  obtain ⟨c, d⟩ := hy
  have h1 : ¬ x < 0 := by rw [Int32.lt_iff_toInt_lt, qn_l0]; omega
  have h2 : ¬ 64 < x := by rw [Int32.lt_iff_toInt_lt, qn_l64]; omega
  have h3 : ¬ y < 0 := by rw [Int32.lt_iff_toInt_lt, qn_l0]; omega
  have h4 : y ≤ 64 := by rw [Int32.le_iff_toInt_le, qn_l64]; omega
  unfold wpX_badPoint
  exact br_f h1 (br_f h2 (br_f h3 (br_t h4 hp)))
theorem qx_bp2 {post : Int32 → Prop} {x y : Int32} (h : ¬ (qo_in x ∧ qo_in y)) (hp : post 1) : wpX_badPoint post x y := by
  unfold wpX_badPoint
  refine br_c (fun _ => hp) (fun h1 => br_c (fun _ => hp) (fun h2 => br_c (fun _ => hp) (fun h3 => br_c (fun h4 => absurd ?_ h) (fun _ => hp))))
  rw [Int32.lt_iff_toInt_lt, qn_l0] at h1 h3
  rw [Int32.lt_iff_toInt_lt, qn_l64] at h2
  rw [Int32.le_iff_toInt_le, qn_l64] at h4
  exact ⟨⟨by omega, by omega⟩, ⟨by omega, by omega⟩⟩
theorem qx_px1 {post : Int32 → Prop} {x y : Int32} (hx : qo_px x) (hy : qo_px y) (hp : post 0) : wpX_badPixel post x y := by
  obtain ⟨a, b⟩ := hx
  obtain ⟨c, d⟩ := hy
  have h1 : ¬ x < 0 := by rw [Int32.lt_iff_toInt_lt, qn_l0]; omega
  have h2 : ¬ 16 ≤ x := by rw [Int32.le_iff_toInt_le, qn_l16]; omega
  have h3 : ¬ y < 0 := by rw [Int32.lt_iff_toInt_lt, qn_l0]; omega
  have h4 : y < 16 := by rw [Int32.lt_iff_toInt_lt, qn_l16]; omega
  unfold wpX_badPixel
  exact br_f h1 (br_f h2 (br_f h3 (br_t h4 hp)))
theorem qx_px2 {post : Int32 → Prop} {x y : Int32} (h : ¬ (qo_px x ∧ qo_px y)) (hp : post 1) : wpX_badPixel post x y := by
  unfold wpX_badPixel
  refine br_c (fun _ => hp) (fun h1 => br_c (fun _ => hp) (fun h2 => br_c (fun _ => hp) (fun h3 => br_c (fun h4 => absurd ?_ h) (fun _ => hp))))
  rw [Int32.lt_iff_toInt_lt, qn_l0] at h1 h3
  rw [Int32.le_iff_toInt_le, qn_l16] at h2
  rw [Int32.lt_iff_toInt_lt, qn_l16] at h4
  exact ⟨⟨by omega, by omega⟩, ⟨by omega, by omega⟩⟩
theorem qy_px1 {post : Int32 → Prop} {M C : Int32} {xs ys fst col : Nat → Int32} {x y : Int32} (hx : qo_px x) (hy : qo_px y) (hp : post 0) : wpY_badPixel post (M, C, xs, ys, fst, col) x y := by
  obtain ⟨a, b⟩ := hx
  obtain ⟨c, d⟩ := hy
  have h1 : ¬ x < 0 := by rw [Int32.lt_iff_toInt_lt, qn_l0]; omega
  have h2 : ¬ 15 < x := by rw [Int32.lt_iff_toInt_lt, qn_l15]; omega
  have h3 : ¬ y < 0 := by rw [Int32.lt_iff_toInt_lt, qn_l0]; omega
  have h4 : y ≤ 15 := by rw [Int32.le_iff_toInt_le, qn_l15]; omega
  unfold wpY_badPixel
  exact br_f h1 (br_f h2 (br_f h3 (br_t h4 hp)))
theorem qy_px2 {post : Int32 → Prop} {M C : Int32} {xs ys fst col : Nat → Int32} {x y : Int32} (h : ¬ (qo_px x ∧ qo_px y)) (hp : post 1) : wpY_badPixel post (M, C, xs, ys, fst, col) x y := by
  unfold wpY_badPixel
  dsimp only
  refine br_c (fun _ => hp) (fun h1 => br_c (fun _ => hp) (fun h2 => br_c (fun _ => hp) (fun h3 => br_c (fun h4 => absurd ?_ h) (fun _ => hp))))
  rw [Int32.lt_iff_toInt_lt, qn_l0] at h1 h3
  rw [Int32.lt_iff_toInt_lt, qn_l15] at h2
  rw [Int32.le_iff_toInt_le, qn_l15] at h4
  exact ⟨⟨by omega, by omega⟩, ⟨by omega, by omega⟩⟩
theorem qy_76 {post : Int32 → Prop} {M C : Int32} {xs ys fst col : Nat → Int32} {x y : Int32} {i j : Nat} (hi : i < 12) (hj : j < 12) (hd : ¬ (ys i ≤ y ∧ y < ys j)) (h : post (qe_v (xs i) (ys i) (xs j) (ys j) x y)) :
    wY_edge_76 post (nI i) (nI j) x y M C xs ys fst col := by
  have i0 : vp_in (nI i) 12 := vp_in_nI hi (by omega)
  have j0 : vp_in (nI j) 12 := vp_in_nI hj (by omega)
  unfold wY_edge_76
  rw [nI_clamp (n := i) (by omega), nI_clamp (n := j) (by omega)]
  unfold qe_v at h
  rw [if_neg hd] at h
  by_cases e1 : y < ys j
  · rw [if_neg (fun z => Int32.not_lt.mpr z.1 e1)] at h
    exact ⟨j0, br_t e1 h⟩
  · by_cases e2 : ys i ≤ y
    · rw [if_neg (fun z => Int32.not_lt.mpr e2 z.2)] at h
      exact ⟨j0, br_f e1 ⟨i0, br_t e2 h⟩⟩
    · rw [if_pos ⟨Int32.not_lt.mp e1, Int32.not_le.mp e2⟩] at h
      by_cases e3 : (xs i - xs j) * (y - ys j) ≤ (x - xs j) * (ys i - ys j)
      · rw [if_pos e3] at h
        exact ⟨j0, br_f e1 ⟨i0, br_f e2 ⟨i0, j0, j0, j0, i0, j0, br_t e3 h⟩⟩⟩
      · rw [if_neg e3] at h
        exact ⟨j0, br_f e1 ⟨i0, br_f e2 ⟨i0, j0, j0, j0, i0, j0, br_f e3 h⟩⟩⟩
theorem qy_edge {post : Int32 → Prop} {M C : Int32} {xs ys fst col : Nat → Int32} {x y : Int32} {i j : Nat} (hi : i < 12) (hj : j < 12) (h : post (qe_v (xs i) (ys i) (xs j) (ys j) x y)) :
    wpY_edge post (M, C, xs, ys, fst, col) (nI i) (nI j) x y := by
  have i0 : vp_in (nI i) 12 := vp_in_nI hi (by omega)
  have j0 : vp_in (nI j) 12 := vp_in_nI hj (by omega)
  unfold wpY_edge
  dsimp only
  rw [nI_clamp (n := i) (by omega), nI_clamp (n := j) (by omega)]
  by_cases e1 : y < ys i
  · exact ⟨i0, br_t e1 (qy_76 hi hj (fun z => Int32.not_lt.mpr z.1 e1) h)⟩
  · by_cases e2 : ys j ≤ y
    · exact ⟨i0, br_f e1 ⟨j0, br_t e2 (qy_76 hi hj (fun z => Int32.not_lt.mpr e2 z.2) h)⟩⟩
    · unfold qe_v at h
      rw [if_pos ⟨Int32.not_lt.mp e1, Int32.not_le.mp e2⟩] at h
      by_cases e3 : (xs j - xs i) * (y - ys i) ≤ (x - xs i) * (ys j - ys i)
      · rw [if_pos e3] at h
        exact ⟨i0, br_f e1 ⟨j0, br_f e2 ⟨j0, i0, i0, i0, j0, i0, br_t e3 h⟩⟩⟩
      · rw [if_neg e3] at h
        exact ⟨i0, br_f e1 ⟨j0, br_f e2 ⟨j0, i0, i0, i0, j0, i0, br_f e3 h⟩⟩⟩
theorem qy_41 {post : Int32 → Prop} {J23 : Int32 → Int32 → Prop} {M C : Int32} {col : Nat → Int32} {F P Q : Nat → Nat} {x y : Int32} {c : Nat} (hc : c < 4) (hm : F c ≤ F (c + 1)) (h12 : F (c + 1) ≤ 12) {U : Int32}
    (K : J23 (U + qw_i F P Q c x y (F (c + 1) - F c)) (nI (c + 1))) :
    ∀ (f t : Nat), F (c + 1) - F c < f + t → t ≤ F (c + 1) - F c →
      wY_winding_41 post J23 x y (nI c) M C (fun i => nI (P i)) (fun i => nI (Q i)) (fun i => nI (F i)) col f (U + qw_i F P Q c x y t) (nI (F c + t)) := by
  intro f
  induction f with
  | zero => intro t hf ht; omega
  | succ f ih =>
    intro t hf ht
    have i1 : vp_in (nI (c + 1)) 5 := vp_in_nI (by omega) (by omega)
    have i0 : vp_in (nI c) 5 := vp_in_nI (by omega) (by omega)
    rw [wY_winding_41]
    dsimp only
    rw [nI_1 c, nI_clamp (n := c + 1) (by omega), nI_clamp (n := c) (by omega)]
    refine ⟨i1, pk_le (F (c + 1)) (F c + t) (fun h => ?_) (fun h => ⟨i1, ?_⟩)⟩
    · have e : t = F (c + 1) - F c := by omega
      subst e
      exact nm_e K
    · have hstep : ∀ j, j = qw_nx F c (F c + t) → wY_winding_85 post J23 (wY_winding_41 post J23 x y (nI c) M C (fun i => nI (P i)) (fun i => nI (Q i)) (fun i => nI (F i)) col f) x y (U + qw_i F P Q c x y t) (nI c) (nI (F c + t)) (nI j) M C (fun i => nI (P i)) (fun i => nI (Q i)) (fun i => nI (F i)) col := by
        intro j ej
        have hj : j < 12 := by rw [ej]; unfold qw_nx; split <;> omega
        unfold wY_winding_85
        refine qy_edge (by omega) hj ?_
        have e2 : U + qw_i F P Q c x y t + qw_e F P Q c (F c + t) x y = U + qw_i F P Q c x y (t + 1) := Int32.add_assoc _ _ _
        subst ej
        exact nm_r e2 (nm_r (nI_1 _) (ih (t + 1) (by omega) (by omega)))
      refine pk_le (F (c + 1)) (F c + t + 1) (fun h2 => ⟨i0, ?_⟩) (fun h2 => ?_) (hy := nI_1 _)
      · exact hstep (F c) (by unfold qw_nx; rw [if_neg (by omega)])
      · rw [nI_1]
        exact hstep (F c + t + 1) (by unfold qw_nx; rw [if_pos (by omega)])
theorem qy_23 {post : Int32 → Prop} {M : Int32} {C : Nat} {col : Nat → Int32} {F P Q : Nat → Nat} (hs : qr_sh C F P Q) {x y : Int32} (K : post (qw_w F P Q C x y)) :
    ∀ (f c : Nat), C < f + c → c ≤ C → wY_winding_23 post x y M (nI C) (fun i => nI (P i)) (fun i => nI (Q i)) (fun i => nI (F i)) col f (qw_w F P Q c x y) (nI c) := by
  obtain ⟨h4, hP, hQ, hF, h12⟩ := hs
  intro f
  induction f with
  | zero => intro c hf hc; omega
  | succ f ih =>
    intro c hf hc
    rw [wY_winding_23]
    dsimp only
    rw [nI_clamp (n := c) (by omega)]
    refine pk_le C c (fun h => ?_) (fun h => ⟨vp_in_nI (by omega) (by omega), nm_r (e' := nI (F c + 0)) rfl ⟨F (c + 1) - F c + 1, ?_⟩⟩)
    · have e : c = C := by omega
      subst e
      exact K
    · have h2 : F (c + 1) ≤ 12 := h12 (by omega) (c + 1) (by omega)
      have e0 : qw_w F P Q c x y = qw_w F P Q c x y + qw_i F P Q c x y 0 := (Int32.add_zero _).symm
      rw [e0]
      exact qy_41 (by omega) (hF c h) h2 (ih (c + 1) (by omega) (by omega)) _ 0 (by omega) (by omega)
theorem qy_winding {post : Int32 → Prop} {M : Int32} {C : Nat} {col : Nat → Int32} {F P Q : Nat → Nat} (hs : qr_sh C F P Q) {x y : Int32} (hx : qo_in x) (hy : qo_in y) (K : post (qw_w F P Q C x y)) :
    wpY_winding post (M, nI C, fun i => nI (P i), fun i => nI (Q i), fun i => nI (F i), col) x y := by
  unfold wpY_winding
  dsimp only
  refine qy_out1 hx (br_t rfl (qy_out1 hy (br_t rfl ⟨C + 1, ?_⟩)))
  exact qy_23 hs K (C + 1) 0 (by omega) (by omega)
theorem qy_inside {post : Int32 → Prop} {M odd : Int32} {C : Nat} {col : Nat → Int32} {F P Q : Nat → Nat} (hs : qr_sh C F P Q) {x y : Nat} (hx : x ≤ 64) (hy : y ≤ 64) (K : post (qj F P Q C odd x y)) :
    wpY_inside post (M, nI C, fun i => nI (P i), fun i => nI (Q i), fun i => nI (F i), col) (nI x) (nI y) odd := by
  unfold wpY_inside
  dsimp only
  refine qy_winding hs (qo_inN hx) (qo_inN hy) ?_
  exact qx_inside K
theorem qn_sx {c s : Nat} (hs : s < 4) : ((4 * nI c) + 1) + (2 * (nI s - nI s / 2 * 2)) = nI (4 * c + 1 + 2 * (s % 2)) := by
  show ((nI 4 * nI c) + nI 1) + (nI 2 * (nI s - nI s / nI 2 * nI 2)) = _
  rw [pk_rem (by omega) (by omega) (by omega), pk_mul, pk_mul, nI_add, nI_add]
theorem qn_sy {c s : Nat} (hs : s < 4) : ((4 * nI c) + 1) + (2 * (nI s / 2)) = nI (4 * c + 1 + 2 * (s / 2)) := by
  show ((nI 4 * nI c) + nI 1) + (nI 2 * (nI s / nI 2)) = _
  rw [pk_div (by omega) (by omega) (by omega), pk_mul, pk_mul, nI_add, nI_add]
theorem qy_18 {post : Int32 → Prop} {M odd : Int32} {C : Nat} {col : Nat → Int32} {F P Q : Nat → Nat} (hs : qr_sh C F P Q) {r c : Nat} (hr : r < 16) (hc : c < 16) (K : post (qk (qj F P Q C odd) r c)) :
    ∀ (f s : Nat), 4 < f + s → s ≤ 4 → wY_coverage_18 post (nI r) (nI c) odd M (nI C) (fun i => nI (P i)) (fun i => nI (Q i)) (fun i => nI (F i)) col f (bx_sum (fun s => qj F P Q C odd (4 * c + 1 + 2 * (s % 2)) (4 * r + 1 + 2 * (s / 2))) s) (nI s) := by
  intro f
  induction f with
  | zero => intro s hf h4; omega
  | succ f ih =>
    intro s hf h4
    rw [wY_coverage_18]
    refine pk_le 4 s (fun h => ?_) (fun h => ?_)
    · have e : s = 4 := by omega
      subst e
      exact K
    · rw [qn_sx h, qn_sy h]
      refine ⟨by decide, by decide, qy_inside hs (by omega) (by omega) ?_⟩
      have hi := ih (s + 1) (by omega) (by omega)
      have e0 : bx_sum (fun s => qj F P Q C odd (4 * c + 1 + 2 * (s % 2)) (4 * r + 1 + 2 * (s / 2))) (s + 1) = bx_sum (fun s => qj F P Q C odd (4 * c + 1 + 2 * (s % 2)) (4 * r + 1 + 2 * (s / 2))) s + qj F P Q C odd (4 * c + 1 + 2 * (s % 2)) (4 * r + 1 + 2 * (s / 2)) := rfl
      rcases qi_01 (qw_w F P Q C (nI (4 * c + 1 + 2 * (s % 2))) (nI (4 * r + 1 + 2 * (s / 2)))) odd with e | e
      · have e1 : qj F P Q C odd (4 * c + 1 + 2 * (s % 2)) (4 * r + 1 + 2 * (s / 2)) = 0 := e
        rw [e1, Int32.add_zero] at e0
        rw [e0] at hi
        exact br_t e1 (nm_r (nI_1 s) hi)
      · have e1 : qj F P Q C odd (4 * c + 1 + 2 * (s % 2)) (4 * r + 1 + 2 * (s / 2)) = 1 := e
        rw [e1] at e0
        rw [e0] at hi
        exact br_f (by rw [e1]; decide) (nm_e (nm_r (nI_1 s) hi))
theorem qy_coverage {post : Int32 → Prop} {M odd : Int32} {C : Nat} {col : Nat → Int32} {F P Q : Nat → Nat} (hs : qr_sh C F P Q) {r c : Nat} (hr : r < 16) (hc : c < 16) (K : post (qk (qj F P Q C odd) r c)) :
    wpY_coverage post (M, nI C, fun i => nI (P i), fun i => nI (Q i), fun i => nI (F i), col) (nI r) (nI c) odd := by
  unfold wpY_coverage
  dsimp only
  refine qy_px1 (qo_pxN hr) (qo_pxN hc) (br_t rfl ⟨5, ?_⟩)
  exact qy_18 hs hr hc K 5 0 (by omega) (by omega)
/-! the pure law of coverage -/
theorem qg_0 {w : Nat → Nat → Int32} {l r c : Nat} (hc : c < 16) (h : l / 2 ≠ r) : qg w l (r * 16 + c) = 0 := by
  unfold qg
  refine qs_zero (fun s hs => if_neg ?_)
  omega
theorem qg_1 {w : Nat → Nat → Int32} {l r c : Nat} (hc : c < 16) (h : l / 2 = r) : qg w l (r * 16 + c) = w (4 * c + 1) (2 * l + 1) + w (4 * c + 3) (2 * l + 1) := by
  unfold qg
  have e := qs_two (f := fun s => if r * 16 + c = l / 2 * 16 + s / 2 then w (2 * s + 1) (2 * l + 1) else 0) (a := 2 * c) 32 (by omega) (fun j hj h1 h2 => if_neg (by omega))
  rw [e]
  rw [if_pos (by omega), if_pos (by omega), show 2 * (2 * c) + 1 = 4 * c + 1 by omega, show 2 * (2 * c + 1) + 1 = 4 * c + 3 by omega]
theorem qk_4 (w : Nat → Nat → Int32) (r c : Nat) : qk w r c = (w (4 * c + 1) (4 * r + 1) + w (4 * c + 3) (4 * r + 1)) + (w (4 * c + 1) (4 * r + 3) + w (4 * c + 3) (4 * r + 3)) := by
  show 0 + w (4 * c + 1 + 0) (4 * r + 1 + 0) + w (4 * c + 1 + 2) (4 * r + 1 + 0) + w (4 * c + 1 + 0) (4 * r + 1 + 2) + w (4 * c + 1 + 2) (4 * r + 1 + 2) = _
  rw [Int32.zero_add]
  exact Int32.add_assoc _ _ _
theorem qg_row {w : Nat → Nat → Int32} {r c : Nat} (hc : c < 16) : qg w (2 * r) (r * 16 + c) + qg w (2 * r + 1) (r * 16 + c) = qk w r c := by
  rw [qg_1 hc (by omega), qg_1 hc (by omega), qk_4, show 2 * (2 * r) + 1 = 4 * r + 1 by omega, show 2 * (2 * r + 1) + 1 = 4 * r + 3 by omega]
theorem qg_all {w : Nat → Nat → Int32} {p : Nat} (hp : p < 256) : bx_sum (fun l => qg w l p) 32 = qk w (p / 16) (p % 16) := by
  have e0 : p = p / 16 * 16 + p % 16 := by omega
  rw [qs_two (f := fun l => qg w l p) (a := 2 * (p / 16)) 32 (by omega) (fun j hj h1 h2 => ?_)]
  · generalize hr : p / 16 = r at *
    generalize hq : p % 16 = c at *
    rw [e0]
    exact qg_row (by omega)
  · rw [e0]
    exact qg_0 (by omega) (by omega)
end
section
/-! the loops of paint, wipe, area, coverage, rowSum, move, mirror, on both sides -/
/-- the first i written -/
def qm (g h : Nat → Int32) (i : Nat) : Nat → Int32 := fun p => if p < i then g p else h p
theorem qm_0 (g h : Nat → Int32) : qm g h 0 = h := rfl
theorem qm_at (g h : Nat → Int32) (i : Nat) : qm g h i i = h i := if_neg (Nat.lt_irrefl i)
theorem qm_up (g h : Nat → Int32) (i : Nat) : upd (qm g h i) i (g i) = qm g h (i + 1) := by
  funext p
  by_cases e : p = i
  · subst e
    rw [pk_us]
    exact (if_pos (Nat.lt_succ_self p)).symm
  · rw [pk_un e]
    unfold qm
    by_cases e2 : p < i
    · rw [if_pos e2, if_pos (by omega)]
    · rw [if_neg e2, if_neg (by omega)]
theorem qx_wipe16 {post : Int32 → SX → Prop} {v c m q : Int32} {col fst xs ys T B W cov : Nat → Int32} (K : post 0 (c, m, q, qm (fun _ => v) col 256, fst, xs, ys, T, B, W, cov)) :
    ∀ (f i : Nat), 256 < f + i → i ≤ 256 → wX_wipe_16 post v c m q f (nI i) (qm (fun _ => v) col i) fst xs ys T B W cov := by
  intro f
  induction f with
  | zero => intro i hf hi; omega
  | succ f ih =>
    intro i hf hi
    rw [wX_wipe_16]
    dsimp only
    rw [nI_clamp (n := i) (by omega)]
    refine pk_le 256 i (fun h => ?_) (fun h => ⟨vp_in_nI (by omega) (by omega), nm_r (qm_up _ _ i) (nm_r (nI_1 i) (ih (i + 1) (by omega) (by omega)))⟩)
    have e : i = 256 := by omega
    subst e
    exact K
theorem qy_wipe16 {post : Int32 → SY → Prop} {v M C : Int32} {col fst xs ys : Nat → Int32} (K : post 0 (M, C, xs, ys, fst, qm (fun _ => v) col 256)) :
    ∀ (f i : Nat), 256 < f + i → i ≤ 256 → wY_wipe_16 post v M C f (nI i) xs ys fst (qm (fun _ => v) col i) := by
  intro f
  induction f with
  | zero => intro i hf hi; omega
  | succ f ih =>
    intro i hf hi
    rw [wY_wipe_16]
    dsimp only
    rw [nI_clamp (n := i) (by omega)]
    refine pk_le 256 i (fun h => ?_) (fun h => ⟨vp_in_nI (by omega) (by omega), nm_r (qm_up _ _ i) (nm_r (nI_1 i) (ih (i + 1) (by omega) (by omega)))⟩)
    have e : i = 256 := by omega
    subst e
    exact K
/-! painting -/
def qp_mix (v : Int32) (col k : Nat → Int32) : Nat → Int32 := fun p => ((col p * (4 - k p)) + (v * k p)) / 4
def qp_cnt (k : Nat → Int32) (p : Nat) : Int32 := if k p ≤ 0 then 0 else 1
theorem qx_paint24 {post : Int32 → SX → Prop} {v c m q : Int32} {col fst xs ys T B W cov k : Nat → Int32} (hk : ∀ p, p < 256 → cov p = k p)
    (K : post (bx_sum (qp_cnt k) 256) (c, m, q, qm (qp_mix v col k) col 256, fst, xs, ys, T, B, W, cov)) :
    ∀ (f i : Nat), 256 < f + i → i ≤ 256 → wX_paint_24 post v c m q f (bx_sum (qp_cnt k) i) (nI i) (qm (qp_mix v col k) col i) fst xs ys T B W cov := by
  intro f
  induction f with
  | zero => intro i hf hi; omega
  | succ f ih =>
    intro i hf hi
    rw [wX_paint_24]
    dsimp only
    rw [nI_clamp (n := i) (by omega)]
    refine pk_le 256 i (fun h => ?_) (fun h => ?_)
    · have e : i = 256 := by omega
      subst e
      exact K
    · have i0 : vp_in (nI i) 256 := vp_in_nI (by omega) (by omega)
      have hi2 := ih (i + 1) (by omega) (by omega)
      have eu : upd (qm (qp_mix v col k) col i) i (((qm (qp_mix v col k) col i i * (4 - k i)) + (v * k i)) / 4) = qm (qp_mix v col k) col (i + 1) := by
        rw [qm_at]
        exact qm_up (qp_mix v col k) col i
      have es : bx_sum (qp_cnt k) (i + 1) = bx_sum (qp_cnt k) i + qp_cnt k i := rfl
      refine ⟨i0, nm_r (hk i h) ⟨i0, by decide, i0, nm_r eu ?_⟩⟩
      by_cases e0 : k i ≤ 0
      · have e1 : qp_cnt k i = 0 := if_pos e0
        rw [es, e1, Int32.add_zero] at hi2
        exact br_t e0 (nm_r (nI_1 i) hi2)
      · have e1 : qp_cnt k i = 1 := if_neg e0
        rw [es, e1] at hi2
        exact br_f e0 (nm_e (nm_r (nI_1 i) hi2))
theorem qn_d16 {i : Nat} (h : i < 256) : nI i / 16 = nI (i / 16) := by
  show nI i / nI 16 = _
  rw [pk_div (by omega) (by omega) (by omega)]
theorem qn_m16 {i : Nat} (h : i < 256) : nI i - nI i / 16 * 16 = nI (i % 16) := by
  show nI i - nI i / nI 16 * nI 16 = _
  rw [pk_rem (by omega) (by omega) (by omega)]
theorem qy_paint19 {post : Int32 → SY → Prop} {v M odd : Int32} {C : Nat} {col k : Nat → Int32} {F P Q : Nat → Nat} (hs : qr_sh C F P Q) (hk : ∀ p, k p = qk (qj F P Q C odd) (p / 16) (p % 16))
    (K : post (bx_sum (qp_cnt k) 256) (M, nI C, fun i => nI (P i), fun i => nI (Q i), fun i => nI (F i), qm (qp_mix v col k) col 256)) :
    ∀ (f i : Nat), 256 < f + i → i ≤ 256 → wY_paint_19 post v odd M (nI C) f (bx_sum (qp_cnt k) i) (nI i) (fun i => nI (P i)) (fun i => nI (Q i)) (fun i => nI (F i)) (qm (qp_mix v col k) col i) := by
  intro f
  induction f with
  | zero => intro i hf hi; omega
  | succ f ih =>
    intro i hf hi
    rw [wY_paint_19]
    refine pk_le 256 i (fun h => ?_) (fun h => ?_)
    · have e : i = 256 := by omega
      subst e
      exact K
    · have i0 : vp_in (nI i) 256 := vp_in_nI (by omega) (by omega)
      have hi2 := ih (i + 1) (by omega) (by omega)
      have eu : upd (qm (qp_mix v col k) col i) (nI i).toNatClampNeg (((qm (qp_mix v col k) col i (nI i).toNatClampNeg * (4 - k i)) + (v * k i)) / 4) = qm (qp_mix v col k) col (i + 1) := by
        rw [nI_clamp (n := i) (by omega), qm_at]
        exact qm_up (qp_mix v col k) col i
      have es : bx_sum (qp_cnt k) (i + 1) = bx_sum (qp_cnt k) i + qp_cnt k i := rfl
      rw [qn_m16 h, qn_d16 h]
      refine ⟨by decide, by decide, qy_coverage hs (by omega) (by omega) ?_⟩
      rw [← hk i]
      by_cases e0 : k i ≤ 0
      · have e1 : qp_cnt k i = 0 := if_pos e0
        rw [es, e1, Int32.add_zero] at hi2
        refine br_t e0 ?_
        exact ⟨i0, by decide, i0, nm_r eu (nm_r (nI_1 i) hi2)⟩
      · have e1 : qp_cnt k i = 1 := if_neg e0
        rw [es, e1] at hi2
        refine br_f e0 (nm_e ?_)
        exact ⟨i0, by decide, i0, nm_r eu (nm_r (nI_1 i) hi2)⟩
/-! area -/
theorem qx_area9 {post : Int32 → SX → Prop} {c m q : Int32} {col fst xs ys T B W cov k : Nat → Int32} (hk : ∀ p, p < 256 → cov p = k p)
    (K : post (bx_sum k 256) (c, m, q, col, fst, xs, ys, T, B, W, cov)) :
    ∀ (f i : Nat), 256 < f + i → i ≤ 256 → wX_area_9 post c m q col fst xs ys T B W cov f (bx_sum k i) (nI i) := by
  intro f
  induction f with
  | zero => intro i hf hi; omega
  | succ f ih =>
    intro i hf hi
    rw [wX_area_9]
    dsimp only
    rw [nI_clamp (n := i) (by omega)]
    refine pk_le 256 i (fun h => ?_) (fun h => ⟨vp_in_nI (by omega) (by omega), nm_r (congrArg (bx_sum k i + ·) (hk i h)) (nm_r (nI_1 i) (ih (i + 1) (by omega) (by omega)))⟩)
    have e : i = 256 := by omega
    subst e
    exact K
theorem qy_area4 {post : Int32 → Prop} {M odd : Int32} {C : Nat} {col k : Nat → Int32} {F P Q : Nat → Nat} (hs : qr_sh C F P Q) (hk : ∀ p, k p = qk (qj F P Q C odd) (p / 16) (p % 16))
    (K : post (bx_sum k 256)) :
    ∀ (f i : Nat), 256 < f + i → i ≤ 256 → wY_area_4 post odd M (nI C) (fun i => nI (P i)) (fun i => nI (Q i)) (fun i => nI (F i)) col f (bx_sum k i) (nI i) := by
  intro f
  induction f with
  | zero => intro i hf hi; omega
  | succ f ih =>
    intro i hf hi
    rw [wY_area_4]
    refine pk_le 256 i (fun h => ?_) (fun h => ?_)
    · have e : i = 256 := by omega
      subst e
      exact K
    · rw [qn_m16 h, qn_d16 h]
      refine ⟨by decide, by decide, qy_coverage hs (by omega) (by omega) ?_⟩
      rw [← hk i]
      exact nm_e (nm_r (nI_1 i) (ih (i + 1) (by omega) (by omega)))
/-! coverage of X -/
theorem qx_cov22 {post : Int32 → SX → Prop} {m q odd : Int32} {C : Nat} {col T B W : Nat → Int32} {F P Q : Nat → Nat} (hs : qr_sh C F P Q) {r c : Nat} (hr : r < 16) (hc : c < 16)
    (K : ∀ q T B W cov, post (qk (qj F P Q C odd) r c) (nI C, m, q, col, fun i => nI (F i), fun i => nI (P i), fun i => nI (Q i), T, B, W, cov)) :
    ∀ (f i : Nat) (cov : Nat → Int32), 16 < f + i → i ≤ 16 → (∀ j, j < i → cov (r * 16 + j) = 0) →
      wX_coverage_22 post (nI r) odd (nI (r * 16 + c)) (nI C) m q f (nI i) col (fun i => nI (F i)) (fun i => nI (P i)) (fun i => nI (Q i)) T B W cov := by
  intro f
  induction f with
  | zero => intro i cov hf hi; omega
  | succ f ih =>
    intro i cov hf hi h0
    rw [wX_coverage_22]
    dsimp only
    rw [qn_2s, qn_2, qn_16, nI_clamp (n := r * 16 + i) (by omega)]
    refine pk_le 16 i (fun h => ?_) (fun h => ⟨vp_in_nI (by omega) (by omega), nm_e (nm_r (nI_1 i) (ih (i + 1) _ (by omega) (by omega) (fun j hj => ?_)))⟩)
    · refine qx_sweep hs (by omega) (fun q1 T1 B1 W1 cov1 h1 => ?_)
      dsimp only
      refine qx_sweep hs (by omega) (fun q2 T2 B2 W2 cov2 h2 => ?_)
      dsimp only
      refine ⟨vp_in_nI (by omega) (by omega), ?_⟩
      have e : cov2 (r * 16 + c) = qk (qj F P Q C odd) r c := by
        rw [h2, h1, h0 c (by omega), Int32.zero_add]
        exact qg_row hc
      rw [nI_clamp (n := r * 16 + c) (by omega), e]
      exact K q2 T2 B2 W2 cov2
    · by_cases e : j = i
      · subst e; exact pk_us
      · rw [pk_un (by omega)]; exact h0 j (by omega)
/-! rowSum -/
theorem qx_row17 {post : Int32 → Prop} {c m q : Int32} {col fst xs ys T B W cov : Nat → Int32} {r : Nat} (hr : r < 16) (K : post (bx_sum (fun j => col (r * 16 + j)) 16)) :
    ∀ (f i : Nat), 16 < f + i → i ≤ 16 → wX_rowSum_17 post (nI r) c m q col fst xs ys T B W cov f (bx_sum (fun j => col (r * 16 + j)) i) (nI i) := by
  intro f
  induction f with
  | zero => intro i hf hi; omega
  | succ f ih =>
    intro i hf hi
    rw [wX_rowSum_17]
    dsimp only
    rw [qn_16, nI_clamp (n := r * 16 + i) (by omega)]
    refine pk_le 16 i (fun h => ?_) (fun h => ⟨vp_in_nI (by omega) (by omega), nm_e (nm_r (nI_1 i) (ih (i + 1) (by omega) (by omega)))⟩)
    have e : i = 16 := by omega
    subst e
    exact K
theorem qy_row17 {post : Int32 → Prop} {M C : Int32} {col fst xs ys : Nat → Int32} {r : Nat} (hr : r < 16) (K : post (bx_sum (fun j => col (r * 16 + j)) 16)) :
    ∀ (f i : Nat), 16 < f + i → i ≤ 16 → wY_rowSum_17 post (nI r) M C xs ys fst col f (bx_sum (fun j => col (r * 16 + j)) i) (nI i) := by
  intro f
  induction f with
  | zero => intro i hf hi; omega
  | succ f ih =>
    intro i hf hi
    rw [wY_rowSum_17]
    dsimp only
    rw [qn_16, nI_clamp (n := r * 16 + i) (by omega)]
    refine pk_le 16 i (fun h => ?_) (fun h => ⟨vp_in_nI (by omega) (by omega), nm_e (nm_r (nI_1 i) (ih (i + 1) (by omega) (by omega)))⟩)
    have e : i = 16 := by omega
    subst e
    exact K
end
section
/-! move, mirror, addCorner on both sides -/
def qv_ok (dx dy : Int32) (P Q : Nat → Nat) (i : Nat) : Prop :=
  (0 ≤ (P i : Int) + dx.toInt ∧ (P i : Int) + dx.toInt ≤ 64) ∧ (0 ≤ (Q i : Int) + dy.toInt ∧ (Q i : Int) + dy.toInt ≤ 64)
def qv_P (dx : Int32) (P : Nat → Nat) (i : Nat) : Nat → Nat := fun j => if j < i then ((P j : Int) + dx.toInt).toNat else P j
theorem qv_up {dx : Int32} {P : Nat → Nat} {i : Nat} (hP : P i ≤ 64) (h : 0 ≤ (P i : Int) + dx.toInt ∧ (P i : Int) + dx.toInt ≤ 64) :
    upd (fun j => nI (qv_P dx P i j)) i (nI (qv_P dx P i i) + dx) = fun j => nI (qv_P dx P (i + 1) j) := by
  funext j
  by_cases e : j = i
  · subst e
    rw [pk_us]
    unfold qv_P
    rw [if_neg (Nat.lt_irrefl j), if_pos (Nat.lt_succ_self j)]
    apply Int32.toInt_inj.mp
    have e1 := nI_toInt (n := P j) (by omega)
    rw [qn_add (by rw [e1]; omega) (by rw [e1]; omega), e1, nI_toInt (by omega)]
    omega
  · rw [pk_un e]
    unfold qv_P
    by_cases e2 : j < i
    · rw [if_pos e2, if_pos (by omega)]
    · rw [if_neg e2, if_neg (by omega)]
theorem qv_le {dx : Int32} {P : Nat → Nat} {m : Nat} (hP : ∀ i, P i ≤ 64) (h : ∀ j, j < m → 0 ≤ (P j : Int) + dx.toInt ∧ (P j : Int) + dx.toInt ≤ 64) (i : Nat) : qv_P dx P m i ≤ 64 := by
  unfold qv_P
  split
  · rename_i hi
    have := h i hi
    omega
  · exact hP i
theorem qx_mv68 {post : Int32 → SX → Prop} {c q dx dy : Int32} {m : Nat} (hm : m ≤ 12) {col fst T B W cov : Nat → Int32} {P Q : Nat → Nat} (hP : ∀ i, P i ≤ 64) (hQ : ∀ i, Q i ≤ 64) (ok : ∀ j, j < m → qv_ok dx dy P Q j)
    (K : post (nI m) (c, nI m, q, col, fst, fun j => nI (qv_P dx P m j), fun j => nI (qv_P dy Q m j), T, B, W, cov)) :
    ∀ (f i : Nat), m < f + i → i ≤ m → wX_move_68 post dx dy c (nI m) q f (nI i) col fst (fun j => nI (qv_P dx P i j)) (fun j => nI (qv_P dy Q i j)) T B W cov := by
  intro f
  induction f with
  | zero => intro i hf hi; omega
  | succ f ih =>
    intro i hf hi
    rw [wX_move_68]
    dsimp only
    rw [nI_clamp (n := i) (by omega)]
    refine pk_le m i (fun h => ?_) (fun h => ?_)
    · have e : i = m := by omega
      subst e
      exact K
    · have i0 : vp_in (nI i) 12 := vp_in_nI (by omega) (by omega)
      exact ⟨i0, i0, nm_r (qv_up (hP i) (ok i h).1) ⟨i0, i0, nm_r (qv_up (hQ i) (ok i h).2) (nm_r (nI_1 i) (ih (i + 1) (by omega) (by omega)))⟩⟩
theorem qy_mv74 {post : Int32 → SY → Prop} {C dx dy : Int32} {m : Nat} (hm : m ≤ 12) {col fst : Nat → Int32} {P Q : Nat → Nat} (hP : ∀ i, P i ≤ 64) (hQ : ∀ i, Q i ≤ 64) (ok : ∀ j, j < m → qv_ok dx dy P Q j)
    (K : post (nI m) (nI m, C, fun j => nI (qv_P dx P m j), fun j => nI (qv_P dy Q m j), fst, col)) :
    ∀ (f i : Nat), m < f + i → i ≤ m → wY_move_74 post dx dy (nI m) C f (nI i) (fun j => nI (qv_P dx P i j)) (fun j => nI (qv_P dy Q i j)) fst col := by
  intro f
  induction f with
  | zero => intro i hf hi; omega
  | succ f ih =>
    intro i hf hi
    rw [wY_move_74]
    dsimp only
    rw [nI_clamp (n := i) (by omega)]
    refine pk_le m i (fun h => ?_) (fun h => ?_)
    · have e : i = m := by omega
      subst e
      exact K
    · have i0 : vp_in (nI i) 12 := vp_in_nI (by omega) (by omega)
      exact ⟨i0, i0, nm_r (qv_up (hP i) (ok i h).1) ⟨i0, i0, nm_r (qv_up (hQ i) (ok i h).2) (nm_r (nI_1 i) (ih (i + 1) (by omega) (by omega)))⟩⟩
theorem qn_ng {p : Nat} (h : p ≤ 64) : (-nI p).toInt = -(p : Int) := by
  have e1 := nI_toInt (n := p) (by omega)
  rw [qn_neg (by omega), e1]
theorem qn_64 {p : Nat} (h : p ≤ 64) : (64 - nI p).toInt = 64 - (p : Int) := by
  have e1 := nI_toInt (n := p) (by omega)
  rw [qn_sub (by rw [qn_l64, e1]; omega) (by rw [qn_l64, e1]; omega), qn_l64, e1]
theorem qx_mv2 {post : Int32 → SX → Prop} {c q dx dy : Int32} {m : Nat} (hm : m ≤ 12) {col fst T B W cov : Nat → Int32} {P Q : Nat → Nat} (hP : ∀ i, P i ≤ 64) (hQ : ∀ i, Q i ≤ 64)
    (K1 : (∀ j, j < m → qv_ok dx dy P Q j) → ∃ n, wX_move_68 post dx dy c (nI m) q n 0 col fst (fun j => nI (P j)) (fun j => nI (Q j)) T B W cov)
    (K2 : (∃ j, j < m ∧ ¬ qv_ok dx dy P Q j) → post (-1) (c, nI m, q, col, fst, fun j => nI (P j), fun j => nI (Q j), T, B, W, cov)) :
    ∀ (f i : Nat), m < f + i → i ≤ m → (∀ j, j < i → qv_ok dx dy P Q j) → wX_move_2 post dx dy c (nI m) q col fst (fun j => nI (P j)) (fun j => nI (Q j)) T B W cov f (nI i) := by
  intro f
  induction f with
  | zero => intro i hf hi; omega
  | succ f ih =>
    intro i hf hi hall
    rw [wX_move_2]
    dsimp only
    rw [nI_clamp (n := i) (by omega)]
    refine pk_le m i (fun h => K1 (fun j hj => hall j (by omega))) (fun h => ?_)
    have i0 : vp_in (nI i) 12 := vp_in_nI (by omega) (by omega)
    have a1 := qn_ng (hP i)
    have a2 := qn_64 (hP i)
    have a3 := qn_ng (hQ i)
    have a4 := qn_64 (hQ i)
    by_cases e : qv_ok dx dy P Q i
    · have e' := e
      obtain ⟨⟨o1, o2⟩, o3, o4⟩ := e
      refine ⟨i0, br_f ?_ ⟨i0, br_f ?_ ⟨i0, br_f ?_ ⟨i0, br_t ?_ (nm_r (nI_1 i) (ih (i + 1) (by omega) (by omega) (fun j hj => ?_)))⟩⟩⟩⟩
      · rw [Int32.lt_iff_toInt_lt, a1]; omega
      · rw [Int32.lt_iff_toInt_lt, a2]; omega
      · rw [Int32.lt_iff_toInt_lt, a3]; omega
      · rw [Int32.le_iff_toInt_le, a4]; omega
      · by_cases ej : j = i
        · subst ej; exact e'
        · exact hall j (by omega)
    · have k2 := K2 ⟨i, h, e⟩
      refine ⟨i0, br_c (fun _ => k2) (fun b1 => ⟨i0, br_c (fun _ => k2) (fun b2 => ⟨i0, br_c (fun _ => k2) (fun b3 => ⟨i0, br_c (fun b4 => absurd ?_ e) (fun _ => k2)⟩)⟩)⟩)⟩
      rw [Int32.lt_iff_toInt_lt, a1] at b1
      rw [Int32.lt_iff_toInt_lt, a2] at b2
      rw [Int32.lt_iff_toInt_lt, a3] at b3
      rw [Int32.le_iff_toInt_le, a4] at b4
      exact ⟨⟨by omega, by omega⟩, by omega, by omega⟩
theorem qy_mv2 {post : Int32 → SY → Prop} {C dx dy : Int32} {m : Nat} (hm : m ≤ 12) {col fst : Nat → Int32} {P Q : Nat → Nat} (hP : ∀ i, P i ≤ 64) (hQ : ∀ i, Q i ≤ 64)
    (K1 : (∀ j, j < m → qv_ok dx dy P Q j) → ∃ n, wY_move_74 post dx dy (nI m) C n 0 (fun j => nI (P j)) (fun j => nI (Q j)) fst col)
    (K2 : (∃ j, j < m ∧ ¬ qv_ok dx dy P Q j) → post (-1) (nI m, C, fun j => nI (P j), fun j => nI (Q j), fst, col)) :
    ∀ (f i : Nat), m < f + i → i ≤ m → (∀ j, j < i → qv_ok dx dy P Q j) → wY_move_2 post dx dy (nI m) C (fun j => nI (P j)) (fun j => nI (Q j)) fst col f (nI i) := by
  intro f
  induction f with
  | zero => intro i hf hi; omega
  | succ f ih =>
    intro i hf hi hall
    rw [wY_move_2]
    dsimp only
    rw [nI_clamp (n := i) (by omega)]
    refine pk_le m i (fun h => K1 (fun j hj => hall j (by omega))) (fun h => ?_)
    have i0 : vp_in (nI i) 12 := vp_in_nI (by omega) (by omega)
    have a1 := nI_toInt (n := P i) (by have := hP i; omega)
    have a2 := nI_toInt (n := Q i) (by have := hQ i; omega)
    have p1 := hP i
    have p2 := hQ i
    by_cases e : qv_ok dx dy P Q i
    · have e' := e
      obtain ⟨⟨o1, o2⟩, o3, o4⟩ := e
      have s1 : (nI (P i) + dx).toInt = (P i : Int) + dx.toInt := by rw [qn_add (by rw [a1]; omega) (by rw [a1]; omega), a1]
      have s2 : (nI (Q i) + dy).toInt = (Q i : Int) + dy.toInt := by rw [qn_add (by rw [a2]; omega) (by rw [a2]; omega), a2]
      refine br_f ?_ (br_f ?_ (br_f ?_ (br_f ?_ ⟨i0, qy_out1 ?_ (br_t rfl ⟨i0, qy_out1 ?_ (br_t rfl (nm_r (nI_1 i) (ih (i + 1) (by omega) (by omega) (fun j hj => ?_))))⟩)⟩)))
      · rw [Int32.lt_iff_toInt_lt, qn_lm64]; omega
      · rw [Int32.lt_iff_toInt_lt, qn_l64]; omega
      · rw [Int32.lt_iff_toInt_lt, qn_lm64]; omega
      · rw [Int32.lt_iff_toInt_lt, qn_l64]; omega
      · exact ⟨by omega, by omega⟩
      · exact ⟨by omega, by omega⟩
      · by_cases ej : j = i
        · subst ej; exact e'
        · exact hall j (by omega)
    · have k2 := K2 ⟨i, h, e⟩
      refine br_c (fun _ => k2) (fun b1 => br_c (fun _ => k2) (fun b2 => br_c (fun _ => k2) (fun b3 => br_c (fun _ => k2) (fun b4 => ⟨i0, ?_⟩))))
      rw [Int32.lt_iff_toInt_lt, qn_lm64] at b1 b3
      rw [Int32.lt_iff_toInt_lt, qn_l64] at b2 b4
      have s1 : (nI (P i) + dx).toInt = (P i : Int) + dx.toInt := by rw [qn_add (by rw [a1]; omega) (by rw [a1]; omega), a1]
      have s2 : (nI (Q i) + dy).toInt = (Q i : Int) + dy.toInt := by rw [qn_add (by rw [a2]; omega) (by rw [a2]; omega), a2]
      by_cases g1 : qo_in (nI (P i) + dx)
      · refine qy_out1 g1 (br_t rfl ⟨i0, ?_⟩)
        by_cases g2 : qo_in (nI (Q i) + dy)
        · obtain ⟨g3, g4⟩ := g1
          obtain ⟨g5, g6⟩ := g2
          exact absurd ⟨⟨by omega, by omega⟩, by omega, by omega⟩ e
        · exact qy_out2 g2 (br_f (by decide) k2)
      · exact qy_out2 g1 (br_f (by decide) k2)
/-! mirror -/
def qv_M (P Q : Nat → Nat) (i : Nat) : Nat → Nat := fun j => if j < i then Q j else P j
theorem qv_Mup (P Q : Nat → Nat) (i : Nat) : upd (fun j => nI (qv_M P Q i j)) i (nI (qv_M Q P i i)) = fun j => nI (qv_M P Q (i + 1) j) := by
  funext j
  by_cases e : j = i
  · subst e
    rw [pk_us]
    unfold qv_M
    rw [if_neg (Nat.lt_irrefl j), if_pos (Nat.lt_succ_self j)]
  · rw [pk_un e]
    unfold qv_M
    by_cases e2 : j < i
    · rw [if_pos e2, if_pos (by omega)]
    · rw [if_neg e2, if_neg (by omega)]
theorem qv_Mle {P Q : Nat → Nat} (hP : ∀ i, P i ≤ 64) (hQ : ∀ i, Q i ≤ 64) (m i : Nat) : qv_M P Q m i ≤ 64 := by
  unfold qv_M
  split
  · exact hQ i
  · exact hP i
theorem qx_mi2 {post : SX → Prop} {c q : Int32} {m : Nat} (hm : m ≤ 12) {col fst T B W cov : Nat → Int32} {P Q : Nat → Nat}
    (K : post (c, nI m, q, col, fst, fun j => nI (qv_M P Q m j), fun j => nI (qv_M Q P m j), T, B, W, cov)) :
    ∀ (f i : Nat), m < f + i → i ≤ m → wX_mirror_2 post c (nI m) q f (nI i) col fst (fun j => nI (qv_M P Q i j)) (fun j => nI (qv_M Q P i j)) T B W cov := by
  intro f
  induction f with
  | zero => intro i hf hi; omega
  | succ f ih =>
    intro i hf hi
    rw [wX_mirror_2]
    dsimp only
    rw [nI_clamp (n := i) (by omega)]
    refine pk_le m i (fun h => ?_) (fun h => ?_)
    · have e : i = m := by omega
      subst e
      exact K
    · have i0 : vp_in (nI i) 12 := vp_in_nI (by omega) (by omega)
      exact ⟨i0, nm_e ⟨i0, i0, nm_r (qv_Mup P Q i) ⟨i0, nm_r (qv_Mup Q P i) (nm_r (nI_1 i) (ih (i + 1) (by omega) (by omega)))⟩⟩⟩
theorem qy_mi2 {post : SY → Prop} {C : Int32} {m : Nat} (hm : m ≤ 12) {col fst : Nat → Int32} {P Q : Nat → Nat}
    (K : post (nI m, C, fun j => nI (qv_M P Q m j), fun j => nI (qv_M Q P m j), fst, col)) :
    ∀ (f i : Nat), m < f + i → i ≤ m → wY_mirror_2 post (nI m) C f (nI i) (fun j => nI (qv_M P Q i j)) (fun j => nI (qv_M Q P i j)) fst col := by
  intro f
  induction f with
  | zero => intro i hf hi; omega
  | succ f ih =>
    intro i hf hi
    rw [wY_mirror_2]
    dsimp only
    rw [nI_clamp (n := i) (by omega)]
    refine pk_le m i (fun h => ?_) (fun h => ?_)
    · have e : i = m := by omega
      subst e
      exact K
    · have i0 : vp_in (nI i) 12 := vp_in_nI (by omega) (by omega)
      exact ⟨i0, nm_e ⟨i0, i0, nm_r (qv_Mup P Q i) ⟨i0, nm_r (qv_Mup Q P i) (nm_r (nI_1 i) (ih (i + 1) (by omega) (by omega)))⟩⟩⟩
/-! a corner more -/
def qu (G : Nat → Nat) (k v : Nat) : Nat → Nat := fun i => if i = k then v else G i
theorem qu_e (G : Nat → Nat) (k v : Nat) : upd (fun i => nI (G i)) k (nI v) = fun i => nI (qu G k v i) := by
  funext j
  by_cases e : j = k
  · subst e; rw [pk_us]; unfold qu; rw [if_pos rfl]
  · rw [pk_un e]; unfold qu; rw [if_neg e]
theorem qu_le {G : Nat → Nat} {k v N : Nat} (h : ∀ i, G i ≤ N) (hv : v ≤ N) (i : Nat) : qu G k v i ≤ N := by
  unfold qu
  split
  · exact hv
  · exact h i
theorem qx_addCorner {post : SX → Prop} {q : Int32} {C m x y : Nat} {F P Q : Nat → Nat} {col T B W cov : Nat → Int32} (hC : C < 5) (hm : m < 12)
    (K : post (nI C, nI (m + 1), q, col, fun i => nI (qu F C (m + 1) i), fun i => nI (qu P m x i), fun i => nI (qu Q m y i), T, B, W, cov)) :
    wpX_addCorner post (nI C, nI m, q, col, fun i => nI (F i), fun i => nI (P i), fun i => nI (Q i), T, B, W, cov) (nI x) (nI y) := by
  have m0 : vp_in (nI m) 12 := vp_in_nI hm (by omega)
  have c0 : vp_in (nI C) 5 := vp_in_nI hC (by omega)
  unfold wpX_addCorner
  dsimp only
  rw [nI_clamp (n := C) (by omega), nI_clamp (n := m) (by omega)]
  exact ⟨m0, nm_r (qu_e P m x) ⟨m0, nm_r (qu_e Q m y) (nm_r (nI_1 m) ⟨c0, nm_r (qu_e F C (m + 1)) K⟩)⟩⟩
theorem qy_put {post : SY → Prop} {C m x y : Nat} {F P Q : Nat → Nat} {col : Nat → Int32} (hC : C < 5) (hm : m < 12)
    (K : post (nI (m + 1), nI C, fun i => nI (qu P m x i), fun i => nI (qu Q m y i), fun i => nI (qu F C (m + 1) i), col)) :
    wpY_put post (nI m, nI C, fun i => nI (P i), fun i => nI (Q i), fun i => nI (F i), col) (nI x) (nI y) := by
  have m0 : vp_in (nI m) 12 := vp_in_nI hm (by omega)
  have c0 : vp_in (nI C) 5 := vp_in_nI hC (by omega)
  unfold wpY_put
  dsimp only
  rw [nI_clamp (n := C) (by omega), nI_clamp (n := m) (by omega)]
  exact ⟨m0, nm_r (qu_e P m x) ⟨m0, nm_r (qu_e Q m y) (nm_r (nI_1 m) ⟨c0, nm_r (qu_e F C (m + 1)) K⟩)⟩⟩
end
section
/-! the relation, and the owed statements -/
def qr_ok (C m : Nat) (F P Q : Nat → Nat) : Prop :=
  C ≤ 4 ∧ m ≤ 12 ∧ (∀ i, P i ≤ 64) ∧ (∀ i, Q i ≤ 64) ∧ (∀ i, i < C → F i ≤ F (i + 1)) ∧ (0 < C → ∀ i, i ≤ C → F i ≤ m)
theorem qr_shp {C m : Nat} {F P Q : Nat → Nat} (h : qr_ok C m F P Q) : qr_sh C F P Q := by
  obtain ⟨a, b, c, d, e, g⟩ := h
  exact ⟨a, c, d, e, fun h0 i hi => Nat.le_trans (g h0 i hi) b⟩
/-- both sides hold one shape and one picture; what X keeps beside it (crossings, coverage) is free -/
def i_Rel (k : Nat) (u : SX) (v : SY) : Prop :=
  ∃ (C m : Nat) (F P Q : Nat → Nat) (q : Int32) (col T B W cov : Nat → Int32), qr_ok C m F P Q ∧
    u = (nI C, nI m, q, col, fun i => nI (F i), fun i => nI (P i), fun i => nI (Q i), T, B, W, cov) ∧
    v = (nI m, nI C, fun i => nI (P i), fun i => nI (Q i), fun i => nI (F i), col)
theorem qr_in {k C m : Nat} {F P Q : Nat → Nat} {q : Int32} {col T B W cov : Nat → Int32} (h : qr_ok C m F P Q) :
    i_Rel k (nI C, nI m, q, col, fun i => nI (F i), fun i => nI (P i), fun i => nI (Q i), T, B, W, cov) (nI m, nI C, fun i => nI (P i), fun i => nI (Q i), fun i => nI (F i), col) :=
  ⟨C, m, F, P, Q, q, col, T, B, W, cov, h, rfl, rfl⟩
theorem qr_corner {C m x y : Nat} {F P Q : Nat → Nat} (h4 : C ≤ 4) (hm : m < 12) (hP : ∀ i, P i ≤ 64) (hQ : ∀ i, Q i ≤ 64) (hx : x ≤ 64) (hy : y ≤ 64)
    (hF : ∀ i, i + 1 < C → F i ≤ F (i + 1)) (hb : ∀ i, i < C → F i ≤ m) : qr_ok C (m + 1) (qu F C (m + 1)) (qu P m x) (qu Q m y) := by
  refine ⟨h4, by omega, qu_le hP hx, qu_le hQ hy, fun i hi => ?_, fun _ i hi => ?_⟩
  · have b := hb i hi
    unfold qu
    rw [if_neg (by omega)]
    by_cases e : i + 1 = C
    · rw [if_pos e]; omega
    · rw [if_neg e]; exact hF i (by omega)
  · unfold qu
    by_cases e : i = C
    · rw [if_pos e]; exact Nat.le_refl _
    · rw [if_neg e]
      have b := hb i (by omega)
      omega
theorem qr_begin {C m x y : Nat} {F P Q : Nat → Nat} (h : qr_ok C m F P Q) (h4 : C < 4) (hm : m < 12) (hx : x ≤ 64) (hy : y ≤ 64) : qr_ok (C + 1) (m + 1) (qu (qu F C m) (C + 1) (m + 1)) (qu P m x) (qu Q m y) := by
  obtain ⟨a, b, hP, hQ, hF, hb⟩ := h
  refine qr_corner (by omega) hm hP hQ hx hy (fun i hi => ?_) (fun i hi => ?_)
  · unfold qu
    rw [if_neg (by omega)]
    by_cases e : i + 1 = C
    · rw [if_pos e]; exact hb (by omega) i (by omega)
    · rw [if_neg e]; exact hF i (by omega)
  · unfold qu
    by_cases e : i = C
    · rw [if_pos e]; exact Nat.le_refl _
    · rw [if_neg e]; exact hb (by omega) i (by omega)
theorem i_up {k : Nat} {u : SX} {v : SY} (h : i_Rel k u v) : i_Rel (k + 4) u v := h
theorem i_vc0 : wpX_init (fun u => wpY_init (fun v => i_Rel 0 u v)) :=
  ⟨0, 0, fun _ => 0, fun _ => 0, fun _ => 0, 0, fun _ => 0, fun _ => 0, fun _ => 0, fun _ => 0, fun _ => 0,
    ⟨Nat.zero_le 4, Nat.zero_le 12, fun _ => Nat.zero_le 64, fun _ => Nat.zero_le 64, fun _ _ => Nat.le_refl 0, fun _ _ _ => Nat.le_refl 0⟩, rfl, rfl⟩
theorem qy_begin_bad {post : Int32 → SY → Prop} {M C : Int32} {xs ys fst col : Nat → Int32} {v1 v2 : Int32} (h : ¬ (qo_in v1 ∧ qo_in v2)) (K : post (-1) (M, C, xs, ys, fst, col)) : wpY_begin post (M, C, xs, ys, fst, col) v1 v2 := by
  unfold wpY_begin
  dsimp only
  by_cases h1 : qo_in v1
  · exact qy_out1 h1 (br_t rfl (qy_out2 (fun h2 => h ⟨h1, h2⟩) (br_f (by decide) K)))
  · exact qy_out2 h1 (br_f (by decide) K)
theorem qy_corner_bad {post : Int32 → SY → Prop} {M C : Int32} {xs ys fst col : Nat → Int32} {v1 v2 : Int32} (h : ¬ (qo_in v1 ∧ qo_in v2)) (K : post (-1) (M, C, xs, ys, fst, col)) : wpY_corner post (M, C, xs, ys, fst, col) v1 v2 := by
  unfold wpY_corner
  dsimp only
  by_cases h1 : qo_in v1
  · exact qy_out1 h1 (br_t rfl (qy_out2 (fun h2 => h ⟨h1, h2⟩) (br_f (by decide) K)))
  · exact qy_out2 h1 (br_f (by decide) K)
theorem qy_begin_full {post : Int32 → SY → Prop} {C m : Nat} {xs ys fst col : Nat → Int32} {v1 v2 : Int32} (h1 : qo_in v1) (h2 : qo_in v2) (hC : C ≤ 4) (hm : m ≤ 12) (h : 4 ≤ C ∨ 12 ≤ m) (K : post (-2) (nI m, nI C, xs, ys, fst, col)) : wpY_begin post (nI m, nI C, xs, ys, fst, col) v1 v2 := by
  unfold wpY_begin
  dsimp only
  refine qy_out1 h1 (br_t rfl (qy_out1 h2 (br_t rfl ?_)))
  exact pk_eq C 4 (fun _ => K) (fun e => pk_eq m 12 (fun _ => K) (fun e2 => absurd h (by omega)))
theorem qy_begin_ok {post : Int32 → SY → Prop} {C m x y : Nat} {F P Q : Nat → Nat} {col : Nat → Int32} (hx : x ≤ 64) (hy : y ≤ 64) (hC : C < 4) (hm : m < 12)
    (K : post (nI (C + 1)) (nI (m + 1), nI (C + 1), fun i => nI (qu P m x i), fun i => nI (qu Q m y i), fun i => nI (qu (qu F C m) (C + 1) (m + 1) i), col)) :
    wpY_begin post (nI m, nI C, fun i => nI (P i), fun i => nI (Q i), fun i => nI (F i), col) (nI x) (nI y) := by
  unfold wpY_begin
  dsimp only
  refine qy_out1 (qo_inN hx) (br_t rfl (qy_out1 (qo_inN hy) (br_t rfl ?_)))
  rw [nI_clamp (n := C) (by omega)]
  refine pk_eq C 4 (fun e => absurd e (by omega)) (fun e => pk_eq m 12 (fun e2 => absurd e2 (by omega)) (fun e2 => ⟨vp_in_nI (by omega) (by omega), nm_r (qu_e F C m) (nm_r (nI_1 C) ?_)⟩))
  exact qy_put (by omega) hm K
theorem i_vc_begin {k : Nat} {u : SX} {v : SY} (I : i_Rel k u v) (hk : k + 4 ≤ 2048) (v1 : Int32) (v2 : Int32) : wpX_begin (fun r u' => wpY_begin (fun r' v' => r' = r ∧ i_Rel (k + 4) u' v') v v1 v2) u v1 v2 := by
  obtain ⟨C, m, F, P, Q, q, col, T, B, W, cov, ok, rfl, rfl⟩ := I
  have h4 := ok.1
  have h12 := ok.2.1
  unfold wpX_begin
  dsimp only
  by_cases h : qo_in v1 ∧ qo_in v2
  · obtain ⟨x, hx, rfl⟩ := qo_nI h.1
    obtain ⟨y, hy, rfl⟩ := qo_nI h.2
    refine qx_bp1 h.1 h.2 (br_t rfl ?_)
    rw [nI_clamp (n := C) (by omega)]
    refine pk_le 4 C (fun hC => qy_begin_full h.1 h.2 h4 h12 (Or.inl hC) ⟨rfl, qr_in ok⟩) (fun hC => pk_lt m 12 (fun hm => ⟨vp_in_nI (by omega) (by omega), nm_r (qu_e F C m) (nm_r (nI_1 C) ?_)⟩) (fun hm => qy_begin_full h.1 h.2 h4 h12 (Or.inr hm) ⟨rfl, qr_in ok⟩))
    refine qx_addCorner (by omega) hm ?_
    exact qy_begin_ok hx hy hC hm ⟨rfl, qr_in (qr_begin ok hC hm hx hy)⟩
  · exact qx_bp2 h (br_f (by decide) (qy_begin_bad h ⟨rfl, qr_in ok⟩))
theorem i_vc_corner {k : Nat} {u : SX} {v : SY} (I : i_Rel k u v) (hk : k + 4 ≤ 2048) (v1 : Int32) (v2 : Int32) : wpX_corner (fun r u' => wpY_corner (fun r' v' => r' = r ∧ i_Rel (k + 4) u' v') v v1 v2) u v1 v2 := by
  obtain ⟨C, m, F, P, Q, q, col, T, B, W, cov, ok, rfl, rfl⟩ := I
  have ok' := ok
  obtain ⟨h4, h12, hP, hQ, hF, hb⟩ := ok'
  unfold wpX_corner
  dsimp only
  by_cases h : qo_in v1 ∧ qo_in v2
  · obtain ⟨x, hx, rfl⟩ := qo_nI h.1
    obtain ⟨y, hy, rfl⟩ := qo_nI h.2
    refine qx_bp1 h.1 h.2 (br_t rfl ?_)
    refine pk_eq C 0 (fun hC => ?_) (fun hC => pk_lt m 12 (fun hm => ?_) (fun hm => ?_))
    · unfold wpY_corner
      dsimp only
      refine qy_out1 h.1 (br_t rfl (qy_out1 h.2 (br_t rfl ?_)))
      exact pk_eq C 0 (fun _ => ⟨rfl, qr_in ok⟩) (fun e => absurd hC e)
    · refine qx_addCorner (by omega) hm ?_
      unfold wpY_corner
      dsimp only
      refine qy_out1 h.1 (br_t rfl (qy_out1 h.2 (br_t rfl ?_)))
      refine pk_eq C 0 (fun e => absurd e hC) (fun _ => pk_eq m 12 (fun e => absurd e (by omega)) (fun _ => ?_))
      refine qy_put (by omega) hm ⟨rfl, qr_in (qr_corner h4 hm hP hQ hx hy (fun i hi => hF i (by omega)) (fun i hi => hb (by omega) i (by omega)))⟩
    · unfold wpY_corner
      dsimp only
      refine qy_out1 h.1 (br_t rfl (qy_out1 h.2 (br_t rfl ?_)))
      exact pk_eq C 0 (fun e => absurd e hC) (fun _ => pk_eq m 12 (fun _ => ⟨rfl, qr_in ok⟩) (fun e => absurd hm (by omega)))
  · exact qx_bp2 h (br_f (by decide) (qy_corner_bad h ⟨rfl, qr_in ok⟩))
theorem i_vc_move {k : Nat} {u : SX} {v : SY} (I : i_Rel k u v) (hk : k + 4 ≤ 2048) (v1 : Int32) (v2 : Int32) : wpX_move (fun r u' => wpY_move (fun r' v' => r' = r ∧ i_Rel (k + 4) u' v') v v1 v2) u v1 v2 := by
  obtain ⟨C, m, F, P, Q, q, col, T, B, W, cov, ok, rfl, rfl⟩ := I
  have ok' := ok
  obtain ⟨h4, h12, hP, hQ, hF, hb⟩ := ok'
  unfold wpX_move
  dsimp only
  refine ⟨m + 1, qx_mv2 h12 hP hQ (fun hok => ⟨m + 1, ?_⟩) (fun hbad => ?_) (m + 1) 0 (by omega) (by omega) (fun j hj => absurd hj (Nat.not_lt_zero j))⟩
  · refine qx_mv68 h12 hP hQ hok ?_ (m + 1) 0 (by omega) (by omega)
    unfold wpY_move
    dsimp only
    refine ⟨m + 1, qy_mv2 h12 hP hQ (fun _ => ⟨m + 1, ?_⟩) (fun hbad => ?_) (m + 1) 0 (by omega) (by omega) (fun j hj => absurd hj (Nat.not_lt_zero j))⟩
    · refine qy_mv74 h12 hP hQ hok ?_ (m + 1) 0 (by omega) (by omega)
      exact ⟨rfl, qr_in ⟨h4, h12, qv_le hP (fun j hj => (hok j hj).1), qv_le hQ (fun j hj => (hok j hj).2), hF, hb⟩⟩
    · obtain ⟨j, hj, hn⟩ := hbad
      exact absurd (hok j hj) hn
  · unfold wpY_move
    dsimp only
    refine ⟨m + 1, qy_mv2 h12 hP hQ (fun hok => ?_) (fun _ => ⟨rfl, qr_in ok⟩) (m + 1) 0 (by omega) (by omega) (fun j hj => absurd hj (Nat.not_lt_zero j))⟩
    obtain ⟨j, hj, hn⟩ := hbad
    exact absurd (hok j hj) hn
theorem i_vc_mirror {k : Nat} {u : SX} {v : SY} (I : i_Rel k u v) (hk : k + 4 ≤ 2048) : wpX_mirror (fun u' => wpY_mirror (fun v' => i_Rel (k + 4) u' v') v) u := by
  obtain ⟨C, m, F, P, Q, q, col, T, B, W, cov, ok, rfl, rfl⟩ := I
  obtain ⟨h4, h12, hP, hQ, hF, hb⟩ := ok
  unfold wpX_mirror
  dsimp only
  refine ⟨m + 1, qx_mi2 (P := P) (Q := Q) h12 ?_ (m + 1) 0 (by omega) (by omega)⟩
  unfold wpY_mirror
  dsimp only
  refine ⟨m + 1, qy_mi2 (P := P) (Q := Q) h12 ?_ (m + 1) 0 (by omega) (by omega)⟩
  exact qr_in ⟨h4, h12, qv_Mle hP hQ m, qv_Mle hQ hP m, hF, hb⟩
theorem i_vc_clear {k : Nat} {u : SX} {v : SY} (I : i_Rel k u v) (hk : k + 4 ≤ 2048) : wpX_clear (fun u' => wpY_clear (fun v' => i_Rel (k + 4) u' v') v) u := by
  obtain ⟨C, m, F, P, Q, q, col, T, B, W, cov, ok, rfl, rfl⟩ := I
  obtain ⟨h4, h12, hP, hQ, hF, hb⟩ := ok
  exact qr_in (k := k + 4) (C := 0) (m := 0) ⟨by omega, by omega, hP, hQ, fun i hi => absurd hi (Nat.not_lt_zero i), fun h => absurd h (Nat.lt_irrefl 0)⟩
theorem qv_col (v1 : Int32) : (v1 < 0 ∨ (¬ v1 < 0 ∧ ¬ v1 ≤ 255)) ∨ (¬ v1 < 0 ∧ v1 ≤ 255) := by
  by_cases h1 : v1 < 0
  · exact Or.inl (Or.inl h1)
  · by_cases h2 : v1 ≤ 255
    · exact Or.inr ⟨h1, h2⟩
    · exact Or.inl (Or.inr ⟨h1, h2⟩)
theorem i_vc_paint {k : Nat} {u : SX} {v : SY} (I : i_Rel k u v) (hk : k + 4 ≤ 2048) (v1 : Int32) (v2 : Int32) : wpX_paint (fun r u' => wpY_paint (fun r' v' => r' = r ∧ i_Rel (k + 4) u' v') v v1 (lw_bz v2)) u v1 (lw_bz v2) := by
  obtain ⟨C, m, F, P, Q, q, col, T, B, W, cov, ok, rfl, rfl⟩ := I
  generalize lw_bz v2 = odd
  have hs := qr_shp ok
  unfold wpX_paint
  dsimp only
  rcases qv_col v1 with (h1 | ⟨h1, h2⟩) | ⟨h1, h2⟩
  · exact br_t h1 (br_t h1 ⟨rfl, qr_in ok⟩)
  · exact br_f h1 (br_f h2 (br_f h1 (br_f h2 ⟨rfl, qr_in ok⟩)))
  · refine br_f h1 (br_t h2 ?_)
    refine qx_coverAll hs (fun q' T' B' W' cov' hc => ?_)
    dsimp only
    refine ⟨257, qx_paint24 (k := fun p => qk (qj F P Q C odd) (p / 16) (p % 16)) (fun p hp => (hc p hp).trans (qg_all hp)) ?_ 257 0 (by omega) (by omega)⟩
    unfold wpY_paint
    dsimp only
    refine br_f h1 (br_t h2 ⟨257, ?_⟩)
    refine qy_paint19 (k := fun p => qk (qj F P Q C odd) (p / 16) (p % 16)) hs (fun _ => rfl) ?_ 257 0 (by omega) (by omega)
    exact ⟨rfl, qr_in ok⟩
theorem i_vc_wipe {k : Nat} {u : SX} {v : SY} (I : i_Rel k u v) (hk : k + 4 ≤ 2048) (v1 : Int32) : wpX_wipe (fun r u' => wpY_wipe (fun r' v' => r' = r ∧ i_Rel (k + 4) u' v') v v1) u v1 := by
  obtain ⟨C, m, F, P, Q, q, col, T, B, W, cov, ok, rfl, rfl⟩ := I
  unfold wpX_wipe
  dsimp only
  rcases qv_col v1 with (h1 | ⟨h1, h2⟩) | ⟨h1, h2⟩
  · exact br_t h1 (br_t h1 ⟨rfl, qr_in ok⟩)
  · exact br_f h1 (br_f h2 (br_f h1 (br_f h2 ⟨rfl, qr_in ok⟩)))
  · refine br_f h1 (br_t h2 ⟨257, qx_wipe16 ?_ 257 0 (by omega) (by omega)⟩)
    unfold wpY_wipe
    dsimp only
    exact br_f h1 (br_t h2 ⟨257, qy_wipe16 ⟨rfl, qr_in ok⟩ 257 0 (by omega) (by omega)⟩)
theorem i_vc_pixel {k : Nat} {u : SX} {v : SY} (I : i_Rel k u v) (hk : k + 4 ≤ 2048) (v1 : Int32) (v2 : Int32) : wpX_pixel (fun r => wpY_pixel (fun r' => r' = r ∧ i_Rel (k + 4) u v) v v1 v2) u v1 v2 := by
  have I' : i_Rel (k + 4) u v := I
  obtain ⟨C, m, F, P, Q, q, col, T, B, W, cov, ok, rfl, rfl⟩ := I
  unfold wpX_pixel
  dsimp only
  by_cases h : qo_px v1 ∧ qo_px v2
  · obtain ⟨r, hr, rfl⟩ := qo_pI h.1
    obtain ⟨c, hc, rfl⟩ := qo_pI h.2
    have i0 : vp_in (nI r * 16 + nI c) 256 := by rw [qn_16]; exact vp_in_nI (by omega) (by omega)
    refine qx_px1 h.1 h.2 (br_t rfl ⟨i0, ?_⟩)
    unfold wpY_pixel
    dsimp only
    exact qy_px1 h.1 h.2 (br_t rfl ⟨i0, rfl, I'⟩)
  · refine qx_px2 h (br_f (by decide) ?_)
    unfold wpY_pixel
    dsimp only
    exact qy_px2 h (br_f (by decide) ⟨rfl, I'⟩)
theorem i_vc_coverage {k : Nat} {u : SX} {v : SY} (I : i_Rel k u v) (hk : k + 4 ≤ 2048) (v1 : Int32) (v2 : Int32) (v3 : Int32) : wpX_coverage (fun r u' => wpY_coverage (fun r' => r' = r ∧ i_Rel (k + 4) u' v) v v1 v2 (lw_bz v3)) u v1 v2 (lw_bz v3) := by
  obtain ⟨C, m, F, P, Q, q, col, T, B, W, cov, ok, rfl, rfl⟩ := I
  generalize lw_bz v3 = odd
  have hs := qr_shp ok
  unfold wpX_coverage
  dsimp only
  by_cases h : qo_px v1 ∧ qo_px v2
  · obtain ⟨r, hr, rfl⟩ := qo_pI h.1
    obtain ⟨c, hc, rfl⟩ := qo_pI h.2
    refine qx_px1 h.1 h.2 (br_t rfl (nm_r (qn_16 r c) ⟨17, ?_⟩))
    exact qx_cov22 hs hr hc (fun q' T' B' W' cov' => qy_coverage hs hr hc ⟨rfl, qr_in ok⟩) 17 0 cov (by omega) (by omega) (fun j hj => absurd hj (Nat.not_lt_zero j))
  · refine qx_px2 h (br_f (by decide) ?_)
    unfold wpY_coverage
    dsimp only
    exact qy_px2 h (br_f (by decide) ⟨rfl, qr_in ok⟩)
theorem i_vc_area {k : Nat} {u : SX} {v : SY} (I : i_Rel k u v) (hk : k + 4 ≤ 2048) (v1 : Int32) : wpX_area (fun r u' => wpY_area (fun r' => r' = r ∧ i_Rel (k + 4) u' v) v (lw_bz v1)) u (lw_bz v1) := by
  obtain ⟨C, m, F, P, Q, q, col, T, B, W, cov, ok, rfl, rfl⟩ := I
  generalize lw_bz v1 = odd
  have hs := qr_shp ok
  unfold wpX_area
  dsimp only
  refine qx_coverAll hs (fun q' T' B' W' cov' hc => ?_)
  dsimp only
  refine ⟨257, qx_area9 (k := fun p => qk (qj F P Q C odd) (p / 16) (p % 16)) (fun p hp => (hc p hp).trans (qg_all hp)) ?_ 257 0 (by omega) (by omega)⟩
  unfold wpY_area
  dsimp only
  refine ⟨257, ?_⟩
  refine qy_area4 (k := fun p => qk (qj F P Q C odd) (p / 16) (p % 16)) hs (fun _ => rfl) ?_ 257 0 (by omega) (by omega)
  exact ⟨rfl, qr_in ok⟩
theorem i_vc_winding {k : Nat} {u : SX} {v : SY} (I : i_Rel k u v) (hk : k + 4 ≤ 2048) (v1 : Int32) (v2 : Int32) : wpX_winding (fun r u' => wpY_winding (fun r' => r' = r ∧ i_Rel (k + 4) u' v) v v1 v2) u v1 v2 := by
  obtain ⟨C, m, F, P, Q, q, col, T, B, W, cov, ok, rfl, rfl⟩ := I
  have hs := qr_shp ok
  unfold wpX_winding
  dsimp only
  by_cases h : qo_in v1 ∧ qo_in v2
  · refine qx_bp1 h.1 h.2 (br_t rfl ?_)
    refine qx_find hs h.2 (fun n T' B' W' hn hR => ?_)
    dsimp only
    refine nm_e ⟨n + 1, ?_⟩
    have e0 : (0 : Int32) = bx_sum W' n - bx_sum W' n := (Int32.sub_self _).symm
    rw [e0]
    refine qx_w25 hn hR h.1 ?_ (n + 1) n (by omega) (by omega) (fun j h1 h2 => absurd h2 (by omega))
    exact qy_winding hs h.1 h.2 ⟨rfl, qr_in ok⟩
  · refine qx_bp2 h (br_f (by decide) ?_)
    unfold wpY_winding
    dsimp only
    by_cases h1 : qo_in v1
    · exact qy_out1 h1 (br_t rfl (qy_out2 (fun h2 => h ⟨h1, h2⟩) (br_f (by decide) ⟨rfl, qr_in ok⟩)))
    · exact qy_out2 h1 (br_f (by decide) ⟨rfl, qr_in ok⟩)
theorem i_vc_rowSum {k : Nat} {u : SX} {v : SY} (I : i_Rel k u v) (hk : k + 4 ≤ 2048) (v1 : Int32) : wpX_rowSum (fun r => wpY_rowSum (fun r' => r' = r ∧ i_Rel (k + 4) u v) v v1) u v1 := by
  have I' : i_Rel (k + 4) u v := I
  obtain ⟨C, m, F, P, Q, q, col, T, B, W, cov, ok, rfl, rfl⟩ := I
  unfold wpX_rowSum
  dsimp only
  by_cases h1 : v1 < 0
  · exact br_t h1 (br_t h1 ⟨rfl, I'⟩)
  · have hiff : v1 < 16 ↔ v1 ≤ 15 := by
      rw [Int32.lt_iff_toInt_lt, Int32.le_iff_toInt_le, qn_l16, qn_l15]
      omega
    by_cases h2 : v1 < 16
    · obtain ⟨r, hr, rfl⟩ : ∃ r : Nat, r < 16 ∧ v1 = nI r := by
        have a := h1
        have b := h2
        rw [Int32.lt_iff_toInt_lt, qn_l0] at a
        rw [Int32.lt_iff_toInt_lt, qn_l16] at b
        exact qo_pI ⟨by omega, b⟩
      refine br_f h1 (br_t h2 ⟨17, qx_row17 hr ?_ 17 0 (by omega) (by omega)⟩)
      unfold wpY_rowSum
      dsimp only
      exact br_f h1 (br_t (hiff.mp h2) ⟨17, qy_row17 hr ⟨rfl, I'⟩ 17 0 (by omega) (by omega)⟩)
    · exact br_f h1 (br_f h2 (br_f h1 (br_f (fun z => h2 (hiff.mpr z)) ⟨rfl, I'⟩)))
end
